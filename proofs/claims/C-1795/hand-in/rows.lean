section
/-! pure rows to paste: stores, nI and lN arithmetic, masks, shifts, narrowing, branches by naturals (pk_le, pk_lt, pk_eq), loops (lp1 .. lp16: the measure of the state; rp1 ..: recursion), negatives. Take what you need -/
theorem pk_us {f : Nat → Int32} {k : Nat} {x : Int32} : upd f k x k = x := if_pos rfl
theorem pk_un {f : Nat → Int32} {k j : Nat} {x : Int32} (h : j ≠ k) : upd f k x j = f j := if_neg h
theorem pk_uLs {f : Nat → Int64} {k : Nat} {x : Int64} : vp_updL f k x k = x := if_pos rfl
theorem pk_uLn {f : Nat → Int64} {k j : Nat} {x : Int64} (h : j ≠ k) : vp_updL f k x j = f j := if_neg h
theorem pk_sub {a b : Nat} (h : b ≤ a) : nI a - nI b = nI (a - b) := by
  obtain ⟨c, rfl⟩ : ∃ c, a = c + b := ⟨a - b, by omega⟩
  rw [← nI_add, Int32.add_sub_cancel, Nat.add_sub_cancel]
theorem pk_m1 (n : Nat) : nI (n + 1) + (-1) = nI n := by
  rw [← nI_1, Int32.add_assoc, show (1 : Int32) + (-1) = 0 from rfl, Int32.add_zero]
theorem pk_mul (a b : Nat) : nI a * nI b = nI (a * b) := (Int32.ofNat_mul a b).symm
theorem pk_div {a d : Nat} (ha : a < 2 ^ 31) (h0 : 0 < d) (hd : d < 2 ^ 31) : nI a / nI d = nI (a / d) := by
  apply Int32.toInt_inj.mp
  rw [lg_idiv_nonneg (by rw [nI_toInt ha]; omega) (by rw [nI_toInt hd]; omega), nI_toInt ha, nI_toInt hd, nI_toInt (Nat.lt_of_le_of_lt (Nat.div_le_self a d) ha)]
  first | rfl | exact (Int.natCast_ediv _ _).symm
theorem pk_rem {a d : Nat} (ha : a < 2 ^ 31) (h0 : 0 < d) (hd : d < 2 ^ 31) : nI a - nI a / nI d * nI d = nI (a % d) := by
  rw [pk_div ha h0 hd, pk_mul, pk_sub (Nat.div_mul_le_self a d)]
  exact congrArg nI (by have := Nat.div_add_mod' a d; omega)
theorem pk_sub_toInt {a b : Nat} (ha : a < 2 ^ 30) (hb : b < 2 ^ 30) : (nI a - nI b).toInt = (a : Int) - b := by
  rw [Int32.toInt_sub, nI_toInt (by omega), nI_toInt (by omega)]
  exact Int.bmod_eq_of_le (by omega) (by omega)
theorem pk_sneg {a b : Nat} (hb : b < 2 ^ 30) (h : a < b) : nI a - nI b < 0 := by
  rw [Int32.lt_iff_toInt_lt, pk_sub_toInt (by omega) hb, show (0 : Int32).toInt = 0 from by decide]
  omega
theorem pk_ix (x : Int32) {n : Nat} (hn : n < 2 ^ 31) : x < 0 ∨ nI n ≤ x ∨ ∃ j : Nat, j < n ∧ x = nI j := by
  by_cases h : x < 0
  · exact Or.inl h
  · obtain ⟨j, hj, rfl⟩ := nI_of h
    by_cases h2 : j < n
    · exact Or.inr (Or.inr ⟨j, h2, rfl⟩)
    · exact Or.inr (Or.inl (nI_le (by omega) hj))
theorem pk_le {x y : Int32} {A B : Prop} (a b : Nat) (f : a ≤ b → A) (g : b < a → B) (hx : x = nI a := by rfl) (hy : y = nI b := by rfl) (ha : a < 2 ^ 31 := by omega) (hb : b < 2 ^ 31 := by omega) : (x ≤ y → A) ∧ (¬ x ≤ y → B) := by
  subst hx hy
  rw [nI_leI ha hb]
  exact ⟨f, fun z => g (by omega)⟩
theorem pk_lt {x y : Int32} {A B : Prop} (a b : Nat) (f : a < b → A) (g : b ≤ a → B) (hx : x = nI a := by rfl) (hy : y = nI b := by rfl) (ha : a < 2 ^ 31 := by omega) (hb : b < 2 ^ 31 := by omega) : (x < y → A) ∧ (¬ x < y → B) := by
  subst hx hy
  rw [nI_ltI ha hb]
  exact ⟨f, fun z => g (by omega)⟩
theorem pk_eq {x y : Int32} {A B : Prop} (a b : Nat) (f : a = b → A) (g : a ≠ b → B) (hx : x = nI a := by rfl) (hy : y = nI b := by rfl) (ha : a < 2 ^ 31 := by omega) (hb : b < 2 ^ 31 := by omega) : (x = y → A) ∧ (¬ x = y → B) := by
  subst hx hy
  rw [nI_eq ha hb]
  exact ⟨f, g⟩
theorem pk_in {x : Int32} (n N : Nat) (h : n < N) (hx : x = nI n := by rfl) (hN : N < 2 ^ 31 := by omega) : vp_in x N := by
  subst hx
  exact vp_in_nI h hN
theorem pk_cl {x : Int32} (n : Nat) (hx : x = nI n := by rfl) (h : n < 2 ^ 31 := by omega) : x.toNatClampNeg = n := by
  subst hx
  exact nI_clamp h
theorem pk_tn {n : Nat} (h : n < 2 ^ 32) : (nI n).toBitVec.toNat = n := Nat.mod_eq_of_lt h
theorem pk_and (x : Int32) {m : Int32} (k : Nat) (hm : m.toBitVec.toNat = 2 ^ k - 1) : x &&& m = nI (x.toBitVec.toNat % 2 ^ k) := by
  apply Int32.toBitVec_inj.mp
  apply BitVec.eq_of_toNat_eq
  rw [Int32.toBitVec_and, BitVec.toNat_and, hm, Nat.and_two_pow_sub_one_eq_mod]
  show _ = (BitVec.ofNat 32 _).toNat
  rw [BitVec.toNat_ofNat]
  exact (Nat.mod_eq_of_lt (Nat.lt_of_le_of_lt (Nat.mod_le _ _) x.toBitVec.isLt)).symm
theorem pk_andN {n : Nat} (h : n < 2 ^ 32) {m : Int32} (k : Nat) (hm : m.toBitVec.toNat = 2 ^ k - 1) : nI n &&& m = nI (n % 2 ^ k) := by
  rw [pk_and _ k hm, pk_tn h]
theorem pk_andE (x : Int32) {m : Int32} (k : Nat) (hm : m.toBitVec.toNat = 2 ^ k - 1) : ∃ j : Nat, j < 2 ^ k ∧ x &&& m = nI j := ⟨_, Nat.mod_lt _ (Nat.two_pow_pos k), pk_and x k hm⟩
theorem pk_andIn (x : Int32) {m : Int32} (k : Nat) (hm : m.toBitVec.toNat = 2 ^ k - 1) (hk : k ≤ 30) : vp_in (x &&& m) (2 ^ k) := by
  obtain ⟨j, hj, e⟩ := pk_andE x k hm
  rw [e]
  exact vp_in_nI hj (Nat.lt_of_le_of_lt (Nat.pow_le_pow_right (by decide) hk) (by decide))
theorem pk_shl (a s : Int32) (k : Nat) (hs : (s.toBitVec.smod 32).toNat = k) : (a <<< s).toBitVec.toNat = a.toBitVec.toNat * 2 ^ k % 2 ^ 32 := by
  show (a.toBitVec <<< (s.toBitVec.smod 32).toNat).toNat = _
  rw [hs, BitVec.toNat_shiftLeft, Nat.shiftLeft_eq]
theorem pk_shlN {n : Nat} (s : Int32) (k : Nat) (hs : (s.toBitVec.smod 32).toNat = k) (h : n * 2 ^ k < 2 ^ 32) : nI n <<< s = nI (n * 2 ^ k) := by
  apply Int32.toBitVec_inj.mp
  apply BitVec.eq_of_toNat_eq
  have hn : n < 2 ^ 32 := Nat.lt_of_le_of_lt (Nat.le_mul_of_pos_right n (Nat.two_pow_pos k)) h
  rw [pk_shl _ _ k hs, pk_tn hn, pk_tn h, Nat.mod_eq_of_lt h]
theorem pk_shr (a s : Int32) (k : Nat) (hs : (s.toBitVec.smod 32).toNat = k) : (a >>> s).toInt = a.toInt >>> k := by
  show (a.toBitVec.sshiftRight (s.toBitVec.smod 32).toNat).toInt = _
  rw [hs, BitVec.toInt_sshiftRight]
  rfl
theorem pk_shrN {n : Nat} (h : n < 2 ^ 31) (s : Int32) (k : Nat) (hs : (s.toBitVec.smod 32).toNat = k) : nI n >>> s = nI (n / 2 ^ k) := by
  apply Int32.toInt_inj.mp
  have h2 : n / 2 ^ k ≤ n := Nat.div_le_self _ _
  rw [pk_shr _ _ k hs, nI_toInt h, nI_toInt (by omega), Int.shiftRight_eq_div_pow]
  rfl
theorem pk_ushr (x s : Int32) (k : Nat) (hs : ((s.toUInt32 &&& Int32.toUInt32 31).toBitVec % 32).toNat = k) : (x.toUInt32 >>> (s.toUInt32 &&& Int32.toUInt32 31)).toInt32.toBitVec.toNat = x.toBitVec.toNat / 2 ^ k := by
  have e : (x.toUInt32 >>> (s.toUInt32 &&& Int32.toUInt32 31)).toInt32.toBitVec = x.toBitVec >>> k := by
    rw [← hs]
    exact UInt32.toBitVec_shiftRight _ _
  rw [e, BitVec.toNat_ushiftRight, Nat.shiftRight_eq_div_pow]
theorem pk_ushrN {n : Nat} (hn : n < 2 ^ 32) (s : Int32) (k : Nat) (hs : ((s.toUInt32 &&& Int32.toUInt32 31).toBitVec % 32).toNat = k) : ((nI n).toUInt32 >>> (s.toUInt32 &&& Int32.toUInt32 31)).toInt32 = nI (n / 2 ^ k) := by
  apply Int32.toBitVec_inj.mp
  apply BitVec.eq_of_toNat_eq
  rw [pk_ushr _ s k hs, pk_tn hn, pk_tn (Nat.lt_of_le_of_lt (Nat.div_le_self _ _) hn)]
theorem pk_nb (z : Int32) : narrow .byte (.int z.toInt8.toInt32) = .int z.toInt8.toInt32 := congrArg Value.int (by simp)
theorem pk_ns (z : Int32) : narrow .short (.int z.toInt16.toInt32) = .int z.toInt16.toInt32 := congrArg Value.int (by simp)
theorem pk_fb (r : Int32) : fits .byte (.int r.toInt8.toInt32) = true := by
  have ⟨a, b⟩ := lg_i2b_range r
  have h1 : (-128 : Int32).toInt = -128 := by decide
  have h2 : (127 : Int32).toInt = 127 := by decide
  simp only [fits, Bool.and_eq_true, decide_eq_true_eq, Int32.le_iff_toInt_le, h1, h2]
  omega
theorem pk_fs (r : Int32) : fits .short (.int r.toInt16.toInt32) = true := by
  have ⟨a, b⟩ := lg_i2s_range r
  have h1 : (-32768 : Int32).toInt = -32768 := by decide
  have h2 : (32767 : Int32).toInt = 32767 := by decide
  simp only [fits, Bool.and_eq_true, decide_eq_true_eq, Int32.le_iff_toInt_le, h1, h2]
  omega
theorem pk_charN {q : Nat} (hq : q < 65536) : narrow .char (.int (nI q)) = .int (nI q) ∧ fits .char (.int (nI q)) = true := by
  constructor
  · have e : (nI q).toUInt32.toUInt16.toUInt32.toInt32 = nI q := by
      apply Int32.toBitVec_inj.mp
      apply BitVec.eq_of_toNat_eq
      show (nI q).toUInt32.toUInt16.toUInt32.toNat = q % 2 ^ 32
      rw [UInt16.toNat_toUInt32, UInt32.toNat_toUInt16, show (nI q).toUInt32.toNat = q % 2 ^ 32 from rfl]
      omega
    exact congrArg Value.int e
  · have a : (0 : Int32) ≤ nI q := nI_pos' (by omega)
    have b : nI q ≤ 65535 := nI_le (b := 65535) (by omega) (by decide)
    show (decide ((0 : Int32) ≤ nI q) && decide (nI q ≤ 65535)) = true
    rw [decide_eq_true a, decide_eq_true b]
    rfl
theorem pk_char (x : Int32) : (x.toUInt32 % 65536).toInt32 = nI (x.toBitVec.toNat % 65536) := by
  apply Int32.toBitVec_inj.mp
  apply BitVec.eq_of_toNat_eq
  rw [pk_tn (by omega)]
  show (x.toUInt32 % 65536).toNat = _
  rw [UInt32.toNat_mod]
  rfl
theorem pk_nc (x : Int32) : narrow .char (.int (x.toUInt32 % 65536).toInt32) = .int (x.toUInt32 % 65536).toInt32 := by
  rw [pk_char]
  exact (pk_charN (Nat.mod_lt _ (by decide))).1
theorem pk_fc (x : Int32) : fits .char (.int (x.toUInt32 % 65536).toInt32) = true := by
  rw [pk_char]
  exact (pk_charN (Nat.mod_lt _ (by decide))).2
theorem pk_vb (z : Int32) : vp_nar .byte z.toInt8.toInt32 = z.toInt8.toInt32 := by rw [vp_nar_byte]; simp
theorem pk_vs (z : Int32) : vp_nar .short z.toInt16.toInt32 = z.toInt16.toInt32 := by rw [vp_nar_short]; simp
theorem pk_vc (z : Int32) : vp_nar .char (z.toUInt32 % 65536).toInt32 = (z.toUInt32 % 65536).toInt32 := Value.int.inj (pk_nc z)
theorem pk_lT {n : Nat} (h : n < 2 ^ 63) : (lN n).toInt = (n : Int) := lg_ofNat_toInt h
theorem pk_lLT {a b : Nat} (ha : a < 2 ^ 63) (hb : b < 2 ^ 63) : lN a < lN b ↔ a < b := by
  rw [Int64.lt_iff_toInt_lt, pk_lT ha, pk_lT hb]; omega
theorem pk_lLE {a b : Nat} (ha : a < 2 ^ 63) (hb : b < 2 ^ 63) : lN a ≤ lN b ↔ a ≤ b := by
  rw [Int64.le_iff_toInt_le, pk_lT ha, pk_lT hb]; omega
theorem pk_lEQ {a b : Nat} (ha : a < 2 ^ 63) (hb : b < 2 ^ 63) : lN a = lN b ↔ a = b := by
  rw [← Int64.toInt_inj, pk_lT ha, pk_lT hb]; omega
theorem pk_lOf {x : Int64} (h : ¬ x < 0) : ∃ k : Nat, k < 2 ^ 63 ∧ x = lN k := by
  rw [Int64.lt_iff_toInt_lt] at h
  have h0 : (0 : Int64).toInt = 0 := by decide
  have hx := Int64.toInt_lt x
  refine ⟨x.toInt.toNat, by omega, Int64.toInt_inj.mp ?_⟩
  rw [pk_lT (by omega)]
  omega
theorem pk_lDiv {a b : Nat} (ha : a < 2 ^ 63) (h0 : 0 < b) (hb : b < 2 ^ 63) : lN a / lN b = lN (a / b) := by
  apply Int64.toInt_inj.mp
  rw [lg_ldiv_nonneg (by rw [pk_lT ha]; omega) (by rw [pk_lT hb]; omega), pk_lT ha, pk_lT hb, pk_lT (Nat.lt_of_le_of_lt (Nat.div_le_self a b) ha)]
  rfl
theorem pk_lRem {a b : Nat} (ha : a < 2 ^ 63) (h0 : 0 < b) (hb : b < 2 ^ 63) : lN a - lN a / lN b * lN b = lN (a % b) := by
  rw [pk_lDiv ha h0 hb, lN_mul, lN_sub (Nat.div_mul_le_self a b)]
  exact congrArg lN (by have := Nat.div_add_mod' a b; omega)
theorem pk_loop {σ : Type} (W : Nat → Nat → σ → Prop) (I : Nat → σ → Prop) (e i0 : Nat) (s : σ) (hi : i0 ≤ e) (h0 : I i0 s) (hx : ∀ n s, I e s → W (n + 1) e s)
    (hs : ∀ n i s, i < e → I i s → (∀ s', I (i + 1) s' → W n (i + 1) s') → W (n + 1) i s) : ∃ n, W n i0 s :=
  ⟨e + 1, loop_i W I e hx hs (e + 1) i0 s hi (by omega) h0⟩
theorem pk_loopD {σ : Type} (W : Nat → Nat → σ → Prop) (I : Nat → σ → Prop) (hx : ∀ n s, I 0 s → W (n + 1) 0 s)
    (hs : ∀ n i s, I (i + 1) s → (∀ s', I i s' → W n i s') → W (n + 1) (i + 1) s) : ∀ (e : Nat) (s : σ), I e s → W (e + 1) e s := by
  intro e
  induction e with
  | zero => exact fun s h => hx 0 s h
  | succ e ih => exact fun s h => hs (e + 1) e s h (fun s' h' => ih s' h')
theorem lp1 {A1 : Type} (W : Nat → A1 → Prop) (I : A1 → Prop) (μ : A1 → Nat) (hs : ∀ (n : Nat) (a1 : A1), I a1 → (∀ (b1 : A1), I b1 → μ b1 < μ a1 → W n b1) → W (n + 1) a1) (a1 : A1) (h : I a1) : ∃ n, W n a1 :=
  loop_m (σ := A1) (fun n s => W n s) (fun s => I s) (fun s => μ s) (fun n s hI hk => hs n s hI (fun b1 h9 hm => hk b1 h9 hm)) a1 h
theorem lp2 {A1 A2 : Type} (W : Nat → A1 → A2 → Prop) (I : A1 → A2 → Prop) (μ : A1 → A2 → Nat) (hs : ∀ (n : Nat) (a1 : A1) (a2 : A2), I a1 a2 → (∀ (b1 : A1) (b2 : A2), I b1 b2 → μ b1 b2 < μ a1 a2 → W n b1 b2) → W (n + 1) a1 a2) (a1 : A1) (a2 : A2) (h : I a1 a2) : ∃ n, W n a1 a2 :=
  loop_m (σ := A1 × A2) (fun n s => W n s.1 s.2) (fun s => I s.1 s.2) (fun s => μ s.1 s.2) (fun n s hI hk => hs n s.1 s.2 hI (fun b1 b2 h9 hm => hk (b1, b2) h9 hm)) (a1, a2) h
theorem lp3 {A1 A2 A3 : Type} (W : Nat → A1 → A2 → A3 → Prop) (I : A1 → A2 → A3 → Prop) (μ : A1 → A2 → A3 → Nat) (hs : ∀ (n : Nat) (a1 : A1) (a2 : A2) (a3 : A3), I a1 a2 a3 → (∀ (b1 : A1) (b2 : A2) (b3 : A3), I b1 b2 b3 → μ b1 b2 b3 < μ a1 a2 a3 → W n b1 b2 b3) → W (n + 1) a1 a2 a3) (a1 : A1) (a2 : A2) (a3 : A3) (h : I a1 a2 a3) : ∃ n, W n a1 a2 a3 :=
  loop_m (σ := A1 × A2 × A3) (fun n s => W n s.1 s.2.1 s.2.2) (fun s => I s.1 s.2.1 s.2.2) (fun s => μ s.1 s.2.1 s.2.2) (fun n s hI hk => hs n s.1 s.2.1 s.2.2 hI (fun b1 b2 b3 h9 hm => hk (b1, b2, b3) h9 hm)) (a1, a2, a3) h
theorem lp4 {A1 A2 A3 A4 : Type} (W : Nat → A1 → A2 → A3 → A4 → Prop) (I : A1 → A2 → A3 → A4 → Prop) (μ : A1 → A2 → A3 → A4 → Nat) (hs : ∀ (n : Nat) (a1 : A1) (a2 : A2) (a3 : A3) (a4 : A4), I a1 a2 a3 a4 → (∀ (b1 : A1) (b2 : A2) (b3 : A3) (b4 : A4), I b1 b2 b3 b4 → μ b1 b2 b3 b4 < μ a1 a2 a3 a4 → W n b1 b2 b3 b4) → W (n + 1) a1 a2 a3 a4) (a1 : A1) (a2 : A2) (a3 : A3) (a4 : A4) (h : I a1 a2 a3 a4) : ∃ n, W n a1 a2 a3 a4 :=
  loop_m (σ := A1 × A2 × A3 × A4) (fun n s => W n s.1 s.2.1 s.2.2.1 s.2.2.2) (fun s => I s.1 s.2.1 s.2.2.1 s.2.2.2) (fun s => μ s.1 s.2.1 s.2.2.1 s.2.2.2) (fun n s hI hk => hs n s.1 s.2.1 s.2.2.1 s.2.2.2 hI (fun b1 b2 b3 b4 h9 hm => hk (b1, b2, b3, b4) h9 hm)) (a1, a2, a3, a4) h
theorem lp5 {A1 A2 A3 A4 A5 : Type} (W : Nat → A1 → A2 → A3 → A4 → A5 → Prop) (I : A1 → A2 → A3 → A4 → A5 → Prop) (μ : A1 → A2 → A3 → A4 → A5 → Nat) (hs : ∀ (n : Nat) (a1 : A1) (a2 : A2) (a3 : A3) (a4 : A4) (a5 : A5), I a1 a2 a3 a4 a5 → (∀ (b1 : A1) (b2 : A2) (b3 : A3) (b4 : A4) (b5 : A5), I b1 b2 b3 b4 b5 → μ b1 b2 b3 b4 b5 < μ a1 a2 a3 a4 a5 → W n b1 b2 b3 b4 b5) → W (n + 1) a1 a2 a3 a4 a5) (a1 : A1) (a2 : A2) (a3 : A3) (a4 : A4) (a5 : A5) (h : I a1 a2 a3 a4 a5) : ∃ n, W n a1 a2 a3 a4 a5 :=
  loop_m (σ := A1 × A2 × A3 × A4 × A5) (fun n s => W n s.1 s.2.1 s.2.2.1 s.2.2.2.1 s.2.2.2.2) (fun s => I s.1 s.2.1 s.2.2.1 s.2.2.2.1 s.2.2.2.2) (fun s => μ s.1 s.2.1 s.2.2.1 s.2.2.2.1 s.2.2.2.2) (fun n s hI hk => hs n s.1 s.2.1 s.2.2.1 s.2.2.2.1 s.2.2.2.2 hI (fun b1 b2 b3 b4 b5 h9 hm => hk (b1, b2, b3, b4, b5) h9 hm)) (a1, a2, a3, a4, a5) h
theorem lp6 {A1 A2 A3 A4 A5 A6 : Type} (W : Nat → A1 → A2 → A3 → A4 → A5 → A6 → Prop) (I : A1 → A2 → A3 → A4 → A5 → A6 → Prop) (μ : A1 → A2 → A3 → A4 → A5 → A6 → Nat) (hs : ∀ (n : Nat) (a1 : A1) (a2 : A2) (a3 : A3) (a4 : A4) (a5 : A5) (a6 : A6), I a1 a2 a3 a4 a5 a6 → (∀ (b1 : A1) (b2 : A2) (b3 : A3) (b4 : A4) (b5 : A5) (b6 : A6), I b1 b2 b3 b4 b5 b6 → μ b1 b2 b3 b4 b5 b6 < μ a1 a2 a3 a4 a5 a6 → W n b1 b2 b3 b4 b5 b6) → W (n + 1) a1 a2 a3 a4 a5 a6) (a1 : A1) (a2 : A2) (a3 : A3) (a4 : A4) (a5 : A5) (a6 : A6) (h : I a1 a2 a3 a4 a5 a6) : ∃ n, W n a1 a2 a3 a4 a5 a6 :=
  loop_m (σ := A1 × A2 × A3 × A4 × A5 × A6) (fun n s => W n s.1 s.2.1 s.2.2.1 s.2.2.2.1 s.2.2.2.2.1 s.2.2.2.2.2) (fun s => I s.1 s.2.1 s.2.2.1 s.2.2.2.1 s.2.2.2.2.1 s.2.2.2.2.2) (fun s => μ s.1 s.2.1 s.2.2.1 s.2.2.2.1 s.2.2.2.2.1 s.2.2.2.2.2) (fun n s hI hk => hs n s.1 s.2.1 s.2.2.1 s.2.2.2.1 s.2.2.2.2.1 s.2.2.2.2.2 hI (fun b1 b2 b3 b4 b5 b6 h9 hm => hk (b1, b2, b3, b4, b5, b6) h9 hm)) (a1, a2, a3, a4, a5, a6) h
theorem lp7 {A1 A2 A3 A4 A5 A6 A7 : Type} (W : Nat → A1 → A2 → A3 → A4 → A5 → A6 → A7 → Prop) (I : A1 → A2 → A3 → A4 → A5 → A6 → A7 → Prop) (μ : A1 → A2 → A3 → A4 → A5 → A6 → A7 → Nat) (hs : ∀ (n : Nat) (a1 : A1) (a2 : A2) (a3 : A3) (a4 : A4) (a5 : A5) (a6 : A6) (a7 : A7), I a1 a2 a3 a4 a5 a6 a7 → (∀ (b1 : A1) (b2 : A2) (b3 : A3) (b4 : A4) (b5 : A5) (b6 : A6) (b7 : A7), I b1 b2 b3 b4 b5 b6 b7 → μ b1 b2 b3 b4 b5 b6 b7 < μ a1 a2 a3 a4 a5 a6 a7 → W n b1 b2 b3 b4 b5 b6 b7) → W (n + 1) a1 a2 a3 a4 a5 a6 a7) (a1 : A1) (a2 : A2) (a3 : A3) (a4 : A4) (a5 : A5) (a6 : A6) (a7 : A7) (h : I a1 a2 a3 a4 a5 a6 a7) : ∃ n, W n a1 a2 a3 a4 a5 a6 a7 :=
  loop_m (σ := A1 × A2 × A3 × A4 × A5 × A6 × A7) (fun n s => W n s.1 s.2.1 s.2.2.1 s.2.2.2.1 s.2.2.2.2.1 s.2.2.2.2.2.1 s.2.2.2.2.2.2) (fun s => I s.1 s.2.1 s.2.2.1 s.2.2.2.1 s.2.2.2.2.1 s.2.2.2.2.2.1 s.2.2.2.2.2.2) (fun s => μ s.1 s.2.1 s.2.2.1 s.2.2.2.1 s.2.2.2.2.1 s.2.2.2.2.2.1 s.2.2.2.2.2.2) (fun n s hI hk => hs n s.1 s.2.1 s.2.2.1 s.2.2.2.1 s.2.2.2.2.1 s.2.2.2.2.2.1 s.2.2.2.2.2.2 hI (fun b1 b2 b3 b4 b5 b6 b7 h9 hm => hk (b1, b2, b3, b4, b5, b6, b7) h9 hm)) (a1, a2, a3, a4, a5, a6, a7) h
theorem lp8 {A1 A2 A3 A4 A5 A6 A7 A8 : Type} (W : Nat → A1 → A2 → A3 → A4 → A5 → A6 → A7 → A8 → Prop) (I : A1 → A2 → A3 → A4 → A5 → A6 → A7 → A8 → Prop) (μ : A1 → A2 → A3 → A4 → A5 → A6 → A7 → A8 → Nat) (hs : ∀ (n : Nat) (a1 : A1) (a2 : A2) (a3 : A3) (a4 : A4) (a5 : A5) (a6 : A6) (a7 : A7) (a8 : A8), I a1 a2 a3 a4 a5 a6 a7 a8 → (∀ (b1 : A1) (b2 : A2) (b3 : A3) (b4 : A4) (b5 : A5) (b6 : A6) (b7 : A7) (b8 : A8), I b1 b2 b3 b4 b5 b6 b7 b8 → μ b1 b2 b3 b4 b5 b6 b7 b8 < μ a1 a2 a3 a4 a5 a6 a7 a8 → W n b1 b2 b3 b4 b5 b6 b7 b8) → W (n + 1) a1 a2 a3 a4 a5 a6 a7 a8) (a1 : A1) (a2 : A2) (a3 : A3) (a4 : A4) (a5 : A5) (a6 : A6) (a7 : A7) (a8 : A8) (h : I a1 a2 a3 a4 a5 a6 a7 a8) : ∃ n, W n a1 a2 a3 a4 a5 a6 a7 a8 :=
  loop_m (σ := A1 × A2 × A3 × A4 × A5 × A6 × A7 × A8) (fun n s => W n s.1 s.2.1 s.2.2.1 s.2.2.2.1 s.2.2.2.2.1 s.2.2.2.2.2.1 s.2.2.2.2.2.2.1 s.2.2.2.2.2.2.2) (fun s => I s.1 s.2.1 s.2.2.1 s.2.2.2.1 s.2.2.2.2.1 s.2.2.2.2.2.1 s.2.2.2.2.2.2.1 s.2.2.2.2.2.2.2) (fun s => μ s.1 s.2.1 s.2.2.1 s.2.2.2.1 s.2.2.2.2.1 s.2.2.2.2.2.1 s.2.2.2.2.2.2.1 s.2.2.2.2.2.2.2) (fun n s hI hk => hs n s.1 s.2.1 s.2.2.1 s.2.2.2.1 s.2.2.2.2.1 s.2.2.2.2.2.1 s.2.2.2.2.2.2.1 s.2.2.2.2.2.2.2 hI (fun b1 b2 b3 b4 b5 b6 b7 b8 h9 hm => hk (b1, b2, b3, b4, b5, b6, b7, b8) h9 hm)) (a1, a2, a3, a4, a5, a6, a7, a8) h
theorem lp9 {A1 A2 A3 A4 A5 A6 A7 A8 A9 : Type} (W : Nat → A1 → A2 → A3 → A4 → A5 → A6 → A7 → A8 → A9 → Prop) (I : A1 → A2 → A3 → A4 → A5 → A6 → A7 → A8 → A9 → Prop) (μ : A1 → A2 → A3 → A4 → A5 → A6 → A7 → A8 → A9 → Nat) (hs : ∀ (n : Nat) (a1 : A1) (a2 : A2) (a3 : A3) (a4 : A4) (a5 : A5) (a6 : A6) (a7 : A7) (a8 : A8) (a9 : A9), I a1 a2 a3 a4 a5 a6 a7 a8 a9 → (∀ (b1 : A1) (b2 : A2) (b3 : A3) (b4 : A4) (b5 : A5) (b6 : A6) (b7 : A7) (b8 : A8) (b9 : A9), I b1 b2 b3 b4 b5 b6 b7 b8 b9 → μ b1 b2 b3 b4 b5 b6 b7 b8 b9 < μ a1 a2 a3 a4 a5 a6 a7 a8 a9 → W n b1 b2 b3 b4 b5 b6 b7 b8 b9) → W (n + 1) a1 a2 a3 a4 a5 a6 a7 a8 a9) (a1 : A1) (a2 : A2) (a3 : A3) (a4 : A4) (a5 : A5) (a6 : A6) (a7 : A7) (a8 : A8) (a9 : A9) (h : I a1 a2 a3 a4 a5 a6 a7 a8 a9) : ∃ n, W n a1 a2 a3 a4 a5 a6 a7 a8 a9 :=
  loop_m (σ := A1 × A2 × A3 × A4 × A5 × A6 × A7 × A8 × A9) (fun n s => W n s.1 s.2.1 s.2.2.1 s.2.2.2.1 s.2.2.2.2.1 s.2.2.2.2.2.1 s.2.2.2.2.2.2.1 s.2.2.2.2.2.2.2.1 s.2.2.2.2.2.2.2.2) (fun s => I s.1 s.2.1 s.2.2.1 s.2.2.2.1 s.2.2.2.2.1 s.2.2.2.2.2.1 s.2.2.2.2.2.2.1 s.2.2.2.2.2.2.2.1 s.2.2.2.2.2.2.2.2) (fun s => μ s.1 s.2.1 s.2.2.1 s.2.2.2.1 s.2.2.2.2.1 s.2.2.2.2.2.1 s.2.2.2.2.2.2.1 s.2.2.2.2.2.2.2.1 s.2.2.2.2.2.2.2.2) (fun n s hI hk => hs n s.1 s.2.1 s.2.2.1 s.2.2.2.1 s.2.2.2.2.1 s.2.2.2.2.2.1 s.2.2.2.2.2.2.1 s.2.2.2.2.2.2.2.1 s.2.2.2.2.2.2.2.2 hI (fun b1 b2 b3 b4 b5 b6 b7 b8 b9 h9 hm => hk (b1, b2, b3, b4, b5, b6, b7, b8, b9) h9 hm)) (a1, a2, a3, a4, a5, a6, a7, a8, a9) h
theorem lp10 {A1 A2 A3 A4 A5 A6 A7 A8 A9 A10 : Type} (W : Nat → A1 → A2 → A3 → A4 → A5 → A6 → A7 → A8 → A9 → A10 → Prop) (I : A1 → A2 → A3 → A4 → A5 → A6 → A7 → A8 → A9 → A10 → Prop) (μ : A1 → A2 → A3 → A4 → A5 → A6 → A7 → A8 → A9 → A10 → Nat) (hs : ∀ (n : Nat) (a1 : A1) (a2 : A2) (a3 : A3) (a4 : A4) (a5 : A5) (a6 : A6) (a7 : A7) (a8 : A8) (a9 : A9) (a10 : A10), I a1 a2 a3 a4 a5 a6 a7 a8 a9 a10 → (∀ (b1 : A1) (b2 : A2) (b3 : A3) (b4 : A4) (b5 : A5) (b6 : A6) (b7 : A7) (b8 : A8) (b9 : A9) (b10 : A10), I b1 b2 b3 b4 b5 b6 b7 b8 b9 b10 → μ b1 b2 b3 b4 b5 b6 b7 b8 b9 b10 < μ a1 a2 a3 a4 a5 a6 a7 a8 a9 a10 → W n b1 b2 b3 b4 b5 b6 b7 b8 b9 b10) → W (n + 1) a1 a2 a3 a4 a5 a6 a7 a8 a9 a10) (a1 : A1) (a2 : A2) (a3 : A3) (a4 : A4) (a5 : A5) (a6 : A6) (a7 : A7) (a8 : A8) (a9 : A9) (a10 : A10) (h : I a1 a2 a3 a4 a5 a6 a7 a8 a9 a10) : ∃ n, W n a1 a2 a3 a4 a5 a6 a7 a8 a9 a10 :=
  loop_m (σ := A1 × A2 × A3 × A4 × A5 × A6 × A7 × A8 × A9 × A10) (fun n s => W n s.1 s.2.1 s.2.2.1 s.2.2.2.1 s.2.2.2.2.1 s.2.2.2.2.2.1 s.2.2.2.2.2.2.1 s.2.2.2.2.2.2.2.1 s.2.2.2.2.2.2.2.2.1 s.2.2.2.2.2.2.2.2.2) (fun s => I s.1 s.2.1 s.2.2.1 s.2.2.2.1 s.2.2.2.2.1 s.2.2.2.2.2.1 s.2.2.2.2.2.2.1 s.2.2.2.2.2.2.2.1 s.2.2.2.2.2.2.2.2.1 s.2.2.2.2.2.2.2.2.2) (fun s => μ s.1 s.2.1 s.2.2.1 s.2.2.2.1 s.2.2.2.2.1 s.2.2.2.2.2.1 s.2.2.2.2.2.2.1 s.2.2.2.2.2.2.2.1 s.2.2.2.2.2.2.2.2.1 s.2.2.2.2.2.2.2.2.2) (fun n s hI hk => hs n s.1 s.2.1 s.2.2.1 s.2.2.2.1 s.2.2.2.2.1 s.2.2.2.2.2.1 s.2.2.2.2.2.2.1 s.2.2.2.2.2.2.2.1 s.2.2.2.2.2.2.2.2.1 s.2.2.2.2.2.2.2.2.2 hI (fun b1 b2 b3 b4 b5 b6 b7 b8 b9 b10 h9 hm => hk (b1, b2, b3, b4, b5, b6, b7, b8, b9, b10) h9 hm)) (a1, a2, a3, a4, a5, a6, a7, a8, a9, a10) h
theorem lp11 {A1 A2 A3 A4 A5 A6 A7 A8 A9 A10 A11 : Type} (W : Nat → A1 → A2 → A3 → A4 → A5 → A6 → A7 → A8 → A9 → A10 → A11 → Prop) (I : A1 → A2 → A3 → A4 → A5 → A6 → A7 → A8 → A9 → A10 → A11 → Prop) (μ : A1 → A2 → A3 → A4 → A5 → A6 → A7 → A8 → A9 → A10 → A11 → Nat) (hs : ∀ (n : Nat) (a1 : A1) (a2 : A2) (a3 : A3) (a4 : A4) (a5 : A5) (a6 : A6) (a7 : A7) (a8 : A8) (a9 : A9) (a10 : A10) (a11 : A11), I a1 a2 a3 a4 a5 a6 a7 a8 a9 a10 a11 → (∀ (b1 : A1) (b2 : A2) (b3 : A3) (b4 : A4) (b5 : A5) (b6 : A6) (b7 : A7) (b8 : A8) (b9 : A9) (b10 : A10) (b11 : A11), I b1 b2 b3 b4 b5 b6 b7 b8 b9 b10 b11 → μ b1 b2 b3 b4 b5 b6 b7 b8 b9 b10 b11 < μ a1 a2 a3 a4 a5 a6 a7 a8 a9 a10 a11 → W n b1 b2 b3 b4 b5 b6 b7 b8 b9 b10 b11) → W (n + 1) a1 a2 a3 a4 a5 a6 a7 a8 a9 a10 a11) (a1 : A1) (a2 : A2) (a3 : A3) (a4 : A4) (a5 : A5) (a6 : A6) (a7 : A7) (a8 : A8) (a9 : A9) (a10 : A10) (a11 : A11) (h : I a1 a2 a3 a4 a5 a6 a7 a8 a9 a10 a11) : ∃ n, W n a1 a2 a3 a4 a5 a6 a7 a8 a9 a10 a11 :=
  loop_m (σ := A1 × A2 × A3 × A4 × A5 × A6 × A7 × A8 × A9 × A10 × A11) (fun n s => W n s.1 s.2.1 s.2.2.1 s.2.2.2.1 s.2.2.2.2.1 s.2.2.2.2.2.1 s.2.2.2.2.2.2.1 s.2.2.2.2.2.2.2.1 s.2.2.2.2.2.2.2.2.1 s.2.2.2.2.2.2.2.2.2.1 s.2.2.2.2.2.2.2.2.2.2) (fun s => I s.1 s.2.1 s.2.2.1 s.2.2.2.1 s.2.2.2.2.1 s.2.2.2.2.2.1 s.2.2.2.2.2.2.1 s.2.2.2.2.2.2.2.1 s.2.2.2.2.2.2.2.2.1 s.2.2.2.2.2.2.2.2.2.1 s.2.2.2.2.2.2.2.2.2.2) (fun s => μ s.1 s.2.1 s.2.2.1 s.2.2.2.1 s.2.2.2.2.1 s.2.2.2.2.2.1 s.2.2.2.2.2.2.1 s.2.2.2.2.2.2.2.1 s.2.2.2.2.2.2.2.2.1 s.2.2.2.2.2.2.2.2.2.1 s.2.2.2.2.2.2.2.2.2.2) (fun n s hI hk => hs n s.1 s.2.1 s.2.2.1 s.2.2.2.1 s.2.2.2.2.1 s.2.2.2.2.2.1 s.2.2.2.2.2.2.1 s.2.2.2.2.2.2.2.1 s.2.2.2.2.2.2.2.2.1 s.2.2.2.2.2.2.2.2.2.1 s.2.2.2.2.2.2.2.2.2.2 hI (fun b1 b2 b3 b4 b5 b6 b7 b8 b9 b10 b11 h9 hm => hk (b1, b2, b3, b4, b5, b6, b7, b8, b9, b10, b11) h9 hm)) (a1, a2, a3, a4, a5, a6, a7, a8, a9, a10, a11) h
theorem lp12 {A1 A2 A3 A4 A5 A6 A7 A8 A9 A10 A11 A12 : Type} (W : Nat → A1 → A2 → A3 → A4 → A5 → A6 → A7 → A8 → A9 → A10 → A11 → A12 → Prop) (I : A1 → A2 → A3 → A4 → A5 → A6 → A7 → A8 → A9 → A10 → A11 → A12 → Prop) (μ : A1 → A2 → A3 → A4 → A5 → A6 → A7 → A8 → A9 → A10 → A11 → A12 → Nat) (hs : ∀ (n : Nat) (a1 : A1) (a2 : A2) (a3 : A3) (a4 : A4) (a5 : A5) (a6 : A6) (a7 : A7) (a8 : A8) (a9 : A9) (a10 : A10) (a11 : A11) (a12 : A12), I a1 a2 a3 a4 a5 a6 a7 a8 a9 a10 a11 a12 → (∀ (b1 : A1) (b2 : A2) (b3 : A3) (b4 : A4) (b5 : A5) (b6 : A6) (b7 : A7) (b8 : A8) (b9 : A9) (b10 : A10) (b11 : A11) (b12 : A12), I b1 b2 b3 b4 b5 b6 b7 b8 b9 b10 b11 b12 → μ b1 b2 b3 b4 b5 b6 b7 b8 b9 b10 b11 b12 < μ a1 a2 a3 a4 a5 a6 a7 a8 a9 a10 a11 a12 → W n b1 b2 b3 b4 b5 b6 b7 b8 b9 b10 b11 b12) → W (n + 1) a1 a2 a3 a4 a5 a6 a7 a8 a9 a10 a11 a12) (a1 : A1) (a2 : A2) (a3 : A3) (a4 : A4) (a5 : A5) (a6 : A6) (a7 : A7) (a8 : A8) (a9 : A9) (a10 : A10) (a11 : A11) (a12 : A12) (h : I a1 a2 a3 a4 a5 a6 a7 a8 a9 a10 a11 a12) : ∃ n, W n a1 a2 a3 a4 a5 a6 a7 a8 a9 a10 a11 a12 :=
  loop_m (σ := A1 × A2 × A3 × A4 × A5 × A6 × A7 × A8 × A9 × A10 × A11 × A12) (fun n s => W n s.1 s.2.1 s.2.2.1 s.2.2.2.1 s.2.2.2.2.1 s.2.2.2.2.2.1 s.2.2.2.2.2.2.1 s.2.2.2.2.2.2.2.1 s.2.2.2.2.2.2.2.2.1 s.2.2.2.2.2.2.2.2.2.1 s.2.2.2.2.2.2.2.2.2.2.1 s.2.2.2.2.2.2.2.2.2.2.2) (fun s => I s.1 s.2.1 s.2.2.1 s.2.2.2.1 s.2.2.2.2.1 s.2.2.2.2.2.1 s.2.2.2.2.2.2.1 s.2.2.2.2.2.2.2.1 s.2.2.2.2.2.2.2.2.1 s.2.2.2.2.2.2.2.2.2.1 s.2.2.2.2.2.2.2.2.2.2.1 s.2.2.2.2.2.2.2.2.2.2.2) (fun s => μ s.1 s.2.1 s.2.2.1 s.2.2.2.1 s.2.2.2.2.1 s.2.2.2.2.2.1 s.2.2.2.2.2.2.1 s.2.2.2.2.2.2.2.1 s.2.2.2.2.2.2.2.2.1 s.2.2.2.2.2.2.2.2.2.1 s.2.2.2.2.2.2.2.2.2.2.1 s.2.2.2.2.2.2.2.2.2.2.2) (fun n s hI hk => hs n s.1 s.2.1 s.2.2.1 s.2.2.2.1 s.2.2.2.2.1 s.2.2.2.2.2.1 s.2.2.2.2.2.2.1 s.2.2.2.2.2.2.2.1 s.2.2.2.2.2.2.2.2.1 s.2.2.2.2.2.2.2.2.2.1 s.2.2.2.2.2.2.2.2.2.2.1 s.2.2.2.2.2.2.2.2.2.2.2 hI (fun b1 b2 b3 b4 b5 b6 b7 b8 b9 b10 b11 b12 h9 hm => hk (b1, b2, b3, b4, b5, b6, b7, b8, b9, b10, b11, b12) h9 hm)) (a1, a2, a3, a4, a5, a6, a7, a8, a9, a10, a11, a12) h
theorem lp13 {A1 A2 A3 A4 A5 A6 A7 A8 A9 A10 A11 A12 A13 : Type} (W : Nat → A1 → A2 → A3 → A4 → A5 → A6 → A7 → A8 → A9 → A10 → A11 → A12 → A13 → Prop) (I : A1 → A2 → A3 → A4 → A5 → A6 → A7 → A8 → A9 → A10 → A11 → A12 → A13 → Prop) (μ : A1 → A2 → A3 → A4 → A5 → A6 → A7 → A8 → A9 → A10 → A11 → A12 → A13 → Nat) (hs : ∀ (n : Nat) (a1 : A1) (a2 : A2) (a3 : A3) (a4 : A4) (a5 : A5) (a6 : A6) (a7 : A7) (a8 : A8) (a9 : A9) (a10 : A10) (a11 : A11) (a12 : A12) (a13 : A13), I a1 a2 a3 a4 a5 a6 a7 a8 a9 a10 a11 a12 a13 → (∀ (b1 : A1) (b2 : A2) (b3 : A3) (b4 : A4) (b5 : A5) (b6 : A6) (b7 : A7) (b8 : A8) (b9 : A9) (b10 : A10) (b11 : A11) (b12 : A12) (b13 : A13), I b1 b2 b3 b4 b5 b6 b7 b8 b9 b10 b11 b12 b13 → μ b1 b2 b3 b4 b5 b6 b7 b8 b9 b10 b11 b12 b13 < μ a1 a2 a3 a4 a5 a6 a7 a8 a9 a10 a11 a12 a13 → W n b1 b2 b3 b4 b5 b6 b7 b8 b9 b10 b11 b12 b13) → W (n + 1) a1 a2 a3 a4 a5 a6 a7 a8 a9 a10 a11 a12 a13) (a1 : A1) (a2 : A2) (a3 : A3) (a4 : A4) (a5 : A5) (a6 : A6) (a7 : A7) (a8 : A8) (a9 : A9) (a10 : A10) (a11 : A11) (a12 : A12) (a13 : A13) (h : I a1 a2 a3 a4 a5 a6 a7 a8 a9 a10 a11 a12 a13) : ∃ n, W n a1 a2 a3 a4 a5 a6 a7 a8 a9 a10 a11 a12 a13 :=
  loop_m (σ := A1 × A2 × A3 × A4 × A5 × A6 × A7 × A8 × A9 × A10 × A11 × A12 × A13) (fun n s => W n s.1 s.2.1 s.2.2.1 s.2.2.2.1 s.2.2.2.2.1 s.2.2.2.2.2.1 s.2.2.2.2.2.2.1 s.2.2.2.2.2.2.2.1 s.2.2.2.2.2.2.2.2.1 s.2.2.2.2.2.2.2.2.2.1 s.2.2.2.2.2.2.2.2.2.2.1 s.2.2.2.2.2.2.2.2.2.2.2.1 s.2.2.2.2.2.2.2.2.2.2.2.2) (fun s => I s.1 s.2.1 s.2.2.1 s.2.2.2.1 s.2.2.2.2.1 s.2.2.2.2.2.1 s.2.2.2.2.2.2.1 s.2.2.2.2.2.2.2.1 s.2.2.2.2.2.2.2.2.1 s.2.2.2.2.2.2.2.2.2.1 s.2.2.2.2.2.2.2.2.2.2.1 s.2.2.2.2.2.2.2.2.2.2.2.1 s.2.2.2.2.2.2.2.2.2.2.2.2) (fun s => μ s.1 s.2.1 s.2.2.1 s.2.2.2.1 s.2.2.2.2.1 s.2.2.2.2.2.1 s.2.2.2.2.2.2.1 s.2.2.2.2.2.2.2.1 s.2.2.2.2.2.2.2.2.1 s.2.2.2.2.2.2.2.2.2.1 s.2.2.2.2.2.2.2.2.2.2.1 s.2.2.2.2.2.2.2.2.2.2.2.1 s.2.2.2.2.2.2.2.2.2.2.2.2) (fun n s hI hk => hs n s.1 s.2.1 s.2.2.1 s.2.2.2.1 s.2.2.2.2.1 s.2.2.2.2.2.1 s.2.2.2.2.2.2.1 s.2.2.2.2.2.2.2.1 s.2.2.2.2.2.2.2.2.1 s.2.2.2.2.2.2.2.2.2.1 s.2.2.2.2.2.2.2.2.2.2.1 s.2.2.2.2.2.2.2.2.2.2.2.1 s.2.2.2.2.2.2.2.2.2.2.2.2 hI (fun b1 b2 b3 b4 b5 b6 b7 b8 b9 b10 b11 b12 b13 h9 hm => hk (b1, b2, b3, b4, b5, b6, b7, b8, b9, b10, b11, b12, b13) h9 hm)) (a1, a2, a3, a4, a5, a6, a7, a8, a9, a10, a11, a12, a13) h
theorem lp14 {A1 A2 A3 A4 A5 A6 A7 A8 A9 A10 A11 A12 A13 A14 : Type} (W : Nat → A1 → A2 → A3 → A4 → A5 → A6 → A7 → A8 → A9 → A10 → A11 → A12 → A13 → A14 → Prop) (I : A1 → A2 → A3 → A4 → A5 → A6 → A7 → A8 → A9 → A10 → A11 → A12 → A13 → A14 → Prop) (μ : A1 → A2 → A3 → A4 → A5 → A6 → A7 → A8 → A9 → A10 → A11 → A12 → A13 → A14 → Nat) (hs : ∀ (n : Nat) (a1 : A1) (a2 : A2) (a3 : A3) (a4 : A4) (a5 : A5) (a6 : A6) (a7 : A7) (a8 : A8) (a9 : A9) (a10 : A10) (a11 : A11) (a12 : A12) (a13 : A13) (a14 : A14), I a1 a2 a3 a4 a5 a6 a7 a8 a9 a10 a11 a12 a13 a14 → (∀ (b1 : A1) (b2 : A2) (b3 : A3) (b4 : A4) (b5 : A5) (b6 : A6) (b7 : A7) (b8 : A8) (b9 : A9) (b10 : A10) (b11 : A11) (b12 : A12) (b13 : A13) (b14 : A14), I b1 b2 b3 b4 b5 b6 b7 b8 b9 b10 b11 b12 b13 b14 → μ b1 b2 b3 b4 b5 b6 b7 b8 b9 b10 b11 b12 b13 b14 < μ a1 a2 a3 a4 a5 a6 a7 a8 a9 a10 a11 a12 a13 a14 → W n b1 b2 b3 b4 b5 b6 b7 b8 b9 b10 b11 b12 b13 b14) → W (n + 1) a1 a2 a3 a4 a5 a6 a7 a8 a9 a10 a11 a12 a13 a14) (a1 : A1) (a2 : A2) (a3 : A3) (a4 : A4) (a5 : A5) (a6 : A6) (a7 : A7) (a8 : A8) (a9 : A9) (a10 : A10) (a11 : A11) (a12 : A12) (a13 : A13) (a14 : A14) (h : I a1 a2 a3 a4 a5 a6 a7 a8 a9 a10 a11 a12 a13 a14) : ∃ n, W n a1 a2 a3 a4 a5 a6 a7 a8 a9 a10 a11 a12 a13 a14 :=
  loop_m (σ := A1 × A2 × A3 × A4 × A5 × A6 × A7 × A8 × A9 × A10 × A11 × A12 × A13 × A14) (fun n s => W n s.1 s.2.1 s.2.2.1 s.2.2.2.1 s.2.2.2.2.1 s.2.2.2.2.2.1 s.2.2.2.2.2.2.1 s.2.2.2.2.2.2.2.1 s.2.2.2.2.2.2.2.2.1 s.2.2.2.2.2.2.2.2.2.1 s.2.2.2.2.2.2.2.2.2.2.1 s.2.2.2.2.2.2.2.2.2.2.2.1 s.2.2.2.2.2.2.2.2.2.2.2.2.1 s.2.2.2.2.2.2.2.2.2.2.2.2.2) (fun s => I s.1 s.2.1 s.2.2.1 s.2.2.2.1 s.2.2.2.2.1 s.2.2.2.2.2.1 s.2.2.2.2.2.2.1 s.2.2.2.2.2.2.2.1 s.2.2.2.2.2.2.2.2.1 s.2.2.2.2.2.2.2.2.2.1 s.2.2.2.2.2.2.2.2.2.2.1 s.2.2.2.2.2.2.2.2.2.2.2.1 s.2.2.2.2.2.2.2.2.2.2.2.2.1 s.2.2.2.2.2.2.2.2.2.2.2.2.2) (fun s => μ s.1 s.2.1 s.2.2.1 s.2.2.2.1 s.2.2.2.2.1 s.2.2.2.2.2.1 s.2.2.2.2.2.2.1 s.2.2.2.2.2.2.2.1 s.2.2.2.2.2.2.2.2.1 s.2.2.2.2.2.2.2.2.2.1 s.2.2.2.2.2.2.2.2.2.2.1 s.2.2.2.2.2.2.2.2.2.2.2.1 s.2.2.2.2.2.2.2.2.2.2.2.2.1 s.2.2.2.2.2.2.2.2.2.2.2.2.2) (fun n s hI hk => hs n s.1 s.2.1 s.2.2.1 s.2.2.2.1 s.2.2.2.2.1 s.2.2.2.2.2.1 s.2.2.2.2.2.2.1 s.2.2.2.2.2.2.2.1 s.2.2.2.2.2.2.2.2.1 s.2.2.2.2.2.2.2.2.2.1 s.2.2.2.2.2.2.2.2.2.2.1 s.2.2.2.2.2.2.2.2.2.2.2.1 s.2.2.2.2.2.2.2.2.2.2.2.2.1 s.2.2.2.2.2.2.2.2.2.2.2.2.2 hI (fun b1 b2 b3 b4 b5 b6 b7 b8 b9 b10 b11 b12 b13 b14 h9 hm => hk (b1, b2, b3, b4, b5, b6, b7, b8, b9, b10, b11, b12, b13, b14) h9 hm)) (a1, a2, a3, a4, a5, a6, a7, a8, a9, a10, a11, a12, a13, a14) h
theorem lp15 {A1 A2 A3 A4 A5 A6 A7 A8 A9 A10 A11 A12 A13 A14 A15 : Type} (W : Nat → A1 → A2 → A3 → A4 → A5 → A6 → A7 → A8 → A9 → A10 → A11 → A12 → A13 → A14 → A15 → Prop) (I : A1 → A2 → A3 → A4 → A5 → A6 → A7 → A8 → A9 → A10 → A11 → A12 → A13 → A14 → A15 → Prop) (μ : A1 → A2 → A3 → A4 → A5 → A6 → A7 → A8 → A9 → A10 → A11 → A12 → A13 → A14 → A15 → Nat) (hs : ∀ (n : Nat) (a1 : A1) (a2 : A2) (a3 : A3) (a4 : A4) (a5 : A5) (a6 : A6) (a7 : A7) (a8 : A8) (a9 : A9) (a10 : A10) (a11 : A11) (a12 : A12) (a13 : A13) (a14 : A14) (a15 : A15), I a1 a2 a3 a4 a5 a6 a7 a8 a9 a10 a11 a12 a13 a14 a15 → (∀ (b1 : A1) (b2 : A2) (b3 : A3) (b4 : A4) (b5 : A5) (b6 : A6) (b7 : A7) (b8 : A8) (b9 : A9) (b10 : A10) (b11 : A11) (b12 : A12) (b13 : A13) (b14 : A14) (b15 : A15), I b1 b2 b3 b4 b5 b6 b7 b8 b9 b10 b11 b12 b13 b14 b15 → μ b1 b2 b3 b4 b5 b6 b7 b8 b9 b10 b11 b12 b13 b14 b15 < μ a1 a2 a3 a4 a5 a6 a7 a8 a9 a10 a11 a12 a13 a14 a15 → W n b1 b2 b3 b4 b5 b6 b7 b8 b9 b10 b11 b12 b13 b14 b15) → W (n + 1) a1 a2 a3 a4 a5 a6 a7 a8 a9 a10 a11 a12 a13 a14 a15) (a1 : A1) (a2 : A2) (a3 : A3) (a4 : A4) (a5 : A5) (a6 : A6) (a7 : A7) (a8 : A8) (a9 : A9) (a10 : A10) (a11 : A11) (a12 : A12) (a13 : A13) (a14 : A14) (a15 : A15) (h : I a1 a2 a3 a4 a5 a6 a7 a8 a9 a10 a11 a12 a13 a14 a15) : ∃ n, W n a1 a2 a3 a4 a5 a6 a7 a8 a9 a10 a11 a12 a13 a14 a15 :=
  loop_m (σ := A1 × A2 × A3 × A4 × A5 × A6 × A7 × A8 × A9 × A10 × A11 × A12 × A13 × A14 × A15) (fun n s => W n s.1 s.2.1 s.2.2.1 s.2.2.2.1 s.2.2.2.2.1 s.2.2.2.2.2.1 s.2.2.2.2.2.2.1 s.2.2.2.2.2.2.2.1 s.2.2.2.2.2.2.2.2.1 s.2.2.2.2.2.2.2.2.2.1 s.2.2.2.2.2.2.2.2.2.2.1 s.2.2.2.2.2.2.2.2.2.2.2.1 s.2.2.2.2.2.2.2.2.2.2.2.2.1 s.2.2.2.2.2.2.2.2.2.2.2.2.2.1 s.2.2.2.2.2.2.2.2.2.2.2.2.2.2) (fun s => I s.1 s.2.1 s.2.2.1 s.2.2.2.1 s.2.2.2.2.1 s.2.2.2.2.2.1 s.2.2.2.2.2.2.1 s.2.2.2.2.2.2.2.1 s.2.2.2.2.2.2.2.2.1 s.2.2.2.2.2.2.2.2.2.1 s.2.2.2.2.2.2.2.2.2.2.1 s.2.2.2.2.2.2.2.2.2.2.2.1 s.2.2.2.2.2.2.2.2.2.2.2.2.1 s.2.2.2.2.2.2.2.2.2.2.2.2.2.1 s.2.2.2.2.2.2.2.2.2.2.2.2.2.2) (fun s => μ s.1 s.2.1 s.2.2.1 s.2.2.2.1 s.2.2.2.2.1 s.2.2.2.2.2.1 s.2.2.2.2.2.2.1 s.2.2.2.2.2.2.2.1 s.2.2.2.2.2.2.2.2.1 s.2.2.2.2.2.2.2.2.2.1 s.2.2.2.2.2.2.2.2.2.2.1 s.2.2.2.2.2.2.2.2.2.2.2.1 s.2.2.2.2.2.2.2.2.2.2.2.2.1 s.2.2.2.2.2.2.2.2.2.2.2.2.2.1 s.2.2.2.2.2.2.2.2.2.2.2.2.2.2) (fun n s hI hk => hs n s.1 s.2.1 s.2.2.1 s.2.2.2.1 s.2.2.2.2.1 s.2.2.2.2.2.1 s.2.2.2.2.2.2.1 s.2.2.2.2.2.2.2.1 s.2.2.2.2.2.2.2.2.1 s.2.2.2.2.2.2.2.2.2.1 s.2.2.2.2.2.2.2.2.2.2.1 s.2.2.2.2.2.2.2.2.2.2.2.1 s.2.2.2.2.2.2.2.2.2.2.2.2.1 s.2.2.2.2.2.2.2.2.2.2.2.2.2.1 s.2.2.2.2.2.2.2.2.2.2.2.2.2.2 hI (fun b1 b2 b3 b4 b5 b6 b7 b8 b9 b10 b11 b12 b13 b14 b15 h9 hm => hk (b1, b2, b3, b4, b5, b6, b7, b8, b9, b10, b11, b12, b13, b14, b15) h9 hm)) (a1, a2, a3, a4, a5, a6, a7, a8, a9, a10, a11, a12, a13, a14, a15) h
theorem lp16 {A1 A2 A3 A4 A5 A6 A7 A8 A9 A10 A11 A12 A13 A14 A15 A16 : Type} (W : Nat → A1 → A2 → A3 → A4 → A5 → A6 → A7 → A8 → A9 → A10 → A11 → A12 → A13 → A14 → A15 → A16 → Prop) (I : A1 → A2 → A3 → A4 → A5 → A6 → A7 → A8 → A9 → A10 → A11 → A12 → A13 → A14 → A15 → A16 → Prop) (μ : A1 → A2 → A3 → A4 → A5 → A6 → A7 → A8 → A9 → A10 → A11 → A12 → A13 → A14 → A15 → A16 → Nat) (hs : ∀ (n : Nat) (a1 : A1) (a2 : A2) (a3 : A3) (a4 : A4) (a5 : A5) (a6 : A6) (a7 : A7) (a8 : A8) (a9 : A9) (a10 : A10) (a11 : A11) (a12 : A12) (a13 : A13) (a14 : A14) (a15 : A15) (a16 : A16), I a1 a2 a3 a4 a5 a6 a7 a8 a9 a10 a11 a12 a13 a14 a15 a16 → (∀ (b1 : A1) (b2 : A2) (b3 : A3) (b4 : A4) (b5 : A5) (b6 : A6) (b7 : A7) (b8 : A8) (b9 : A9) (b10 : A10) (b11 : A11) (b12 : A12) (b13 : A13) (b14 : A14) (b15 : A15) (b16 : A16), I b1 b2 b3 b4 b5 b6 b7 b8 b9 b10 b11 b12 b13 b14 b15 b16 → μ b1 b2 b3 b4 b5 b6 b7 b8 b9 b10 b11 b12 b13 b14 b15 b16 < μ a1 a2 a3 a4 a5 a6 a7 a8 a9 a10 a11 a12 a13 a14 a15 a16 → W n b1 b2 b3 b4 b5 b6 b7 b8 b9 b10 b11 b12 b13 b14 b15 b16) → W (n + 1) a1 a2 a3 a4 a5 a6 a7 a8 a9 a10 a11 a12 a13 a14 a15 a16) (a1 : A1) (a2 : A2) (a3 : A3) (a4 : A4) (a5 : A5) (a6 : A6) (a7 : A7) (a8 : A8) (a9 : A9) (a10 : A10) (a11 : A11) (a12 : A12) (a13 : A13) (a14 : A14) (a15 : A15) (a16 : A16) (h : I a1 a2 a3 a4 a5 a6 a7 a8 a9 a10 a11 a12 a13 a14 a15 a16) : ∃ n, W n a1 a2 a3 a4 a5 a6 a7 a8 a9 a10 a11 a12 a13 a14 a15 a16 :=
  loop_m (σ := A1 × A2 × A3 × A4 × A5 × A6 × A7 × A8 × A9 × A10 × A11 × A12 × A13 × A14 × A15 × A16) (fun n s => W n s.1 s.2.1 s.2.2.1 s.2.2.2.1 s.2.2.2.2.1 s.2.2.2.2.2.1 s.2.2.2.2.2.2.1 s.2.2.2.2.2.2.2.1 s.2.2.2.2.2.2.2.2.1 s.2.2.2.2.2.2.2.2.2.1 s.2.2.2.2.2.2.2.2.2.2.1 s.2.2.2.2.2.2.2.2.2.2.2.1 s.2.2.2.2.2.2.2.2.2.2.2.2.1 s.2.2.2.2.2.2.2.2.2.2.2.2.2.1 s.2.2.2.2.2.2.2.2.2.2.2.2.2.2.1 s.2.2.2.2.2.2.2.2.2.2.2.2.2.2.2) (fun s => I s.1 s.2.1 s.2.2.1 s.2.2.2.1 s.2.2.2.2.1 s.2.2.2.2.2.1 s.2.2.2.2.2.2.1 s.2.2.2.2.2.2.2.1 s.2.2.2.2.2.2.2.2.1 s.2.2.2.2.2.2.2.2.2.1 s.2.2.2.2.2.2.2.2.2.2.1 s.2.2.2.2.2.2.2.2.2.2.2.1 s.2.2.2.2.2.2.2.2.2.2.2.2.1 s.2.2.2.2.2.2.2.2.2.2.2.2.2.1 s.2.2.2.2.2.2.2.2.2.2.2.2.2.2.1 s.2.2.2.2.2.2.2.2.2.2.2.2.2.2.2) (fun s => μ s.1 s.2.1 s.2.2.1 s.2.2.2.1 s.2.2.2.2.1 s.2.2.2.2.2.1 s.2.2.2.2.2.2.1 s.2.2.2.2.2.2.2.1 s.2.2.2.2.2.2.2.2.1 s.2.2.2.2.2.2.2.2.2.1 s.2.2.2.2.2.2.2.2.2.2.1 s.2.2.2.2.2.2.2.2.2.2.2.1 s.2.2.2.2.2.2.2.2.2.2.2.2.1 s.2.2.2.2.2.2.2.2.2.2.2.2.2.1 s.2.2.2.2.2.2.2.2.2.2.2.2.2.2.1 s.2.2.2.2.2.2.2.2.2.2.2.2.2.2.2) (fun n s hI hk => hs n s.1 s.2.1 s.2.2.1 s.2.2.2.1 s.2.2.2.2.1 s.2.2.2.2.2.1 s.2.2.2.2.2.2.1 s.2.2.2.2.2.2.2.1 s.2.2.2.2.2.2.2.2.1 s.2.2.2.2.2.2.2.2.2.1 s.2.2.2.2.2.2.2.2.2.2.1 s.2.2.2.2.2.2.2.2.2.2.2.1 s.2.2.2.2.2.2.2.2.2.2.2.2.1 s.2.2.2.2.2.2.2.2.2.2.2.2.2.1 s.2.2.2.2.2.2.2.2.2.2.2.2.2.2.1 s.2.2.2.2.2.2.2.2.2.2.2.2.2.2.2 hI (fun b1 b2 b3 b4 b5 b6 b7 b8 b9 b10 b11 b12 b13 b14 b15 b16 h9 hm => hk (b1, b2, b3, b4, b5, b6, b7, b8, b9, b10, b11, b12, b13, b14, b15, b16) h9 hm)) (a1, a2, a3, a4, a5, a6, a7, a8, a9, a10, a11, a12, a13, a14, a15, a16) h
theorem pk_least (P : Nat → Prop) (h : ∃ k, P k) : ∃ k, P k ∧ ∀ j, j < k → ¬ P j := by
  obtain ⟨k, hk⟩ := h
  induction k using Nat.strongRecOn with
  | ind k ih =>
    by_cases e : ∃ j, j < k ∧ P j
    · obtain ⟨j, hj, pj⟩ := e
      exact ih j hj pj
    · exact ⟨k, hk, fun j hj pj => e ⟨j, hj, pj⟩⟩
theorem rp1 {ρ A1 : Type} (W : Nat → (ρ → Prop) → A1 → Prop) (ok : A1 → Prop) (μ : A1 → Nat) (val : A1 → ρ)
    (hs : ∀ (d : Nat) (post : ρ → Prop) (a1 : A1), ok a1 → post (val a1) → (∀ (post' : ρ → Prop) (b1 : A1), ok b1 → μ b1 < μ a1 → post' (val b1) → W d post' b1) → W (d + 1) post a1) :
    ∀ (d : Nat) (post : ρ → Prop) (a1 : A1), ok a1 → μ a1 < d → post (val a1) → W d post a1 := by
  intro d
  induction d with
  | zero => intro post a1 _ h; omega
  | succ d ih =>
    intro post a1 ho hm hp
    exact hs d post a1 ho hp (fun post' b1 ho' hm' hp' => ih post' b1 ho' (by omega) hp')
theorem rp2 {ρ A1 A2 : Type} (W : Nat → (ρ → Prop) → A1 → A2 → Prop) (ok : A1 → A2 → Prop) (μ : A1 → A2 → Nat) (val : A1 → A2 → ρ)
    (hs : ∀ (d : Nat) (post : ρ → Prop) (a1 : A1) (a2 : A2), ok a1 a2 → post (val a1 a2) → (∀ (post' : ρ → Prop) (b1 : A1) (b2 : A2), ok b1 b2 → μ b1 b2 < μ a1 a2 → post' (val b1 b2) → W d post' b1 b2) → W (d + 1) post a1 a2) :
    ∀ (d : Nat) (post : ρ → Prop) (a1 : A1) (a2 : A2), ok a1 a2 → μ a1 a2 < d → post (val a1 a2) → W d post a1 a2 := by
  intro d
  induction d with
  | zero => intro post a1 a2 _ h; omega
  | succ d ih =>
    intro post a1 a2 ho hm hp
    exact hs d post a1 a2 ho hp (fun post' b1 b2 ho' hm' hp' => ih post' b1 b2 ho' (by omega) hp')
theorem rp3 {ρ A1 A2 A3 : Type} (W : Nat → (ρ → Prop) → A1 → A2 → A3 → Prop) (ok : A1 → A2 → A3 → Prop) (μ : A1 → A2 → A3 → Nat) (val : A1 → A2 → A3 → ρ)
    (hs : ∀ (d : Nat) (post : ρ → Prop) (a1 : A1) (a2 : A2) (a3 : A3), ok a1 a2 a3 → post (val a1 a2 a3) → (∀ (post' : ρ → Prop) (b1 : A1) (b2 : A2) (b3 : A3), ok b1 b2 b3 → μ b1 b2 b3 < μ a1 a2 a3 → post' (val b1 b2 b3) → W d post' b1 b2 b3) → W (d + 1) post a1 a2 a3) :
    ∀ (d : Nat) (post : ρ → Prop) (a1 : A1) (a2 : A2) (a3 : A3), ok a1 a2 a3 → μ a1 a2 a3 < d → post (val a1 a2 a3) → W d post a1 a2 a3 := by
  intro d
  induction d with
  | zero => intro post a1 a2 a3 _ h; omega
  | succ d ih =>
    intro post a1 a2 a3 ho hm hp
    exact hs d post a1 a2 a3 ho hp (fun post' b1 b2 b3 ho' hm' hp' => ih post' b1 b2 b3 ho' (by omega) hp')
theorem rp4 {ρ A1 A2 A3 A4 : Type} (W : Nat → (ρ → Prop) → A1 → A2 → A3 → A4 → Prop) (ok : A1 → A2 → A3 → A4 → Prop) (μ : A1 → A2 → A3 → A4 → Nat) (val : A1 → A2 → A3 → A4 → ρ)
    (hs : ∀ (d : Nat) (post : ρ → Prop) (a1 : A1) (a2 : A2) (a3 : A3) (a4 : A4), ok a1 a2 a3 a4 → post (val a1 a2 a3 a4) → (∀ (post' : ρ → Prop) (b1 : A1) (b2 : A2) (b3 : A3) (b4 : A4), ok b1 b2 b3 b4 → μ b1 b2 b3 b4 < μ a1 a2 a3 a4 → post' (val b1 b2 b3 b4) → W d post' b1 b2 b3 b4) → W (d + 1) post a1 a2 a3 a4) :
    ∀ (d : Nat) (post : ρ → Prop) (a1 : A1) (a2 : A2) (a3 : A3) (a4 : A4), ok a1 a2 a3 a4 → μ a1 a2 a3 a4 < d → post (val a1 a2 a3 a4) → W d post a1 a2 a3 a4 := by
  intro d
  induction d with
  | zero => intro post a1 a2 a3 a4 _ h; omega
  | succ d ih =>
    intro post a1 a2 a3 a4 ho hm hp
    exact hs d post a1 a2 a3 a4 ho hp (fun post' b1 b2 b3 b4 ho' hm' hp' => ih post' b1 b2 b3 b4 ho' (by omega) hp')
theorem rp5 {ρ A1 A2 A3 A4 A5 : Type} (W : Nat → (ρ → Prop) → A1 → A2 → A3 → A4 → A5 → Prop) (ok : A1 → A2 → A3 → A4 → A5 → Prop) (μ : A1 → A2 → A3 → A4 → A5 → Nat) (val : A1 → A2 → A3 → A4 → A5 → ρ)
    (hs : ∀ (d : Nat) (post : ρ → Prop) (a1 : A1) (a2 : A2) (a3 : A3) (a4 : A4) (a5 : A5), ok a1 a2 a3 a4 a5 → post (val a1 a2 a3 a4 a5) → (∀ (post' : ρ → Prop) (b1 : A1) (b2 : A2) (b3 : A3) (b4 : A4) (b5 : A5), ok b1 b2 b3 b4 b5 → μ b1 b2 b3 b4 b5 < μ a1 a2 a3 a4 a5 → post' (val b1 b2 b3 b4 b5) → W d post' b1 b2 b3 b4 b5) → W (d + 1) post a1 a2 a3 a4 a5) :
    ∀ (d : Nat) (post : ρ → Prop) (a1 : A1) (a2 : A2) (a3 : A3) (a4 : A4) (a5 : A5), ok a1 a2 a3 a4 a5 → μ a1 a2 a3 a4 a5 < d → post (val a1 a2 a3 a4 a5) → W d post a1 a2 a3 a4 a5 := by
  intro d
  induction d with
  | zero => intro post a1 a2 a3 a4 a5 _ h; omega
  | succ d ih =>
    intro post a1 a2 a3 a4 a5 ho hm hp
    exact hs d post a1 a2 a3 a4 a5 ho hp (fun post' b1 b2 b3 b4 b5 ho' hm' hp' => ih post' b1 b2 b3 b4 b5 ho' (by omega) hp')
theorem rp6 {ρ A1 A2 A3 A4 A5 A6 : Type} (W : Nat → (ρ → Prop) → A1 → A2 → A3 → A4 → A5 → A6 → Prop) (ok : A1 → A2 → A3 → A4 → A5 → A6 → Prop) (μ : A1 → A2 → A3 → A4 → A5 → A6 → Nat) (val : A1 → A2 → A3 → A4 → A5 → A6 → ρ)
    (hs : ∀ (d : Nat) (post : ρ → Prop) (a1 : A1) (a2 : A2) (a3 : A3) (a4 : A4) (a5 : A5) (a6 : A6), ok a1 a2 a3 a4 a5 a6 → post (val a1 a2 a3 a4 a5 a6) → (∀ (post' : ρ → Prop) (b1 : A1) (b2 : A2) (b3 : A3) (b4 : A4) (b5 : A5) (b6 : A6), ok b1 b2 b3 b4 b5 b6 → μ b1 b2 b3 b4 b5 b6 < μ a1 a2 a3 a4 a5 a6 → post' (val b1 b2 b3 b4 b5 b6) → W d post' b1 b2 b3 b4 b5 b6) → W (d + 1) post a1 a2 a3 a4 a5 a6) :
    ∀ (d : Nat) (post : ρ → Prop) (a1 : A1) (a2 : A2) (a3 : A3) (a4 : A4) (a5 : A5) (a6 : A6), ok a1 a2 a3 a4 a5 a6 → μ a1 a2 a3 a4 a5 a6 < d → post (val a1 a2 a3 a4 a5 a6) → W d post a1 a2 a3 a4 a5 a6 := by
  intro d
  induction d with
  | zero => intro post a1 a2 a3 a4 a5 a6 _ h; omega
  | succ d ih =>
    intro post a1 a2 a3 a4 a5 a6 ho hm hp
    exact hs d post a1 a2 a3 a4 a5 a6 ho hp (fun post' b1 b2 b3 b4 b5 b6 ho' hm' hp' => ih post' b1 b2 b3 b4 b5 b6 ho' (by omega) hp')
theorem rec_p {σ ρ : Type} (W : Nat → (ρ → Prop) → σ → Prop) (ok : σ → Prop) (μ : σ → Nat) (val : σ → ρ)
    (hs : ∀ d s post, ok s → post (val s) → (∀ s' post', ok s' → μ s' < μ s → post' (val s') → W d post' s') → W (d + 1) post s) :
    ∀ d s post, ok s → μ s < d → post (val s) → W d post s := by
  intro d
  induction d with
  | zero => intro s post _ h; omega
  | succ d ih =>
    intro s post ho hm hp
    exact hs d s post ho hp (fun s' post' ho' hm' hp' => ih s' post' ho' (by omega) hp')
theorem rec_q {σ ρ : Type} (W : Nat → (ρ → Prop) → σ → Prop) (ok : σ → Prop) (μ : σ → Nat) (Q : σ → ρ → Prop)
    (hs : ∀ d s post, ok s → (∀ r, Q s r → post r) → (∀ s' post', ok s' → μ s' < μ s → (∀ r, Q s' r → post' r) → W d post' s') → W (d + 1) post s) :
    ∀ d s post, ok s → μ s < d → (∀ r, Q s r → post r) → W d post s := by
  intro d
  induction d with
  | zero => intro s post _ h; omega
  | succ d ih =>
    intro s post ho hm hp
    exact hs d s post ho hp (fun s' post' ho' hm' hp' => ih s' post' ho' (by omega) hp')
def bx_sum (f : Nat → Int32) : Nat → Int32
  | 0 => 0
  | n + 1 => bx_sum f n + f n
theorem ek_u {A : Prop} {B : Nat → Prop} {k N : Nat} (hk : k < N) (h : B k) : (some k = none → A) ∧ (∀ y : Nat, some k = some y → (y < N ∧ B y)) :=
  ⟨fun z => absurd z (Option.some_ne_none k), fun _ e => (by cases e; exact ⟨hk, h⟩)⟩
theorem ek_nu {A : Prop} {B : Nat → Prop} (h : A) : ((none : Option Nat) = none → A) ∧ (∀ y : Nat, (none : Option Nat) = some y → B y) :=
  ⟨fun _ => h, fun _ e => (by cases e)⟩
theorem ek_if {c d A B : Prop} (e : c ↔ d) (f : d → A) (g : ¬ d → B) : (c → A) ∧ (¬ c → B) :=
  ⟨fun z => f (e.mp z), fun z => g (fun y => z (e.mpr y))⟩
theorem ek_v {α : Sort _} {P : α → Prop} {a b : α} (e : a = b) (h : P b) : P a := e ▸ h
theorem co_some {x : Option Nat} {A : Prop} {B : Nat → Prop} (i : Nat) (h : B i) (hx : x = some i := by rfl) : (x = none → A) ∧ (∀ y : Nat, x = some y → B y) := by
  subst hx
  exact ⟨fun e => (nomatch e), fun y e => Option.some.inj e ▸ h⟩
theorem co_none {x : Option Nat} {A : Prop} {B : Nat → Prop} (h : A) (hx : x = none := by rfl) : (x = none → A) ∧ (∀ y : Nat, x = some y → B y) := by
  subst hx
  exact ⟨fun _ => h, fun y e => (nomatch e)⟩
theorem co_any {x : Option Nat} {A : Prop} {B : Nat → Prop} (hn : x = none → A) (hs : ∀ i : Nat, x = some i → B i) : (x = none → A) ∧ (∀ y : Nat, x = some y → B y) := ⟨hn, hs⟩
theorem co_2 {P : Nat → Prop} (h0 : P 0) (h1 : P 1) {i : Nat} (hi : i < 2) : P i :=
  match i, hi with
  | 0, _ => h0
  | 1, _ => h1
theorem co_3 {P : Nat → Prop} (h0 : P 0) (h1 : P 1) (h2 : P 2) {i : Nat} (hi : i < 3) : P i :=
  match i, hi with
  | 0, _ => h0
  | 1, _ => h1
  | 2, _ => h2
theorem co_4 {P : Nat → Prop} (h0 : P 0) (h1 : P 1) (h2 : P 2) (h3 : P 3) {i : Nat} (hi : i < 4) : P i :=
  match i, hi with
  | 0, _ => h0
  | 1, _ => h1
  | 2, _ => h2
  | 3, _ => h3
theorem co_dec {N : Nat} {P : Nat → Prop} [DecidablePred P] (h : (List.range N).all (fun i => decide (P i)) = true) {i : Nat} (hi : i < N) : P i := by
  have := List.all_eq_true.mp h i (List.mem_range.mpr hi)
  exact of_decide_eq_true this
theorem co_tab {α : Type} {l : List α} {d : α} {P : α → Prop} (h : ∀ a, a ∈ l → P a) {i : Nat} (hi : i < l.length) : P (l.getD i d) := by
  rw [List.getD_eq_getElem?_getD, List.getElem?_eq_getElem hi]
  exact h _ (List.getElem_mem hi)
theorem pk_mu {x : Int32} {L : Nat} (h0 : ¬ x < 0) (h : ¬ nI L ≤ x) (hL : L < 2 ^ 31) : ∃ j : Nat, j < L ∧ x = nI j ∧ x + 1 = nI (j + 1) ∧ x.toNatClampNeg = j ∧ L - (x + 1).toNatClampNeg < L - x.toNatClampNeg := by
  obtain ⟨j, hj, rfl⟩ := nI_of h0
  have hl : j < L := Nat.not_le.mp fun q => h (nI_le q hj)
  refine ⟨j, hl, rfl, nI_1 j, nI_clamp hj, ?_⟩
  rw [nI_1, nI_clamp (by omega), nI_clamp hj]
  omega
theorem op_s {α : Type} {r : Option α} {A : Prop} {B : α → Prop} {y : α} (h : r = some y) (b : B y) : (r = none → A) ∧ ∀ z, r = some z → B z :=
  ⟨fun e => (by rw [h] at e; cases e), fun z e => (by rw [h] at e; cases e; exact b)⟩
def l_holds {α : Type} (a : Nat → Option Nat) (LP : List Nat) (p : Nat → α) (c : Nat) (b : Nat → α) : Prop :=
  ∀ j, j < c → ∃ y, a j = some y ∧ y ∈ LP ∧ p y = b j
theorem l_holds_0 {α : Type} {a : Nat → Option Nat} {LP : List Nat} {p b : Nat → α} : l_holds a LP p 0 b := fun j h => absurd h (Nat.not_lt_zero j)
theorem l_in_new (LP : List Nat) (q : Nat) : q ∈ LP ++ [q] := List.mem_append.mpr (Or.inr (List.mem_singleton.mpr rfl))
def l_sum (b : Nat → Int32) : Nat → Int32
  | 0 => 0
  | k + 1 => l_sum b k + b k
theorem sb_shr0 (x : Int32) : x >>> ((0 : Int32) &&& 31) = x := by
  rw [show ((0 : Int32) &&& 31) = 0 by decide]
  simp
theorem sb_shl0 (x : Int32) : x <<< ((0 : Int32) &&& 31) = x := by
  rw [show ((0 : Int32) &&& 31) = 0 by decide]
  simp
theorem sb_cl0 : (0 : Int32).toNatClampNeg = 0 := by decide
theorem sb_m1 {p : Nat} (h : 0 < p) : nI p + (-1) = nI (p - 1) := by
  obtain ⟨q, rfl⟩ : ∃ q, p = q + 1 := ⟨p - 1, by omega⟩
  exact pk_m1 q
def sb_b (c : Nat) : Int32 := (nI c).toInt8.toInt32
theorem sb_byte : ∀ c, c < 256 → sb_b c &&& 255 = nI c ∧ ((nI c).toUInt32 % 65536).toInt32 = nI c ∧ nI c ≤ 255 := by decide +kernel
def sb_Fit (a : Nat → Int32) : Prop := ∀ j, fits .byte (.int (a j)) = true
def sb_Lat (t : Nat → Nat) (n : Nat) (a : Nat → Int32) : Prop := ∀ j, j < n → t j < 256 ∧ a j = sb_b (t j)
theorem sb_fitB (c : Nat) : fits .byte (.int (sb_b c)) = true := pk_fb _
theorem sb_fit0 : sb_Fit (fun _ => 0) := fun _ => by
  show fits .byte (.int 0) = true
  decide
theorem sb_fitU {a : Nat → Int32} {k : Nat} {x : Int32} (h : sb_Fit a) (hx : fits .byte (.int x) = true) : sb_Fit (upd a k x) := by
  intro j
  by_cases e : j = k
  · subst e
    rw [pk_us]
    exact hx
  · rw [pk_un e]
    exact h j
def sb_cat (t : Nat → Nat) (n : Nat) (s : Nat → Nat) : Nat → Nat := fun j => if j < n then t j else s (j - n)
theorem sb_cat_lo {t s : Nat → Nat} {n j : Nat} (h : j < n) : sb_cat t n s j = t j := if_pos h
theorem sb_cat_hi {t s : Nat → Nat} {n j : Nat} : sb_cat t n s (n + j) = s j := by
  show (if n + j < n then t (n + j) else s (n + j - n)) = s j
  rw [if_neg (by omega), Nat.add_sub_cancel_left]
theorem sb_latPut {t s : Nat → Nat} {n w : Nat} {a a' : Nat → Int32} (h : sb_Lat t n a) (hk : ∀ j, j < n → a' j = a j) (hs : ∀ i, i < w → s i < 256 ∧ a' (n + i) = sb_b (s i)) : sb_Lat (sb_cat t n s) (n + w) a' := by
  intro j hj
  by_cases e : j < n
  · rw [sb_cat_lo e, hk j e]
    exact h j e
  · obtain ⟨i, rfl⟩ : ∃ i, j = n + i := ⟨j - n, by omega⟩
    rw [sb_cat_hi]
    exact hs i (by omega)
theorem sb_latKeep {t : Nat → Nat} {n : Nat} {a a' : Nat → Int32} (h : sb_Lat t n a) (hk : ∀ j, j < n → a' j = a j) : sb_Lat t n a' := fun j hj => by
  rw [hk j hj]
  exact h j hj
def sb_cap (q m : Nat) : Nat := if q ≤ m then m else if 2 * m + 2 < q then q else 2 * m + 2
def sb_Room (q m mc ms : Nat) : Prop := q ≤ m ∨ (1 ≤ mc ∧ sb_cap q m ≤ ms ∧ sb_cap q m ≤ 65536)
theorem sb_cap_ge (q m : Nat) : q ≤ sb_cap q m := by
  unfold sb_cap
  split
  · omega
  · split <;> omega
theorem sb_cap_gem (q m : Nat) : m ≤ sb_cap q m := by
  unfold sb_cap
  split
  · omega
  · split <;> omega
theorem sb_cap_le {q m mc ms : Nat} (hm : m ≤ 65536) (hr : sb_Room q m mc ms) : sb_cap q m ≤ 65536 := by
  rcases hr with h | h
  · rw [sb_cap, if_pos h]
    exact hm
  · exact h.2.2
theorem sb_at {P : Int32 → Prop} {x y : Int32} (e : x = y) (h : P y) : P x := e ▸ h
def sb_dg (w : Nat) : Nat := if w < 10 then 1 else if w < 100 then 2 else if w < 1000 then 3 else if w < 10000 then 4 else if w < 100000 then 5 else if w < 1000000 then 6 else if w < 10000000 then 7 else if w < 100000000 then 8 else if w < 1000000000 then 9 else 10
def sb_dec (v : Nat) : Nat → Nat := fun i => 48 + v / 10 ^ (sb_dg v - 1 - i) % 10
theorem sb_dg_in (w : Nat) : 1 ≤ sb_dg w ∧ sb_dg w ≤ 10 := by
  unfold sb_dg
  constructor <;> (repeat' split) <;> omega
theorem sb_dg100 {w : Nat} (h : 100 ≤ w) (hw : w < 2 ^ 31) : sb_dg w = sb_dg (w / 100) + 2 := by
  rw [sb_dg, sb_dg, if_neg (show ¬ w < 10 by omega), if_neg (show ¬ w < 100 by omega)]
  by_cases h3 : w < 1000
  · rw [if_pos h3, if_pos (show w / 100 < 10 by omega)]
  rw [if_neg h3, if_neg (show ¬ w / 100 < 10 by omega)]
  by_cases h4 : w < 10000
  · rw [if_pos h4, if_pos (show w / 100 < 100 by omega)]
  rw [if_neg h4, if_neg (show ¬ w / 100 < 100 by omega)]
  by_cases h5 : w < 100000
  · rw [if_pos h5, if_pos (show w / 100 < 1000 by omega)]
  rw [if_neg h5, if_neg (show ¬ w / 100 < 1000 by omega)]
  by_cases h6 : w < 1000000
  · rw [if_pos h6, if_pos (show w / 100 < 10000 by omega)]
  rw [if_neg h6, if_neg (show ¬ w / 100 < 10000 by omega)]
  by_cases h7 : w < 10000000
  · rw [if_pos h7, if_pos (show w / 100 < 100000 by omega)]
  rw [if_neg h7, if_neg (show ¬ w / 100 < 100000 by omega)]
  by_cases h8 : w < 100000000
  · rw [if_pos h8, if_pos (show w / 100 < 1000000 by omega)]
  rw [if_neg h8, if_neg (show ¬ w / 100 < 1000000 by omega)]
  by_cases h9 : w < 1000000000
  · rw [if_pos h9, if_pos (show w / 100 < 10000000 by omega)]
  rw [if_neg h9, if_neg (show ¬ w / 100 < 10000000 by omega)]
  rw [if_pos (show w / 100 < 100000000 by omega)]
theorem sb_negT {w : Nat} (h : w < 2 ^ 31) : (-nI w).toInt = -(w : Int) := by
  rw [Int32.toInt_neg, nI_toInt h]
  exact Int.bmod_eq_of_le (by omega) (by omega)
theorem sb_nle {a b : Nat} (ha : a < 2 ^ 31) (hb : b < 2 ^ 31) : -nI a ≤ -nI b ↔ b ≤ a := by
  rw [Int32.le_iff_toInt_le, sb_negT ha, sb_negT hb]
  omega
theorem sb_nlt {a b : Nat} (ha : a < 2 ^ 31) (hb : b < 2 ^ 31) : -nI a < -nI b ↔ b < a := by
  rw [Int32.lt_iff_toInt_lt, sb_negT ha, sb_negT hb]
  omega
theorem sb_cmp {A B : Prop} {x : Int32} (v c : Nat) (f : c ≤ v → A) (g : v < c → B) (hv : v < 2 ^ 31) (hx : x = -nI c := by rfl) (hc : c < 2 ^ 31 := by omega) : (-nI v ≤ x → A) ∧ (¬ -nI v ≤ x → B) := by
  subst hx
  rw [sb_nle hv hc]
  exact ⟨f, fun z => g (by omega)⟩
theorem sb_ndiv {w : Nat} (hw : w < 2 ^ 31) : (-nI w) / 100 = -nI (w / 100) := by
  apply Int32.toInt_inj.mp
  have h100 : (100 : Int32).toInt = 100 := by decide
  rw [Int32.toInt_div, sb_negT hw, h100, sb_negT (by omega), Int.neg_tdiv, Int.tdiv_eq_ediv_of_nonneg (by omega), Int.bmod_eq_of_le (by omega) (by omega)]
  omega
theorem sb_nrem {w : Nat} (hw : w < 2 ^ 31) : (-nI (w / 100)) * 100 - (-nI w) = nI (w % 100) := by
  have h := pk_rem (a := w) (d := 100) hw (by decide) (by decide)
  rw [pk_div hw (by decide) (by decide)] at h
  rw [← h]
  show (-nI (w / 100)) * nI 100 - (-nI w) = nI w - nI (w / 100) * nI 100
  rw [Int32.neg_mul, Int32.sub_neg, Int32.add_comm, ← Int32.sub_eq_add_neg]
end
section
/-! hyper-dual numbers (plain, a, b, ab) over Int32, and the value of one operation over them -/
abbrev gh_T : Type := Int32 × Int32 × Int32 × Int32
def gh_0 : gh_T := (0, 0, 0, 0)
def gh_k (n : Int32) : gh_T := (n, 0, 0, 0)
def gh_add (x y : gh_T) : gh_T := (x.1 + y.1, x.2.1 + y.2.1, x.2.2.1 + y.2.2.1, x.2.2.2 + y.2.2.2)
def gh_sub (x y : gh_T) : gh_T := (x.1 - y.1, x.2.1 - y.2.1, x.2.2.1 - y.2.2.1, x.2.2.2 - y.2.2.2)
def gh_mul (x y : gh_T) : gh_T := (x.1 * y.1, x.2.1 * y.1 + x.1 * y.2.1, x.2.2.1 * y.1 + x.1 * y.2.2.1, x.2.2.2 * y.1 + x.2.1 * y.2.2.1 + x.2.2.1 * y.2.1 + x.1 * y.2.2.2)
def gh_gate (x y : gh_T) : gh_T := if x.1 ≤ 0 then gh_0 else y
/-- the pairing: mode true v.p * t.a, mode false v.p * t.ab + v.b * t.a -/
def gh_pr (k : Bool) (v t : gh_T) : Int32 := if k then v.1 * t.2.1 else v.1 * t.2.2.2 + v.2.2.1 * t.2.1
theorem gh_ext {x y : gh_T} (h1 : x.1 = y.1) (h2 : x.2.1 = y.2.1) (h3 : x.2.2.1 = y.2.2.1) (h4 : x.2.2.2 = y.2.2.2) : x = y := by
  obtain ⟨a, b, c, d⟩ := x
  obtain ⟨a', b', c', d'⟩ := y
  cases h1; cases h2; cases h3; cases h4; rfl
theorem gh_add0 (x : gh_T) : gh_add x gh_0 = x := by
  apply gh_ext <;> simp [gh_add, gh_0]
theorem gh_0add (x : gh_T) : gh_add gh_0 x = x := by
  apply gh_ext <;> simp [gh_add, gh_0]
theorem gh_sub0 (x : gh_T) : gh_sub x gh_0 = x := by
  apply gh_ext <;> simp [gh_sub, gh_0]
theorem gh_mul0 (x : gh_T) : gh_mul x gh_0 = gh_0 := by
  apply gh_ext <;> simp [gh_mul, gh_0]
theorem gh_0mul (x : gh_T) : gh_mul gh_0 x = gh_0 := by
  apply gh_ext <;> simp [gh_mul, gh_0]
theorem gh_mul1 (x : gh_T) : gh_mul x (gh_k 1) = x := by
  apply gh_ext <;> simp [gh_mul, gh_k]
theorem gh_1mul (x : gh_T) : gh_mul (gh_k 1) x = x := by
  apply gh_ext <;> simp [gh_mul, gh_k]
theorem gh_kadd (p q : Int32) : gh_add (gh_k p) (gh_k q) = gh_k (p + q) := by
  apply gh_ext <;> simp [gh_add, gh_k]
theorem gh_ksub (p q : Int32) : gh_sub (gh_k p) (gh_k q) = gh_k (p - q) := by
  apply gh_ext <;> simp [gh_sub, gh_k]
theorem gh_kmul (p q : Int32) : gh_mul (gh_k p) (gh_k q) = gh_k (p * q) := by
  apply gh_ext <;> simp [gh_mul, gh_k]
theorem gh_gate0 (x : gh_T) : gh_gate x gh_0 = gh_0 := by unfold gh_gate; split <;> rfl
theorem gh_0gate (x : gh_T) : gh_gate gh_0 x = gh_0 := by unfold gh_gate; exact if_pos (by decide)
theorem gh_pr_add (k : Bool) (v w t : gh_T) : gh_pr k (gh_add v w) t = gh_pr k v t + gh_pr k w t := by
  cases k <;> simp only [gh_pr, gh_add, if_true, if_false, Bool.false_eq_true] <;> grind
theorem gh_pr_0 (k : Bool) (t : gh_T) : gh_pr k gh_0 t = 0 := by
  cases k <;> simp [gh_pr, gh_0]
theorem gh_pr_tadd (k : Bool) (v s t : gh_T) : gh_pr k v (gh_add s t) = gh_pr k v s + gh_pr k v t := by
  cases k <;> simp only [gh_pr, gh_add, if_true, if_false, Bool.false_eq_true] <;> grind
theorem gh_pr_t0 (k : Bool) (v : gh_T) : gh_pr k v gh_0 = 0 := by
  cases k <;> simp [gh_pr, gh_0]
theorem gh_pr_tk (k : Bool) (v : gh_T) (n : Int32) : gh_pr k v (gh_k n) = 0 := by
  cases k <;> simp [gh_pr, gh_k]
theorem gh_pr_sub (k : Bool) (v s t : gh_T) : gh_pr k v (gh_sub s t) = gh_pr k v s + gh_pr k (gh_sub gh_0 v) t := by
  cases k <;> simp only [gh_pr, gh_sub, gh_0, if_true, if_false, Bool.false_eq_true] <;> grind
theorem gh_pr_mul (k : Bool) (g x y : gh_T) : gh_pr k g (gh_mul x y) = gh_pr k (gh_mul g y) x + gh_pr k (gh_mul g x) y := by
  cases k <;> simp only [gh_pr, gh_mul, if_true, if_false, Bool.false_eq_true] <;> grind
theorem gh_pr_gate (k : Bool) (g x y : gh_T) : gh_pr k g (gh_gate x y) = gh_pr k (gh_gate x g) y := by
  unfold gh_gate
  split
  · rw [gh_pr_t0, gh_pr_0]
  · rfl
def gh_s4 (f : Nat → gh_T) : gh_T := gh_add (gh_add (gh_add (f 0) (f 1)) (f 2)) (f 3)
def gh_pre (f : Nat → gh_T) : Nat → gh_T
  | 0 => f 0
  | n + 1 => gh_add (gh_pre f n) (f (n + 1))
def gh_suf (f : Nat → gh_T) (c : Nat) : gh_T := if c = 0 then gh_add (gh_add (gh_add (f 3) (f 2)) (f 1)) (f 0) else if c = 1 then gh_add (gh_add (f 3) (f 2)) (f 1) else if c = 2 then gh_add (f 3) (f 2) else f 3
/-- the value of an operation, component c -/
def gh_ov (iv : Nat → gh_T) (dv : Nat → Int32) (w : Int32) (a b : Nat) (n : Int32) (V : Nat → Nat → gh_T) (c : Nat) : gh_T :=
  if w = 0 then iv (4 * n.toNatClampNeg + c)
  else if w = 1 then gh_k n
  else if w = 2 then gh_add (V a c) (V b c)
  else if w = 3 then gh_sub (V a c) (V b c)
  else if w = 4 then gh_mul (V a c) (V b c)
  else if w = 5 then gh_s4 (V a)
  else if w = 6 then V a ((c + n.toNatClampNeg) % 4)
  else if w = 7 then V a n.toNatClampNeg
  else if w = 8 then V a c
  else if w = 10 then gh_pre (V a) c
  else if w = 11 then gh_k (dv (4 * n.toNatClampNeg + c))
  else if w = 12 then (if c = n.toNatClampNeg then V a 0 else gh_0)
  else if w = 13 then gh_gate (V a c) (V b c)
  else gh_suf (V a) c
section
variable (iv : Nat → gh_T) (dv : Nat → Int32) (a b : Nat) (n : Int32) (V : Nat → Nat → gh_T) (c : Nat)
theorem gh_ov0 : gh_ov iv dv 0 a b n V c = iv (4 * n.toNatClampNeg + c) := by simp [gh_ov]
theorem gh_ov1 : gh_ov iv dv 1 a b n V c = gh_k n := by simp [gh_ov]
theorem gh_ov2 : gh_ov iv dv 2 a b n V c = gh_add (V a c) (V b c) := by simp [gh_ov]
theorem gh_ov3 : gh_ov iv dv 3 a b n V c = gh_sub (V a c) (V b c) := by simp [gh_ov]
theorem gh_ov4 : gh_ov iv dv 4 a b n V c = gh_mul (V a c) (V b c) := by simp [gh_ov]
theorem gh_ov5 : gh_ov iv dv 5 a b n V c = gh_s4 (V a) := by simp [gh_ov]
theorem gh_ov6 : gh_ov iv dv 6 a b n V c = V a ((c + n.toNatClampNeg) % 4) := by simp [gh_ov]
theorem gh_ov7 : gh_ov iv dv 7 a b n V c = V a n.toNatClampNeg := by simp [gh_ov]
theorem gh_ov8 : gh_ov iv dv 8 a b n V c = V a c := by simp [gh_ov]
theorem gh_ov10 : gh_ov iv dv 10 a b n V c = gh_pre (V a) c := by simp [gh_ov]
theorem gh_ov11 : gh_ov iv dv 11 a b n V c = gh_k (dv (4 * n.toNatClampNeg + c)) := by simp [gh_ov]
theorem gh_ov12 : gh_ov iv dv 12 a b n V c = (if c = n.toNatClampNeg then V a 0 else gh_0) := by simp [gh_ov]
theorem gh_ov13 : gh_ov iv dv 13 a b n V c = gh_gate (V a c) (V b c) := by simp [gh_ov]
theorem gh_ov14 : gh_ov iv dv 14 a b n V c = gh_suf (V a) c := by simp [gh_ov]
end
/-- the codes that have no first part; those that have a second one -/
def gh_nul (w : Int32) : Prop := w = 0 ∨ w = 1 ∨ w = 11
def gh_bin (w : Int32) : Prop := w = 2 ∨ w = 3 ∨ w = 4 ∨ w = 13
theorem gh_ov_congr {iv : Nat → gh_T} {dv : Nat → Int32} {w : Int32} {a b : Nat} {n : Int32} {V V' : Nat → Nat → gh_T} {c : Nat}
    (ha : ¬ gh_nul w → V a = V' a) (hb : gh_bin w → V b = V' b) : gh_ov iv dv w a b n V c = gh_ov iv dv w a b n V' c := by
  by_cases hn : gh_nul w
  · rcases hn with rfl | rfl | rfl
    · rw [gh_ov0, gh_ov0]
    · rw [gh_ov1, gh_ov1]
    · rw [gh_ov11, gh_ov11]
  · have e := ha hn
    by_cases h2 : gh_bin w
    · have e2 := hb h2
      simp only [gh_ov, e, e2]
    · have e2 : w ≠ 2 ∧ w ≠ 3 ∧ w ≠ 4 ∧ w ≠ 13 := ⟨fun z => h2 (Or.inl z), fun z => h2 (Or.inr (Or.inl z)), fun z => h2 (Or.inr (Or.inr (Or.inl z))), fun z => h2 (Or.inr (Or.inr (Or.inr z)))⟩
      simp only [gh_ov, e, e2.1, e2.2.1, e2.2.2.1, e2.2.2.2, if_false]
end
section
/-! the list of operations: entries, values, well-formedness, extension, weights -/
abbrev gl_L : Type := Nat × (Nat → Int32) × (Nat → Int32) × (Nat → Int32) × (Nat → Int32) × (Nat → Int32)
abbrev gl_op (L : gl_L) : Nat → Int32 := L.2.1
abbrev gl_fi (L : gl_L) : Nat → Int32 := L.2.2.1
abbrev gl_se (L : gl_L) : Nat → Int32 := L.2.2.2.1
abbrev gl_nu (L : gl_L) : Nat → Int32 := L.2.2.2.2.1
abbrev gl_wi (L : gl_L) : Nat → Int32 := L.2.2.2.2.2
def gl_tab (iv : Nat → gh_T) (dv : Nat → Int32) (L : gl_L) : Nat → Nat → Nat → gh_T
  | 0 => fun _ _ => gh_0
  | n + 1 => fun i c => if i = n then gh_ov iv dv (gl_op L n) (gl_fi L n).toNatClampNeg (gl_se L n).toNatClampNeg (gl_nu L n) (gl_tab iv dv L n) c else gl_tab iv dv L n i c
def gl_val (iv : Nat → gh_T) (dv : Nat → Int32) (L : gl_L) (i c : Nat) : gh_T := gl_tab iv dv L (i + 1) i c
def gl_un (w n wx wd : Int32) : Prop :=
  (w = 5 ∧ n = 0 ∧ wx = 1 ∧ wd = 0) ∨ (w = 6 ∧ wx = 1 ∧ wd = 1 ∧ ∃ t : Nat, 1 ≤ t ∧ t ≤ 3 ∧ n = nI t) ∨
  (w = 7 ∧ wx = 1 ∧ wd = 0 ∧ ∃ t : Nat, t < 4 ∧ n = nI t) ∨ (w = 8 ∧ n = 0 ∧ wx = 0 ∧ wd = 1) ∨
  (w = 10 ∧ n = 0 ∧ wx = 1 ∧ wd = 1) ∨ (w = 14 ∧ n = 0 ∧ wx = 1 ∧ wd = 1) ∨ (w = 12 ∧ wx = 0 ∧ wd = 1 ∧ ∃ t : Nat, t < 4 ∧ n = nI t)
def gl_wm (wx wy wd : Int32) : Prop := (wx = 0 ∧ wy = 0 ∧ wd = 0) ∨ (wx = 1 ∧ wy = 0 ∧ wd = 1) ∨ (wx = 0 ∧ wy = 1 ∧ wd = 1) ∨ (wx = 1 ∧ wy = 1 ∧ wd = 1)
/-- an operation that may stand at place m (or be asked for when m are there) -/
def gl_ok (wi : Nat → Int32) (m : Nat) (w a b n wd : Int32) : Prop :=
  ((w = 0 ∨ w = 11) ∧ a = -1 ∧ b = -1 ∧ wd = 1 ∧ ∃ k : Nat, k < 3 ∧ n = nI k) ∨
  (w = 1 ∧ a = -1 ∧ b = -1 ∧ wd = 0) ∨
  ((w = 2 ∨ w = 3 ∨ w = 4) ∧ n = 0 ∧ ∃ x y : Nat, x < m ∧ y < m ∧ a = nI x ∧ b = nI y ∧ gl_wm (wi x) (wi y) wd) ∨
  (w = 13 ∧ n = 0 ∧ (wd = 0 ∨ wd = 1) ∧ ∃ x y : Nat, x < m ∧ y < m ∧ a = nI x ∧ b = nI y ∧ wi x = wd ∧ wi y = wd) ∨
  (b = -1 ∧ ∃ x : Nat, x < m ∧ a = nI x ∧ gl_un w n (wi x) wd)
def gl_WF (L : gl_L) : Prop := L.1 ≤ 450 ∧ ∀ i, i < L.1 → gl_ok (gl_wi L) i (gl_op L i) (gl_fi L i) (gl_se L i) (gl_nu L i) (gl_wi L i)
def gl_ext (L M : gl_L) : Prop := L.1 ≤ M.1 ∧ ∀ i, i < L.1 → gl_op M i = gl_op L i ∧ gl_fi M i = gl_fi L i ∧ gl_se M i = gl_se L i ∧ gl_nu M i = gl_nu L i ∧ gl_wi M i = gl_wi L i
theorem gl_ext_rf (L : gl_L) : gl_ext L L := ⟨Nat.le_refl _, fun _ _ => ⟨rfl, rfl, rfl, rfl, rfl⟩⟩
theorem gl_ext_tr {L M N : gl_L} (h : gl_ext L M) (g : gl_ext M N) : gl_ext L N := by
  refine ⟨Nat.le_trans h.1 g.1, fun i hi => ?_⟩
  obtain ⟨a, b, c, d, e⟩ := h.2 i hi
  obtain ⟨a', b', c', d', e'⟩ := g.2 i (Nat.lt_of_lt_of_le hi h.1)
  exact ⟨a'.trans a, b'.trans b, c'.trans c, d'.trans d, e'.trans e⟩
theorem gl_tab_ext {iv : Nat → gh_T} {dv : Nat → Int32} {L M : gl_L} (h : gl_ext L M) : ∀ m, m ≤ L.1 → gl_tab iv dv M m = gl_tab iv dv L m := by
  intro m
  induction m with
  | zero => intro _; rfl
  | succ m ih =>
    intro hm
    obtain ⟨a, b, c, d, e⟩ := h.2 m (by omega)
    funext i c'
    simp only [gl_tab, ih (by omega), a, b, c, d]
theorem gl_val_ext {iv : Nat → gh_T} {dv : Nat → Int32} {L M : gl_L} (h : gl_ext L M) {i : Nat} (hi : i < L.1) : gl_val iv dv M i = gl_val iv dv L i := by
  funext c
  show gl_tab iv dv M (i + 1) i c = gl_tab iv dv L (i + 1) i c
  rw [gl_tab_ext h (i + 1) hi]
theorem gl_tab_val {iv : Nat → gh_T} {dv : Nat → Int32} {L : gl_L} {i : Nat} : ∀ m, i < m → gl_tab iv dv L m i = gl_val iv dv L i := by
  intro m
  induction m with
  | zero => intro h; omega
  | succ m ih =>
    intro h
    by_cases e : i = m
    · subst e; rfl
    · funext c
      show (if i = m then _ else _) = _
      rw [if_neg e, ih (by omega)]
theorem gl_nI_lt {L : gl_L} (h : gl_WF L) {i : Nat} (hi : i < L.1) : i < 2 ^ 31 := by have := h.1; omega
theorem gl_ok_parts {wi : Nat → Int32} {m : Nat} {w a b n wd : Int32} (hm : m ≤ 450) (h : gl_ok wi m w a b n wd) : (¬ gh_nul w → ∃ x, x < m ∧ a = nI x ∧ a.toNatClampNeg = x) ∧ (gh_bin w → ∃ y, y < m ∧ b = nI y ∧ b.toNatClampNeg = y) := by
  rcases h with ⟨h1, _⟩ | ⟨h1, _⟩ | ⟨h1, _, x, y, hx, hy, rfl, rfl, _⟩ | ⟨h1, _, _, x, y, hx, hy, rfl, rfl, _⟩ | ⟨hb, x, hx, rfl, hu⟩
  · constructor
    · intro z; exact absurd (by rcases h1 with rfl | rfl; exact Or.inl rfl; exact Or.inr (Or.inr rfl)) z
    · intro z; rcases h1 with rfl | rfl <;> exact absurd z (by unfold gh_bin; decide)
  · constructor
    · intro z; exact absurd (Or.inr (Or.inl h1)) z
    · intro z; subst h1; exact absurd z (by unfold gh_bin; decide)
  · exact ⟨fun _ => ⟨x, hx, rfl, nI_clamp (by omega)⟩, fun _ => ⟨y, hy, rfl, nI_clamp (by omega)⟩⟩
  · exact ⟨fun _ => ⟨x, hx, rfl, nI_clamp (by omega)⟩, fun _ => ⟨y, hy, rfl, nI_clamp (by omega)⟩⟩
  · refine ⟨fun _ => ⟨x, hx, rfl, nI_clamp (by omega)⟩, fun z => ?_⟩
    rcases hu with ⟨rfl, _⟩ | ⟨rfl, _⟩ | ⟨rfl, _⟩ | ⟨rfl, _⟩ | ⟨rfl, _⟩ | ⟨rfl, _⟩ | ⟨rfl, _⟩ <;> exact absurd z (by unfold gh_bin; decide)
theorem gl_val_eq {iv : Nat → gh_T} {dv : Nat → Int32} {L : gl_L} (h : gl_WF L) {i c : Nat} (hi : i < L.1) :
    gl_val iv dv L i c = gh_ov iv dv (gl_op L i) (gl_fi L i).toNatClampNeg (gl_se L i).toNatClampNeg (gl_nu L i) (gl_val iv dv L) c := by
  show (if i = i then _ else _) = _
  rw [if_pos rfl]
  obtain ⟨ha, hb⟩ := gl_ok_parts (by have := h.1; omega) (h.2 i hi)
  apply gh_ov_congr
  · intro z
    obtain ⟨x, hx, _, e⟩ := ha z
    rw [e]; exact gl_tab_val i hx
  · intro z
    obtain ⟨y, hy, _, e⟩ := hb z
    rw [e]; exact gl_tab_val i hy
theorem gl_ok_wd {wi : Nat → Int32} {m : Nat} {w a b n wd : Int32} (h : gl_ok wi m w a b n wd) : wd = 0 ∨ wd = 1 := by
  rcases h with ⟨_, _, _, h, _⟩ | ⟨_, _, _, h⟩ | ⟨_, _, x, y, _, _, _, _, h⟩ | ⟨_, _, h, _⟩ | ⟨_, x, _, _, hu⟩
  · exact Or.inr h
  · exact Or.inl h
  · rcases h with ⟨_, _, h⟩ | ⟨_, _, h⟩ | ⟨_, _, h⟩ | ⟨_, _, h⟩ <;> simp [h]
  · exact h
  · rcases hu with ⟨_, _, _, h⟩ | ⟨_, _, h, _⟩ | ⟨_, _, h, _⟩ | ⟨_, _, _, h⟩ | ⟨_, _, _, h⟩ | ⟨_, _, _, h⟩ | ⟨_, _, h, _⟩ <;> simp [h]
theorem gl_wd {L : gl_L} (h : gl_WF L) {i : Nat} (hi : i < L.1) : gl_wi L i = 0 ∨ gl_wi L i = 1 := gl_ok_wd (h.2 i hi)
/-- a number is the same for every component -/
theorem gl_nar {iv : Nat → gh_T} {dv : Nat → Int32} {L : gl_L} (h : gl_WF L) : ∀ N i, i < N → i < L.1 → gl_wi L i = 0 → ∀ c d, gl_val iv dv L i c = gl_val iv dv L i d := by
  intro N
  induction N with
  | zero => intro i hN; omega
  | succ N ih =>
    intro i hN hi hw c d
    rw [gl_val_eq h hi, gl_val_eq h hi]
    have hL := h.1
    have hk := h.2 i hi
    rw [hw] at hk
    generalize gl_op L i = w at hk ⊢
    generalize gl_fi L i = a at hk ⊢
    generalize gl_se L i = b at hk ⊢
    generalize gl_nu L i = n at hk ⊢
    rcases hk with ⟨_, _, _, h1, _⟩ | ⟨rfl, _⟩ | ⟨hop, _, x, y, hx, hy, rfl, rfl, hm⟩ | ⟨rfl, _, _, x, y, hx, hy, rfl, rfl, hwx, hwy⟩ | ⟨_, x, hx, rfl, hu⟩
    · exact absurd h1 (by decide)
    · rw [gh_ov1, gh_ov1]
    · have hxy : gl_wi L x = 0 ∧ gl_wi L y = 0 := by
        rcases hm with ⟨p, q, _⟩ | ⟨_, _, z⟩ | ⟨_, _, z⟩ | ⟨_, _, z⟩
        · exact ⟨p, q⟩
        all_goals exact absurd z (by decide)
      have ex := ih x (by omega) (by omega) hxy.1 c d
      have ey := ih y (by omega) (by omega) hxy.2 c d
      rw [nI_clamp (by omega), nI_clamp (by omega)]
      rcases hop with rfl | rfl | rfl
      · rw [gh_ov2, gh_ov2, ex, ey]
      · rw [gh_ov3, gh_ov3, ex, ey]
      · rw [gh_ov4, gh_ov4, ex, ey]
    · have ex := ih x (by omega) (by omega) hwx c d
      have ey := ih y (by omega) (by omega) hwy c d
      rw [nI_clamp (by omega), nI_clamp (by omega), gh_ov13, gh_ov13, ex, ey]
    · rcases hu with ⟨rfl, _⟩ | ⟨rfl, _, z, _⟩ | ⟨rfl, _⟩ | ⟨rfl, _, _, z⟩ | ⟨rfl, _, _, z⟩ | ⟨rfl, _, _, z⟩ | ⟨rfl, _, z, _⟩
      · rw [gh_ov5, gh_ov5]
      · exact absurd z (by decide)
      · rw [gh_ov7, gh_ov7]
      all_goals exact absurd z (by decide)
theorem gl_nr {iv : Nat → gh_T} {dv : Nat → Int32} {L : gl_L} (h : gl_WF L) {i : Nat} (hi : i < L.1) (hw : gl_wi L i = 0) (c : Nat) : gl_val iv dv L i c = gl_val iv dv L i 0 := gl_nar h (i + 1) i (by omega) hi hw c 0
theorem gl_wm_fun {x y d e : Int32} (h : gl_wm x y d) (g : gl_wm x y e) : d = e := by
  rcases h with ⟨h1, h2, h3⟩ | ⟨h1, h2, h3⟩ | ⟨h1, h2, h3⟩ | ⟨h1, h2, h3⟩ <;> rcases g with ⟨g1, g2, g3⟩ | ⟨g1, g2, g3⟩ | ⟨g1, g2, g3⟩ | ⟨g1, g2, g3⟩ <;> first
    | exact h3.trans g3.symm
    | exact absurd (h1.symm.trans g1) (by decide)
    | exact absurd (h2.symm.trans g2) (by decide)
theorem gl_un_fun {w n x d e : Int32} (h : gl_un w n x d) (g : gl_un w n x e) : d = e := by
  rcases h with ⟨rfl, _, _, h⟩ | ⟨rfl, _, h, _⟩ | ⟨rfl, _, h, _⟩ | ⟨rfl, _, _, h⟩ | ⟨rfl, _, _, h⟩ | ⟨rfl, _, _, h⟩ | ⟨rfl, _, h, _⟩ <;>
  rcases g with ⟨z, _, _, g⟩ | ⟨z, _, g, _⟩ | ⟨z, _, g, _⟩ | ⟨z, _, _, g⟩ | ⟨z, _, _, g⟩ | ⟨z, _, _, g⟩ | ⟨z, _, g, _⟩ <;> first
    | exact h.trans g.symm
    | exact absurd z (by decide)
theorem gl_nI_inj {x y : Nat} (hx : x < 450) (hy : y < 450) (h : nI x = nI y) : x = y := (nI_eq (by omega) (by omega)).mp h
theorem gl_nI_m1 {x : Nat} (hx : x < 450) (h : nI x = -1) : False := nI_pos (n := x) (by omega) (by rw [h]; decide)
/-- what stands in the list fixes the width -/
theorem gl_ok_fun {wi : Nat → Int32} {m m' : Nat} (hm : m ≤ 450) (hm' : m' ≤ 450) {w a b n d e : Int32} (h : gl_ok wi m w a b n d) (g : gl_ok wi m' w a b n e) : d = e := by
  rcases h with ⟨hw, rfl, rfl, h, _⟩ | ⟨hw, rfl, rfl, h⟩ | ⟨hw, _, x, y, hx, hy, rfl, rfl, h⟩ | ⟨hw, _, _, x, y, hx, hy, rfl, rfl, h, _⟩ | ⟨rfl, x, hx, rfl, h⟩ <;>
  rcases g with ⟨gw, ga, gb, g, _⟩ | ⟨gw, ga, gb, g⟩ | ⟨gw, _, x', y', hx', hy', ga, gb, g⟩ | ⟨gw, _, _, x', y', hx', hy', ga, gb, g, _⟩ | ⟨gb, x', hx', ga, g⟩
  · exact h.trans g.symm
  · rcases hw with rfl | rfl <;> exact absurd gw (by decide)
  · exact (gl_nI_m1 (by omega) ga.symm).elim
  · exact (gl_nI_m1 (by omega) ga.symm).elim
  · exact (gl_nI_m1 (by omega) ga.symm).elim
  · subst hw; exact absurd gw (by decide)
  · exact h.trans g.symm
  · exact (gl_nI_m1 (by omega) ga.symm).elim
  · exact (gl_nI_m1 (by omega) ga.symm).elim
  · exact (gl_nI_m1 (by omega) ga.symm).elim
  · exact (gl_nI_m1 (by omega) ga).elim
  · exact (gl_nI_m1 (by omega) ga).elim
  · cases gl_nI_inj (by omega) (by omega) ga
    cases gl_nI_inj (by omega) (by omega) gb
    exact gl_wm_fun h g
  · subst gw; exact absurd hw (by decide)
  · exact (gl_nI_m1 (by omega) gb).elim
  · exact (gl_nI_m1 (by omega) ga).elim
  · exact (gl_nI_m1 (by omega) ga).elim
  · subst hw; exact absurd gw (by decide)
  · cases gl_nI_inj (by omega) (by omega) ga
    exact h.symm.trans g
  · exact (gl_nI_m1 (by omega) gb).elim
  · exact (gl_nI_m1 (by omega) ga).elim
  · exact (gl_nI_m1 (by omega) ga).elim
  · exact (gl_nI_m1 (by omega) gb.symm).elim
  · exact (gl_nI_m1 (by omega) gb.symm).elim
  · cases gl_nI_inj (by omega) (by omega) ga
    exact gl_un_fun h g
/-- more may stand there: an operation that fits at m fits later too, in a longer list -/
theorem gl_ok_mono {wi wi' : Nat → Int32} {m m' : Nat} (hm : m ≤ m') (hw : ∀ i, i < m → wi' i = wi i) {w a b n d : Int32} (h : gl_ok wi m w a b n d) : gl_ok wi' m' w a b n d := by
  rcases h with h | h | ⟨h1, h2, x, y, hx, hy, h3, h4, h5⟩ | ⟨h1, h2, h0, x, y, hx, hy, h3, h4, h5, h6⟩ | ⟨h1, x, hx, h2, h3⟩
  · exact Or.inl h
  · exact Or.inr (Or.inl h)
  · exact Or.inr (Or.inr (Or.inl ⟨h1, h2, x, y, by omega, by omega, h3, h4, by rw [hw x hx, hw y hy]; exact h5⟩))
  · exact Or.inr (Or.inr (Or.inr (Or.inl ⟨h1, h2, h0, x, y, by omega, by omega, h3, h4, by rw [hw x hx]; exact h5, by rw [hw y hy]; exact h6⟩)))
  · exact Or.inr (Or.inr (Or.inr (Or.inr ⟨h1, x, by omega, h2, by rw [hw x hx]; exact h3⟩)))
theorem gl_ok_ext {L M : gl_L} (h : gl_ext L M) {w a b n d : Int32} (g : gl_ok (gl_wi L) L.1 w a b n d) : gl_ok (gl_wi M) M.1 w a b n d :=
  gl_ok_mono h.1 (fun i hi => (h.2 i hi).2.2.2.2) g
/-- the list with one more operation -/
def gl_app (L : gl_L) (w a b n d : Int32) : gl_L := (L.1 + 1, upd (gl_op L) L.1 w, upd (gl_fi L) L.1 a, upd (gl_se L) L.1 b, upd (gl_nu L) L.1 n, upd (gl_wi L) L.1 d)
theorem gl_app_ext (L : gl_L) (w a b n d : Int32) : gl_ext L (gl_app L w a b n d) := by
  refine ⟨Nat.le_succ _, fun i hi => ?_⟩
  have e : i ≠ L.1 := by omega
  exact ⟨pk_un e, pk_un e, pk_un e, pk_un e, pk_un e⟩
theorem gl_app_WF {L : gl_L} (h : gl_WF L) (hl : L.1 < 450) {w a b n d : Int32} (g : gl_ok (gl_wi L) L.1 w a b n d) : gl_WF (gl_app L w a b n d) := by
  refine ⟨hl, fun i hi => ?_⟩
  have hx := gl_app_ext L w a b n d
  by_cases e : i = L.1
  · subst e
    show gl_ok (upd (gl_wi L) L.1 d) L.1 (upd (gl_op L) L.1 w L.1) (upd (gl_fi L) L.1 a L.1) (upd (gl_se L) L.1 b L.1) (upd (gl_nu L) L.1 n L.1) (upd (gl_wi L) L.1 d L.1)
    rw [pk_us, pk_us, pk_us, pk_us, pk_us]
    exact gl_ok_mono (Nat.le_refl _) (fun i hi => pk_un (by omega)) g
  · have hi' : i < L.1 := by have : i < L.1 + 1 := hi; omega
    obtain ⟨e1, e2, e3, e4, e5⟩ := hx.2 i hi'
    rw [e1, e2, e3, e4, e5]
    exact gl_ok_mono (Nat.le_refl _) (fun j hj => (hx.2 j (by omega)).2.2.2.2) (h.2 i hi')
/-- the sum of weights -/
def gl_sum (f : Nat → Nat) : Nat → Nat
  | 0 => 0
  | n + 1 => gl_sum f n + f n
theorem gl_sum_congr {f g : Nat → Nat} : ∀ n, (∀ i, i < n → f i = g i) → gl_sum f n = gl_sum g n := by
  intro n
  induction n with
  | zero => intro _; rfl
  | succ n ih => intro h; show _ + _ = _ + _; rw [ih (fun i hi => h i (by omega)), h n (by omega)]
def gl_ws (om : Int32 → Nat) (L : gl_L) : Nat := gl_sum (fun i => om (gl_op L i)) L.1
theorem gl_ws_app (om : Int32 → Nat) (L : gl_L) (w a b n d : Int32) : gl_ws om (gl_app L w a b n d) = gl_ws om L + om w := by
  show gl_sum (fun i => om (upd (gl_op L) L.1 w i)) L.1 + om (upd (gl_op L) L.1 w L.1) = _
  rw [pk_us]
  congr 1
  exact gl_sum_congr _ (fun i hi => by rw [pk_un (by omega)])
theorem gl_sum1 : ∀ n, gl_sum (fun _ => 1) n = n := by
  intro n
  induction n with
  | zero => rfl
  | succ n ih => show gl_sum _ n + 1 = n + 1; rw [ih]
theorem gl_ws1 (L : gl_L) : gl_ws (fun _ => 1) L = L.1 := gl_sum1 L.1
end
section
/-! making operations: append, share, constant, zero, widened, simplified, make -/
abbrev gx_S (nc lv fc : Int32) (kd px py vc ip dr na re sl fs so la : Nat → Int32) (L : gl_L) : SX :=
  (nc, lv, nI L.1, fc, kd, px, py, vc, ip, dr, gl_op L, gl_fi L, gl_se L, gl_nu L, gl_wi L, na, re, sl, fs, so, la)
theorem gx_n16 {x : Nat} (hx : x < 450) : vp_nar .short (nI x).toInt16.toInt32 = nI x := by
  rw [pk_vs]
  exact lg_i2s_small (by rw [nI_toInt (by omega)]; omega) (by rw [nI_toInt (by omega)]; omega)
theorem gx_m16 : vp_nar .short (-1 : Int32).toInt16.toInt32 = -1 := by rw [pk_vs]; decide
theorem gx_nb {d : Int32} (h : d = 0 ∨ d = 1) : vp_nar .boolean d = d := by rcases h with rfl | rfl <;> rfl
theorem gx_ok_b {wi : Nat → Int32} {m : Nat} {w a b n d : Int32} (h : gl_ok wi m w a b n d) : vp_nar .byte w.toInt8.toInt32 = w := by
  rw [pk_vb]
  rcases h with ⟨rfl | rfl, _⟩ | ⟨rfl, _⟩ | ⟨rfl | rfl | rfl, _⟩ | ⟨rfl, _⟩ | ⟨_, x, _, _, hu⟩
  all_goals first
    | decide
    | (rcases hu with ⟨rfl, _⟩ | ⟨rfl, _⟩ | ⟨rfl, _⟩ | ⟨rfl, _⟩ | ⟨rfl, _⟩ | ⟨rfl, _⟩ | ⟨rfl, _⟩ <;> decide)
theorem gx_ok_s {wi : Nat → Int32} {m : Nat} {w a b n d : Int32} (hm : m ≤ 450) (h : gl_ok wi m w a b n d) : vp_nar .short a.toInt16.toInt32 = a ∧ vp_nar .short b.toInt16.toInt32 = b := by
  rcases h with ⟨_, rfl, rfl, _⟩ | ⟨_, rfl, rfl, _⟩ | ⟨_, _, x, y, hx, hy, rfl, rfl, _⟩ | ⟨_, _, _, x, y, hx, hy, rfl, rfl, _⟩ | ⟨rfl, x, hx, rfl, _⟩
  · exact ⟨gx_m16, gx_m16⟩
  · exact ⟨gx_m16, gx_m16⟩
  · exact ⟨gx_n16 (by omega), gx_n16 (by omega)⟩
  · exact ⟨gx_n16 (by omega), gx_n16 (by omega)⟩
  · exact ⟨gx_n16 (by omega), gx_m16⟩
def gx_sh (L M : gl_L) (r : Nat) (w a b n d : Int32) : Prop :=
  gl_ext L M ∧ gl_WF M ∧ r < M.1 ∧ gl_op M r = w ∧ gl_fi M r = a ∧ gl_se M r = b ∧ gl_nu M r = n ∧ gl_wi M r = d ∧ ∀ om, gl_ws om M ≤ gl_ws om L + om w
theorem gx_sh_app {L : gl_L} (h : gl_WF L) (hl : L.1 < 450) {w a b n d : Int32} (g : gl_ok (gl_wi L) L.1 w a b n d) : gx_sh L (gl_app L w a b n d) L.1 w a b n d :=
  ⟨gl_app_ext L w a b n d, gl_app_WF h hl g, Nat.lt_succ_self _, pk_us, pk_us, pk_us, pk_us, pk_us, fun om => Nat.le_of_eq (gl_ws_app om L w a b n d)⟩
section
variable {nc lv fc : Int32} {kd px py vc ip dr na re sl fs so la : Nat → Int32}
theorem gx_append {L : gl_L} (hl : L.1 < 450) {w a b n d : Int32} (g : gl_ok (gl_wi L) L.1 w a b n d) (post : Int32 → SX → Prop)
    (hp : post (nI L.1) (gx_S nc lv fc kd px py vc ip dr na re sl fs so la (gl_app L w a b n d))) :
    wpX_append post (gx_S nc lv fc kd px py vc ip dr na re sl fs so la L) w a b n d := by
  have hi : vp_in (nI L.1) 450 := vp_in_nI hl (by omega)
  have ec : (nI L.1).toNatClampNeg = L.1 := nI_clamp (by omega)
  obtain ⟨e2, e3⟩ := gx_ok_s (Nat.le_of_lt hl) g
  have e1 := gx_ok_b g
  have e4 := gx_nb (gl_ok_wd g)
  refine And.intro hi (nm_r (e' := upd (gl_op L) L.1 w) (by rw [ec, e1]) (And.intro hi (nm_r (e' := upd (gl_fi L) L.1 a) (by rw [ec, e2]) (And.intro hi (nm_r (e' := upd (gl_se L) L.1 b) (by rw [ec, e3]) (And.intro hi (nm_r (e' := upd (gl_nu L) L.1 n) (by rw [ec]) (And.intro hi (nm_r (e' := upd (gl_wi L) L.1 d) (by rw [ec, e4]) (nm_r (nI_1 L.1) ?_))))))))))
  exact hp
theorem gx_share11 {L : gl_L} (h : gl_WF L) (hl : L.1 < 450) {w a b n d : Int32} (g : gl_ok (gl_wi L) L.1 w a b n d) : ∀ q j, j + q = L.1 → ∃ r M, gx_sh L M r w a b n d ∧
    ∀ post : Int32 → SX → Prop, post (nI r) (gx_S nc lv fc kd px py vc ip dr na re sl fs so la M) → wX_share_11 post w a b n d nc lv (nI L.1) fc kd px py vc ip dr (gl_op L) (gl_fi L) (gl_se L) (gl_nu L) (gl_wi L) na re sl fs so la (q + 1) (nI j) := by
  intro q
  induction q with
  | zero =>
    intro j hj
    refine ⟨L.1, _, gx_sh_app h hl g, fun post hp => br_t (nI_le (by omega) (by omega)) ?_⟩
    exact gx_append hl g _ hp
  | succ q ih =>
    intro j hj
    have hx : ¬ nI L.1 ≤ nI j := nI_ge (by omega) (by omega)
    have hi : vp_in (nI j) 450 := vp_in_nI (by omega) (by omega)
    have ec : (nI j).toNatClampNeg = j := nI_clamp (by omega)
    obtain ⟨r, M, hs, hw⟩ := ih (j + 1) (by omega)
    by_cases h1 : gl_op L j = w
    · by_cases h2 : gl_fi L j = a
      · by_cases h3 : gl_se L j = b
        · by_cases h4 : gl_nu L j = n
          · refine ⟨j, L, ⟨gl_ext_rf L, h, by omega, h1, h2, h3, h4, ?_, fun om => Nat.le_add_right _ _⟩, fun post hp => br_f hx (And.intro hi (br_t (by rw [ec]; exact h1) (And.intro hi (br_t (by rw [ec]; exact h2) (And.intro hi (br_t (by rw [ec]; exact h3) (And.intro hi (br_t (by rw [ec]; exact h4) hp))))))))⟩
            have hk := h.2 j (by omega)
            rw [h1, h2, h3, h4] at hk
            exact gl_ok_fun (by omega) (by omega) hk g
          · exact ⟨r, M, hs, fun post hp => br_f hx (And.intro hi (br_t (by rw [ec]; exact h1) (And.intro hi (br_t (by rw [ec]; exact h2) (And.intro hi (br_t (by rw [ec]; exact h3) (And.intro hi (br_f (by rw [ec]; exact h4) (nm_r (nI_1 j) (hw post hp))))))))))⟩
        · exact ⟨r, M, hs, fun post hp => br_f hx (And.intro hi (br_t (by rw [ec]; exact h1) (And.intro hi (br_t (by rw [ec]; exact h2) (And.intro hi (br_f (by rw [ec]; exact h3) (nm_r (nI_1 j) (hw post hp))))))))⟩
      · exact ⟨r, M, hs, fun post hp => br_f hx (And.intro hi (br_t (by rw [ec]; exact h1) (And.intro hi (br_f (by rw [ec]; exact h2) (nm_r (nI_1 j) (hw post hp))))))⟩
    · exact ⟨r, M, hs, fun post hp => br_f hx (And.intro hi (br_f (by rw [ec]; exact h1) (nm_r (nI_1 j) (hw post hp))))⟩
theorem gx_share {L : gl_L} (h : gl_WF L) (hl : L.1 < 450) {w a b n d : Int32} (g : gl_ok (gl_wi L) L.1 w a b n d) : ∃ r M, gx_sh L M r w a b n d ∧
    ∀ post : Int32 → SX → Prop, post (nI r) (gx_S nc lv fc kd px py vc ip dr na re sl fs so la M) → wpX_share post (gx_S nc lv fc kd px py vc ip dr na re sl fs so la L) w a b n d := by
  by_cases h2 : lv = 2
  · obtain ⟨r, M, hs, hw⟩ := gx_share11 (nc := nc) (lv := lv) (fc := fc) (kd := kd) (px := px) (py := py) (vc := vc) (ip := ip) (dr := dr) (na := na) (re := re) (sl := sl) (fs := fs) (so := so) (la := la) h hl g L.1 0 (by omega)
    exact ⟨r, M, hs, fun post hp => br_t h2 ⟨L.1 + 1, hw post hp⟩⟩
  · exact ⟨L.1, _, gx_sh_app h hl g, fun post hp => br_f h2 (gx_append hl g _ hp)⟩
end
end
section
/-! constant, zero, widened, isZero, isKnown -/
/-- an outcome: a longer list, an operation r of width d, its value, its cost -/
def gx_out (L M : gl_L) (r : Nat) (d : Int32) (F : (Nat → gh_T) → (Nat → Int32) → Nat → gh_T) (K : (Int32 → Nat) → Nat) : Prop :=
  gl_ext L M ∧ gl_WF M ∧ r < M.1 ∧ gl_wi M r = d ∧ (∀ iv dv c, c < 4 → gl_val iv dv M r c = F iv dv c) ∧ ∀ om, gl_ws om M ≤ gl_ws om L + K om
theorem gx_sh_val {L M : gl_L} {r : Nat} {w a b n d : Int32} (h : gx_sh L M r w a b n d) (iv : Nat → gh_T) (dv : Nat → Int32) (c : Nat) :
    gl_val iv dv M r c = gh_ov iv dv w a.toNatClampNeg b.toNatClampNeg n (gl_val iv dv M) c := by
  obtain ⟨_, hW, hr, rfl, rfl, rfl, rfl, _⟩ := h
  exact gl_val_eq hW hr
theorem gx_ok1 {wi : Nat → Int32} {m : Nat} {n : Int32} : gl_ok wi m 1 (-1) (-1) n 0 := Or.inr (Or.inl ⟨rfl, rfl, rfl, rfl⟩)
theorem gx_ok8 {wi : Nat → Int32} {m x : Nat} (hx : x < m) (hw : wi x = 0) : gl_ok wi m 8 (nI x) (-1) 0 1 :=
  Or.inr (Or.inr (Or.inr (Or.inr ⟨rfl, x, hx, rfl, Or.inr (Or.inr (Or.inr (Or.inl ⟨rfl, rfl, hw, rfl⟩)))⟩)))
theorem gx_len {L M : gl_L} {k : Nat} (h : ∀ om, gl_ws om M ≤ gl_ws om L + k) : M.1 ≤ L.1 + k := by
  have := h (fun _ => 1)
  rw [gl_ws1, gl_ws1] at this
  exact this
section
variable {nc lv fc : Int32} {kd px py vc ip dr na re sl fs so la : Nat → Int32}
theorem gx_constant {L : gl_L} (h : gl_WF L) (hl : L.1 < 450) (n : Int32) : ∃ r M, gx_out L M r 0 (fun _ _ _ => gh_k n) (fun om => om 1) ∧ gl_op M r = 1 ∧ gl_nu M r = n ∧
    ∀ post : Int32 → SX → Prop, post (nI r) (gx_S nc lv fc kd px py vc ip dr na re sl fs so la M) → wpX_constant post (gx_S nc lv fc kd px py vc ip dr na re sl fs so la L) n := by
  obtain ⟨r, M, hs, hw⟩ := gx_share (nc := nc) (lv := lv) (fc := fc) (kd := kd) (px := px) (py := py) (vc := vc) (ip := ip) (dr := dr) (na := na) (re := re) (sl := sl) (fs := fs) (so := so) (la := la) h hl (gx_ok1 (n := n))
  have hv := gx_sh_val hs
  obtain ⟨h1, h2, h3, h4, h5, h6, h7, h8, h9⟩ := hs
  refine ⟨r, M, ⟨h1, h2, h3, h8, fun iv dv c _ => ?_, h9⟩, h4, h7, fun post hp => ?_⟩
  · rw [hv, gh_ov1]
  · unfold wpX_constant; exact hw _ hp
theorem gx_zero {L : gl_L} (h : gl_WF L) (hl : L.1 + 1 < 450) {d : Int32} (hd : d = 0 ∨ d = 1) : ∃ r M, gx_out L M r d (fun _ _ _ => gh_0) (fun om => om 1 + (if d = 0 then 0 else om 8)) ∧
    ∀ post : Int32 → SX → Prop, post (nI r) (gx_S nc lv fc kd px py vc ip dr na re sl fs so la M) → wpX_zero post (gx_S nc lv fc kd px py vc ip dr na re sl fs so la L) d := by
  obtain ⟨r, M, hs, _, _, hw⟩ := gx_constant (nc := nc) (lv := lv) (fc := fc) (kd := kd) (px := px) (py := py) (vc := vc) (ip := ip) (dr := dr) (na := na) (re := re) (sl := sl) (fs := fs) (so := so) (la := la) h (by omega) 0
  obtain ⟨h1, h2, h3, h4, h5, h6⟩ := hs
  by_cases hz : d = 0
  · subst hz
    refine ⟨r, M, ⟨h1, h2, h3, h4, h5, h6⟩, fun post hp => ?_⟩
    unfold wpX_zero; exact hw _ (br_t rfl hp)
  · have hM : M.1 < 450 := by
      have := h6 (fun _ => 1)
      rw [gl_ws1, gl_ws1] at this
      dsimp only at this
      omega
    have hd1 : d = 1 := hd.resolve_left hz
    subst hd1
    obtain ⟨r', N, hs', hw'⟩ := gx_share (nc := nc) (lv := lv) (fc := fc) (kd := kd) (px := px) (py := py) (vc := vc) (ip := ip) (dr := dr) (na := na) (re := re) (sl := sl) (fs := fs) (so := so) (la := la) h2 hM (gx_ok8 h3 h4)
    have hv := gx_sh_val hs'
    obtain ⟨g1, g2, g3, g4, g5, g6, g7, g8, g9⟩ := hs'
    refine ⟨r', N, ⟨gl_ext_tr h1 g1, g2, g3, g8, fun iv dv c hc => ?_, fun om => ?_⟩, fun post hp => ?_⟩
    · rw [hv, gh_ov8, nI_clamp (gl_nI_lt h2 h3), gl_val_ext g1 h3, h5 iv dv c hc]; rfl
    · have a1 := h6 om
      have a2 := g9 om
      dsimp only at a1 ⊢
      rw [if_neg (show ¬ (1 : Int32) = 0 by decide)]
      omega
    · unfold wpX_zero; exact hw _ (br_f (by decide) (hw' _ hp))
theorem gx_widened {L : gl_L} (h : gl_WF L) (hl : L.1 < 450) {x : Nat} (hx : x < L.1) {d : Int32} (hd : gl_wi L x = d ∨ (gl_wi L x = 0 ∧ d = 1)) : ∃ r M, gx_out L M r d (fun iv dv c => gl_val iv dv L x c) (fun om => if gl_wi L x = d then 0 else om 8) ∧
    ∀ post : Int32 → SX → Prop, post (nI r) (gx_S nc lv fc kd px py vc ip dr na re sl fs so la M) → wpX_widened post (gx_S nc lv fc kd px py vc ip dr na re sl fs so la L) (nI x) d := by
  have hi : vp_in (nI x) 450 := vp_in_nI (by omega) (by omega)
  have ec : (nI x).toNatClampNeg = x := nI_clamp (by omega)
  by_cases e : gl_wi L x = d
  · refine ⟨x, L, ⟨gl_ext_rf L, h, hx, e, fun iv dv c _ => rfl, fun om => Nat.le_add_right _ _⟩, fun post hp => ?_⟩
    exact And.intro hi (br_t (by rw [ec]; exact e) hp)
  · obtain ⟨hw0, rfl⟩ := hd.resolve_left e
    obtain ⟨r', N, hs', hw'⟩ := gx_share (nc := nc) (lv := lv) (fc := fc) (kd := kd) (px := px) (py := py) (vc := vc) (ip := ip) (dr := dr) (na := na) (re := re) (sl := sl) (fs := fs) (so := so) (la := la) h hl (gx_ok8 hx hw0)
    have hv := gx_sh_val hs'
    obtain ⟨g1, g2, g3, g4, g5, g6, g7, g8, g9⟩ := hs'
    refine ⟨r', N, ⟨g1, g2, g3, g8, fun iv dv c hc => ?_, fun om => ?_⟩, fun post hp => ?_⟩
    · rw [hv, gh_ov8, ec, gl_val_ext g1 hx]
    · dsimp only; rw [if_neg e]; exact g9 om
    · exact And.intro hi (br_f (by rw [ec]; exact e) (hw' _ hp))
theorem gx_isKnown {L : gl_L} (h : gl_WF L) {x : Nat} (hx : x < L.1) : ∃ z : Int32, ((z = 0 ∧ gl_op L x ≠ 1) ∨ (z = 1 ∧ gl_op L x = 1 ∧ gl_wi L x = 0 ∧ ∀ iv dv c, gl_val iv dv L x c = gh_k (gl_nu L x))) ∧
    ∀ post : Int32 → Prop, post z → wpX_isKnown post (gx_S nc lv fc kd px py vc ip dr na re sl fs so la L) (nI x) := by
  have hL := h.1
  have hi : vp_in (nI x) 450 := vp_in_nI (by omega) (by omega)
  have ec : (nI x).toNatClampNeg = x := nI_clamp (by omega)
  by_cases e : gl_op L x = 1
  · refine ⟨1, Or.inr ⟨rfl, e, ?_, fun iv dv c => ?_⟩, fun post hp => And.intro hi (br_t (by rw [ec]; exact e) hp)⟩
    · have hk := h.2 x hx
      rw [e] at hk
      exact gl_ok_fun (by omega) (by omega) hk (by
        rcases hk with ⟨z, _⟩ | ⟨_, z1, z2, _⟩ | ⟨z, _⟩ | ⟨z, _⟩ | ⟨_, _, _, _, z⟩
        · exact absurd z (by decide)
        · rw [z1, z2]; exact gx_ok1
        · exact absurd z (by decide)
        · exact absurd z (by decide)
        · rcases z with ⟨z, _⟩ | ⟨z, _⟩ | ⟨z, _⟩ | ⟨z, _⟩ | ⟨z, _⟩ | ⟨z, _⟩ | ⟨z, _⟩ <;> exact absurd z (by decide))
    · rw [gl_val_eq h hx, e, gh_ov1]
  · exact ⟨0, Or.inl ⟨rfl, e⟩, fun post hp => And.intro hi (br_f (by rw [ec]; exact e) hp)⟩
theorem gx_ok_un {wi : Nat → Int32} {m : Nat} {w a b n d : Int32} (h : gl_ok wi m w a b n d) (h1 : ¬ gh_nul w) (h2 : ¬ gh_bin w) : b = -1 ∧ ∃ x, x < m ∧ a = nI x ∧ gl_un w n (wi x) d := by
  rcases h with ⟨z | z, _⟩ | ⟨z, _⟩ | ⟨z, _⟩ | ⟨z, _⟩ | z
  · exact absurd (Or.inl z) h1
  · exact absurd (Or.inr (Or.inr z)) h1
  · exact absurd (Or.inr (Or.inl z)) h1
  · rcases z with z | z | z
    · exact absurd (Or.inl z) h2
    · exact absurd (Or.inr (Or.inl z)) h2
    · exact absurd (Or.inr (Or.inr (Or.inl z))) h2
  · exact absurd (Or.inr (Or.inr (Or.inr z))) h2
  · exact z
theorem gx_op8 {L : gl_L} (h : gl_WF L) {x : Nat} (hx : x < L.1) (e : gl_op L x = 8) : ∃ p, p < x ∧ gl_fi L x = nI p ∧ gl_wi L p = 0 ∧ gl_wi L x = 1 ∧ ∀ iv dv c, gl_val iv dv L x c = gl_val iv dv L p c := by
  have hL := h.1
  have hk := h.2 x hx
  rw [e] at hk
  obtain ⟨_, p, hp, ea, hu⟩ := gx_ok_un hk (by unfold gh_nul; decide) (by unfold gh_bin; decide)
  have hq : gl_wi L p = 0 ∧ gl_wi L x = 1 := by
    rcases hu with ⟨z, _⟩ | ⟨z, _⟩ | ⟨z, _⟩ | ⟨_, _, z, z'⟩ | ⟨z, _⟩ | ⟨z, _⟩ | ⟨z, _⟩
    · exact absurd z (by decide)
    · exact absurd z (by decide)
    · exact absurd z (by decide)
    · exact ⟨z, z'⟩
    · exact absurd z (by decide)
    · exact absurd z (by decide)
    · exact absurd z (by decide)
  refine ⟨p, hp, ea, hq.1, hq.2, fun iv dv c => ?_⟩
  rw [gl_val_eq h hx, e, gh_ov8, ea, nI_clamp (by omega)]
theorem gx_op12 {L : gl_L} (h : gl_WF L) {x : Nat} (hx : x < L.1) (e : gl_op L x = 12) : ∃ p t, p < x ∧ t < 4 ∧ gl_fi L x = nI p ∧ gl_nu L x = nI t ∧ gl_wi L p = 0 ∧ ∀ iv dv c, gl_val iv dv L x c = if c = t then gl_val iv dv L p 0 else gh_0 := by
  have hL := h.1
  have hk := h.2 x hx
  rw [e] at hk
  obtain ⟨_, p, hp, ea, hu⟩ := gx_ok_un hk (by unfold gh_nul; decide) (by unfold gh_bin; decide)
  have hq : gl_wi L p = 0 ∧ ∃ t : Nat, t < 4 ∧ gl_nu L x = nI t := by
    rcases hu with ⟨z, _⟩ | ⟨z, _⟩ | ⟨z, _⟩ | ⟨z, _⟩ | ⟨z, _⟩ | ⟨z, _⟩ | ⟨_, z, _, z'⟩
    · exact absurd z (by decide)
    · exact absurd z (by decide)
    · exact absurd z (by decide)
    · exact absurd z (by decide)
    · exact absurd z (by decide)
    · exact absurd z (by decide)
    · exact ⟨z, z'⟩
  obtain ⟨hq, t, ht, en⟩ := hq
  refine ⟨p, t, hp, ht, ea, en, hq, fun iv dv c => ?_⟩
  rw [gl_val_eq h hx, e, gh_ov12, ea, en, nI_clamp (by omega), nI_clamp (by omega)]
theorem gx_isZero {L : gl_L} (h : gl_WF L) {x : Nat} (hx : x < L.1) : ∃ z : Int32, (z = 0 ∨ (z = 1 ∧ ∀ iv dv c, gl_val iv dv L x c = gh_0)) ∧
    ∀ post : Int32 → Prop, post z → wpX_isZero post (gx_S nc lv fc kd px py vc ip dr na re sl fs so la L) (nI x) := by
  have hL := h.1
  have hi : vp_in (nI x) 450 := vp_in_nI (by omega) (by omega)
  have ec : (nI x).toNatClampNeg = x := nI_clamp (by omega)
  by_cases e : gl_op L x = 1
  · by_cases e0 : gl_nu L x = 0
    · refine ⟨1, Or.inr ⟨rfl, fun iv dv c => ?_⟩, fun post hp => And.intro hi (br_t (by rw [ec]; exact e) (And.intro hi (br_t (by rw [ec]; exact e0) hp)))⟩
      rw [gl_val_eq h hx, e, gh_ov1, e0]; rfl
    · exact ⟨0, Or.inl rfl, fun post hp => And.intro hi (br_t (by rw [ec]; exact e) (And.intro hi (br_f (by rw [ec]; exact e0) hp)))⟩
  · by_cases e8 : gl_op L x = 8
    · obtain ⟨p, hp, ea, hw, _, hv⟩ := gx_op8 h hx e8
      have hip : vp_in (gl_fi L (nI x).toNatClampNeg) 450 := by rw [ec, ea]; exact vp_in_nI (by omega) (by omega)
      have ecp : (gl_fi L (nI x).toNatClampNeg).toNatClampNeg = p := by rw [ec, ea]; exact nI_clamp (by omega)
      by_cases p1 : gl_op L p = 1
      · by_cases p0 : gl_nu L p = 0
        · refine ⟨1, Or.inr ⟨rfl, fun iv dv c => ?_⟩, fun post hpp => And.intro hi (br_f (by rw [ec]; exact e) (And.intro hi (br_t (by rw [ec]; exact e8) (And.intro hi (And.intro hip (br_t (by rw [ecp]; exact p1) (And.intro hi (And.intro hip (br_t (by rw [ecp]; exact p0) hpp)))))))))⟩
          rw [hv, gl_val_eq h (by omega), p1, gh_ov1, p0]; rfl
        · exact ⟨0, Or.inl rfl, fun post hpp => And.intro hi (br_f (by rw [ec]; exact e) (And.intro hi (br_t (by rw [ec]; exact e8) (And.intro hi (And.intro hip (br_t (by rw [ecp]; exact p1) (And.intro hi (And.intro hip (br_f (by rw [ecp]; exact p0) hpp)))))))))⟩
      · exact ⟨0, Or.inl rfl, fun post hpp => And.intro hi (br_f (by rw [ec]; exact e) (And.intro hi (br_t (by rw [ec]; exact e8) (And.intro hi (And.intro hip (br_f (by rw [ecp]; exact p1) hpp))))))⟩
    · exact ⟨0, Or.inl rfl, fun post hp => And.intro hi (br_f (by rw [ec]; exact e) (And.intro hi (br_f (by rw [ec]; exact e8) hp)))⟩
end
end
section
/-! simplerCombined, simplified, make -/
def gx_thin (L : gl_L) (w a b d : Int32) : Prop := d = 0 ∨ w = 8 ∨ ((w = 2 ∨ w = 3) ∧ gl_wi L a.toNatClampNeg = d ∧ gl_wi L b.toNatClampNeg = d)
def gx_mk (L M : gl_L) (r : Nat) (w a b n d : Int32) : Prop :=
  gl_ext L M ∧ gl_WF M ∧ r < M.1 ∧ gl_wi M r = d ∧ (∀ iv dv c, c < 4 → gl_val iv dv M r c = gh_ov iv dv w a.toNatClampNeg b.toNatClampNeg n (gl_val iv dv L) c) ∧
  (∀ (om : Int32 → Nat) (k : Nat), om w ≤ k → om 1 + om 8 ≤ k → gl_ws om M ≤ gl_ws om L + k) ∧ (gx_thin L w a b d → ∀ (om : Int32 → Nat) (k : Nat), om w ≤ k → om 1 ≤ k → gl_ws om M ≤ gl_ws om L + k)
def gx_sim (L M : gl_L) (z : Int32) (w a b n d : Int32) : Prop := (z = -1 ∧ M = L) ∨ ∃ r, z = nI r ∧ r < 450 ∧ gx_mk L M r w a b n d
theorem gx_sim_of {L M : gl_L} {r : Nat} {d : Int32} {F : (Nat → gh_T) → (Nat → Int32) → Nat → gh_T} {K : (Int32 → Nat) → Nat} (ho : gx_out L M r d F K) {w a b n : Int32}
    (hv : ∀ iv dv c, c < 4 → F iv dv c = gh_ov iv dv w a.toNatClampNeg b.toNatClampNeg n (gl_val iv dv L) c) (hk : ∀ om, K om ≤ om 1 + om 8) (hk' : gx_thin L w a b d → ∀ om, K om ≤ om 1) : gx_sim L M (nI r) w a b n d := by
  obtain ⟨h1, h2, h3, h4, h5, h6⟩ := ho
  refine Or.inr ⟨r, rfl, by have := h2.1; omega, h1, h2, h3, h4, fun iv dv c hc => (h5 iv dv c hc).trans (hv iv dv c hc), fun om k _ hb => ?_, fun ht om k _ hb => ?_⟩
  · have := h6 om
    have := hk om
    omega
  · have := h6 om
    have := hk' ht om
    omega
theorem gx_out_rf {L : gl_L} (h : gl_WF L) {x : Nat} (hx : x < L.1) {d : Int32} (hd : gl_wi L x = d) : gx_out L L x d (fun iv dv c => gl_val iv dv L x c) (fun _ => 0) :=
  ⟨gl_ext_rf L, h, hx, hd, fun _ _ _ _ => rfl, fun _ => Nat.le_refl _⟩
theorem gx_mk_sh {L M : gl_L} (hW : gl_WF L) {r : Nat} {w a b n d : Int32} (g : gl_ok (gl_wi L) L.1 w a b n d) (h : gx_sh L M r w a b n d) : gx_mk L M r w a b n d := by
  have hv := gx_sh_val h
  obtain ⟨h1, h2, h3, h4, h5, h6, h7, h8, h9⟩ := h
  obtain ⟨ga, gb⟩ := gl_ok_parts hW.1 g
  refine ⟨h1, h2, h3, h8, fun iv dv c _ => ?_, fun om k hk _ => ?_, fun _ om k hk _ => ?_⟩
  · rw [hv]
    apply gh_ov_congr
    · intro z
      obtain ⟨x, hx, _, e⟩ := ga z
      rw [e]; exact gl_val_ext h1 hx
    · intro z
      obtain ⟨y, hy, _, e⟩ := gb z
      rw [e]; exact gl_val_ext h1 hy
  · have := h9 om; omega
  · have := h9 om; omega
theorem gx_mk_ext {L M : gl_L} {r : Nat} {w a b n d : Int32} (h : gx_mk L M r w a b n d) : gl_ext L M := h.1
theorem gx_mk_len {L M : gl_L} {r : Nat} {w a b n d : Int32} (h : gx_mk L M r w a b n d) : M.1 ≤ L.1 + 2 := by
  have := h.2.2.2.2.2.1 (fun _ => 1) 2 (by decide) (by decide)
  rw [gl_ws1, gl_ws1] at this
  exact this
theorem gx_wm_x {x y d : Int32} (h : gl_wm x y d) : x = d ∨ (x = 0 ∧ d = 1) := by
  rcases h with ⟨h1, _, h2⟩ | ⟨h1, _, h2⟩ | ⟨h1, _, h2⟩ | ⟨h1, _, h2⟩ <;> simp [h1, h2]
theorem gx_wm_y {x y d : Int32} (h : gl_wm x y d) : y = d ∨ (y = 0 ∧ d = 1) := by
  rcases h with ⟨_, h1, h2⟩ | ⟨_, h1, h2⟩ | ⟨_, h1, h2⟩ | ⟨_, h1, h2⟩ <;> simp [h1, h2]
theorem gx_wm_d {x y d : Int32} (h : gl_wm x y d) : d = 0 ∨ d = 1 := by
  rcases h with ⟨_, _, h2⟩ | ⟨_, _, h2⟩ | ⟨_, _, h2⟩ | ⟨_, _, h2⟩ <;> simp [h2]
theorem gx_wm_00 {x y d : Int32} (h : gl_wm x y d) (hx : x = 0) : y = d := by
  rcases h with ⟨_, h1, h2⟩ | ⟨h0, _, _⟩ | ⟨_, h1, h2⟩ | ⟨h0, _, _⟩
  · rw [h1, h2]
  · rw [hx] at h0; exact absurd h0 (by decide)
  · rw [h1, h2]
  · rw [hx] at h0; exact absurd h0 (by decide)
theorem gx_wm_01 {x y d : Int32} (h : gl_wm x y d) (hy : y = 0) : x = d := by
  rcases h with ⟨h1, _, h2⟩ | ⟨h1, _, h2⟩ | ⟨_, h0, _⟩ | ⟨_, h0, _⟩
  · rw [h1, h2]
  · rw [h1, h2]
  · rw [hy] at h0; exact absurd h0 (by decide)
  · rw [hy] at h0; exact absurd h0 (by decide)
theorem gx_wm_z {x y d : Int32} (h : gl_wm x y d) (hd : d = 0) : x = 0 ∧ y = 0 := by
  rcases h with ⟨h0, h1, _⟩ | ⟨_, _, h2⟩ | ⟨_, _, h2⟩ | ⟨_, _, h2⟩
  · exact ⟨h0, h1⟩
  all_goals rw [hd] at h2; exact absurd h2 (by decide)
section
variable {nc lv fc : Int32} {kd px py vc ip dr na re sl fs so la : Nat → Int32}
theorem gx_comb116 {L : gl_L} (h : gl_WF L) {x y : Nat} (hx : x < L.1) (hy : y < L.1) {d : Int32} (hm : gl_wm (gl_wi L x) (gl_wi L y) d) : ∃ z M, gx_sim L M z 4 (nI x) (nI y) 0 d ∧
    ∀ post : Int32 → SX → Prop, post z (gx_S nc lv fc kd px py vc ip dr na re sl fs so la M) → wX_simplerCombined_116 post (nI x) (nI y) nc lv (nI L.1) fc kd px py vc ip dr (gl_op L) (gl_fi L) (gl_se L) (gl_nu L) (gl_wi L) na re sl fs so la := by
  have hL := h.1
  have hi : vp_in (nI y) 450 := vp_in_nI (by omega) (by omega)
  have ecx : (nI x).toNatClampNeg = x := nI_clamp (by omega)
  have ec : (nI y).toNatClampNeg = y := nI_clamp (by omega)
  obtain ⟨ky, hky, wky⟩ := gx_isKnown (nc := nc) (lv := lv) (fc := fc) (kd := kd) (px := px) (py := py) (vc := vc) (ip := ip) (dr := dr) (na := na) (re := re) (sl := sl) (fs := fs) (so := so) (la := la) h hy
  rcases hky with ⟨rfl, _⟩ | ⟨rfl, hop, hwy, vy⟩
  · exact ⟨-1, L, Or.inl ⟨rfl, rfl⟩, fun post hp => wky _ (br_t rfl hp)⟩
  · by_cases e1 : gl_nu L y = 1
    · refine ⟨nI x, L, gx_sim_of (gx_out_rf h hx (gx_wm_01 hm hwy)) (fun iv dv c _ => ?_) (fun om => Nat.zero_le _) (fun _ om => Nat.zero_le _), fun post hp => wky _ (br_f (by decide) (And.intro hi (br_t (by rw [ec]; exact e1) hp)))⟩
      rw [gh_ov4, ecx, ec, vy, e1, gh_mul1]
    · exact ⟨-1, L, Or.inl ⟨rfl, rfl⟩, fun post hp => wky _ (br_f (by decide) (And.intro hi (br_f (by rw [ec]; exact e1) hp)))⟩
theorem gx_comb4 {L : gl_L} (h : gl_WF L) (hl : L.1 + 1 < 450) {x y : Nat} (hx : x < L.1) (hy : y < L.1) {d : Int32} (hm : gl_wm (gl_wi L x) (gl_wi L y) d) : ∃ z M, gx_sim L M z 4 (nI x) (nI y) 0 d ∧
    ∀ post : Int32 → SX → Prop, post z (gx_S nc lv fc kd px py vc ip dr na re sl fs so la M) → wX_simplerCombined_68 post 4 (nI x) (nI y) d nc lv (nI L.1) fc kd px py vc ip dr (gl_op L) (gl_fi L) (gl_se L) (gl_nu L) (gl_wi L) na re sl fs so la := by
  have hL := h.1
  have hi : vp_in (nI x) 450 := vp_in_nI (by omega) (by omega)
  have ecx : (nI x).toNatClampNeg = x := nI_clamp (by omega)
  have ecy : (nI y).toNatClampNeg = y := nI_clamp (by omega)
  obtain ⟨zx, hzx, wzx⟩ := gx_isZero (nc := nc) (lv := lv) (fc := fc) (kd := kd) (px := px) (py := py) (vc := vc) (ip := ip) (dr := dr) (na := na) (re := re) (sl := sl) (fs := fs) (so := so) (la := la) h hx
  obtain ⟨zy, hzy, wzy⟩ := gx_isZero (nc := nc) (lv := lv) (fc := fc) (kd := kd) (px := px) (py := py) (vc := vc) (ip := ip) (dr := dr) (na := na) (re := re) (sl := sl) (fs := fs) (so := so) (la := la) h hy
  obtain ⟨kx, hkx, wkx⟩ := gx_isKnown (nc := nc) (lv := lv) (fc := fc) (kd := kd) (px := px) (py := py) (vc := vc) (ip := ip) (dr := dr) (na := na) (re := re) (sl := sl) (fs := fs) (so := so) (la := la) h hx
  obtain ⟨rz, Mz, hz, wz⟩ := gx_zero (nc := nc) (lv := lv) (fc := fc) (kd := kd) (px := px) (py := py) (vc := vc) (ip := ip) (dr := dr) (na := na) (re := re) (sl := sl) (fs := fs) (so := so) (la := la) h hl (gx_wm_d hm)
  have hzK : ∀ om : Int32 → Nat, om 1 + (if d = 0 then 0 else om 8) ≤ om 1 + om 8 := by
    intro om; split <;> omega
  have hzT : gx_thin L 4 (nI x) (nI y) d → ∀ om : Int32 → Nat, om 1 + (if d = 0 then 0 else om 8) ≤ om 1 := by
    intro ht om
    rcases ht with ht | ht | ⟨ht, _⟩
    · rw [if_pos ht]; omega
    · exact absurd ht (by decide)
    · exact absurd ht (by decide)
  obtain ⟨z6, M6, hs6, hw6⟩ := gx_comb116 (nc := nc) (lv := lv) (fc := fc) (kd := kd) (px := px) (py := py) (vc := vc) (ip := ip) (dr := dr) (na := na) (re := re) (sl := sl) (fs := fs) (so := so) (la := la) h hx hy hm
  rcases hzx with rfl | ⟨rfl, vx⟩
  · rcases hzy with rfl | ⟨rfl, vy⟩
    · rcases hkx with ⟨rfl, _⟩ | ⟨rfl, hop, hwx, vx⟩
      · exact ⟨z6, M6, hs6, fun post hp => br_t rfl (wzx _ (br_t rfl (wzy _ (br_t rfl (wkx _ (br_t rfl (hw6 post hp)))))))⟩
      · by_cases e1 : gl_nu L x = 1
        · refine ⟨nI y, L, gx_sim_of (gx_out_rf h hy (gx_wm_00 hm hwx)) (fun iv dv c _ => ?_) (fun om => Nat.zero_le _) (fun _ om => Nat.zero_le _), fun post hp => br_t rfl (wzx _ (br_t rfl (wzy _ (br_t rfl (wkx _ (br_f (by decide) (And.intro hi (br_t (by rw [ecx]; exact e1) hp))))))))⟩
          rw [gh_ov4, ecx, ecy, vx, e1, gh_1mul]
        · exact ⟨z6, M6, hs6, fun post hp => br_t rfl (wzx _ (br_t rfl (wzy _ (br_t rfl (wkx _ (br_f (by decide) (And.intro hi (br_f (by rw [ecx]; exact e1) (hw6 post hp)))))))))⟩
    · refine ⟨nI rz, Mz, gx_sim_of hz (fun iv dv c _ => ?_) hzK hzT, fun post hp => br_t rfl (wzx _ (br_t rfl (wzy _ (br_f (by decide) (wz _ hp)))))⟩
      rw [gh_ov4, ecy, vy, gh_mul0]
  · refine ⟨nI rz, Mz, gx_sim_of hz (fun iv dv c _ => ?_) hzK hzT, fun post hp => br_t rfl (wzx _ (br_f (by decide) (wz _ hp)))⟩
    rw [gh_ov4, ecx, vx, gh_0mul]
theorem gx_combS {L : gl_L} (h : gl_WF L) (hl : L.1 + 1 < 450) {x y : Nat} (hx : x < L.1) (hy : y < L.1) {w d : Int32} (hw : w = 2 ∨ w = 3) (hm : gl_wm (gl_wi L x) (gl_wi L y) d) : ∃ z M, gx_sim L M z w (nI x) (nI y) 0 d ∧
    ∀ post : Int32 → SX → Prop, post z (gx_S nc lv fc kd px py vc ip dr na re sl fs so la M) → wX_simplerCombined_68 post w (nI x) (nI y) d nc lv (nI L.1) fc kd px py vc ip dr (gl_op L) (gl_fi L) (gl_se L) (gl_nu L) (gl_wi L) na re sl fs so la := by
  have hL := h.1
  have ecx : (nI x).toNatClampNeg = x := nI_clamp (by omega)
  have ecy : (nI y).toNatClampNeg = y := nI_clamp (by omega)
  have n4 : ¬ w = 4 := by rcases hw with rfl | rfl <;> decide
  obtain ⟨zx, hzx, wzx⟩ := gx_isZero (nc := nc) (lv := lv) (fc := fc) (kd := kd) (px := px) (py := py) (vc := vc) (ip := ip) (dr := dr) (na := na) (re := re) (sl := sl) (fs := fs) (so := so) (la := la) h hx
  obtain ⟨zy, hzy, wzy⟩ := gx_isZero (nc := nc) (lv := lv) (fc := fc) (kd := kd) (px := px) (py := py) (vc := vc) (ip := ip) (dr := dr) (na := na) (re := re) (sl := sl) (fs := fs) (so := so) (la := la) h hy
  obtain ⟨ra, Ma, ha, wa⟩ := gx_widened (nc := nc) (lv := lv) (fc := fc) (kd := kd) (px := px) (py := py) (vc := vc) (ip := ip) (dr := dr) (na := na) (re := re) (sl := sl) (fs := fs) (so := so) (la := la) h (by omega) hx (gx_wm_x hm)
  obtain ⟨rb, Mb, hb, wb⟩ := gx_widened (nc := nc) (lv := lv) (fc := fc) (kd := kd) (px := px) (py := py) (vc := vc) (ip := ip) (dr := dr) (na := na) (re := re) (sl := sl) (fs := fs) (so := so) (la := la) h (by omega) hy (gx_wm_y hm)
  rcases hzy with rfl | ⟨rfl, vy⟩
  · by_cases w2 : w = 2
    · subst w2
      rcases hzx with rfl | ⟨rfl, vx⟩
      · exact ⟨-1, L, Or.inl ⟨rfl, rfl⟩, fun post hp => br_f n4 (wzy _ (br_t rfl (br_t rfl (wzx _ (br_t rfl hp)))))⟩
      · refine ⟨nI rb, Mb, gx_sim_of hb (fun iv dv c _ => ?_) (fun om => ?_) (fun ht om => ?_), fun post hp => br_f n4 (wzy _ (br_t rfl (br_t rfl (wzx _ (br_f (by decide) (wb _ hp))))))⟩
        · rw [gh_ov2, ecx, ecy, vx, gh_0add]
        · split <;> omega
        · have e : gl_wi L y = d := by
            rcases ht with ht | ht | ⟨_, _, ht⟩
            · rw [(gx_wm_z hm ht).2, ht]
            · exact absurd ht (by decide)
            · rw [ecy] at ht; exact ht
          rw [if_pos e]; omega
    · exact ⟨-1, L, Or.inl ⟨rfl, rfl⟩, fun post hp => br_f n4 (wzy _ (br_t rfl (br_f w2 hp)))⟩
  · refine ⟨nI ra, Ma, gx_sim_of ha (fun iv dv c _ => ?_) (fun om => ?_) (fun ht om => ?_), fun post hp => br_f n4 (wzy _ (br_f (by decide) (wa _ hp)))⟩
    · rcases hw with rfl | rfl
      · rw [gh_ov2, ecx, ecy, vy, gh_add0]
      · rw [gh_ov3, ecx, ecy, vy, gh_sub0]
    · split <;> omega
    · have e : gl_wi L x = d := by
        rcases ht with ht | ht | ⟨_, ht, _⟩
        · rw [(gx_wm_z hm ht).1, ht]
        · rcases hw with rfl | rfl <;> exact absurd ht (by decide)
        · rw [ecx] at ht; exact ht
      rw [if_pos e]; omega
theorem gx_combined {L : gl_L} (h : gl_WF L) (hl : L.1 + 1 < 450) {x y : Nat} (hx : x < L.1) (hy : y < L.1) {w d : Int32} (hw : w = 2 ∨ w = 3 ∨ w = 4) (hm : gl_wm (gl_wi L x) (gl_wi L y) d) : ∃ z M, gx_sim L M z w (nI x) (nI y) 0 d ∧
    ∀ post : Int32 → SX → Prop, post z (gx_S nc lv fc kd px py vc ip dr na re sl fs so la M) → wpX_simplerCombined post (gx_S nc lv fc kd px py vc ip dr na re sl fs so la L) w (nI x) (nI y) d := by
  have hL := h.1
  have hix : vp_in (nI x) 450 := vp_in_nI (by omega) (by omega)
  have hiy : vp_in (nI y) 450 := vp_in_nI (by omega) (by omega)
  have ecx : (nI x).toNatClampNeg = x := nI_clamp (by omega)
  have ecy : (nI y).toNatClampNeg = y := nI_clamp (by omega)
  obtain ⟨kx, hkx, wkx⟩ := gx_isKnown (nc := nc) (lv := lv) (fc := fc) (kd := kd) (px := px) (py := py) (vc := vc) (ip := ip) (dr := dr) (na := na) (re := re) (sl := sl) (fs := fs) (so := so) (la := la) h hx
  obtain ⟨ky, hky, wky⟩ := gx_isKnown (nc := nc) (lv := lv) (fc := fc) (kd := kd) (px := px) (py := py) (vc := vc) (ip := ip) (dr := dr) (na := na) (re := re) (sl := sl) (fs := fs) (so := so) (la := la) h hy
  have h68 : ∃ z M, gx_sim L M z w (nI x) (nI y) 0 d ∧ ∀ post : Int32 → SX → Prop, post z (gx_S nc lv fc kd px py vc ip dr na re sl fs so la M) → wX_simplerCombined_68 post w (nI x) (nI y) d nc lv (nI L.1) fc kd px py vc ip dr (gl_op L) (gl_fi L) (gl_se L) (gl_nu L) (gl_wi L) na re sl fs so la := by
    rcases hw with rfl | rfl | rfl
    · exact gx_combS h hl hx hy (Or.inl rfl) hm
    · exact gx_combS h hl hx hy (Or.inr rfl) hm
    · exact gx_comb4 h hl hx hy hm
  obtain ⟨z, M, hs, hw68⟩ := h68
  rcases hkx with ⟨rfl, _⟩ | ⟨rfl, hopx, hwx, vx⟩
  · exact ⟨z, M, hs, fun post hp => by unfold wpX_simplerCombined; exact wkx _ (br_t rfl (hw68 post hp))⟩
  · rcases hky with ⟨rfl, _⟩ | ⟨rfl, hopy, hwy, vy⟩
    · exact ⟨z, M, hs, fun post hp => by unfold wpX_simplerCombined; exact wkx _ (br_f (by decide) (wky _ (br_t rfl (hw68 post hp))))⟩
    · have hd : d = 0 := (gx_wm_00 hm hwx).symm.trans hwy
      subst hd
      rcases hw with rfl | rfl | rfl
      · obtain ⟨r, N, hc, _, _, wc⟩ := gx_constant (nc := nc) (lv := lv) (fc := fc) (kd := kd) (px := px) (py := py) (vc := vc) (ip := ip) (dr := dr) (na := na) (re := re) (sl := sl) (fs := fs) (so := so) (la := la) h (by omega) (gl_nu L x + gl_nu L y)
        refine ⟨nI r, N, gx_sim_of hc (fun iv dv c _ => ?_) (fun om => Nat.le_add_right _ _) (fun _ om => Nat.le_refl _), fun post hp => by unfold wpX_simplerCombined; exact wkx _ (br_f (by decide) (wky _ (br_f (by decide) (And.intro hix (nm_r (e' := gl_nu L x) (by rw [ecx]) (And.intro hiy (nm_r (e' := gl_nu L y) (by rw [ecy]) (br_t rfl (wc _ hp)))))))))⟩
        rw [gh_ov2, ecx, ecy, vx, vy, gh_kadd]
      · obtain ⟨r, N, hc, _, _, wc⟩ := gx_constant (nc := nc) (lv := lv) (fc := fc) (kd := kd) (px := px) (py := py) (vc := vc) (ip := ip) (dr := dr) (na := na) (re := re) (sl := sl) (fs := fs) (so := so) (la := la) h (by omega) (gl_nu L x - gl_nu L y)
        refine ⟨nI r, N, gx_sim_of hc (fun iv dv c _ => ?_) (fun om => Nat.le_add_right _ _) (fun _ om => Nat.le_refl _), fun post hp => by unfold wpX_simplerCombined; exact wkx _ (br_f (by decide) (wky _ (br_f (by decide) (And.intro hix (nm_r (e' := gl_nu L x) (by rw [ecx]) (And.intro hiy (nm_r (e' := gl_nu L y) (by rw [ecy]) (br_f (by decide) (br_t rfl (wc _ hp))))))))))⟩
        rw [gh_ov3, ecx, ecy, vx, vy, gh_ksub]
      · obtain ⟨r, N, hc, _, _, wc⟩ := gx_constant (nc := nc) (lv := lv) (fc := fc) (kd := kd) (px := px) (py := py) (vc := vc) (ip := ip) (dr := dr) (na := na) (re := re) (sl := sl) (fs := fs) (so := so) (la := la) h (by omega) (gl_nu L x * gl_nu L y)
        refine ⟨nI r, N, gx_sim_of hc (fun iv dv c _ => ?_) (fun om => Nat.le_add_right _ _) (fun _ om => Nat.le_refl _), fun post hp => by unfold wpX_simplerCombined; exact wkx _ (br_f (by decide) (wky _ (br_f (by decide) (And.intro hix (nm_r (e' := gl_nu L x) (by rw [ecx]) (And.intro hiy (nm_r (e' := gl_nu L y) (by rw [ecy]) (br_f (by decide) (br_f (by decide) (wc _ hp))))))))))⟩
        rw [gh_ov4, ecx, ecy, vx, vy, gh_kmul]
end
end
section
/-! simplified, make -/
theorem gx_pre0 {f : Nat → gh_T} (h : ∀ c, f c = gh_0) : ∀ c, gh_pre f c = gh_0 := by
  intro c
  induction c with
  | zero => exact h 0
  | succ c ih => show gh_add _ _ = _; rw [ih, h, gh_add0]
theorem gx_un0 {w n wx d : Int32} (hu : gl_un w n wx d) {iv : Nat → gh_T} {dv : Nat → Int32} {V : Nat → Nat → gh_T} {x b c : Nat} (hV : ∀ c, V x c = gh_0) : gh_ov iv dv w x b n V c = gh_0 := by
  rcases hu with ⟨rfl, _⟩ | ⟨rfl, _⟩ | ⟨rfl, _⟩ | ⟨rfl, _⟩ | ⟨rfl, _⟩ | ⟨rfl, _⟩ | ⟨rfl, _⟩
  · rw [gh_ov5, gh_s4, hV, hV, hV, hV, gh_add0, gh_add0, gh_add0]
  · rw [gh_ov6, hV]
  · rw [gh_ov7, hV]
  · rw [gh_ov8, hV]
  · rw [gh_ov10, gx_pre0 hV]
  · rw [gh_ov14, gh_suf, hV, hV, hV, hV, gh_add0, gh_add0, gh_add0]
    split
    · rfl
    · split
      · rfl
      · split <;> rfl
  · rw [gh_ov12, hV]; split <;> rfl
section
variable {nc lv fc : Int32} {kd px py vc ip dr na re sl fs so la : Nat → Int32}
theorem gx_simp165 {L : gl_L} (h : gl_WF L) {x : Nat} (hx : x < L.1) {w n d : Int32} (hu : gl_un w n (gl_wi L x) d) : ∃ z M, gx_sim L M z w (nI x) (-1) n d ∧
    ∀ post : Int32 → SX → Prop, post z (gx_S nc lv fc kd px py vc ip dr na re sl fs so la M) → wX_simplified_165 post w (nI x) nc lv (nI L.1) fc kd px py vc ip dr (gl_op L) (gl_fi L) (gl_se L) (gl_nu L) (gl_wi L) na re sl fs so la := by
  have hL := h.1
  have hi : vp_in (nI x) 450 := vp_in_nI (by omega) (by omega)
  have ec : (nI x).toNatClampNeg = x := nI_clamp (by omega)
  by_cases w5 : w = 5
  · subst w5
    by_cases e : gl_op L x = 12
    · obtain ⟨p, t, hp, ht, ea, en, hw, hv⟩ := gx_op12 h hx e
      have hd : d = 0 := by
        rcases hu with ⟨_, _, _, z⟩ | ⟨z, _⟩ | ⟨z, _⟩ | ⟨z, _⟩ | ⟨z, _⟩ | ⟨z, _⟩ | ⟨z, _⟩
        · exact z
        all_goals exact absurd z (by decide)
      subst hd
      refine ⟨nI p, L, gx_sim_of (gx_out_rf h (by omega) hw) (fun iv dv c _ => ?_) (fun om => Nat.zero_le _) (fun _ om => Nat.zero_le _), fun post hp => br_t rfl (And.intro hi (br_t (by rw [ec]; exact e) (And.intro hi (by rw [ec, ea]; exact hp))))⟩
      rw [gh_ov5, ec, gh_s4, hv, hv, hv, hv, gl_nr h (by omega) hw c]
      have t4 : t = 0 ∨ t = 1 ∨ t = 2 ∨ t = 3 := by omega
      rcases t4 with rfl | rfl | rfl | rfl <;> simp [gh_add0, gh_0add]
    · exact ⟨-1, L, Or.inl ⟨rfl, rfl⟩, fun post hp => br_t rfl (And.intro hi (br_f (by rw [ec]; exact e) hp))⟩
  · exact ⟨-1, L, Or.inl ⟨rfl, rfl⟩, fun post hp => br_f w5 hp⟩
theorem gx_simp122 {L : gl_L} (h : gl_WF L) (hl : L.1 + 1 < 450) {x : Nat} (hx : x < L.1) {w n d : Int32} (hu : gl_un w n (gl_wi L x) d) : ∃ z M, gx_sim L M z w (nI x) (-1) n d ∧
    ∀ post : Int32 → SX → Prop, post z (gx_S nc lv fc kd px py vc ip dr na re sl fs so la M) → wX_simplified_122 post w (nI x) n nc lv (nI L.1) fc kd px py vc ip dr (gl_op L) (gl_fi L) (gl_se L) (gl_nu L) (gl_wi L) na re sl fs so la := by
  have hL := h.1
  have hi : vp_in (nI x) 450 := vp_in_nI (by omega) (by omega)
  have ec : (nI x).toNatClampNeg = x := nI_clamp (by omega)
  obtain ⟨z6, M6, hs6, hw6⟩ := gx_simp165 (nc := nc) (lv := lv) (fc := fc) (kd := kd) (px := px) (py := py) (vc := vc) (ip := ip) (dr := dr) (na := na) (re := re) (sl := sl) (fs := fs) (so := so) (la := la) h hx hu
  by_cases w7 : w = 7
  · subst w7
    by_cases e : gl_op L x = 12
    · obtain ⟨p, t, hp, ht, ea, en, hw, hv⟩ := gx_op12 h hx e
      have hd : d = 0 ∧ ∃ s : Nat, s < 4 ∧ n = nI s := by
        rcases hu with ⟨z, _⟩ | ⟨z, _⟩ | ⟨_, _, z, z'⟩ | ⟨z, _⟩ | ⟨z, _⟩ | ⟨z, _⟩ | ⟨z, _⟩
        · exact absurd z (by decide)
        · exact absurd z (by decide)
        · exact ⟨z, z'⟩
        all_goals exact absurd z (by decide)
      obtain ⟨rfl, s, hs, rfl⟩ := hd
      by_cases en' : gl_nu L x = nI s
      · refine ⟨nI p, L, gx_sim_of (gx_out_rf h (by omega) hw) (fun iv dv c _ => ?_) (fun om => Nat.zero_le _) (fun _ om => Nat.zero_le _), fun post hp => br_t rfl (And.intro hi (br_t (by rw [ec]; exact e) (And.intro hi (br_t (by rw [ec]; exact en') (And.intro hi (by rw [ec, ea]; exact hp))))))⟩
        have hst : s = t := (nI_eq (by omega) (by omega)).mp (en'.symm.trans en)
        rw [gh_ov7, ec, nI_clamp (by omega), hv, if_pos hst, gl_nr h (by omega) hw c]
      · obtain ⟨rz, Mz, hz, wz⟩ := gx_zero (nc := nc) (lv := lv) (fc := fc) (kd := kd) (px := px) (py := py) (vc := vc) (ip := ip) (dr := dr) (na := na) (re := re) (sl := sl) (fs := fs) (so := so) (la := la) h hl (d := 0) (Or.inl rfl)
        refine ⟨nI rz, Mz, gx_sim_of hz (fun iv dv c _ => ?_) (fun om => ?_) (fun _ om => ?_), fun post hp => br_t rfl (And.intro hi (br_t (by rw [ec]; exact e) (And.intro hi (br_f (by rw [ec]; exact en') (wz _ hp)))))⟩
        · have hst : ¬ s = t := fun z => en' (by rw [en, z])
          rw [gh_ov7, ec, nI_clamp (by omega), hv, if_neg hst]
        · rw [if_pos rfl]; omega
        · rw [if_pos rfl]; omega
    · exact ⟨z6, M6, hs6, fun post hp => br_t rfl (And.intro hi (br_f (by rw [ec]; exact e) (hw6 post hp)))⟩
  · exact ⟨z6, M6, hs6, fun post hp => br_f w7 (hw6 post hp)⟩
theorem gx_simpU {L : gl_L} (h : gl_WF L) (hl : L.1 + 1 < 450) {x : Nat} (hx : x < L.1) {w n d : Int32} (hu : gl_un w n (gl_wi L x) d) (hd : d = 0 ∨ d = 1) (h8 : ¬ w = 8) : ∃ z M, gx_sim L M z w (nI x) (-1) n d ∧
    ∀ post : Int32 → SX → Prop, post z (gx_S nc lv fc kd px py vc ip dr na re sl fs so la M) → wpX_simplified post (gx_S nc lv fc kd px py vc ip dr na re sl fs so la L) w (nI x) (-1) n d := by
  have hL := h.1
  have hi : vp_in (nI x) 450 := vp_in_nI (by omega) (by omega)
  have ec : (nI x).toNatClampNeg = x := nI_clamp (by omega)
  obtain ⟨z6, M6, hs6, hw6⟩ := gx_simp122 (nc := nc) (lv := lv) (fc := fc) (kd := kd) (px := px) (py := py) (vc := vc) (ip := ip) (dr := dr) (na := na) (re := re) (sl := sl) (fs := fs) (so := so) (la := la) h hl hx hu
  obtain ⟨zx, hzx, wzx⟩ := gx_isZero (nc := nc) (lv := lv) (fc := fc) (kd := kd) (px := px) (py := py) (vc := vc) (ip := ip) (dr := dr) (na := na) (re := re) (sl := sl) (fs := fs) (so := so) (la := la) h hx
  have hc : ¬ w = 0 ∧ ¬ w = 1 ∧ ¬ w = 11 ∧ ¬ w = 2 ∧ ¬ w = 3 ∧ ¬ w = 4 ∧ ¬ w = 13 := by
    rcases hu with ⟨rfl, _⟩ | ⟨rfl, _⟩ | ⟨rfl, _⟩ | ⟨rfl, _⟩ | ⟨rfl, _⟩ | ⟨rfl, _⟩ | ⟨rfl, _⟩ <;> decide
  obtain ⟨c0, c1, c11, c2, c3, c4, c13⟩ := hc
  rcases hzx with rfl | ⟨rfl, vx⟩
  · by_cases w7 : w = 7
    · subst w7
      by_cases e : gl_op L x = 8
      · obtain ⟨p, hp, ea, hw, hw1, hv⟩ := gx_op8 h hx e
        have hd0 : d = 0 := by
          rcases hu with ⟨z, _⟩ | ⟨z, _⟩ | ⟨_, _, z, z'⟩ | ⟨z, _⟩ | ⟨z, _⟩ | ⟨z, _⟩ | ⟨z, _⟩
          · exact absurd z (by decide)
          · exact absurd z (by decide)
          · exact z
          all_goals exact absurd z (by decide)
        subst hd0
        refine ⟨nI p, L, gx_sim_of (gx_out_rf h (by omega) hw) (fun iv dv c _ => ?_) (fun om => Nat.zero_le _) (fun _ om => Nat.zero_le _), fun post hp => br_f c0 (br_f c1 (br_f c11 (br_f c2 (br_f c3 (br_f c4 (br_f c13 (br_f h8 (wzx _ (br_t rfl (br_t rfl (And.intro hi (br_t (by rw [ec]; exact e) (And.intro hi (by rw [ec, ea]; exact hp))))))))))))))⟩
        rw [gh_ov7, ec, hv, gl_nr h (by omega) hw c]
        exact (gl_nr h (by omega) hw _).symm
      · exact ⟨z6, M6, hs6, fun post hp => br_f c0 (br_f c1 (br_f c11 (br_f c2 (br_f c3 (br_f c4 (br_f c13 (br_f h8 (wzx _ (br_t rfl (br_t rfl (And.intro hi (br_f (by rw [ec]; exact e) (hw6 post hp)))))))))))))⟩
    · exact ⟨z6, M6, hs6, fun post hp => br_f c0 (br_f c1 (br_f c11 (br_f c2 (br_f c3 (br_f c4 (br_f c13 (br_f h8 (wzx _ (br_t rfl (br_f w7 (hw6 post hp)))))))))))⟩
  · obtain ⟨rz, Mz, hz, wz⟩ := gx_zero (nc := nc) (lv := lv) (fc := fc) (kd := kd) (px := px) (py := py) (vc := vc) (ip := ip) (dr := dr) (na := na) (re := re) (sl := sl) (fs := fs) (so := so) (la := la) h hl hd
    refine ⟨nI rz, Mz, gx_sim_of hz (fun iv dv c _ => ?_) (fun om => ?_) (fun ht om => ?_), fun post hp => br_f c0 (br_f c1 (br_f c11 (br_f c2 (br_f c3 (br_f c4 (br_f c13 (br_f h8 (wzx _ (br_f (by decide) (wz _ hp))))))))))⟩
    · rw [ec]; exact (gx_un0 hu (vx iv dv)).symm
    · split <;> omega
    · rcases ht with ht | ht | ⟨ht, _⟩
      · rw [if_pos ht]; omega
      · exact absurd ht h8
      · rcases ht with ht | ht
        · exact absurd ht c2
        · exact absurd ht c3
theorem gx_simplified {L : gl_L} (h : gl_WF L) (hl : L.1 + 1 < 450) {w a b n d : Int32} (g : gl_ok (gl_wi L) L.1 w a b n d) : ∃ z M, gx_sim L M z w a b n d ∧
    ∀ post : Int32 → SX → Prop, post z (gx_S nc lv fc kd px py vc ip dr na re sl fs so la M) → wpX_simplified post (gx_S nc lv fc kd px py vc ip dr na re sl fs so la L) w a b n d := by
  have hL := h.1
  have hd := gl_ok_wd g
  rcases g with ⟨rfl | rfl, rfl, rfl, _⟩ | ⟨rfl, rfl, rfl, _⟩ | ⟨hw, rfl, x, y, hx, hy, rfl, rfl, hm⟩ | ⟨rfl, rfl, _, x, y, hx, hy, rfl, rfl, hwx, hwy⟩ | ⟨rfl, x, hx, rfl, hu⟩
  · exact ⟨-1, L, Or.inl ⟨rfl, rfl⟩, fun post hp => br_t rfl hp⟩
  · exact ⟨-1, L, Or.inl ⟨rfl, rfl⟩, fun post hp => br_f (by decide) (br_f (by decide) (br_t rfl hp))⟩
  · exact ⟨-1, L, Or.inl ⟨rfl, rfl⟩, fun post hp => br_f (by decide) (br_t rfl hp)⟩
  · obtain ⟨z, M, hs, hc⟩ := gx_combined (nc := nc) (lv := lv) (fc := fc) (kd := kd) (px := px) (py := py) (vc := vc) (ip := ip) (dr := dr) (na := na) (re := re) (sl := sl) (fs := fs) (so := so) (la := la) h hl hx hy hw hm
    refine ⟨z, M, hs, fun post hp => ?_⟩
    rcases hw with rfl | rfl | rfl
    · exact br_f (by decide) (br_f (by decide) (br_f (by decide) (br_t rfl (hc _ hp))))
    · exact br_f (by decide) (br_f (by decide) (br_f (by decide) (br_f (by decide) (br_t rfl (hc _ hp)))))
    · exact br_f (by decide) (br_f (by decide) (br_f (by decide) (br_f (by decide) (br_f (by decide) (br_t rfl (hc _ hp))))))
  · have ecx : (nI x).toNatClampNeg = x := nI_clamp (by omega)
    have ecy : (nI y).toNatClampNeg = y := nI_clamp (by omega)
    obtain ⟨zx, hzx, wzx⟩ := gx_isZero (nc := nc) (lv := lv) (fc := fc) (kd := kd) (px := px) (py := py) (vc := vc) (ip := ip) (dr := dr) (na := na) (re := re) (sl := sl) (fs := fs) (so := so) (la := la) h hx
    obtain ⟨zy, hzy, wzy⟩ := gx_isZero (nc := nc) (lv := lv) (fc := fc) (kd := kd) (px := px) (py := py) (vc := vc) (ip := ip) (dr := dr) (na := na) (re := re) (sl := sl) (fs := fs) (so := so) (la := la) h hy
    obtain ⟨rz, Mz, hz, wz⟩ := gx_zero (nc := nc) (lv := lv) (fc := fc) (kd := kd) (px := px) (py := py) (vc := vc) (ip := ip) (dr := dr) (na := na) (re := re) (sl := sl) (fs := fs) (so := so) (la := la) h hl hd
    have hzK : ∀ om : Int32 → Nat, om 1 + (if d = 0 then 0 else om 8) ≤ om 1 + om 8 := by
      intro om; split <;> omega
    have hzT : gx_thin L 13 (nI x) (nI y) d → ∀ om : Int32 → Nat, om 1 + (if d = 0 then 0 else om 8) ≤ om 1 := by
      intro ht om
      rcases ht with ht | ht | ⟨ht, _⟩
      · rw [if_pos ht]; omega
      · exact absurd ht (by decide)
      · exact absurd ht (by decide)
    rcases hzx with rfl | ⟨rfl, vx⟩
    · rcases hzy with rfl | ⟨rfl, vy⟩
      · exact ⟨-1, L, Or.inl ⟨rfl, rfl⟩, fun post hp => br_f (by decide) (br_f (by decide) (br_f (by decide) (br_f (by decide) (br_f (by decide) (br_f (by decide) (br_t rfl (wzx _ (br_t rfl (wzy _ (br_t rfl hp))))))))))⟩
      · refine ⟨nI rz, Mz, gx_sim_of hz (fun iv dv c _ => ?_) hzK hzT, fun post hp => br_f (by decide) (br_f (by decide) (br_f (by decide) (br_f (by decide) (br_f (by decide) (br_f (by decide) (br_t rfl (wzx _ (br_t rfl (wzy _ (br_f (by decide) (wz _ hp)))))))))))⟩
        rw [gh_ov13, ecy, vy, gh_gate0]
    · refine ⟨nI rz, Mz, gx_sim_of hz (fun iv dv c _ => ?_) hzK hzT, fun post hp => br_f (by decide) (br_f (by decide) (br_f (by decide) (br_f (by decide) (br_f (by decide) (br_f (by decide) (br_t rfl (wzx _ (br_f (by decide) (wz _ hp)))))))))⟩
      rw [gh_ov13, ecx, vx, gh_0gate]
  · by_cases h8 : w = 8
    · subst h8
      exact ⟨-1, L, Or.inl ⟨rfl, rfl⟩, fun post hp => br_f (by decide) (br_f (by decide) (br_f (by decide) (br_f (by decide) (br_f (by decide) (br_f (by decide) (br_f (by decide) (br_t rfl hp)))))))⟩
    · exact gx_simpU h hl hx hu hd h8
theorem gx_make {L : gl_L} (h : gl_WF L) (hl : L.1 + 2 ≤ 450) {w a b n d : Int32} (g : gl_ok (gl_wi L) L.1 w a b n d) : ∃ r M, r < 450 ∧ gx_mk L M r w a b n d ∧
    ∀ post : Int32 → SX → Prop, post (nI r) (gx_S nc lv fc kd px py vc ip dr na re sl fs so la M) → wpX_make post (gx_S nc lv fc kd px py vc ip dr na re sl fs so la L) w a b n d := by
  obtain ⟨r, M, hs, hw⟩ := gx_share (nc := nc) (lv := lv) (fc := fc) (kd := kd) (px := px) (py := py) (vc := vc) (ip := ip) (dr := dr) (na := na) (re := re) (sl := sl) (fs := fs) (so := so) (la := la) h (by omega) g
  have hmk := gx_mk_sh h g hs
  have hr : r < 450 := by have := hmk.2.2.1; have := hmk.2.1.1; omega
  by_cases h0 : lv ≤ 0
  · exact ⟨r, M, hr, hmk, fun post hp => br_t h0 (hw _ hp)⟩
  · obtain ⟨z, N, hz, wz⟩ := gx_simplified (nc := nc) (lv := lv) (fc := fc) (kd := kd) (px := px) (py := py) (vc := vc) (ip := ip) (dr := dr) (na := na) (re := re) (sl := sl) (fs := fs) (so := so) (la := la) h (by omega) g
    rcases hz with ⟨rfl, rfl⟩ | ⟨r', rfl, hr', hm'⟩
    · exact ⟨r, M, hr, hmk, fun post hp => br_f h0 (wz _ (br_t (by decide) (hw _ hp)))⟩
    · exact ⟨r', N, hr', hm', fun post hp => br_f h0 (wz _ (br_f (nI_pos (by omega)) hp))⟩
end
end
section
/-! give: adds to what an operation gets -/
def gb_A (om : Int32 → Nat) : Nat := max (om 2) (om 1)
def gb_U (om : Int32 → Nat) : Nat := max (max (om 5) (om 8)) (om 1)
def gb_B (om : Int32 → Nat) : Nat := max (om 3) (om 1)
def gb_mk (om : Int32 → Nat) (w : Int32) : Nat := max (om w) (om 1 + om 8)
theorem gb_A2 (om : Int32 → Nat) : om 2 ≤ gb_A om := Nat.le_max_left _ _
theorem gb_A1 (om : Int32 → Nat) : om 1 ≤ gb_A om := Nat.le_max_right _ _
theorem gb_U5 (om : Int32 → Nat) : om 5 ≤ gb_U om := by unfold gb_U; omega
theorem gb_U8 (om : Int32 → Nat) : om 8 ≤ gb_U om := by unfold gb_U; omega
theorem gb_U1 (om : Int32 → Nat) : om 1 ≤ gb_U om := by unfold gb_U; omega
theorem gb_B3 (om : Int32 → Nat) : om 3 ≤ gb_B om := Nat.le_max_left _ _
theorem gb_B1 (om : Int32 → Nat) : om 1 ≤ gb_B om := Nat.le_max_right _ _
theorem gb_mkw (om : Int32 → Nat) (w : Int32) : om w ≤ gb_mk om w := Nat.le_max_left _ _
theorem gb_mk8 (om : Int32 → Nat) (w : Int32) : om 1 + om 8 ≤ gb_mk om w := Nat.le_max_right _ _
/-- what an operation has got so far -/
def gb_ac (iv : Nat → gh_T) (dv : Nat → Int32) (L : gl_L) (z : Int32) (c : Nat) : gh_T := if z < 0 then gh_0 else gl_val iv dv L z.toNatClampNeg c
def gb_z (L : gl_L) (z d : Int32) : Prop := z = -1 ∨ ∃ g, g < L.1 ∧ z = nI g ∧ gl_wi L g = d
theorem gb_ac_m1 (iv : Nat → gh_T) (dv : Nat → Int32) (L : gl_L) (c : Nat) : gb_ac iv dv L (-1) c = gh_0 := if_pos (by decide)
theorem gb_ac_n (iv : Nat → gh_T) (dv : Nat → Int32) (L : gl_L) {g : Nat} (h : g < 450) (c : Nat) : gb_ac iv dv L (nI g) c = gl_val iv dv L g c := by
  unfold gb_ac
  rw [if_neg (nI_pos (by omega)), nI_clamp (by omega)]
theorem gb_z_ext {L M : gl_L} (h : gl_ext L M) {z d : Int32} (g : gb_z L z d) : gb_z M z d := by
  rcases g with g | ⟨x, hx, e, hd⟩
  · exact Or.inl g
  · exact Or.inr ⟨x, by have := h.1; omega, e, by rw [(h.2 x hx).2.2.2.2]; exact hd⟩
theorem gb_ac_ext {iv : Nat → gh_T} {dv : Nat → Int32} {L M : gl_L} (hL : L.1 ≤ 450) (h : gl_ext L M) {z d : Int32} (g : gb_z L z d) : gb_ac iv dv M z = gb_ac iv dv L z := by
  funext c
  rcases g with rfl | ⟨x, hx, rfl, hd⟩
  · rw [gb_ac_m1, gb_ac_m1]
  · rw [gb_ac_n iv dv M (by omega), gb_ac_n iv dv L (by omega), gl_val_ext h hx]
theorem gx_ok2 {wi : Nat → Int32} {m x y : Nat} {w d : Int32} (hw : w = 2 ∨ w = 3 ∨ w = 4) (hx : x < m) (hy : y < m) (hm : gl_wm (wi x) (wi y) d) : gl_ok wi m w (nI x) (nI y) 0 d :=
  Or.inr (Or.inr (Or.inl ⟨hw, rfl, x, y, hx, hy, rfl, rfl, hm⟩))
theorem gx_wm_same {x d : Int32} (h : x = 0 ∨ x = 1) (e : x = d) : gl_wm x x d := by
  subst e
  rcases h with rfl | rfl
  · exact Or.inl ⟨rfl, rfl, rfl⟩
  · exact Or.inr (Or.inr (Or.inr ⟨rfl, rfl, rfl⟩))
theorem gx_okU {wi : Nat → Int32} {m x : Nat} {w n d : Int32} (hx : x < m) (hu : gl_un w n (wi x) d) : gl_ok wi m w (nI x) (-1) n d :=
  Or.inr (Or.inr (Or.inr (Or.inr ⟨rfl, x, hx, rfl, hu⟩)))
theorem gx_u5 {x : Int32} (h : x = 1) : gl_un 5 0 x 0 := Or.inl ⟨rfl, rfl, h, rfl⟩
/-- what is given to 'to' when 'what' is handed over: the components are added up for a number -/
def gb_G (iv : Nat → gh_T) (dv : Nat → Int32) (L : gl_L) (to what c : Nat) : gh_T := if gl_wi L to = 0 ∧ gl_wi L what = 1 then gh_s4 (gl_val iv dv L what) else gl_val iv dv L what c
def gb_gv (L M : gl_L) (z : Int32) (to what g : Nat) : Prop :=
  gl_ext L M ∧ gl_WF M ∧ g < M.1 ∧ gl_wi M g = gl_wi L to ∧ (∀ iv dv c, c < 4 → gl_val iv dv M g c = gh_add (gb_ac iv dv L z c) (gb_G iv dv L to what c)) ∧
  (∀ om, gl_ws om M + (if z < 0 then gb_A om else 0) ≤ gl_ws om L + gb_A om + (if gl_wi L to = gl_wi L what then 0 else gb_U om)) ∧ M.1 ≤ L.1 + 4
section
variable {nc lv fc : Int32} {kd px py vc ip dr na re sl fs so la : Nat → Int32}
theorem gb_give59 {L : gl_L} (h : gl_WF L) (hl : L.1 + 2 ≤ 450) {to q : Nat} (ht : to < L.1) (hq : q < L.1) (hw : gl_wi L q = gl_wi L to) (hz : gb_z L (re to) (gl_wi L to)) : ∃ g M,
    (gl_ext L M ∧ gl_WF M ∧ g < M.1 ∧ gl_wi M g = gl_wi L to ∧ (∀ iv dv c, c < 4 → gl_val iv dv M g c = gh_add (gb_ac iv dv L (re to) c) (gl_val iv dv L q c)) ∧
    (∀ om, gl_ws om M + (if re to < 0 then gb_A om else 0) ≤ gl_ws om L + gb_A om) ∧ M.1 ≤ L.1 + 2) ∧
    ∀ post : SX → Prop, post (gx_S nc lv fc kd px py vc ip dr na (upd re to (nI g)) sl fs so la M) → wX_give_59 post (nI to) (nI q) nc lv (nI L.1) fc kd px py vc ip dr (gl_op L) (gl_fi L) (gl_se L) (gl_nu L) (gl_wi L) na re sl fs so la := by
  have hL := h.1
  have hi : vp_in (nI to) 450 := vp_in_nI (by omega) (by omega)
  have ec : (nI to).toNatClampNeg = to := nI_clamp (by omega)
  rcases hz with ez | ⟨g0, hg0, ez, hg⟩
  · refine ⟨q, L, ⟨gl_ext_rf L, h, hq, hw, fun iv dv c _ => ?_, fun om => ?_, by omega⟩, fun post hp => And.intro hi (br_t (by rw [ec, ez]; decide) (And.intro hi (nm_r (e' := upd re to (nI q)) (by rw [ec, gx_n16 (by omega)]) hp)))⟩
    · rw [ez, gb_ac_m1, gh_0add]
    · split <;> omega
  · obtain ⟨r, M, hr, hm, hwk⟩ := gx_make (nc := nc) (lv := lv) (fc := fc) (kd := kd) (px := px) (py := py) (vc := vc) (ip := ip) (dr := dr) (na := na) (re := re) (sl := sl) (fs := fs) (so := so) (la := la) h hl (gx_ok2 (d := gl_wi L to) (Or.inl rfl) hg0 hq (by rw [hg, hw]; exact gx_wm_same (gl_wd h ht) rfl))
    obtain ⟨m1, m2, m3, m4, m5, m6, m7⟩ := hm
    have eg : (nI g0).toNatClampNeg = g0 := nI_clamp (by omega)
    have eq' : (nI q).toNatClampNeg = q := nI_clamp (by omega)
    refine ⟨r, M, ⟨m1, m2, m3, m4, fun iv dv c hc => ?_, fun om => ?_, ?_⟩, fun post hp => And.intro hi (br_f (by rw [ec, ez]; exact nI_pos (by omega)) (And.intro hi (And.intro hi ?_)))⟩
    · rw [m5 iv dv c hc, gh_ov2, ez, gb_ac_n iv dv L (by omega), eg, eq']
    · rw [ez, if_neg (nI_pos (by omega))]
      have := m7 (Or.inr (Or.inr ⟨Or.inl rfl, by rw [eg]; exact hg, by rw [eq']; exact hw⟩)) om (gb_A om) (gb_A2 om) (gb_A1 om)
      omega
    · have := m6 (fun _ => 1) 2 (by decide) (by decide)
      rw [gl_ws1, gl_ws1] at this
      exact this
    · rw [ec, ez]
      exact hwk _ (And.intro hi (nm_r (e' := upd re to (nI r)) (by rw [gx_n16 hr]) hp))
theorem gb_give {L : gl_L} (h : gl_WF L) (hl : L.1 + 4 ≤ 450) {to q : Nat} (ht : to < L.1) (hq : q < L.1) (hz : gb_z L (re to) (gl_wi L to)) : ∃ g M, gb_gv L M (re to) to q g ∧
    ∀ post : SX → Prop, post (gx_S nc lv fc kd px py vc ip dr na (upd re to (nI g)) sl fs so la M) → wpX_give post (gx_S nc lv fc kd px py vc ip dr na re sl fs so la L) (nI to) (nI q) := by
  have hL := h.1
  have hit : vp_in (nI to) 450 := vp_in_nI (by omega) (by omega)
  have ect : (nI to).toNatClampNeg = to := nI_clamp (by omega)
  have hiq : vp_in (nI q) 450 := vp_in_nI (by omega) (by omega)
  have ecq : (nI q).toNatClampNeg = q := nI_clamp (by omega)
  by_cases h0 : gl_wi L to = 0
  · by_cases q0 : gl_wi L q = 0
    · obtain ⟨g, M, ⟨m1, m2, m3, m4, m5, m6, m7⟩, hw⟩ := gb_give59 (nc := nc) (lv := lv) (fc := fc) (kd := kd) (px := px) (py := py) (vc := vc) (ip := ip) (dr := dr) (na := na) (re := re) (sl := sl) (fs := fs) (so := so) (la := la) h (by omega) ht hq (q0.trans h0.symm) hz
      refine ⟨g, M, ⟨m1, m2, m3, m4, fun iv dv c hc => ?_, fun om => ?_, by omega⟩, fun post hp => And.intro hit (br_t (by rw [ect]; exact h0) (And.intro hit (br_t (by rw [ect]; exact h0) (And.intro hiq (br_t (by rw [ecq]; exact q0) (hw post hp))))))⟩
      · rw [m5 iv dv c hc, gb_G, if_neg (fun z => absurd (q0.symm.trans z.2) (by decide))]
      · have := m6 om; omega
    · have q1 : gl_wi L q = 1 := (gl_wd h hq).resolve_left q0
      obtain ⟨r, M, hr, ⟨k1, k2, k3, k4, k5, k6, k7⟩, hwk⟩ := gx_make (nc := nc) (lv := lv) (fc := fc) (kd := kd) (px := px) (py := py) (vc := vc) (ip := ip) (dr := dr) (na := na) (re := re) (sl := sl) (fs := fs) (so := so) (la := la) h (by omega) (gx_okU hq (gx_u5 q1))
      have kl : M.1 ≤ L.1 + 2 := by
        have := k6 (fun _ => 1) 2 (by decide) (by decide)
        rw [gl_ws1, gl_ws1] at this
        exact this
      have hwt : gl_wi M to = gl_wi L to := (k1.2 to ht).2.2.2.2
      obtain ⟨g, N, ⟨m1, m2, m3, m4, m5, m6, m7⟩, hw⟩ := gb_give59 (nc := nc) (lv := lv) (fc := fc) (kd := kd) (px := px) (py := py) (vc := vc) (ip := ip) (dr := dr) (na := na) (re := re) (sl := sl) (fs := fs) (so := so) (la := la) k2 (by omega) (by have := k1.1; omega) k3 (k4.trans (h0.symm.trans hwt.symm)) (by rw [hwt]; exact gb_z_ext k1 hz)
      refine ⟨g, N, ⟨gl_ext_tr k1 m1, m2, m3, m4.trans hwt, fun iv dv c hc => ?_, fun om => ?_, by omega⟩, fun post hp => And.intro hit (br_t (by rw [ect]; exact h0) (And.intro hit (br_t (by rw [ect]; exact h0) (And.intro hiq (br_f (by rw [ecq]; exact q0) (hwk _ (hw post hp)))))))⟩
      · rw [m5 iv dv c hc, k5 iv dv c hc, gh_ov5, ecq, gb_ac_ext hL k1 hz, gb_G, if_pos ⟨h0, q1⟩]
      · have a1 := m6 om
        have a2 := k7 (Or.inl rfl) om (gb_U om) (gb_U5 om) (gb_U1 om)
        rw [if_neg (show ¬ gl_wi L to = gl_wi L q from by rw [h0, q1]; decide)]
        omega
  · have t1 : gl_wi L to = 1 := (gl_wd h ht).resolve_left h0
    by_cases q0 : gl_wi L q = 0
    · obtain ⟨r, M, hr, ⟨k1, k2, k3, k4, k5, k6, k7⟩, hwk⟩ := gx_make (nc := nc) (lv := lv) (fc := fc) (kd := kd) (px := px) (py := py) (vc := vc) (ip := ip) (dr := dr) (na := na) (re := re) (sl := sl) (fs := fs) (so := so) (la := la) h (by omega) (gx_ok8 hq q0)
      have kl : M.1 ≤ L.1 + 2 := by
        have := k6 (fun _ => 1) 2 (by decide) (by decide)
        rw [gl_ws1, gl_ws1] at this
        exact this
      have hwt : gl_wi M to = gl_wi L to := (k1.2 to ht).2.2.2.2
      obtain ⟨g, N, ⟨m1, m2, m3, m4, m5, m6, m7⟩, hw⟩ := gb_give59 (nc := nc) (lv := lv) (fc := fc) (kd := kd) (px := px) (py := py) (vc := vc) (ip := ip) (dr := dr) (na := na) (re := re) (sl := sl) (fs := fs) (so := so) (la := la) k2 (by omega) (by have := k1.1; omega) k3 (k4.trans (t1.symm.trans hwt.symm)) (by rw [hwt]; exact gb_z_ext k1 hz)
      refine ⟨g, N, ⟨gl_ext_tr k1 m1, m2, m3, m4.trans hwt, fun iv dv c hc => ?_, fun om => ?_, by omega⟩, fun post hp => And.intro hit (br_f (by rw [ect]; exact h0) (And.intro hiq (br_t (by rw [ecq]; exact q0) (hwk _ (And.intro hit (br_f (by rw [ect, hwt]; exact h0) (hw post hp)))))))⟩
      · rw [m5 iv dv c hc, k5 iv dv c hc, gh_ov8, ecq, gb_ac_ext hL k1 hz, gb_G, if_neg (fun z => absurd (t1.symm.trans z.1) (by decide))]
      · have a1 := m6 om
        have a2 := k7 (Or.inr (Or.inl rfl)) om (gb_U om) (gb_U8 om) (gb_U1 om)
        rw [if_neg (show ¬ gl_wi L to = gl_wi L q from by rw [t1, q0]; decide)]
        omega
    · have q1 : gl_wi L q = 1 := (gl_wd h hq).resolve_left q0
      obtain ⟨g, M, ⟨m1, m2, m3, m4, m5, m6, m7⟩, hw⟩ := gb_give59 (nc := nc) (lv := lv) (fc := fc) (kd := kd) (px := px) (py := py) (vc := vc) (ip := ip) (dr := dr) (na := na) (re := re) (sl := sl) (fs := fs) (so := so) (la := la) h (by omega) ht hq (q1.trans t1.symm) hz
      refine ⟨g, M, ⟨m1, m2, m3, m4, fun iv dv c hc => ?_, fun om => ?_, by omega⟩, fun post hp => And.intro hit (br_f (by rw [ect]; exact h0) (And.intro hiq (br_f (by rw [ecq]; exact q0) (And.intro hit (br_f (by rw [ect]; exact h0) (hw post hp))))))⟩
      · rw [m5 iv dv c hc, gb_G, if_neg (fun z => absurd (t1.symm.trans z.1) (by decide))]
      · have := m6 om; omega
end
end
section
/-! the sums of a backward pass: what has been got, paired with the changes; the pending places -/
def gb_pp (k : Bool) (d : Int32) (v t : Nat → gh_T) : Int32 := if d = 0 then gh_pr k (v 0) (t 0) else gh_pr k (v 0) (t 0) + gh_pr k (v 1) (t 1) + gh_pr k (v 2) (t 2) + gh_pr k (v 3) (t 3)
theorem gb_pp0 (k : Bool) (v t : Nat → gh_T) : gb_pp k 0 v t = gh_pr k (v 0) (t 0) := if_pos rfl
theorem gb_pp1 (k : Bool) (v t : Nat → gh_T) : gb_pp k 1 v t = gh_pr k (v 0) (t 0) + gh_pr k (v 1) (t 1) + gh_pr k (v 2) (t 2) + gh_pr k (v 3) (t 3) := if_neg (by decide)
theorem gb_pp_congr {k : Bool} {d : Int32} {v w t : Nat → gh_T} (h : ∀ c, c < 4 → v c = w c) : gb_pp k d v t = gb_pp k d w t := by
  unfold gb_pp
  rw [h 0 (by omega), h 1 (by omega), h 2 (by omega), h 3 (by omega)]
theorem gb_pp_add (k : Bool) (d : Int32) (v w t : Nat → gh_T) : gb_pp k d (fun c => gh_add (v c) (w c)) t = gb_pp k d v t + gb_pp k d w t := by
  unfold gb_pp
  split
  · exact gh_pr_add _ _ _ _
  · simp only [gh_pr_add]; grind
def gb_S (k : Bool) (iv : Nat → gh_T) (dv : Nat → Int32) (L : gl_L) (re : Nat → Int32) : Nat → Int32
  | 0 => 0
  | m + 1 => gb_S k iv dv L re m + gb_pp k (gl_wi L m) (gb_ac iv dv L (re m)) (gl_val iv dv L m)
def gb_I (k : Bool) (iv : Nat → gh_T) (dv : Nat → Int32) (L : gl_L) (sl : Nat → Int32) : Int32 :=
  gb_pp k 1 (gb_ac iv dv L (sl 0)) iv + gb_pp k 1 (gb_ac iv dv L (sl 1)) (fun c => iv (4 + c)) + gb_pp k 1 (gb_ac iv dv L (sl 2)) (fun c => iv (8 + c))
def gb_ok (L : gl_L) (re : Nat → Int32) (m : Nat) : Prop := ∀ j, j < m → gb_z L (re j) (gl_wi L j)
def gb_oks (L : gl_L) (sl : Nat → Int32) : Prop := ∀ q, q < 3 → gb_z L (sl q) 1
def gb_pd (A : Nat) (re : Nat → Int32) (m : Nat) : Nat := gl_sum (fun j => if re j < 0 then 0 else A) m
theorem gb_ok_ext {L M : gl_L} (h : gl_ext L M) {re : Nat → Int32} {m : Nat} (hm : m ≤ L.1) (g : gb_ok L re m) : gb_ok M re m := by
  intro j hj
  rw [(h.2 j (by omega)).2.2.2.2]
  exact gb_z_ext h (g j hj)
theorem gb_oks_ext {L M : gl_L} (h : gl_ext L M) {sl : Nat → Int32} (g : gb_oks L sl) : gb_oks M sl := fun q hq => gb_z_ext h (g q hq)
theorem gb_S_ext {k : Bool} {iv : Nat → gh_T} {dv : Nat → Int32} {L M : gl_L} (hL : L.1 ≤ 450) (h : gl_ext L M) {re : Nat → Int32} : ∀ m, m ≤ L.1 → gb_ok L re m → gb_S k iv dv M re m = gb_S k iv dv L re m := by
  intro m
  induction m with
  | zero => intro _ _; rfl
  | succ m ih =>
    intro hm g
    show _ + _ = _ + _
    rw [ih (by omega) (fun j hj => g j (by omega)), (h.2 m (by omega)).2.2.2.2, gl_val_ext h (by omega), gb_ac_ext hL h (g m (by omega))]
theorem gb_I_ext {k : Bool} {iv : Nat → gh_T} {dv : Nat → Int32} {L M : gl_L} (hL : L.1 ≤ 450) (h : gl_ext L M) {sl : Nat → Int32} (g : gb_oks L sl) : gb_I k iv dv M sl = gb_I k iv dv L sl := by
  unfold gb_I
  rw [gb_ac_ext hL h (g 0 (by omega)), gb_ac_ext hL h (g 1 (by omega)), gb_ac_ext hL h (g 2 (by omega))]
theorem gb_S_congr {k : Bool} {iv : Nat → gh_T} {dv : Nat → Int32} {L : gl_L} {re rf : Nat → Int32} : ∀ m, (∀ j, j < m → rf j = re j) → gb_S k iv dv L rf m = gb_S k iv dv L re m := by
  intro m
  induction m with
  | zero => intro _; rfl
  | succ m ih =>
    intro h
    show _ + _ = _ + _
    rw [ih (fun j hj => h j (by omega)), h m (by omega)]
theorem gb_S_upd {k : Bool} {iv : Nat → gh_T} {dv : Nat → Int32} {L : gl_L} {re : Nat → Int32} {to : Nat} {z : Int32} : ∀ m, to < m →
    gb_S k iv dv L (upd re to z) m = gb_S k iv dv L re m + (gb_pp k (gl_wi L to) (gb_ac iv dv L z) (gl_val iv dv L to) - gb_pp k (gl_wi L to) (gb_ac iv dv L (re to)) (gl_val iv dv L to)) := by
  intro m
  induction m with
  | zero => intro h; omega
  | succ m ih =>
    intro h
    show gb_S k iv dv L (upd re to z) m + _ = gb_S k iv dv L re m + _ + _
    by_cases e : to = m
    · subst e
      rw [gb_S_congr to (fun j hj => pk_un (by omega)), pk_us]
      grind
    · rw [ih (by omega), pk_un (by omega)]
      grind
theorem gb_pd_congr {A : Nat} {re rf : Nat → Int32} {m : Nat} (h : ∀ j, j < m → rf j = re j) : gb_pd A rf m = gb_pd A re m :=
  gl_sum_congr m (fun j hj => by rw [h j hj])
theorem gb_pd_upd {A : Nat} {re : Nat → Int32} {to : Nat} {z : Int32} (hz : ¬ z < 0) : ∀ m, to < m → gb_pd A (upd re to z) m = gb_pd A re m + (if re to < 0 then A else 0) := by
  intro m
  induction m with
  | zero => intro h; omega
  | succ m ih =>
    intro h
    show gb_pd A (upd re to z) m + (if upd re to z m < 0 then 0 else A) = gb_pd A re m + (if re m < 0 then 0 else A) + _
    by_cases e : to = m
    · subst e
      rw [gb_pd_congr (re := re) (fun j hj => pk_un (by omega)), pk_us, if_neg hz]
      split <;> omega
    · rw [ih (by omega), pk_un (by omega)]
      omega
def gb_Q (k : Bool) (iv : Nat → gh_T) (dv : Nat → Int32) (L : gl_L) (q to : Nat) : Int32 :=
  if gl_wi L to = 0 ∧ gl_wi L q = 0 then gh_pr k (gl_val iv dv L q 0) (gl_val iv dv L to 0) else gb_pp k 1 (gl_val iv dv L q) (gl_val iv dv L to)
theorem gb_Q_ext {k : Bool} {iv : Nat → gh_T} {dv : Nat → Int32} {L M : gl_L} (h : gl_ext L M) {q to : Nat} (hq : q < L.1) (ht : to < L.1) : gb_Q k iv dv M q to = gb_Q k iv dv L q to := by
  unfold gb_Q
  rw [(h.2 q hq).2.2.2.2, (h.2 to ht).2.2.2.2, gl_val_ext h hq, gl_val_ext h ht]
theorem gb_QG {k : Bool} {iv : Nat → gh_T} {dv : Nat → Int32} {L : gl_L} (h : gl_WF L) {q to : Nat} (hq : q < L.1) (ht : to < L.1) : gb_pp k (gl_wi L to) (gb_G iv dv L to q) (gl_val iv dv L to) = gb_Q k iv dv L q to := by
  unfold gb_Q
  rcases gl_wd h ht with t0 | t1
  · rw [t0, gb_pp0, gb_G]
    rcases gl_wd h hq with q0 | q1
    · rw [if_neg (fun z => absurd (q0.symm.trans z.2) (by decide)), if_pos ⟨rfl, q0⟩]
    · rw [if_pos ⟨t0, q1⟩, if_neg (fun z => absurd (q1.symm.trans z.2) (by decide)), gb_pp1, gh_s4, gh_pr_add, gh_pr_add, gh_pr_add, gl_nr h ht t0 1, gl_nr h ht t0 2, gl_nr h ht t0 3]
  · rw [t1, if_neg (fun z => absurd z.1 (by decide))]
    apply gb_pp_congr
    intro c _
    unfold gb_G
    rw [if_neg (fun z => absurd (t1.symm.trans z.1) (by decide))]
/-- a piece of a backward pass -/
def gb_po (L M : gl_L) (re rf sl sm : Nat → Int32) (m : Nat) (X : Bool → (Nat → gh_T) → (Nat → Int32) → Int32) (K : (Int32 → Nat) → Nat) (l : Nat) : Prop :=
  gl_ext L M ∧ gl_WF M ∧ gb_ok M rf m ∧ gb_oks M sm ∧ (∀ k iv dv, gb_S k iv dv M rf m + gb_I k iv dv M sm = gb_S k iv dv L re m + gb_I k iv dv L sl + X k iv dv) ∧
  (∀ om, gl_ws om M + gb_pd (gb_A om) rf m ≤ gl_ws om L + gb_pd (gb_A om) re m + K om) ∧ M.1 ≤ L.1 + l
theorem gb_po_tr {L M N : gl_L} {re rf rg sl sm sn : Nat → Int32} {m l l' : Nat} {X X' : Bool → (Nat → gh_T) → (Nat → Int32) → Int32} {K K' : (Int32 → Nat) → Nat}
    (h : gb_po L M re rf sl sm m X K l) (g : gb_po M N rf rg sm sn m X' K' l') : gb_po L N re rg sl sn m (fun k iv dv => X k iv dv + X' k iv dv) (fun om => K om + K' om) (l + l') := by
  obtain ⟨h1, h2, h3, h4, h5, h6, h7⟩ := h
  obtain ⟨g1, g2, g3, g4, g5, g6, g7⟩ := g
  refine ⟨gl_ext_tr h1 g1, g2, g3, g4, fun k iv dv => ?_, fun om => ?_, by omega⟩
  · rw [g5, h5]; grind
  · have := h6 om
    have := g6 om
    dsimp only
    omega
theorem gb_po_imp {L M : gl_L} {re rf sl sm : Nat → Int32} {m l l' : Nat} {X X' : Bool → (Nat → gh_T) → (Nat → Int32) → Int32} {K K' : (Int32 → Nat) → Nat}
    (h : gb_po L M re rf sl sm m X K l) (hX : ∀ k iv dv, X k iv dv = X' k iv dv) (hK : ∀ om, K om ≤ K' om) (hl : l ≤ l') : gb_po L M re rf sl sm m X' K' l' := by
  obtain ⟨h1, h2, h3, h4, h5, h6, h7⟩ := h
  refine ⟨h1, h2, h3, h4, fun k iv dv => ?_, fun om => ?_, by omega⟩
  · rw [h5, hX]
  · have := h6 om
    have := hK om
    omega
theorem gb_po_ext {L M : gl_L} (hL : L.1 ≤ 450) (h1 : gl_ext L M) (h2 : gl_WF M) {re sl : Nat → Int32} {m l : Nat} (hm : m ≤ L.1) (hr : gb_ok L re m) (hs : gb_oks L sl) {K : (Int32 → Nat) → Nat} (hK : ∀ om, gl_ws om M ≤ gl_ws om L + K om) (hl : M.1 ≤ L.1 + l) :
    gb_po L M re re sl sl m (fun _ _ _ => 0) K l := by
  refine ⟨h1, h2, gb_ok_ext h1 hm hr, gb_oks_ext h1 hs, fun k iv dv => ?_, fun om => ?_, hl⟩
  · rw [gb_S_ext hL h1 m hm hr, gb_I_ext hL h1 hs]
    exact (Int32.add_zero _).symm
  · have := hK om; omega
theorem gb_po_mk {L M : gl_L} (hL : L.1 ≤ 450) {r : Nat} {w a b n d : Int32} (h : gx_mk L M r w a b n d) {re sl : Nat → Int32} {m : Nat} (hm : m ≤ L.1) (hr : gb_ok L re m) (hs : gb_oks L sl) :
    gb_po L M re re sl sl m (fun _ _ _ => 0) (fun om => gb_mk om w) 2 :=
  gb_po_ext hL h.1 h.2.1 hm hr hs (fun om => h.2.2.2.2.2.1 om _ (gb_mkw om w) (gb_mk8 om w)) (gx_mk_len h)
theorem gb_po_gv {L M : gl_L} (h : gl_WF L) {re sl : Nat → Int32} {to q g m : Nat} (hq : q < L.1) (hg : gb_gv L M (re to) to q g) (hm : m ≤ L.1) (ht : to < m) (hr : gb_ok L re m) (hs : gb_oks L sl) :
    gb_po L M re (upd re to (nI g)) sl sl m (fun k iv dv => gb_Q k iv dv L q to) (fun om => gb_A om + (if gl_wi L to = gl_wi L q then 0 else gb_U om)) 4 := by
  have hL := h.1
  obtain ⟨h1, h2, h3, h4, h5, h6, h7⟩ := hg
  have hM := h2.1
  have hwt : gl_wi M to = gl_wi L to := (h1.2 to (by omega)).2.2.2.2
  refine ⟨h1, h2, fun j hj => ?_, gb_oks_ext h1 hs, fun k iv dv => ?_, fun om => ?_, h7⟩
  · by_cases e : j = to
    · subst e
      rw [pk_us]
      exact Or.inr ⟨g, h3, rfl, h4.trans hwt.symm⟩
    · rw [pk_un e]
      exact gb_ok_ext h1 hm hr j hj
  · rw [gb_S_upd m ht, gb_S_ext hL h1 m hm hr, gb_I_ext hL h1 hs, gb_ac_ext hL h1 (hr to ht), hwt, gl_val_ext h1 (by omega)]
    have e1 : gb_pp k (gl_wi L to) (gb_ac iv dv M (nI g)) (gl_val iv dv L to) = gb_pp k (gl_wi L to) (gb_ac iv dv L (re to)) (gl_val iv dv L to) + gb_Q k iv dv L q to := by
      rw [gb_pp_congr (w := fun c => gh_add (gb_ac iv dv L (re to) c) (gb_G iv dv L to q c)) (fun c hc => by rw [gb_ac_n iv dv M (by omega), h5 iv dv c hc]), gb_pp_add, gb_QG h hq (by omega)]
    rw [e1]
    grind
  · rw [gb_pd_upd (nI_pos (by omega)) m ht]
    have := h6 om
    dsimp only
    omega
section
variable {nc lv fc : Int32} {kd px py vc ip dr na re sl fs so la : Nat → Int32}
theorem gb_giveP {L : gl_L} (h : gl_WF L) (hl : L.1 + 4 ≤ 450) {to q m : Nat} (hq : q < L.1) (hm : m ≤ L.1) (ht : to < m) (hr : gb_ok L re m) (hs : gb_oks L sl) : ∃ M rf,
    gb_po L M re rf sl sl m (fun k iv dv => gb_Q k iv dv L q to) (fun om => gb_A om + (if gl_wi L to = gl_wi L q then 0 else gb_U om)) 4 ∧
    ∀ post : SX → Prop, post (gx_S nc lv fc kd px py vc ip dr na rf sl fs so la M) → wpX_give post (gx_S nc lv fc kd px py vc ip dr na re sl fs so la L) (nI to) (nI q) := by
  obtain ⟨g, M, hg, hw⟩ := gb_give (nc := nc) (lv := lv) (fc := fc) (kd := kd) (px := px) (py := py) (vc := vc) (ip := ip) (dr := dr) (na := na) (re := re) (sl := sl) (fs := fs) (so := so) (la := la) h hl (by omega) hq (hr to ht)
  exact ⟨M, _, gb_po_gv h hq hg hm ht hr hs, hw⟩
end
end
section
/-! what each kind of operation owes its parts: the sums agree -/
def gb_C (om : Int32 → Nat) (w : Int32) : Nat :=
  if w = 0 then gb_A om
  else if w = 1 then 0
  else if w = 2 then 2 * gb_A om + gb_U om
  else if w = 3 then 2 * gb_A om + gb_U om + (om 1 + om 8) + gb_B om
  else if w = 4 then 2 * gb_A om + gb_U om + 2 * gb_mk om 4
  else if w = 5 then gb_A om + gb_U om
  else if w = 6 then gb_A om + gb_mk om 6
  else if w = 7 then gb_A om + gb_mk om 12
  else if w = 8 then gb_A om + gb_U om
  else if w = 10 then gb_A om + gb_mk om 14
  else if w = 11 then 0
  else if w = 12 then gb_A om + gb_mk om 7
  else if w = 13 then gb_A om + gb_mk om 13
  else gb_A om + gb_mk om 10
section
variable (om : Int32 → Nat)
theorem gb_C0 : gb_C om 0 = gb_A om := by simp [gb_C]
theorem gb_C2 : gb_C om 2 = 2 * gb_A om + gb_U om := by simp [gb_C]
theorem gb_C3 : gb_C om 3 = 2 * gb_A om + gb_U om + (om 1 + om 8) + gb_B om := by simp [gb_C]
theorem gb_C4 : gb_C om 4 = 2 * gb_A om + gb_U om + 2 * gb_mk om 4 := by simp [gb_C]
theorem gb_C5 : gb_C om 5 = gb_A om + gb_U om := by simp [gb_C]
theorem gb_C6 : gb_C om 6 = gb_A om + gb_mk om 6 := by simp [gb_C]
theorem gb_C7 : gb_C om 7 = gb_A om + gb_mk om 12 := by simp [gb_C]
theorem gb_C8 : gb_C om 8 = gb_A om + gb_U om := by simp [gb_C]
theorem gb_C10 : gb_C om 10 = gb_A om + gb_mk om 14 := by simp [gb_C]
theorem gb_C12 : gb_C om 12 = gb_A om + gb_mk om 7 := by simp [gb_C]
theorem gb_C13 : gb_C om 13 = gb_A om + gb_mk om 13 := by simp [gb_C]
theorem gb_C14 : gb_C om 14 = gb_A om + gb_mk om 10 := by simp [gb_C]
end
/-- Q over plain functions -/
def gb_q (k : Bool) (wq wt : Int32) (v t : Nat → gh_T) : Int32 := if wt = 0 ∧ wq = 0 then gh_pr k (v 0) (t 0) else gb_pp k 1 v t
theorem gb_q00 (k : Bool) (v t : Nat → gh_T) : gb_q k 0 0 v t = gh_pr k (v 0) (t 0) := if_pos ⟨rfl, rfl⟩
theorem gb_q1 {wq wt : Int32} (h : wq = 1 ∨ wt = 1) (k : Bool) (v t : Nat → gh_T) : gb_q k wq wt v t = gb_pp k 1 v t := by
  unfold gb_q
  refine if_neg (fun z => ?_)
  rcases h with h | h
  · exact absurd (h.symm.trans z.2) (by decide)
  · exact absurd (h.symm.trans z.1) (by decide)
theorem gb_Qq (k : Bool) (iv : Nat → gh_T) (dv : Nat → Int32) (L : gl_L) (q to : Nat) : gb_Q k iv dv L q to = gb_q k (gl_wi L q) (gl_wi L to) (gl_val iv dv L q) (gl_val iv dv L to) := rfl
theorem gb_q_congr {k : Bool} {wq wt : Int32} {v v' t : Nat → gh_T} (h : ∀ c, c < 4 → v c = v' c) : gb_q k wq wt v t = gb_q k wq wt v' t := by
  unfold gb_q
  rw [h 0 (by omega), gb_pp_congr h]
theorem gb_pp_t {k : Bool} {d : Int32} {v s t : Nat → gh_T} (h : ∀ c, c < 4 → s c = t c) : gb_pp k d v s = gb_pp k d v t := by
  unfold gb_pp
  rw [h 0 (by omega), h 1 (by omega), h 2 (by omega), h 3 (by omega)]
section
variable {k : Bool} {g x y : Nat → gh_T}
theorem gb_e2 {wx wy d : Int32} (hm : gl_wm wx wy d) : gb_q k d wx g x + gb_q k d wy g y = gb_pp k d g (fun c => gh_add (x c) (y c)) := by
  rcases hm with ⟨rfl, rfl, rfl⟩ | ⟨rfl, rfl, rfl⟩ | ⟨rfl, rfl, rfl⟩ | ⟨rfl, rfl, rfl⟩
  · rw [gb_q00, gb_q00, gb_pp0, gh_pr_tadd]
  all_goals
    rw [gb_q1 (Or.inl rfl), gb_q1 (Or.inl rfl), gb_pp1, gb_pp1, gb_pp1]
    simp only [gh_pr_tadd]
    grind
theorem gb_e3 {wx wy d : Int32} (hm : gl_wm wx wy d) : gb_q k d wx g x + gb_q k d wy (fun c => gh_sub gh_0 (g c)) y = gb_pp k d g (fun c => gh_sub (x c) (y c)) := by
  rcases hm with ⟨rfl, rfl, rfl⟩ | ⟨rfl, rfl, rfl⟩ | ⟨rfl, rfl, rfl⟩ | ⟨rfl, rfl, rfl⟩
  · rw [gb_q00, gb_q00, gb_pp0, gh_pr_sub]
  all_goals
    rw [gb_q1 (Or.inl rfl), gb_q1 (Or.inl rfl), gb_pp1, gb_pp1, gb_pp1]
    simp only [gh_pr_sub]
    grind
theorem gb_e4 {wx wy d : Int32} (hm : gl_wm wx wy d) : gb_q k d wx (fun c => gh_mul (g c) (y c)) x + gb_q k d wy (fun c => gh_mul (g c) (x c)) y = gb_pp k d g (fun c => gh_mul (x c) (y c)) := by
  rcases hm with ⟨rfl, rfl, rfl⟩ | ⟨rfl, rfl, rfl⟩ | ⟨rfl, rfl, rfl⟩ | ⟨rfl, rfl, rfl⟩
  · rw [gb_q00, gb_q00, gb_pp0, gh_pr_mul]
  all_goals
    rw [gb_q1 (Or.inl rfl), gb_q1 (Or.inl rfl), gb_pp1, gb_pp1, gb_pp1]
    simp only [gh_pr_mul]
    grind
theorem gb_e13 {d : Int32} (hd : d = 0 ∨ d = 1) : gb_q k d d (fun c => gh_gate (x c) (g c)) y = gb_pp k d g (fun c => gh_gate (x c) (y c)) := by
  rcases hd with rfl | rfl
  · rw [gb_q00, gb_pp0, gh_pr_gate]
  · rw [gb_q1 (Or.inl rfl), gb_pp1, gb_pp1]
    simp only [gh_pr_gate]
theorem gb_e5 (hg : ∀ c, g c = g 0) : gb_q k 0 1 g x = gb_pp k 0 g (fun _ => gh_s4 x) := by
  rw [gb_q1 (Or.inr rfl), gb_pp0, gb_pp1, hg 1, hg 2, hg 3, gh_s4, gh_pr_tadd, gh_pr_tadd, gh_pr_tadd]
theorem gb_e8 : gb_q k 1 0 g x = gb_pp k 1 g x := gb_q1 (Or.inl rfl) _ _ _
theorem gb_e6 {t : Nat} (h1 : 1 ≤ t) (h3 : t ≤ 3) : gb_q k 1 1 (fun c => g ((c + (4 - t)) % 4)) x = gb_pp k 1 g (fun c => x ((c + t) % 4)) := by
  rw [gb_q1 (Or.inl rfl), gb_pp1, gb_pp1]
  have ht : t = 1 ∨ t = 2 ∨ t = 3 := by omega
  rcases ht with rfl | rfl | rfl
  · show gh_pr k (g 3) (x 0) + gh_pr k (g 0) (x 1) + gh_pr k (g 1) (x 2) + gh_pr k (g 2) (x 3) = gh_pr k (g 0) (x 1) + gh_pr k (g 1) (x 2) + gh_pr k (g 2) (x 3) + gh_pr k (g 3) (x 0)
    grind
  · show gh_pr k (g 2) (x 0) + gh_pr k (g 3) (x 1) + gh_pr k (g 0) (x 2) + gh_pr k (g 1) (x 3) = gh_pr k (g 0) (x 2) + gh_pr k (g 1) (x 3) + gh_pr k (g 2) (x 0) + gh_pr k (g 3) (x 1)
    grind
  · show gh_pr k (g 1) (x 0) + gh_pr k (g 2) (x 1) + gh_pr k (g 3) (x 2) + gh_pr k (g 0) (x 3) = gh_pr k (g 0) (x 3) + gh_pr k (g 1) (x 0) + gh_pr k (g 2) (x 1) + gh_pr k (g 3) (x 2)
    grind
theorem gb_e7 {t : Nat} (h : t < 4) : gb_q k 1 1 (fun c => if c = t then g 0 else gh_0) x = gb_pp k 0 g (fun _ => x t) := by
  rw [gb_q1 (Or.inl rfl), gb_pp1, gb_pp0]
  have ht : t = 0 ∨ t = 1 ∨ t = 2 ∨ t = 3 := by omega
  rcases ht with rfl | rfl | rfl | rfl <;> simp [gh_pr_0]
theorem gb_e12 {t : Nat} (h : t < 4) : gb_q k 0 0 (fun _ => g t) x = gb_pp k 1 g (fun c => if c = t then x 0 else gh_0) := by
  rw [gb_q00, gb_pp1]
  have ht : t = 0 ∨ t = 1 ∨ t = 2 ∨ t = 3 := by omega
  rcases ht with rfl | rfl | rfl | rfl <;> simp [gh_pr_t0]
theorem gb_e10 : gb_q k 1 1 (gh_suf g) x = gb_pp k 1 g (gh_pre x) := by
  rw [gb_q1 (Or.inl rfl), gb_pp1, gb_pp1]
  show gh_pr k (gh_add (gh_add (gh_add (g 3) (g 2)) (g 1)) (g 0)) (x 0) + gh_pr k (gh_add (gh_add (g 3) (g 2)) (g 1)) (x 1) + gh_pr k (gh_add (g 3) (g 2)) (x 2) + gh_pr k (g 3) (x 3)
    = gh_pr k (g 0) (x 0) + gh_pr k (g 1) (gh_add (x 0) (x 1)) + gh_pr k (g 2) (gh_add (gh_add (x 0) (x 1)) (x 2)) + gh_pr k (g 3) (gh_add (gh_add (gh_add (x 0) (x 1)) (x 2)) (x 3))
  simp only [gh_pr_add, gh_pr_tadd]
  grind
theorem gb_e14 : gb_q k 1 1 (gh_pre g) x = gb_pp k 1 g (gh_suf x) := by
  rw [gb_q1 (Or.inl rfl), gb_pp1, gb_pp1]
  show gh_pr k (g 0) (x 0) + gh_pr k (gh_add (g 0) (g 1)) (x 1) + gh_pr k (gh_add (gh_add (g 0) (g 1)) (g 2)) (x 2) + gh_pr k (gh_add (gh_add (gh_add (g 0) (g 1)) (g 2)) (g 3)) (x 3)
    = gh_pr k (g 0) (gh_add (gh_add (gh_add (x 3) (x 2)) (x 1)) (x 0)) + gh_pr k (g 1) (gh_add (gh_add (x 3) (x 2)) (x 1)) + gh_pr k (g 2) (gh_add (x 3) (x 2)) + gh_pr k (g 3) (x 3)
  simp only [gh_pr_add, gh_pr_tadd]
  grind
end
end
section
/-! passOn: binary kinds and inputs -/
def gb_PO (L M : gl_L) (re rf sl sm : Nat → Int32) (id g : Nat) : Prop :=
  gb_po L M re rf sl sm id (fun k iv dv => gb_pp k (gl_wi L id) (gl_val iv dv L g) (gl_val iv dv L id)) (fun om => gb_C om (gl_op L id)) 12
theorem gb_mm {wx wy d : Int32} (hm : gl_wm wx wy d) (U : Nat) : (if wx = d then 0 else U) + (if wy = d then 0 else U) ≤ U := by
  rcases hm with ⟨rfl, rfl, rfl⟩ | ⟨rfl, rfl, rfl⟩ | ⟨rfl, rfl, rfl⟩ | ⟨rfl, rfl, rfl⟩ <;> simp
theorem gb_wm_d1 {wx wy d : Int32} (hm : gl_wm wx wy d) : gl_wm d wy d := by
  rcases hm with ⟨rfl, rfl, rfl⟩ | ⟨rfl, rfl, rfl⟩ | ⟨rfl, rfl, rfl⟩ | ⟨rfl, rfl, rfl⟩ <;> simp [gl_wm]
theorem gb_wm_d2 {wx wy d : Int32} (hm : gl_wm wx wy d) : gl_wm d wx d := by
  rcases hm with ⟨rfl, rfl, rfl⟩ | ⟨rfl, rfl, rfl⟩ | ⟨rfl, rfl, rfl⟩ | ⟨rfl, rfl, rfl⟩ <;> simp [gl_wm]
theorem gb_I_upd {k : Bool} {iv : Nat → gh_T} {dv : Nat → Int32} {L : gl_L} {sl : Nat → Int32} {q : Nat} {z : Int32} (hq : q < 3) :
    gb_I k iv dv L (upd sl q z) = gb_I k iv dv L sl + (gb_pp k 1 (gb_ac iv dv L z) (fun c => iv (4 * q + c)) - gb_pp k 1 (gb_ac iv dv L (sl q)) (fun c => iv (4 * q + c))) := by
  have h3 : q = 0 ∨ q = 1 ∨ q = 2 := by omega
  rcases h3 with rfl | rfl | rfl
  · unfold gb_I
    rw [pk_us, pk_un (show (1 : Nat) ≠ 0 by decide), pk_un (show (2 : Nat) ≠ 0 by decide)]
    have e : ∀ v : Nat → gh_T, gb_pp k 1 v (fun c => iv (4 * 0 + c)) = gb_pp k 1 v iv := fun v => gb_pp_t (fun c _ => by rw [Nat.mul_zero, Nat.zero_add])
    rw [e, e]
    grind
  · unfold gb_I
    rw [pk_us, pk_un (show (0 : Nat) ≠ 1 by decide), pk_un (show (2 : Nat) ≠ 1 by decide)]
    grind
  · unfold gb_I
    rw [pk_us, pk_un (show (0 : Nat) ≠ 2 by decide), pk_un (show (1 : Nat) ≠ 2 by decide)]
    grind
section
variable {nc lv fc : Int32} {kd px py vc ip dr na re sl fs so la : Nat → Int32}
theorem gb_pass2 {L : gl_L} (h : gl_WF L) (hl : L.1 + 12 ≤ 450) {id g x y : Nat} (hid : id < L.1) (hg : g < L.1) (hwg : gl_wi L g = gl_wi L id) (hr : gb_ok L re id) (hs : gb_oks L sl)
    (e1 : gl_op L id = 2) (e2 : gl_fi L id = nI x) (e3 : gl_se L id = nI y) (e4 : gl_nu L id = 0) (hx : x < id) (hy : y < id) (hm : gl_wm (gl_wi L x) (gl_wi L y) (gl_wi L id)) : ∃ M rf sm, gb_PO L M re rf sl sm id g ∧
    ∀ post : SX → Prop, post (gx_S nc lv fc kd px py vc ip dr na rf sm fs so la M) → wpX_passOn post (gx_S nc lv fc kd px py vc ip dr na re sl fs so la L) (nI id) (nI g) := by
  have hL := h.1
  have hi : vp_in (nI id) 450 := vp_in_nI (by omega) (by omega)
  have ec : (nI id).toNatClampNeg = id := nI_clamp (by omega)
  obtain ⟨M, rf, p1, w1⟩ := gb_giveP (nc := nc) (lv := lv) (fc := fc) (kd := kd) (px := px) (py := py) (vc := vc) (ip := ip) (dr := dr) (na := na) (re := re) (sl := sl) (fs := fs) (so := so) (la := la) h (by omega) hg (Nat.le_of_lt hid) hx hr hs
  have l1 := p1.2.2.2.2.2.2
  have x1 := p1.1
  have l2 := x1.1
  obtain ⟨N, rg, p2, w2⟩ := gb_giveP (nc := nc) (lv := lv) (fc := fc) (kd := kd) (px := px) (py := py) (vc := vc) (ip := ip) (dr := dr) (na := na) (re := rf) (sl := sl) (fs := fs) (so := so) (la := la) (q := g) p1.2.1 (by omega) (by omega) (by omega) hy p1.2.2.1 p1.2.2.2.1
  refine ⟨N, rg, sl, gb_po_imp (gb_po_tr p1 p2) (fun k iv dv => ?_) (fun om => ?_) (by omega), fun post hp => And.intro hi (nm_r (e' := 2) (by rw [ec, e1]) (And.intro hi (nm_r (e' := nI x) (by rw [ec, e2]) (And.intro hi (nm_r (e' := nI y) (by rw [ec, e3]) (And.intro hi (nm_r (e' := 0) (by rw [ec, e4]) ( br_f (by decide) (br_t rfl (w1 _ (w2 _ hp)))))))))))⟩
  · rw [gb_Q_ext x1 hg (by omega), gb_Qq, gb_Qq, hwg, gb_e2 hm]
    apply gb_pp_t
    intro c _
    rw [gl_val_eq h hid, e1, e2, e3, gh_ov2, nI_clamp (by omega), nI_clamp (by omega)]
  · have := gb_mm hm (gb_U om)
    rw [e1, gb_C2, (x1.2 g hg).2.2.2.2, (x1.2 y (by omega)).2.2.2.2, hwg]
    omega
theorem gb_pass3 {L : gl_L} (h : gl_WF L) (hl : L.1 + 12 ≤ 450) {id g x y : Nat} (hid : id < L.1) (hg : g < L.1) (hwg : gl_wi L g = gl_wi L id) (hr : gb_ok L re id) (hs : gb_oks L sl)
    (e1 : gl_op L id = 3) (e2 : gl_fi L id = nI x) (e3 : gl_se L id = nI y) (e4 : gl_nu L id = 0) (hx : x < id) (hy : y < id) (hm : gl_wm (gl_wi L x) (gl_wi L y) (gl_wi L id)) : ∃ M rf sm, gb_PO L M re rf sl sm id g ∧
    ∀ post : SX → Prop, post (gx_S nc lv fc kd px py vc ip dr na rf sm fs so la M) → wpX_passOn post (gx_S nc lv fc kd px py vc ip dr na re sl fs so la L) (nI id) (nI g) := by
  have hL := h.1
  have hi : vp_in (nI id) 450 := vp_in_nI (by omega) (by omega)
  have ec : (nI id).toNatClampNeg = id := nI_clamp (by omega)
  have hig : vp_in (nI g) 450 := vp_in_nI (by omega) (by omega)
  have ecg : (nI g).toNatClampNeg = g := nI_clamp (by omega)
  have hd := gl_wd h hid
  obtain ⟨M, rf, p1, w1⟩ := gb_giveP (nc := nc) (lv := lv) (fc := fc) (kd := kd) (px := px) (py := py) (vc := vc) (ip := ip) (dr := dr) (na := na) (re := re) (sl := sl) (fs := fs) (so := so) (la := la) h (by omega) hg (Nat.le_of_lt hid) hx hr hs
  have l1 := p1.2.2.2.2.2.2
  have x1 := p1.1
  have l1' := x1.1
  have d1 : gl_wi M (nI g).toNatClampNeg = gl_wi L id := by rw [ecg, (x1.2 g hg).2.2.2.2, hwg]
  obtain ⟨z, M2, ⟨x2, W2, hz, hwz, vz, cz⟩, w2⟩ := gx_zero (nc := nc) (lv := lv) (fc := fc) (kd := kd) (px := px) (py := py) (vc := vc) (ip := ip) (dr := dr) (na := na) (re := rf) (sl := sl) (fs := fs) (so := so) (la := la) p1.2.1 (by omega) (d := gl_wi M (nI g).toNatClampNeg) (by rw [d1]; exact hd)
  have p2 : gb_po M M2 rf rf sl sl id (fun _ _ _ => 0) (fun om => om 1 + om 8) 2 := gb_po_ext p1.2.1.1 x2 W2 (by omega) p1.2.2.1 p1.2.2.2.1 (fun om => by have := cz om; dsimp only at this; split at this <;> omega) (by
      have := cz (fun _ => 1)
      rw [gl_ws1, gl_ws1] at this
      dsimp only at this
      split at this <;> omega)
  have l2 := p2.2.2.2.2.2.2
  have l2' := x2.1
  have d2 : gl_wi M2 (nI g).toNatClampNeg = gl_wi L id := by rw [ecg, (x2.2 g (by omega)).2.2.2.2, ← ecg, d1]
  have d2' : gl_wi M2 g = gl_wi L id := by rw [← d2, ecg]
  have z2 : gl_wi M2 z = gl_wi L id := by rw [hwz, d1]
  obtain ⟨t, M3, ht, mk3, w3⟩ := gx_make (nc := nc) (lv := lv) (fc := fc) (kd := kd) (px := px) (py := py) (vc := vc) (ip := ip) (dr := dr) (na := na) (re := rf) (sl := sl) (fs := fs) (so := so) (la := la) W2 (by omega) (gx_ok2 (w := 3) (d := gl_wi M2 (nI g).toNatClampNeg) (Or.inr (Or.inl rfl)) hz (show g < M2.1 by omega) (by rw [d2, z2, d2']; exact gx_wm_same hd rfl))
  have p3 : gb_po M2 M3 rf rf sl sl id (fun _ _ _ => 0) (fun om => gb_B om) 2 := gb_po_ext W2.1 mk3.1 mk3.2.1 (by omega) p2.2.2.1 p2.2.2.2.1 (fun om => mk3.2.2.2.2.2.2 (Or.inr (Or.inr ⟨Or.inr rfl, by rw [nI_clamp (by have := W2.1; omega), d2, z2], rfl⟩)) om _ (gb_B3 om) (gb_B1 om)) (gx_mk_len mk3)
  have l3 := p3.2.2.2.2.2.2
  have x3 := mk3.1
  have l3' := x3.1
  have x13 : gl_ext L M3 := gl_ext_tr x1 (gl_ext_tr x2 x3)
  obtain ⟨N, rg, p4, w4⟩ := gb_giveP (nc := nc) (lv := lv) (fc := fc) (kd := kd) (px := px) (py := py) (vc := vc) (ip := ip) (dr := dr) (na := na) (re := rf) (sl := sl) (fs := fs) (so := so) (la := la) (q := t) mk3.2.1 (by omega) mk3.2.2.1 (by omega) hy p3.2.2.1 p3.2.2.2.1
  refine ⟨N, rg, sl, gb_po_imp (gb_po_tr p1 (gb_po_tr p2 (gb_po_tr p3 p4))) (fun k iv dv => ?_) (fun om => ?_) (by omega), fun post hp => And.intro hi (nm_r (e' := 3) (by rw [ec, e1]) (And.intro hi (nm_r (e' := nI x) (by rw [ec, e2]) (And.intro hi (nm_r (e' := nI y) (by rw [ec, e3]) (And.intro hi (nm_r (e' := 0) (by rw [ec, e4]) ( br_f (by decide) (br_f (by decide) (br_t rfl (w1 _ (And.intro hig (w2 _ (And.intro hig (w3 _ (w4 _ hp))))))))))))))))⟩
  · have vt : ∀ c, c < 4 → gl_val iv dv M3 t c = gh_sub gh_0 (gl_val iv dv L g c) := by
      intro c hc
      rw [mk3.2.2.2.2.1 iv dv c hc, gh_ov3, nI_clamp (by have := W2.1; omega), ecg, vz iv dv c hc, gl_val_ext (gl_ext_tr x1 x2) hg]
    rw [gb_Qq, gb_Qq, hwg, mk3.2.2.2.1, d2, (x13.2 y (by omega)).2.2.2.2, gl_val_ext x13 (show y < L.1 by omega), gb_q_congr (v := gl_val iv dv M3 t) vt, Int32.zero_add, Int32.zero_add, gb_e3 hm]
    apply gb_pp_t
    intro c _
    rw [gl_val_eq h hid, e1, e2, e3, gh_ov3, nI_clamp (by omega), nI_clamp (by omega)]
  · have := gb_mm hm (gb_U om)
    rw [e1, gb_C3, mk3.2.2.2.1, d2, (x13.2 y (by omega)).2.2.2.2, hwg]
    omega
theorem gb_pass4 {L : gl_L} (h : gl_WF L) (hl : L.1 + 12 ≤ 450) {id g x y : Nat} (hid : id < L.1) (hg : g < L.1) (hwg : gl_wi L g = gl_wi L id) (hr : gb_ok L re id) (hs : gb_oks L sl)
    (e1 : gl_op L id = 4) (e2 : gl_fi L id = nI x) (e3 : gl_se L id = nI y) (e4 : gl_nu L id = 0) (hx : x < id) (hy : y < id) (hm : gl_wm (gl_wi L x) (gl_wi L y) (gl_wi L id)) : ∃ M rf sm, gb_PO L M re rf sl sm id g ∧
    ∀ post : SX → Prop, post (gx_S nc lv fc kd px py vc ip dr na rf sm fs so la M) → wpX_passOn post (gx_S nc lv fc kd px py vc ip dr na re sl fs so la L) (nI id) (nI g) := by
  have hL := h.1
  have hi : vp_in (nI id) 450 := vp_in_nI (by omega) (by omega)
  have ec : (nI id).toNatClampNeg = id := nI_clamp (by omega)
  have hig : vp_in (nI g) 450 := vp_in_nI (by omega) (by omega)
  have ecg : (nI g).toNatClampNeg = g := nI_clamp (by omega)
  have hix : vp_in (nI x) 450 := vp_in_nI (by omega) (by omega)
  have ecx : (nI x).toNatClampNeg = x := nI_clamp (by omega)
  have hiy : vp_in (nI y) 450 := vp_in_nI (by omega) (by omega)
  have ecy : (nI y).toNatClampNeg = y := nI_clamp (by omega)
  have hd := gl_wd h hid
  obtain ⟨fa, M1, hfa, mk1, w1⟩ := gx_make (nc := nc) (lv := lv) (fc := fc) (kd := kd) (px := px) (py := py) (vc := vc) (ip := ip) (dr := dr) (na := na) (re := re) (sl := sl) (fs := fs) (so := so) (la := la) h (by omega) (gx_ok2 (w := 4) (d := gl_wi L id) (Or.inr (Or.inr rfl)) hg (show y < L.1 by omega) (by rw [hwg]; exact gb_wm_d1 hm))
  have p1 := gb_po_mk hL mk1 (Nat.le_of_lt hid) hr hs
  have x1 := mk1.1
  have l1 := gx_mk_len mk1
  have l1' := x1.1
  obtain ⟨fb, M2, hfb, mk2, w2⟩ := gx_make (nc := nc) (lv := lv) (fc := fc) (kd := kd) (px := px) (py := py) (vc := vc) (ip := ip) (dr := dr) (na := na) (re := re) (sl := sl) (fs := fs) (so := so) (la := la) mk1.2.1 (by omega) (gx_ok2 (w := 4) (d := gl_wi L id) (Or.inr (Or.inr rfl)) (show g < M1.1 by omega) (show x < M1.1 by omega) (by rw [(x1.2 g hg).2.2.2.2, (x1.2 x (by omega)).2.2.2.2, hwg]; exact gb_wm_d2 hm))
  have p2 := gb_po_mk mk1.2.1.1 mk2 (show id ≤ M1.1 by omega) p1.2.2.1 p1.2.2.2.1
  have x2 := mk2.1
  have l2 := gx_mk_len mk2
  have l2' := x2.1
  have hfa1 := mk1.2.2.1
  obtain ⟨M3, rf, p3, w3⟩ := gb_giveP (nc := nc) (lv := lv) (fc := fc) (kd := kd) (px := px) (py := py) (vc := vc) (ip := ip) (dr := dr) (na := na) (re := re) (sl := sl) (fs := fs) (so := so) (la := la) (q := fa) mk2.2.1 (by omega) (show fa < M2.1 by omega) (show id ≤ M2.1 by omega) hx p2.2.2.1 p2.2.2.2.1
  have x3 := p3.1
  have l3 := p3.2.2.2.2.2.2
  have l3' := x3.1
  have hfb1 := mk2.2.2.1
  obtain ⟨N, rg, p4, w4⟩ := gb_giveP (nc := nc) (lv := lv) (fc := fc) (kd := kd) (px := px) (py := py) (vc := vc) (ip := ip) (dr := dr) (na := na) (re := rf) (sl := sl) (fs := fs) (so := so) (la := la) (q := fb) p3.2.1 (by omega) (show fb < M3.1 by omega) (show id ≤ M3.1 by omega) hy p3.2.2.1 p3.2.2.2.1
  have x12 : gl_ext L M2 := gl_ext_tr x1 x2
  have x13 : gl_ext L M3 := gl_ext_tr x12 x3
  have wfa : gl_wi M2 fa = gl_wi L id := by rw [(x2.2 fa hfa1).2.2.2.2, mk1.2.2.2.1]
  have wfb : gl_wi M3 fb = gl_wi L id := by rw [(x3.2 fb hfb1).2.2.2.2, mk2.2.2.2.1]
  refine ⟨N, rg, sl, gb_po_imp (gb_po_tr p1 (gb_po_tr p2 (gb_po_tr p3 p4))) (fun k iv dv => ?_) (fun om => ?_) (by omega), fun post hp => And.intro hi (nm_r (e' := 4) (by rw [ec, e1]) (And.intro hi (nm_r (e' := nI x) (by rw [ec, e2]) (And.intro hi (nm_r (e' := nI y) (by rw [ec, e3]) (And.intro hi (nm_r (e' := 0) (by rw [ec, e4]) ( br_f (by decide) (br_f (by decide) (br_f (by decide) (br_t rfl (And.intro hig ?_))))))))))))⟩
  · have va : ∀ c, c < 4 → gl_val iv dv M2 fa c = gh_mul (gl_val iv dv L g c) (gl_val iv dv L y c) := by
      intro c hc
      rw [gl_val_ext x2 hfa1, mk1.2.2.2.2.1 iv dv c hc, gh_ov4, ecg, ecy]
    have vb : ∀ c, c < 4 → gl_val iv dv M3 fb c = gh_mul (gl_val iv dv L g c) (gl_val iv dv L x c) := by
      intro c hc
      rw [gl_val_ext x3 hfb1, mk2.2.2.2.2.1 iv dv c hc, gh_ov4, ecg, ecx, gl_val_ext x1 hg, gl_val_ext x1 (show x < L.1 by omega)]
    rw [gb_Qq, gb_Qq, wfa, wfb, (x12.2 x (by omega)).2.2.2.2, (x13.2 y (by omega)).2.2.2.2, gl_val_ext x12 (show x < L.1 by omega), gl_val_ext x13 (show y < L.1 by omega), gb_q_congr (v := gl_val iv dv M2 fa) va, gb_q_congr (v := gl_val iv dv M3 fb) vb, Int32.zero_add, Int32.zero_add, gb_e4 hm]
    apply gb_pp_t
    intro c _
    rw [gl_val_eq h hid, e1, e2, e3, gh_ov4, ecx, ecy]
  · have := gb_mm hm (gb_U om)
    rw [e1, gb_C4, wfa, wfb, (x12.2 x (by omega)).2.2.2.2, (x13.2 y (by omega)).2.2.2.2]
    omega
  · have wg1 : gl_wi M1 (nI g).toNatClampNeg = gl_wi L id := by rw [ecg, (x1.2 g hg).2.2.2.2, hwg]
    have wx1 : gl_wi M1 (nI x).toNatClampNeg = gl_wi L x := by rw [ecx, (x1.2 x (by omega)).2.2.2.2]
    rcases hd with d0 | d1
    · rw [d0] at w1 w2
      obtain ⟨wx0, wy0⟩ := gx_wm_z hm d0
      refine br_t (by rw [ecg, hwg]; exact d0) (And.intro hiy (br_t (by rw [ecy]; exact wy0) ?_))
      exact w1 _ (And.intro hig (br_t (by rw [wg1]; exact d0) (And.intro hix (br_t (by rw [wx1]; exact wx0) (w2 _ (w3 _ (w4 _ hp)))))))
    · rw [d1] at w1 w2
      refine br_f (by rw [ecg, hwg, d1]; decide) ?_
      exact w1 _ (And.intro hig (br_f (by rw [wg1, d1]; decide) (w2 _ (w3 _ (w4 _ hp)))))
theorem gb_pass0 {L : gl_L} (h : gl_WF L) (hl : L.1 + 12 ≤ 450) {id g q : Nat} (hid : id < L.1) (hg : g < L.1) (hwg : gl_wi L g = gl_wi L id) (hr : gb_ok L re id) (hs : gb_oks L sl)
    (e1 : gl_op L id = 0) (e2 : gl_fi L id = -1) (e3 : gl_se L id = -1) (e4 : gl_nu L id = nI q) (hq : q < 3) (hw1 : gl_wi L id = 1) : ∃ M rf sm, gb_PO L M re rf sl sm id g ∧
    ∀ post : SX → Prop, post (gx_S nc lv fc kd px py vc ip dr na rf sm fs so la M) → wpX_passOn post (gx_S nc lv fc kd px py vc ip dr na re sl fs so la L) (nI id) (nI g) := by
  have hL := h.1
  have hi : vp_in (nI id) 450 := vp_in_nI (by omega) (by omega)
  have ec : (nI id).toNatClampNeg = id := nI_clamp (by omega)
  have hiq : vp_in (nI q) 3 := vp_in_nI (by omega) (by omega)
  have ecq : (nI q).toNatClampNeg = q := nI_clamp (by omega)
  have ecg : (nI g).toNatClampNeg = g := nI_clamp (by omega)
  have hv : ∀ iv dv c, gl_val iv dv L id c = iv (4 * q + c) := by
    intro iv dv c
    rw [gl_val_eq h hid, e1, e4, gh_ov0, ecq]
  have hX : ∀ k iv dv, gb_pp k 1 (gl_val iv dv L g) (fun c => iv (4 * q + c)) = gb_pp k (gl_wi L id) (gl_val iv dv L g) (gl_val iv dv L id) := by
    intro k iv dv
    rw [hw1]
    exact gb_pp_t (fun c _ => (hv iv dv c).symm)
  rcases hs q hq with ez | ⟨g0, hg0, ez, hw0⟩
  · refine ⟨L, re, upd sl q (nI g), ⟨gl_ext_rf L, h, hr, fun j hj => ?_, fun k iv dv => ?_, fun om => ?_, by omega⟩, fun post hp => And.intro hi (nm_r (e' := 0) (by rw [ec, e1]) (And.intro hi (nm_r (e' := (-1)) (by rw [ec, e2]) (And.intro hi (nm_r (e' := (-1)) (by rw [ec, e3]) (And.intro hi (nm_r (e' := nI q) (by rw [ec, e4]) ( br_t rfl (And.intro hiq (br_t (by rw [ecq, ez]; decide) (And.intro hiq (nm_r (e' := upd sl q (nI g)) (by rw [ecq, gx_n16 (by omega)]) hp))))))))))))⟩
    · by_cases e : j = q
      · subst e; rw [pk_us]; exact Or.inr ⟨g, hg, rfl, hwg.trans hw1⟩
      · rw [pk_un e]; exact hs j hj
    · show _ = _ + gb_pp k (gl_wi L id) (gl_val iv dv L g) (gl_val iv dv L id)
      rw [gb_I_upd hq, ez, ← hX, gb_pp_congr (v := gb_ac iv dv L (nI g)) (fun c _ => gb_ac_n iv dv L (by omega) c), gb_pp_congr (v := gb_ac iv dv L (-1)) (w := fun _ => gh_0) (fun c _ => gb_ac_m1 iv dv L c), gb_pp1 k (fun _ => gh_0)]
      simp only [gh_pr_0]
      grind
    · omega
  · obtain ⟨r, M, hr', mk, w⟩ := gx_make (nc := nc) (lv := lv) (fc := fc) (kd := kd) (px := px) (py := py) (vc := vc) (ip := ip) (dr := dr) (na := na) (re := re) (sl := sl) (fs := fs) (so := so) (la := la) h (by omega) (gx_ok2 (w := 2) (d := 1) (Or.inl rfl) hg0 hg (by rw [hw0, hwg, hw1]; exact gx_wm_same (Or.inr rfl) rfl))
    have x1 := mk.1
    have hM := mk.2.1.1
    refine ⟨M, re, upd sl q (nI r), ⟨x1, mk.2.1, gb_ok_ext x1 (Nat.le_of_lt hid) hr, fun j hj => ?_, fun k iv dv => ?_, fun om => ?_, by have := gx_mk_len mk; omega⟩, fun post hp => And.intro hi (nm_r (e' := 0) (by rw [ec, e1]) (And.intro hi (nm_r (e' := (-1)) (by rw [ec, e2]) (And.intro hi (nm_r (e' := (-1)) (by rw [ec, e3]) (And.intro hi (nm_r (e' := nI q) (by rw [ec, e4]) ( br_t rfl (And.intro hiq (br_f (by rw [ecq, ez]; exact nI_pos (by omega)) (And.intro hiq ?_)))))))))))⟩
    · by_cases e : j = q
      · subst e; rw [pk_us]; exact Or.inr ⟨r, mk.2.2.1, rfl, mk.2.2.2.1⟩
      · rw [pk_un e]; exact gb_oks_ext x1 hs j hj
    · show _ = _ + gb_pp k (gl_wi L id) (gl_val iv dv L g) (gl_val iv dv L id)
      rw [gb_I_upd hq, gb_S_ext hL x1 id (Nat.le_of_lt hid) hr, gb_I_ext hL x1 hs, gb_ac_ext hL x1 (hs q hq), ← hX]
      have e1 : gb_pp k 1 (gb_ac iv dv M (nI r)) (fun c => iv (4 * q + c)) = gb_pp k 1 (gb_ac iv dv L (sl q)) (fun c => iv (4 * q + c)) + gb_pp k 1 (gl_val iv dv L g) (fun c => iv (4 * q + c)) := by
        rw [← gb_pp_add]
        apply gb_pp_congr
        intro c hc
        rw [gb_ac_n iv dv M (by omega), mk.2.2.2.2.1 iv dv c hc, gh_ov2, ez, gb_ac_n iv dv L (by omega), nI_clamp (by omega), ecg]
      rw [e1]
      grind
    · have := mk.2.2.2.2.2.2 (Or.inr (Or.inr ⟨Or.inl rfl, by rw [nI_clamp (by omega)]; exact hw0, by rw [ecg, hwg, hw1]⟩)) om _ (gb_A2 om) (gb_A1 om)
      dsimp only
      rw [e1, gb_C0]
      omega
    · rw [ecq, ez]
      exact w _ (And.intro hiq (nm_r (e' := upd sl q (nI r)) (by rw [gx_n16 hr']) hp))
end
end
section
/-! passUnary and passOn as a whole -/
section
variable {nc lv fc : Int32} {kd px py vc ip dr na re sl fs so la : Nat → Int32}
/-- the kinds that hand 'turned' (a new operation) to their only part -/
theorem gb_turn {L : gl_L} (h : gl_WF L) (hl : L.1 + 12 ≤ 450) {id g x : Nat} (hid : id < L.1) (hg : g < L.1) (hr : gb_ok L re id) (hs : gb_oks L sl) (hx : x < id) {v n d : Int32} (hu : gl_un v n (gl_wi L g) d) (hdx : d = gl_wi L x) : ∃ M N rf t,
    gb_po L N re rf sl sl id (fun k iv dv => gb_q k d d (fun c => gh_ov iv dv v g (-1 : Int32).toNatClampNeg n (gl_val iv dv L) c) (gl_val iv dv L x)) (fun om => gb_A om + gb_mk om v) 6 ∧
    (∀ post : Int32 → SX → Prop, post (nI t) (gx_S nc lv fc kd px py vc ip dr na re sl fs so la M) → wpX_make post (gx_S nc lv fc kd px py vc ip dr na re sl fs so la L) v (nI g) (-1) n d) ∧ ∀ post : SX → Prop, post (gx_S nc lv fc kd px py vc ip dr na rf sl fs so la N) → wpX_give post (gx_S nc lv fc kd px py vc ip dr na re sl fs so la M) (nI x) (nI t) := by
  have hL := h.1
  have ecg : (nI g).toNatClampNeg = g := nI_clamp (by omega)
  obtain ⟨t, M, ht, mk, w1⟩ := gx_make (nc := nc) (lv := lv) (fc := fc) (kd := kd) (px := px) (py := py) (vc := vc) (ip := ip) (dr := dr) (na := na) (re := re) (sl := sl) (fs := fs) (so := so) (la := la) h (by omega) (gx_okU hg hu)
  have p1 := gb_po_mk hL mk (Nat.le_of_lt hid) hr hs
  have x1 := mk.1
  have l1 := gx_mk_len mk
  have l1' := x1.1
  obtain ⟨N, rf, p2, w2⟩ := gb_giveP (nc := nc) (lv := lv) (fc := fc) (kd := kd) (px := px) (py := py) (vc := vc) (ip := ip) (dr := dr) (na := na) (re := re) (sl := sl) (fs := fs) (so := so) (la := la) (q := t) mk.2.1 (by omega) mk.2.2.1 (show id ≤ M.1 by omega) hx p1.2.2.1 p1.2.2.2.1
  refine ⟨M, N, rf, t, gb_po_imp (gb_po_tr p1 p2) (fun k iv dv => ?_) (fun om => ?_) (by omega), w1, w2⟩
  · rw [gb_Qq, mk.2.2.2.1, (x1.2 x (by omega)).2.2.2.2, gl_val_ext x1 (show x < L.1 by omega), Int32.zero_add, ← hdx]
    apply gb_q_congr
    intro c hc
    rw [mk.2.2.2.2.1 iv dv c hc, ecg]
  · rw [mk.2.2.2.1, (x1.2 x (by omega)).2.2.2.2, if_pos hdx.symm]
    omega
theorem gb_passG {L : gl_L} (h : gl_WF L) (hl : L.1 + 12 ≤ 450) {id g x y : Nat} (hid : id < L.1) (hg : g < L.1) (hwg : gl_wi L g = gl_wi L id) (hr : gb_ok L re id) (hs : gb_oks L sl)
    (e1 : gl_op L id = 13) (e2 : gl_fi L id = nI x) (e3 : gl_se L id = nI y) (e4 : gl_nu L id = 0) (hx : x < id) (hy : y < id) (hwx : gl_wi L x = gl_wi L id) (hwy : gl_wi L y = gl_wi L id) : ∃ M rf sm, gb_PO L M re rf sl sm id g ∧
    ∀ post : SX → Prop, post (gx_S nc lv fc kd px py vc ip dr na rf sm fs so la M) → wpX_passOn post (gx_S nc lv fc kd px py vc ip dr na re sl fs so la L) (nI id) (nI g) := by
  have hL := h.1
  have hi : vp_in (nI id) 450 := vp_in_nI (by omega) (by omega)
  have ec : (nI id).toNatClampNeg = id := nI_clamp (by omega)
  have hig : vp_in (nI g) 450 := vp_in_nI (by omega) (by omega)
  have ecg : (nI g).toNatClampNeg = g := nI_clamp (by omega)
  have ecx : (nI x).toNatClampNeg = x := nI_clamp (by omega)
  have ecy : (nI y).toNatClampNeg = y := nI_clamp (by omega)
  have hd := gl_wd h hid
  have dg : gl_wi L (nI g).toNatClampNeg = gl_wi L id := by rw [ecg, hwg]
  obtain ⟨t, M, ht, mk, w1⟩ := gx_make (nc := nc) (lv := lv) (fc := fc) (kd := kd) (px := px) (py := py) (vc := vc) (ip := ip) (dr := dr) (na := na) (re := re) (sl := sl) (fs := fs) (so := so) (la := la) h (by omega) (w := 13) (a := nI x) (b := nI g) (n := 0) (d := gl_wi L (nI g).toNatClampNeg) (Or.inr (Or.inr (Or.inr (Or.inl ⟨rfl, rfl, by rw [dg]; exact hd, x, g, by omega, hg, rfl, rfl, by rw [dg]; exact hwx, by rw [dg]; exact hwg⟩))))
  have p1 := gb_po_mk hL mk (Nat.le_of_lt hid) hr hs
  have x1 := mk.1
  have l1 := gx_mk_len mk
  have l1' := x1.1
  obtain ⟨N, rf, p2, w2⟩ := gb_giveP (nc := nc) (lv := lv) (fc := fc) (kd := kd) (px := px) (py := py) (vc := vc) (ip := ip) (dr := dr) (na := na) (re := re) (sl := sl) (fs := fs) (so := so) (la := la) (q := t) mk.2.1 (by omega) mk.2.2.1 (show id ≤ M.1 by omega) hy p1.2.2.1 p1.2.2.2.1
  refine ⟨N, rf, sl, gb_po_imp (gb_po_tr p1 p2) (fun k iv dv => ?_) (fun om => ?_) (by omega), fun post hp => And.intro hi (nm_r (e' := 13) (by rw [ec, e1]) (And.intro hi (nm_r (e' := nI x) (by rw [ec, e2]) (And.intro hi (nm_r (e' := nI y) (by rw [ec, e3]) (And.intro hi (nm_r (e' := 0) (by rw [ec, e4]) ( br_f (by decide) (br_f (by decide) (br_f (by decide) (br_f (by decide) (br_f (by decide) (br_f (by decide) (br_t rfl (And.intro hig (w1 _ (w2 _ hp)))))))))))))))))⟩
  · rw [gb_Qq, mk.2.2.2.1, dg, (x1.2 y (by omega)).2.2.2.2, hwy, gl_val_ext x1 (show y < L.1 by omega), Int32.zero_add, gb_q_congr (v := gl_val iv dv M t) (v' := fun c => gh_gate (gl_val iv dv L x c) (gl_val iv dv L g c)) (fun c hc => by rw [mk.2.2.2.2.1 iv dv c hc, gh_ov13, ecx, ecg]), gb_e13 hd]
    apply gb_pp_t
    intro c _
    rw [gl_val_eq h hid, e1, e2, e3, gh_ov13, ecx, ecy]
  · rw [e1, gb_C13, mk.2.2.2.1, dg, (x1.2 y (by omega)).2.2.2.2, if_pos hwy]
    omega
theorem gb_passS {L : gl_L} (h : gl_WF L) (hl : L.1 + 12 ≤ 450) {id g x : Nat} (hid : id < L.1) (hg : g < L.1) (hwg : gl_wi L g = gl_wi L id) (hr : gb_ok L re id) (hs : gb_oks L sl) {w : Int32} (hw : w = 5 ∨ w = 8)
    (e1 : gl_op L id = w) (e2 : gl_fi L id = nI x) (e3 : gl_se L id = -1) (e4 : gl_nu L id = 0) (hx : x < id) (hu : gl_un w 0 (gl_wi L x) (gl_wi L id)) : ∃ M rf sm, gb_PO L M re rf sl sm id g ∧
    ∀ post : SX → Prop, post (gx_S nc lv fc kd px py vc ip dr na rf sm fs so la M) → wpX_passOn post (gx_S nc lv fc kd px py vc ip dr na re sl fs so la L) (nI id) (nI g) := by
  have hL := h.1
  have hi : vp_in (nI id) 450 := vp_in_nI (by omega) (by omega)
  have ec : (nI id).toNatClampNeg = id := nI_clamp (by omega)
  have ecx : (nI x).toNatClampNeg = x := nI_clamp (by omega)
  obtain ⟨N, rf, p, w1⟩ := gb_giveP (nc := nc) (lv := lv) (fc := fc) (kd := kd) (px := px) (py := py) (vc := vc) (ip := ip) (dr := dr) (na := na) (re := re) (sl := sl) (fs := fs) (so := so) (la := la) (q := g) h (by omega) hg (Nat.le_of_lt hid) hx hr hs
  rcases hw with rfl | rfl
  · have hq : gl_wi L x = 1 ∧ gl_wi L id = 0 := by
      rcases hu with ⟨_, _, z, z'⟩ | ⟨z, _⟩ | ⟨z, _⟩ | ⟨z, _⟩ | ⟨z, _⟩ | ⟨z, _⟩ | ⟨z, _⟩
      · exact ⟨z, z'⟩
      all_goals exact absurd z (by decide)
    refine ⟨N, rf, sl, gb_po_imp p (fun k iv dv => ?_) (fun om => ?_) (by omega), fun post hp => And.intro hi (nm_r (e' := 5) (by rw [ec, e1]) (And.intro hi (nm_r (e' := nI x) (by rw [ec, e2]) (And.intro hi (nm_r (e' := (-1)) (by rw [ec, e3]) (And.intro hi (nm_r (e' := 0) (by rw [ec, e4]) ( br_f (by decide) (br_f (by decide) (br_f (by decide) (br_f (by decide) (br_f (by decide) (br_f (by decide) (br_f (by decide) (br_t rfl (w1 _ hp))))))))))))))))⟩
    · rw [gb_Qq, hwg, hq.1, hq.2, gb_e5 (fun c => gl_nr h hg (hwg.trans hq.2) c)]
      apply gb_pp_t
      intro c _
      rw [gl_val_eq h hid, e1, e2, gh_ov5, ecx]
    · rw [e1, gb_C5]
      split <;> omega
  · have hq : gl_wi L x = 0 ∧ gl_wi L id = 1 := by
      rcases hu with ⟨z, _⟩ | ⟨z, _⟩ | ⟨z, _⟩ | ⟨_, _, z, z'⟩ | ⟨z, _⟩ | ⟨z, _⟩ | ⟨z, _⟩
      · exact absurd z (by decide)
      · exact absurd z (by decide)
      · exact absurd z (by decide)
      · exact ⟨z, z'⟩
      all_goals exact absurd z (by decide)
    refine ⟨N, rf, sl, gb_po_imp p (fun k iv dv => ?_) (fun om => ?_) (by omega), fun post hp => And.intro hi (nm_r (e' := 8) (by rw [ec, e1]) (And.intro hi (nm_r (e' := nI x) (by rw [ec, e2]) (And.intro hi (nm_r (e' := (-1)) (by rw [ec, e3]) (And.intro hi (nm_r (e' := 0) (by rw [ec, e4]) ( br_f (by decide) (br_f (by decide) (br_f (by decide) (br_f (by decide) (br_f (by decide) (br_f (by decide) (br_f (by decide) (br_f (by decide) (br_t rfl (w1 _ hp)))))))))))))))))⟩
    · rw [gb_Qq, hwg, hq.1, hq.2, gb_e8]
      apply gb_pp_t
      intro c _
      rw [gl_val_eq h hid, e1, e2, gh_ov8, ecx]
    · rw [e1, gb_C8]
      split <;> omega
theorem gb_passT {L : gl_L} (h : gl_WF L) (hl : L.1 + 12 ≤ 450) {id g x : Nat} (hid : id < L.1) (hg : g < L.1) (hwg : gl_wi L g = gl_wi L id) (hr : gb_ok L re id) (hs : gb_oks L sl) {w n : Int32}
    (e1 : gl_op L id = w) (e2 : gl_fi L id = nI x) (e3 : gl_se L id = -1) (e4 : gl_nu L id = n) (hx : x < id) (hu : gl_un w n (gl_wi L x) (gl_wi L id)) : ∃ M rf sm, gb_PO L M re rf sl sm id g ∧
    ∀ post : SX → Prop, post (gx_S nc lv fc kd px py vc ip dr na rf sm fs so la M) → wpX_passOn post (gx_S nc lv fc kd px py vc ip dr na re sl fs so la L) (nI id) (nI g) := by
  have hL := h.1
  have hi : vp_in (nI id) 450 := vp_in_nI (by omega) (by omega)
  have ec : (nI id).toNatClampNeg = id := nI_clamp (by omega)
  have ecx : (nI x).toNatClampNeg = x := nI_clamp (by omega)
  have hu' := hu
  rcases hu with ⟨rfl, rfl, _⟩ | ⟨rfl, zx, zi, t, h1, h3, rfl⟩ | ⟨rfl, zx, zi, t, ht, rfl⟩ | ⟨rfl, rfl, _⟩ | ⟨rfl, rfl, zx, zi⟩ | ⟨rfl, rfl, zx, zi⟩ | ⟨rfl, zx, zi, t, ht, rfl⟩
  · exact gb_passS h hl hid hg hwg hr hs (Or.inl rfl) e1 e2 e3 e4 hx hu'
  · have e4t : (4 : Int32) - nI t = nI (4 - t) := pk_sub (a := 4) (by omega)
    obtain ⟨M, N, rf, q, p, w1, w2⟩ := gb_turn (nc := nc) (lv := lv) (fc := fc) (kd := kd) (px := px) (py := py) (vc := vc) (ip := ip) (dr := dr) (na := na) (re := re) (sl := sl) (fs := fs) (so := so) (la := la) h hl hid hg hr hs hx (v := 6) (n := (4 : Int32) - nI t) (d := 1) (by rw [e4t]; exact Or.inr (Or.inl ⟨rfl, hwg.trans zi, rfl, 4 - t, by omega, by omega, rfl⟩)) zx.symm
    refine ⟨N, rf, sl, gb_po_imp p (fun k iv dv => ?_) (fun om => ?_) (by omega), fun post hp => And.intro hi (nm_r (e' := 6) (by rw [ec, e1]) (And.intro hi (nm_r (e' := nI x) (by rw [ec, e2]) (And.intro hi (nm_r (e' := (-1)) (by rw [ec, e3]) (And.intro hi (nm_r (e' := nI t) (by rw [ec, e4]) ( br_f (by decide) (br_f (by decide) (br_f (by decide) (br_f (by decide) (br_f (by decide) (br_f (by decide) (br_f (by decide) (br_f (by decide) (br_f (by decide) (br_t rfl (w1 _ (w2 _ hp)))))))))))))))))))⟩
    · rw [gb_q_congr (v' := fun c => gl_val iv dv L g ((c + (4 - t)) % 4)) (fun c _ => by rw [gh_ov6, e4t, nI_clamp (by omega)]), gb_e6 h1 h3, zi]
      apply gb_pp_t
      intro c _
      rw [gl_val_eq h hid, e1, e2, e4, gh_ov6, ecx, nI_clamp (by omega)]
    · rw [e1, gb_C6]
      exact Nat.le_refl _
  · obtain ⟨M, N, rf, q, p, w1, w2⟩ := gb_turn (nc := nc) (lv := lv) (fc := fc) (kd := kd) (px := px) (py := py) (vc := vc) (ip := ip) (dr := dr) (na := na) (re := re) (sl := sl) (fs := fs) (so := so) (la := la) h hl hid hg hr hs hx (v := 12) (n := nI t) (d := 1) (Or.inr (Or.inr (Or.inr (Or.inr (Or.inr (Or.inr ⟨rfl, hwg.trans zi, rfl, t, ht, rfl⟩)))))) zx.symm
    refine ⟨N, rf, sl, gb_po_imp p (fun k iv dv => ?_) (fun om => ?_) (by omega), fun post hp => And.intro hi (nm_r (e' := 7) (by rw [ec, e1]) (And.intro hi (nm_r (e' := nI x) (by rw [ec, e2]) (And.intro hi (nm_r (e' := (-1)) (by rw [ec, e3]) (And.intro hi (nm_r (e' := nI t) (by rw [ec, e4]) ( br_f (by decide) (br_f (by decide) (br_f (by decide) (br_f (by decide) (br_f (by decide) (br_f (by decide) (br_f (by decide) (br_f (by decide) (br_f (by decide) (br_f (by decide) (br_t rfl (w1 _ (w2 _ hp))))))))))))))))))))⟩
    · rw [gb_q_congr (v' := fun c => if c = t then gl_val iv dv L g 0 else gh_0) (fun c _ => by rw [gh_ov12, nI_clamp (by omega)]), gb_e7 ht, zi]
      apply gb_pp_t
      intro c _
      rw [gl_val_eq h hid, e1, e2, e4, gh_ov7, ecx, nI_clamp (by omega)]
    · rw [e1, gb_C7]
      exact Nat.le_refl _
  · exact gb_passS h hl hid hg hwg hr hs (Or.inr rfl) e1 e2 e3 e4 hx hu'
  · obtain ⟨M, N, rf, q, p, w1, w2⟩ := gb_turn (nc := nc) (lv := lv) (fc := fc) (kd := kd) (px := px) (py := py) (vc := vc) (ip := ip) (dr := dr) (na := na) (re := re) (sl := sl) (fs := fs) (so := so) (la := la) h hl hid hg hr hs hx (v := 14) (n := 0) (d := 1) (Or.inr (Or.inr (Or.inr (Or.inr (Or.inr (Or.inl ⟨rfl, rfl, hwg.trans zi, rfl⟩)))))) zx.symm
    refine ⟨N, rf, sl, gb_po_imp p (fun k iv dv => ?_) (fun om => ?_) (by omega), fun post hp => And.intro hi (nm_r (e' := 10) (by rw [ec, e1]) (And.intro hi (nm_r (e' := nI x) (by rw [ec, e2]) (And.intro hi (nm_r (e' := (-1)) (by rw [ec, e3]) (And.intro hi (nm_r (e' := 0) (by rw [ec, e4]) ( br_f (by decide) (br_f (by decide) (br_f (by decide) (br_f (by decide) (br_f (by decide) (br_f (by decide) (br_f (by decide) (br_f (by decide) (br_f (by decide) (br_f (by decide) (br_f (by decide) (br_f (by decide) (br_t rfl (w1 _ (w2 _ hp))))))))))))))))))))))⟩
    · rw [gb_q_congr (v' := gh_suf (gl_val iv dv L g)) (fun c _ => by rw [gh_ov14]), gb_e10, zi]
      apply gb_pp_t
      intro c _
      rw [gl_val_eq h hid, e1, e2, gh_ov10, ecx]
    · rw [e1, gb_C10]
      exact Nat.le_refl _
  · obtain ⟨M, N, rf, q, p, w1, w2⟩ := gb_turn (nc := nc) (lv := lv) (fc := fc) (kd := kd) (px := px) (py := py) (vc := vc) (ip := ip) (dr := dr) (na := na) (re := re) (sl := sl) (fs := fs) (so := so) (la := la) h hl hid hg hr hs hx (v := 10) (n := 0) (d := 1) (Or.inr (Or.inr (Or.inr (Or.inr (Or.inl ⟨rfl, rfl, hwg.trans zi, rfl⟩))))) zx.symm
    refine ⟨N, rf, sl, gb_po_imp p (fun k iv dv => ?_) (fun om => ?_) (by omega), fun post hp => And.intro hi (nm_r (e' := 14) (by rw [ec, e1]) (And.intro hi (nm_r (e' := nI x) (by rw [ec, e2]) (And.intro hi (nm_r (e' := (-1)) (by rw [ec, e3]) (And.intro hi (nm_r (e' := 0) (by rw [ec, e4]) ( br_f (by decide) (br_f (by decide) (br_f (by decide) (br_f (by decide) (br_f (by decide) (br_f (by decide) (br_f (by decide) (br_f (by decide) (br_f (by decide) (br_f (by decide) (br_f (by decide) (br_f (by decide) (br_f (by decide) (w1 _ (w2 _ hp))))))))))))))))))))))⟩
    · rw [gb_q_congr (v' := gh_pre (gl_val iv dv L g)) (fun c _ => by rw [gh_ov10]), gb_e14, zi]
      apply gb_pp_t
      intro c _
      rw [gl_val_eq h hid, e1, e2, gh_ov14, ecx]
    · rw [e1, gb_C14]
      exact Nat.le_refl _
  · obtain ⟨M, N, rf, q, p, w1, w2⟩ := gb_turn (nc := nc) (lv := lv) (fc := fc) (kd := kd) (px := px) (py := py) (vc := vc) (ip := ip) (dr := dr) (na := na) (re := re) (sl := sl) (fs := fs) (so := so) (la := la) h hl hid hg hr hs hx (v := 7) (n := nI t) (d := 0) (Or.inr (Or.inr (Or.inl ⟨rfl, hwg.trans zi, rfl, t, ht, rfl⟩))) zx.symm
    refine ⟨N, rf, sl, gb_po_imp p (fun k iv dv => ?_) (fun om => ?_) (by omega), fun post hp => And.intro hi (nm_r (e' := 12) (by rw [ec, e1]) (And.intro hi (nm_r (e' := nI x) (by rw [ec, e2]) (And.intro hi (nm_r (e' := (-1)) (by rw [ec, e3]) (And.intro hi (nm_r (e' := nI t) (by rw [ec, e4]) ( br_f (by decide) (br_f (by decide) (br_f (by decide) (br_f (by decide) (br_f (by decide) (br_f (by decide) (br_f (by decide) (br_f (by decide) (br_f (by decide) (br_f (by decide) (br_f (by decide) (br_t rfl (w1 _ (w2 _ hp)))))))))))))))))))))⟩
    · rw [gb_q_congr (v' := fun _ => gl_val iv dv L g t) (fun c _ => by rw [gh_ov7, nI_clamp (by omega)]), gb_e12 ht, zi]
      apply gb_pp_t
      intro c _
      rw [gl_val_eq h hid, e1, e2, e4, gh_ov12, ecx, nI_clamp (by omega)]
    · rw [e1, gb_C12]
      exact Nat.le_refl _
theorem gb_passOn {L : gl_L} (h : gl_WF L) (hl : L.1 + 12 ≤ 450) {id g : Nat} (hid : id < L.1) (hg : g < L.1) (hwg : gl_wi L g = gl_wi L id) (hr : gb_ok L re id) (hs : gb_oks L sl) : ∃ M rf sm, gb_PO L M re rf sl sm id g ∧
    ∀ post : SX → Prop, post (gx_S nc lv fc kd px py vc ip dr na rf sm fs so la M) → wpX_passOn post (gx_S nc lv fc kd px py vc ip dr na re sl fs so la L) (nI id) (nI g) := by
  have hL := h.1
  have hi : vp_in (nI id) 450 := vp_in_nI (by omega) (by omega)
  have ec : (nI id).toNatClampNeg = id := nI_clamp (by omega)
  have hk := h.2 id hid
  rcases hk with ⟨hw, e2, e3, hw1, q, hq, e4⟩ | ⟨e1, e2, e3, hw1⟩ | ⟨hw, e4, x, y, hx, hy, e2, e3, hm⟩ | ⟨e1, e4, _, x, y, hx, hy, e2, e3, hwx, hwy⟩ | ⟨e3, x, hx, e2, hu⟩
  · rcases hw with e1 | e1
    · exact gb_pass0 h hl hid hg hwg hr hs e1 e2 e3 e4 hq hw1
    · refine ⟨L, re, sl, ⟨gl_ext_rf L, h, hr, hs, fun k iv dv => ?_, fun om => by omega, by omega⟩, fun post hp => And.intro hi (nm_r (e' := 11) (by rw [ec, e1]) (And.intro hi (nm_r (e' := (-1)) (by rw [ec, e2]) (And.intro hi (nm_r (e' := (-1)) (by rw [ec, e3]) (And.intro hi (nm_r (e' := nI q) (by rw [ec, e4]) ( br_f (by decide) (br_f (by decide) (br_f (by decide) (br_f (by decide) (br_f (by decide) (br_t rfl hp)))))))))))))⟩
      show _ = _ + gb_pp k (gl_wi L id) (gl_val iv dv L g) (gl_val iv dv L id)
      rw [hw1, gb_pp1]
      have e : ∀ c, gl_val iv dv L id c = gh_k (dv (4 * q + c)) := fun c => by rw [gl_val_eq h hid, e1, e4, gh_ov11, nI_clamp (by omega)]
      rw [e, e, e, e, gh_pr_tk, gh_pr_tk, gh_pr_tk, gh_pr_tk]
      grind
  · obtain ⟨n, e4⟩ : ∃ n, gl_nu L id = n := ⟨_, rfl⟩
    refine ⟨L, re, sl, ⟨gl_ext_rf L, h, hr, hs, fun k iv dv => ?_, fun om => by omega, by omega⟩, fun post hp => And.intro hi (nm_r (e' := 1) (by rw [ec, e1]) (And.intro hi (nm_r (e' := (-1)) (by rw [ec, e2]) (And.intro hi (nm_r (e' := (-1)) (by rw [ec, e3]) (And.intro hi (nm_r (e' := n) (by rw [ec, e4]) ( br_f (by decide) (br_f (by decide) (br_f (by decide) (br_f (by decide) (br_t rfl hp))))))))))))⟩
    show _ = _ + gb_pp k (gl_wi L id) (gl_val iv dv L g) (gl_val iv dv L id)
    have e : ∀ c, gl_val iv dv L id c = gh_k n := fun c => by rw [gl_val_eq h hid, e1, e4, gh_ov1]
    rw [hw1, gb_pp0, e, gh_pr_tk]
    grind
  · rcases hw with e1 | e1 | e1
    · exact gb_pass2 h hl hid hg hwg hr hs e1 e2 e3 e4 hx hy hm
    · exact gb_pass3 h hl hid hg hwg hr hs e1 e2 e3 e4 hx hy hm
    · exact gb_pass4 h hl hid hg hwg hr hs e1 e2 e3 e4 hx hy hm
  · exact gb_passG h hl hid hg hwg hr hs e1 e2 e3 e4 hx hy hwx hwy
  · exact gb_passT h hl hid hg hwg hr hs rfl e2 e3 rfl hx hu
end
end
section
/-! backwards: the loops -/
def gb_D (om : Int32 → Nat) (L : gl_L) (m : Nat) : Nat := gl_sum (fun j => gb_C om (gl_op L j) - gb_A om) m
theorem gb_D_ext {om : Int32 → Nat} {L M : gl_L} (h : gl_ext L M) {m : Nat} (hm : m ≤ L.1) : gb_D om M m = gb_D om L m :=
  gl_sum_congr m (fun j hj => by rw [(h.2 j (by omega)).1])
theorem gb_A_1 : gb_A (fun _ => 1) = 1 := by decide
theorem gb_S_none {k : Bool} {iv : Nat → gh_T} {dv : Nat → Int32} {L : gl_L} {re : Nat → Int32} : ∀ m, (∀ j, j < m → re j = -1) → gb_S k iv dv L re m = 0 := by
  intro m
  induction m with
  | zero => intro _; rfl
  | succ m ih =>
    intro h
    show _ + _ = _
    rw [ih (fun j hj => h j (by omega)), h m (by omega), gb_pp_congr (w := fun _ => gh_0) (fun c _ => gb_ac_m1 iv dv L c)]
    unfold gb_pp
    simp only [gh_pr_0]
    split <;> rfl
theorem gb_pd_none {A : Nat} {re : Nat → Int32} : ∀ m, (∀ j, j < m → re j = -1) → gb_pd A re m = 0 := by
  intro m
  induction m with
  | zero => intro _; rfl
  | succ m ih =>
    intro h
    show gb_pd A re m + (if re m < 0 then 0 else A) = 0
    rw [ih (fun j hj => h j (by omega)), h m (by omega), if_pos (by decide)]
theorem gb_I_none {k : Bool} {iv : Nat → gh_T} {dv : Nat → Int32} {L : gl_L} {sl : Nat → Int32} (h : ∀ j, j < 3 → sl j = -1) : gb_I k iv dv L sl = 0 := by
  have e : ∀ t, gb_pp k 1 (gb_ac iv dv L (-1)) t = 0 := by
    intro t
    rw [gb_pp_congr (w := fun _ => gh_0) (fun c _ => gb_ac_m1 iv dv L c), gb_pp1]
    simp only [gh_pr_0]
    rfl
  unfold gb_I
  rw [h 0 (by omega), h 1 (by omega), h 2 (by omega), e, e, e]
  rfl
theorem gb_nm1 : vp_nar .short (-1) = -1 := by rw [vp_nar_short]; decide
/-- the outcome of the loop from m downwards -/
def gb_lo (L M : gl_L) (re sl sm : Nat → Int32) (m : Nat) : Prop :=
  gl_ext L M ∧ gl_WF M ∧ gb_oks M sm ∧ (∀ k iv dv, gb_I k iv dv M sm = gb_S k iv dv L re m + gb_I k iv dv L sl) ∧
  ∀ om, gl_ws om M ≤ gl_ws om L + gb_pd (gb_A om) re m + gb_D om L m
section
variable {nc lv fc : Int32} {kd px py vc ip dr na fs so la : Nat → Int32}
theorem gb_loop54 : ∀ (m : Nat) {L : gl_L} {re sl : Nat → Int32}, gl_WF L → m ≤ L.1 → gb_ok L re m → gb_oks L sl → L.1 + gb_pd 1 re m + gb_D (fun _ => 1) L m + 12 ≤ 450 → ∃ M rf sm, gb_lo L M re sl sm m ∧
    ∀ post : SX → Prop, post (gx_S nc lv fc kd px py vc ip dr na rf sm fs so la M) → wX_backwards_54 post (m + 1) (nI m + (-1)) nc lv (nI L.1) fc kd px py vc ip dr (gl_op L) (gl_fi L) (gl_se L) (gl_nu L) (gl_wi L) na re sl fs so la := by
  intro m
  induction m with
  | zero =>
    intro L re sl h hm hr hs hc
    refine ⟨L, re, sl, ⟨gl_ext_rf L, h, hs, fun k iv dv => ?_, fun om => ?_⟩, fun post hp => br_t (by decide) hp⟩
    · show _ = 0 + _
      rw [Int32.zero_add]
    · omega
  | succ j ih =>
    intro L re sl h hm hr hs hc
    have hL := h.1
    have hi : vp_in (nI j) 450 := vp_in_nI (by omega) (by omega)
    have ec : (nI j).toNatClampNeg = j := nI_clamp (by omega)
    have hD : gb_D (fun _ => 1) L (j + 1) = gb_D (fun _ => 1) L j + (gb_C (fun _ => 1) (gl_op L j) - gb_A (fun _ => 1)) := rfl
    have hrj : gb_ok L re j := fun i hi => hr i (by omega)
    rcases hr j (by omega) with ez | ⟨g, hg, ez, hwg⟩
    · have hpd : ∀ A, gb_pd A re (j + 1) = gb_pd A re j := by
        intro A
        show gb_pd A re j + (if re j < 0 then 0 else A) = _
        rw [ez, if_pos (by decide)]
        rfl
      rw [hpd] at hc
      obtain ⟨M, rf, sm, ⟨o1, o2, o3, o4, o5⟩, hw⟩ := ih (L := L) (re := re) (sl := sl) h (by omega) hrj hs (by omega)
      refine ⟨M, rf, sm, ⟨o1, o2, o3, fun k iv dv => ?_, fun om => ?_⟩, fun post hp => ?_⟩
      · rw [o4]
        show _ = gb_S k iv dv L re j + _ + _
        rw [ez, gb_pp_congr (w := fun _ => gh_0) (fun c _ => gb_ac_m1 iv dv L c)]
        have e0 : gb_pp k (gl_wi L j) (fun _ => gh_0) (gl_val iv dv L j) = 0 := by
          unfold gb_pp
          simp only [gh_pr_0]
          split <;> rfl
        rw [e0, Int32.add_zero]
      · have := o5 om
        have hD' : gb_D om L (j + 1) = gb_D om L j + (gb_C om (gl_op L j) - gb_A om) := rfl
        rw [hpd, hD']
        omega
      · rw [pk_m1]
        exact br_f (nI_pos (by omega)) (And.intro hi (br_t (by rw [ec, ez]; decide) (nm_e (hw post hp))))
    · have hpd : ∀ A, gb_pd A re (j + 1) = gb_pd A re j + A := by
        intro A
        show gb_pd A re j + (if re j < 0 then 0 else A) = _
        rw [ez, if_neg (nI_pos (by omega))]
      rw [hpd] at hc
      obtain ⟨M1, rf1, sm1, hpo, hw1⟩ := gb_passOn (nc := nc) (lv := lv) (fc := fc) (kd := kd) (px := px) (py := py) (vc := vc) (ip := ip) (dr := dr) (na := na) (re := re) (sl := sl) (fs := fs) (so := so) (la := la) h (by omega) (show j < L.1 by omega) hg hwg hrj hs
      obtain ⟨p1, p2, p3, p4, p5, p6, p7⟩ := hpo
      have hc1 := p6 (fun _ => 1)
      rw [gl_ws1, gl_ws1, gb_A_1] at hc1
      dsimp only at hc1
      rw [gb_A_1] at hD
      have hl1 := p1.1
      obtain ⟨M, rf, sm, ⟨o1, o2, o3, o4, o5⟩, hw⟩ := ih (L := M1) (re := rf1) (sl := sm1) p2 (by omega) p3 p4 (by rw [gb_D_ext p1 (by omega)]; omega)
      refine ⟨M, rf, sm, ⟨gl_ext_tr p1 o1, o2, o3, fun k iv dv => ?_, fun om => ?_⟩, fun post hp => ?_⟩
      · rw [o4, p5]
        show _ = gb_S k iv dv L re j + _ + _
        rw [ez, gb_pp_congr (v := gb_ac iv dv L (nI g)) (fun c _ => gb_ac_n iv dv L (by omega) c)]
        grind
      · have a1 := o5 om
        have a2 := p6 om
        have hD' : gb_D om L (j + 1) = gb_D om L j + (gb_C om (gl_op L j) - gb_A om) := rfl
        rw [gb_D_ext p1 (by omega)] at a1
        dsimp only at a2
        rw [hpd, hD']
        omega
      · rw [pk_m1]
        refine br_f (nI_pos (by omega)) (And.intro hi (br_f (by rw [ec, ez]; exact nI_pos (by omega)) (And.intro hi ?_)))
        rw [ec, ez]
        exact hw1 _ (nm_e (hw post hp))
end
section
variable {nc lv fc : Int32} {kd px py vc ip dr na fs so la : Nat → Int32}
theorem gb_loop22 {L : gl_L} (hL : L.1 ≤ 450) {sl : Nat → Int32} {r : Nat} (hr : r < 450) : ∀ q j, j + q = r + 1 → ∀ re : Nat → Int32, (∀ i, i < j → re i = -1) → ∃ rf, (∀ i, i < r + 1 → rf i = -1) ∧
    ∀ post : SX → Prop, wX_backwards_22 post (nI r) nc lv (nI L.1) fc 1 (nI (r + 1)) kd px py vc ip dr (gl_op L) (gl_fi L) (gl_se L) (gl_nu L) (gl_wi L) na rf sl fs so la → wX_backwards_22 post (nI r) nc lv (nI L.1) fc (q + 1) (nI j) kd px py vc ip dr (gl_op L) (gl_fi L) (gl_se L) (gl_nu L) (gl_wi L) na re sl fs so la := by
  intro q
  induction q with
  | zero =>
    intro j hj re hre
    have e : j = r + 1 := by omega
    subst e
    exact ⟨re, hre, fun post hp => hp⟩
  | succ q ih =>
    intro j hj re hre
    have hi : vp_in (nI j) 450 := vp_in_nI (by omega) (by omega)
    have ec : (nI j).toNatClampNeg = j := nI_clamp (by omega)
    obtain ⟨rf, hrf, hw⟩ := ih (j + 1) (by omega) (upd re j (-1)) (fun i hi => by
      by_cases e : i = j
      · subst e; exact pk_us
      · rw [pk_un e]; exact hre i (by omega))
    exact ⟨rf, hrf, fun post hp => br_f (nI_nlt (by omega) (by omega)) (And.intro hi (nm_r (e' := upd re j (-1)) (by rw [ec, gb_nm1]) (nm_r (nI_1 j) (hw post hp))))⟩
theorem gb_loop2 {L : gl_L} {re : Nat → Int32} {r : Nat} : ∀ q j, j + q = 3 → ∀ sl : Nat → Int32, (∀ i, i < j → sl i = -1) → ∃ sm, (∀ i, i < 3 → sm i = -1) ∧
    ∀ post : SX → Prop, wX_backwards_2 post (nI r) nc lv (nI L.1) fc 1 (nI 3) kd px py vc ip dr (gl_op L) (gl_fi L) (gl_se L) (gl_nu L) (gl_wi L) na re sm fs so la → wX_backwards_2 post (nI r) nc lv (nI L.1) fc (q + 1) (nI j) kd px py vc ip dr (gl_op L) (gl_fi L) (gl_se L) (gl_nu L) (gl_wi L) na re sl fs so la := by
  intro q
  induction q with
  | zero =>
    intro j hj sl hsl
    have e : j = 3 := by omega
    subst e
    exact ⟨sl, hsl, fun post hp => hp⟩
  | succ q ih =>
    intro j hj sl hsl
    have hi : vp_in (nI j) 3 := vp_in_nI (by omega) (by omega)
    have ec : (nI j).toNatClampNeg = j := nI_clamp (by omega)
    obtain ⟨sm, hsm, hw⟩ := ih (j + 1) (by omega) (upd sl j (-1)) (fun i hi => by
      by_cases e : i = j
      · subst e; exact pk_us
      · rw [pk_un e]; exact hsl i (by omega))
    exact ⟨sm, hsm, fun post hp => br_f (nI_ge (b := 3) (by omega) (by decide)) (And.intro hi (nm_r (e' := upd sl j (-1)) (by rw [ec, gb_nm1]) (nm_r (nI_1 j) (hw post hp))))⟩
def gb_bw (L M : gl_L) (sm : Nat → Int32) (r : Nat) : Prop :=
  gl_ext L M ∧ gl_WF M ∧ gb_oks M sm ∧ (∀ k iv dv, gb_I k iv dv M sm = gh_pr k (gh_k 1) (gl_val iv dv L r 0)) ∧ ∀ om, gl_ws om M ≤ gl_ws om L + om 1 + gb_A om + gb_D om L (r + 1)
theorem gb_backwards {L : gl_L} {re sl : Nat → Int32} (h : gl_WF L) {r : Nat} (hr : r < L.1) (hw0 : gl_wi L r = 0) (hc : L.1 + gb_D (fun _ => 1) L (r + 1) + 14 ≤ 450) : ∃ M rf sm, gb_bw L M sm r ∧
    ∀ post : SX → Prop, post (gx_S nc lv fc kd px py vc ip dr na rf sm fs so la M) → wpX_backwards post (gx_S nc lv fc kd px py vc ip dr na re sl fs so la L) (nI r) := by
  have hL := h.1
  have hi : vp_in (nI r) 450 := vp_in_nI (by omega) (by omega)
  have ec : (nI r).toNatClampNeg = r := nI_clamp (by omega)
  obtain ⟨s0, hs0, w2⟩ := gb_loop2 (nc := nc) (lv := lv) (fc := fc) (kd := kd) (px := px) (py := py) (vc := vc) (ip := ip) (dr := dr) (na := na) (fs := fs) (so := so) (la := la) (L := L) (re := re) (r := r) 3 0 (by omega) sl (fun i hi => by omega)
  obtain ⟨r0, hr0, w22⟩ := gb_loop22 (nc := nc) (lv := lv) (fc := fc) (kd := kd) (px := px) (py := py) (vc := vc) (ip := ip) (dr := dr) (na := na) (fs := fs) (so := so) (la := la) (L := L) (sl := s0) (r := r) hL (by omega) (r + 1) 0 (by omega) re (fun i hi => by omega)
  obtain ⟨c, N, ⟨o1, o2, o3, o4, o5, o6⟩, _, _, wc⟩ := gx_constant (nc := nc) (lv := lv) (fc := fc) (kd := kd) (px := px) (py := py) (vc := vc) (ip := ip) (dr := dr) (na := na) (re := r0) (sl := s0) (fs := fs) (so := so) (la := la) h (by omega) 1
  have hl1 : N.1 ≤ L.1 + 1 := by
    have := o6 (fun _ => 1)
    rw [gl_ws1, gl_ws1] at this
    exact this
  have hl0 := o1.1
  have hwr : gl_wi N r = 0 := by rw [(o1.2 r hr).2.2.2.2]; exact hw0
  have hokN : gb_ok N (upd r0 r (nI c)) (r + 1) := by
    intro j hj
    by_cases e : j = r
    · subst e
      rw [pk_us]
      exact Or.inr ⟨c, o3, rfl, o4.trans hwr.symm⟩
    · rw [pk_un e]
      exact Or.inl (hr0 j (by omega))
  have hpd : ∀ A, gb_pd A (upd r0 r (nI c)) (r + 1) = A := by
    intro A
    rw [gb_pd_upd (nI_pos (by omega)) (r + 1) (by omega), gb_pd_none (r + 1) hr0, hr0 r (by omega), if_pos (by decide)]
    omega
  obtain ⟨M, rf, sm, ⟨q1, q2, q3, q4, q5⟩, w54⟩ := gb_loop54 (nc := nc) (lv := lv) (fc := fc) (kd := kd) (px := px) (py := py) (vc := vc) (ip := ip) (dr := dr) (na := na) (fs := fs) (so := so) (la := la) (r + 1) (L := N) (re := upd r0 r (nI c)) (sl := s0) o2 (by omega) hokN (fun q hq => Or.inl (hs0 q hq)) (by rw [hpd, gb_D_ext o1 (by omega)]; omega)
  refine ⟨M, rf, sm, ⟨gl_ext_tr o1 q1, q2, q3, fun k iv dv => ?_, fun om => ?_⟩, fun post hp => ?_⟩
  · rw [q4, gb_I_none hs0, gb_S_upd (r + 1) (by omega), gb_S_none (r + 1) hr0, hwr, gb_pp0, gb_pp0, hr0 r (by omega), gb_ac_m1, gb_ac_n iv dv N (by omega), gh_pr_0, o5 iv dv 0 (by omega), gl_val_ext o1 hr]
    grind
  · have a1 := q5 om
    have a2 := o6 om
    rw [hpd, gb_D_ext o1 (by omega)] at a1
    dsimp only at a2
    omega
  · refine ⟨3 + 1, w2 post (br_t (nI_le (a := 3) (b := 3) (by omega) (by decide)) ⟨r + 1 + 1, w22 post (br_t (nI_lt (by omega) (by omega)) ?_)⟩)⟩
    refine wc _ (And.intro hi (nm_r (e' := upd r0 r (nI c)) (by rw [ec, gx_n16 (by omega)]) ⟨r + 1 + 1, ?_⟩))
    have := w54 post hp
    rw [pk_m1] at this
    exact this
end
end
section
/-! the weights of the passes; a lemma for values under a renaming of parts -/
def gw_2 (w : Int32) : Nat := 1 + (gb_C (fun _ => 1) w - gb_A (fun _ => 1))
def gw_T (w : Int32) : Nat := gw_2 w + (gb_C gw_2 w - gb_A gw_2)
theorem gw_21 : gw_2 1 = 1 := by decide
theorem gw_22 : gw_2 2 = 3 := by decide
theorem gw_23 : gw_2 3 = 6 := by decide
theorem gw_24 : gw_2 4 = 7 := by decide
theorem gw_25 : gw_2 5 = 2 := by decide
theorem gw_26 : gw_2 6 = 3 := by decide
theorem gw_27 : gw_2 7 = 3 := by decide
theorem gw_28 : gw_2 8 = 2 := by decide
theorem gw_210 : gw_2 10 = 3 := by decide
theorem gw_212 : gw_2 12 = 3 := by decide
theorem gw_213 : gw_2 13 = 3 := by decide
theorem gw_214 : gw_2 14 = 3 := by decide
theorem gw_A : gb_A gw_2 = 3 := by decide
theorem gw_U : gb_U gw_2 = 2 := by decide
theorem gw_B : gb_B gw_2 = 6 := by decide
theorem gw_mk4 : gb_mk gw_2 4 = 7 := by decide
theorem gw_mk6 : gb_mk gw_2 6 = 3 := by decide
theorem gw_mk7 : gb_mk gw_2 7 = 3 := by decide
theorem gw_mk10 : gb_mk gw_2 10 = 3 := by decide
theorem gw_mk12 : gb_mk gw_2 12 = 3 := by decide
theorem gw_mk13 : gb_mk gw_2 13 = 3 := by decide
theorem gw_mk14 : gb_mk gw_2 14 = 3 := by decide
theorem gw_1A : gb_A (fun _ => 1) = 1 := by decide
theorem gw_1U : gb_U (fun _ => 1) = 1 := by decide
theorem gw_1B : gb_B (fun _ => 1) = 1 := by decide
theorem gw_1mk (w : Int32) : gb_mk (fun _ => 1) w = 2 := rfl
theorem gw_ite {c : Prop} [Decidable c] {a b N : Nat} (ha : a ≤ N) (hb : b ≤ N) : (if c then a else b) ≤ N := by
  split
  · exact ha
  · exact hb
theorem gw_C1le (w : Int32) : gb_C (fun _ => 1) w ≤ 7 := by
  unfold gb_C
  simp only [gw_1A, gw_1U, gw_1B, gw_1mk]
  repeat' refine gw_ite ?_ ?_
  all_goals decide
theorem gw_2le (w : Int32) : gw_2 w ≤ 7 := by
  have := gw_C1le w
  unfold gw_2
  rw [gw_1A]
  omega
theorem gw_Cle (w : Int32) : gb_C gw_2 w ≤ 22 := by
  unfold gb_C
  simp only [gw_A, gw_U, gw_B, gw_mk4, gw_mk6, gw_mk7, gw_mk10, gw_mk12, gw_mk13, gw_mk14, gw_21, gw_28]
  repeat' refine gw_ite ?_ ?_
  all_goals decide
theorem gw_T26 (w : Int32) : gw_T w ≤ 26 := by
  have h1 := gw_2le w
  have h2 := gw_Cle w
  unfold gw_T
  rw [gw_A]
  omega
theorem gw_T1 : gw_T 1 = 1 := by decide
theorem gw_T0 : gw_T 0 = 1 := by decide
theorem gw_T8 : gw_T 8 = 4 := by decide
theorem gl_sum_add (f g : Nat → Nat) : ∀ n, gl_sum (fun i => f i + g i) n = gl_sum f n + gl_sum g n := by
  intro n
  induction n with
  | zero => rfl
  | succ n ih => show gl_sum (fun i => f i + g i) n + (f n + g n) = (gl_sum f n + f n) + (gl_sum g n + g n); rw [ih]; omega
theorem gl_sum_mono (f : Nat → Nat) {m n : Nat} (h : m ≤ n) : gl_sum f m ≤ gl_sum f n := by
  induction n with
  | zero =>
    have e : m = 0 := by omega
    subst e
    exact Nat.le_refl _
  | succ n ih =>
    by_cases e : m = n + 1
    · subst e; exact Nat.le_refl _
    · have := ih (by omega)
      show _ ≤ gl_sum f n + f n
      omega
theorem gw_ws2 (L : gl_L) {m : Nat} (hm : m ≤ L.1) : L.1 + gb_D (fun _ => 1) L m ≤ gl_ws gw_2 L := by
  have e : gl_ws gw_2 L = gl_sum (fun _ => 1) L.1 + gb_D (fun _ => 1) L L.1 := gl_sum_add _ _ _
  rw [e, gl_sum1]
  have : gb_D (fun _ => 1) L m ≤ gb_D (fun _ => 1) L L.1 := gl_sum_mono _ hm
  omega
theorem gw_wsT (L : gl_L) {m : Nat} (hm : m ≤ L.1) : gl_ws gw_2 L + gb_D gw_2 L m ≤ gl_ws gw_T L := by
  have e : gl_ws gw_T L = gl_ws gw_2 L + gb_D gw_2 L L.1 := gl_sum_add _ _ _
  rw [e]
  have : gb_D gw_2 L m ≤ gb_D gw_2 L L.1 := gl_sum_mono _ hm
  omega
theorem gh_pre_map {f g : Nat → gh_T} : ∀ c, (∀ j, j ≤ c → f j = g j) → gh_pre f c = gh_pre g c := by
  intro c
  induction c with
  | zero => intro h; exact h 0 (Nat.le_refl _)
  | succ c ih => intro h; show gh_add _ _ = gh_add _ _; rw [ih (fun j hj => h j (by omega)), h (c + 1) (Nat.le_refl _)]
theorem gh_ov_map {iv : Nat → gh_T} {dv : Nat → Int32} {w : Int32} {a b a' b' : Nat} {n : Int32} {V V' : Nat → Nat → gh_T} {c : Nat} (hc : c < 4) (hn : w = 7 → n.toNatClampNeg < 4)
    (ha : ¬ gh_nul w → ∀ c, c < 4 → V a c = V' a' c) (hb : gh_bin w → ∀ c, c < 4 → V b c = V' b' c) : gh_ov iv dv w a b n V c = gh_ov iv dv w a' b' n V' c := by
  by_cases w0 : w = 0
  · subst w0; rw [gh_ov0, gh_ov0]
  by_cases w1 : w = 1
  · subst w1; rw [gh_ov1, gh_ov1]
  by_cases w11 : w = 11
  · subst w11; rw [gh_ov11, gh_ov11]
  have hA := ha (fun z => z.elim w0 (fun z => z.elim w1 w11))
  by_cases w2 : w = 2
  · subst w2; rw [gh_ov2, gh_ov2, hA c hc, hb (Or.inl rfl) c hc]
  by_cases w3 : w = 3
  · subst w3; rw [gh_ov3, gh_ov3, hA c hc, hb (Or.inr (Or.inl rfl)) c hc]
  by_cases w4 : w = 4
  · subst w4; rw [gh_ov4, gh_ov4, hA c hc, hb (Or.inr (Or.inr (Or.inl rfl))) c hc]
  by_cases w13 : w = 13
  · subst w13; rw [gh_ov13, gh_ov13, hA c hc, hb (Or.inr (Or.inr (Or.inr rfl))) c hc]
  by_cases w5 : w = 5
  · subst w5; rw [gh_ov5, gh_ov5, gh_s4, gh_s4, hA 0 (by omega), hA 1 (by omega), hA 2 (by omega), hA 3 (by omega)]
  by_cases w6 : w = 6
  · subst w6; rw [gh_ov6, gh_ov6, hA _ (Nat.mod_lt _ (by omega))]
  by_cases w7 : w = 7
  · subst w7; rw [gh_ov7, gh_ov7, hA _ (hn rfl)]
  by_cases w8 : w = 8
  · subst w8; rw [gh_ov8, gh_ov8, hA c hc]
  by_cases w10 : w = 10
  · subst w10; rw [gh_ov10, gh_ov10, gh_pre_map c (fun j hj => hA j (by omega))]
  by_cases w12 : w = 12
  · subst w12; rw [gh_ov12, gh_ov12, hA 0 (by omega)]
  simp only [gh_ov, w0, w1, w2, w3, w4, w5, w6, w7, w8, w10, w11, w12, w13, if_false, gh_suf]
  rw [hA 0 (by omega), hA 1 (by omega), hA 2 (by omega), hA 3 (by omega)]
end
section
/-! nodes as a list of operations of their own; trace -/
def gn_w (k : Int32) : Int32 := if k = 9 then 13 else k
def gn_a (k x : Int32) : Int32 := if k = 0 ∨ k = 1 then -1 else x
def gn_b (k x y : Int32) : Int32 := if k = 9 then x else if k = 2 ∨ k = 3 ∨ k = 4 then y else -1
def gn_n (k x y : Int32) : Int32 := if k = 0 ∨ k = 1 then x else if k = 6 then 1 else if k = 7 then y else 0
def gn_L (N : Nat) (kd px py vc : Nat → Int32) : gl_L := (N, fun i => gn_w (kd i), fun i => gn_a (kd i) (px i), fun i => gn_b (kd i) (px i) (py i), fun i => gn_n (kd i) (px i) (py i), vc)
def gn_un (k y wp d : Int32) : Prop := (k = 5 ∧ wp = 1 ∧ d = 0) ∨ (k = 6 ∧ wp = 1 ∧ d = 1) ∨ (k = 7 ∧ wp = 1 ∧ d = 0 ∧ ∃ t : Nat, t < 4 ∧ y = nI t) ∨ (k = 8 ∧ wp = 0 ∧ d = 1) ∨ (k = 10 ∧ wp = 1 ∧ d = 1)
def gn_nd (vc : Nat → Int32) (i : Nat) (k x y d : Int32) : Prop :=
  (k = 0 ∧ d = 1 ∧ ∃ q : Nat, q < 3 ∧ x = nI q) ∨ (k = 1 ∧ d = 0) ∨
  ((k = 2 ∨ k = 3 ∨ k = 4) ∧ ∃ p q : Nat, p < i ∧ q < i ∧ x = nI p ∧ y = nI q ∧ gl_wm (vc p) (vc q) d) ∨
  (k = 9 ∧ (d = 0 ∨ d = 1) ∧ ∃ p : Nat, p < i ∧ x = nI p ∧ vc p = d) ∨ (∃ p : Nat, p < i ∧ x = nI p ∧ gn_un k y (vc p) d)
def gn_ok (N : Nat) (kd px py vc : Nat → Int32) : Prop := N ≤ 12 ∧ ∀ i, i < N → gn_nd vc i (kd i) (px i) (py i) (vc i)
theorem gn_un_gl {k y wp d x : Int32} (h : gn_un k y wp d) : gl_un (gn_w k) (gn_n k x y) wp d ∧ gn_a k x = x ∧ gn_b k x y = -1 := by
  rcases h with ⟨rfl, h1, h2⟩ | ⟨rfl, h1, h2⟩ | ⟨rfl, h1, h2, t, ht, e⟩ | ⟨rfl, h1, h2⟩ | ⟨rfl, h1, h2⟩
  · exact ⟨Or.inl ⟨by decide, by simp [gn_n], h1, h2⟩, by simp [gn_a], by simp [gn_b]⟩
  · exact ⟨Or.inr (Or.inl ⟨by decide, h1, h2, 1, by omega, by omega, by simp [gn_n]; decide⟩), by simp [gn_a], by simp [gn_b]⟩
  · exact ⟨Or.inr (Or.inr (Or.inl ⟨by decide, h1, h2, t, ht, by simp [gn_n]; exact e⟩)), by simp [gn_a], by simp [gn_b]⟩
  · exact ⟨Or.inr (Or.inr (Or.inr (Or.inl ⟨by decide, by simp [gn_n], h1, h2⟩))), by simp [gn_a], by simp [gn_b]⟩
  · exact ⟨Or.inr (Or.inr (Or.inr (Or.inr (Or.inl ⟨by decide, by simp [gn_n], h1, h2⟩)))), by simp [gn_a], by simp [gn_b]⟩
theorem gn_WF {N : Nat} {kd px py vc : Nat → Int32} (h : gn_ok N kd px py vc) : gl_WF (gn_L N kd px py vc) := by
  refine ⟨Nat.le_trans h.1 (by decide), fun i hi => ?_⟩
  show gl_ok vc i (gn_w (kd i)) (gn_a (kd i) (px i)) (gn_b (kd i) (px i) (py i)) (gn_n (kd i) (px i) (py i)) (vc i)
  rcases h.2 i hi with ⟨e, hd, q, hq, ex⟩ | ⟨e, hd⟩ | ⟨e, p, q, hp, hq, ex, ey, hm⟩ | ⟨e, hd, p, hp, ex, hw⟩ | ⟨p, hp, ex, hu⟩
  · rw [e, hd]
    exact Or.inl ⟨Or.inl (by decide), by simp [gn_a], by simp [gn_b], rfl, q, hq, by simp [gn_n]; exact ex⟩
  · rw [e, hd]
    exact Or.inr (Or.inl ⟨by decide, by simp [gn_a], by simp [gn_b], rfl⟩)
  · rcases e with e | e | e <;> rw [e]
    · exact Or.inr (Or.inr (Or.inl ⟨by decide, by simp [gn_n], p, q, hp, hq, by simp [gn_a]; exact ex, by simp [gn_b]; exact ey, hm⟩))
    · exact Or.inr (Or.inr (Or.inl ⟨by decide, by simp [gn_n], p, q, hp, hq, by simp [gn_a]; exact ex, by simp [gn_b]; exact ey, hm⟩))
    · exact Or.inr (Or.inr (Or.inl ⟨by decide, by simp [gn_n], p, q, hp, hq, by simp [gn_a]; exact ex, by simp [gn_b]; exact ey, hm⟩))
  · rw [e]
    exact Or.inr (Or.inr (Or.inr (Or.inl ⟨by decide, by simp [gn_n], hd, p, p, hp, hp, by simp [gn_a]; exact ex, by simp [gn_b]; exact ex, hw, hw⟩)))
  · obtain ⟨h1, h2, h3⟩ := gn_un_gl (x := px i) hu
    exact Or.inr (Or.inr (Or.inr (Or.inr ⟨h3, p, hp, h2.trans ex, h1⟩)))
def gt_11 (w : Int32) : Nat := if w = 11 then 1 else 0
theorem gn_not11 {N : Nat} {kd px py vc : Nat → Int32} (h : gn_ok N kd px py vc) {i : Nat} (hi : i < N) : gt_11 (gl_op (gn_L N kd px py vc) i) = 0 := by
  show gt_11 (gn_w (kd i)) = 0
  rcases h.2 i hi with ⟨e, _⟩ | ⟨e, _⟩ | ⟨e | e | e, _⟩ | ⟨e, _⟩ | ⟨p, _, _, hu⟩
  all_goals first
    | (rw [e]; decide)
    | (rcases hu with ⟨e, _⟩ | ⟨e, _⟩ | ⟨e, _⟩ | ⟨e, _⟩ | ⟨e, _⟩ <;> rw [e] <;> decide)
theorem gl_sum_0 {f : Nat → Nat} : ∀ n, gl_sum f n = 0 → ∀ i, i < n → f i = 0 := by
  intro n
  induction n with
  | zero => intro _ i hi; omega
  | succ n ih =>
    intro h i hi
    have h' : gl_sum f n + f n = 0 := h
    by_cases e : i = n
    · subst e; omega
    · exact ih (by omega) i (by omega)
theorem gt_no11 {L : gl_L} (h : gl_ws gt_11 L = 0) {i : Nat} (hi : i < L.1) : gl_op L i ≠ 11 := by
  intro e
  have h1 : gt_11 (gl_op L i) = 0 := gl_sum_0 (f := fun i => gt_11 (gl_op L i)) L.1 h i hi
  rw [e] at h1
  exact absurd h1 (by decide)
/-- the operation p of the list stands for node i -/
def gt_at (L NL : gl_L) (z : Int32) (i : Nat) : Prop := ∃ p, z = nI p ∧ p < L.1 ∧ gl_wi L p = gl_wi NL i ∧ ∀ iv dv c, c < 4 → gl_val iv dv L p c = gl_val iv dv NL i c
theorem gt_at_ext {L M NL : gl_L} (h : gl_ext L M) {z : Int32} {i : Nat} (g : gt_at L NL z i) : gt_at M NL z i := by
  obtain ⟨p, e, hp, hw, hv⟩ := g
  exact ⟨p, e, by have := h.1; omega, by rw [(h.2 p hp).2.2.2.2]; exact hw, fun iv dv c hc => by rw [gl_val_ext h hp]; exact hv iv dv c hc⟩
def gt_nd (L M NL : gl_L) (r n : Nat) : Prop :=
  r < 450 ∧ gl_ext L M ∧ gl_WF M ∧ gt_at M NL (nI r) n ∧ (∀ (om : Int32 → Nat) (k : Nat), om (gl_op NL n) ≤ k → om 1 + om 8 ≤ k → gl_ws om M ≤ gl_ws om L + k) ∧ (n = 0 → gl_ws gw_T M ≤ gl_ws gw_T L + 5)
theorem gt_nd_of {L M NL : gl_L} (hN : gl_WF NL) {n : Nat} (hn : n < NL.1) {r : Nat} (hr : r < 450) {a b : Int32} (h : gx_mk L M r (gl_op NL n) a b (gl_nu NL n) (gl_wi NL n))
    (ha : ¬ gh_nul (gl_op NL n) → ∀ iv dv c, c < 4 → gl_val iv dv L a.toNatClampNeg c = gl_val iv dv NL (gl_fi NL n).toNatClampNeg c)
    (hb : gh_bin (gl_op NL n) → ∀ iv dv c, c < 4 → gl_val iv dv L b.toNatClampNeg c = gl_val iv dv NL (gl_se NL n).toNatClampNeg c)
    (h0 : n = 0 → gw_T (gl_op NL n) ≤ 5) : gt_nd L M NL r n := by
  obtain ⟨m1, m2, m3, m4, m5, m6, m7⟩ := h
  refine ⟨hr, m1, m2, ⟨r, rfl, m3, m4, fun iv dv c hc => ?_⟩, fun om k h1 h2 => m6 om k h1 h2, fun z => m6 gw_T 5 (h0 z) (by rw [gw_T1, gw_T8]; decide)⟩
  rw [m5 iv dv c hc, gl_val_eq hN hn]
  refine gh_ov_map hc (fun z => ?_) (fun z c hc => ha z iv dv c hc) (fun z c hc => hb z iv dv c hc)
  have hk := hN.2 n hn
  rw [z] at hk
  obtain ⟨_, p, _, _, hu⟩ := gx_ok_un hk (by unfold gh_nul; decide) (by unfold gh_bin; decide)
  rcases hu with ⟨z, _⟩ | ⟨z, _⟩ | ⟨_, _, _, t, ht, e⟩ | ⟨z, _⟩ | ⟨z, _⟩ | ⟨z, _⟩ | ⟨z, _⟩
  · exact absurd z (by decide)
  · exact absurd z (by decide)
  · rw [e, nI_clamp (by omega)]; exact ht
  all_goals exact absurd z (by decide)
section
variable {nc lv fc : Int32} {kd px py vc ip dr na re sl fs so la : Nat → Int32}
theorem gt_node {N : Nat} (hN : gn_ok N kd px py vc) {L : gl_L} (h : gl_WF L) (hl : L.1 + 2 ≤ 450) {n : Nat} (hn : n < N) (hat : ∀ i, i < n → gt_at L (gn_L N kd px py vc) (na i) i) : ∃ r M, gt_nd L M (gn_L N kd px py vc) r n ∧
    ∀ post : Int32 → SX → Prop, post (nI r) (gx_S nc lv fc kd px py vc ip dr na re sl fs so la M) → wpX_traceNode post (gx_S nc lv fc kd px py vc ip dr na re sl fs so la L) (nI n) := by
  have hN12 := hN.1
  have hW := gn_WF hN
  have hL := h.1
  have hi : vp_in (nI n) 12 := vp_in_nI (by omega) (by omega)
  have ecn : (nI n).toNatClampNeg = n := nI_clamp (by omega)
  rcases hN.2 n hn with ⟨e, hd, q, hq, ex⟩ | ⟨e, hd⟩ | ⟨e, p, q, hp, hq, ex, ey, hm⟩ | ⟨e, hd, p, hp, ex, hw⟩ | ⟨p, hp, ex, hu⟩
  · have eo : gl_op (gn_L N kd px py vc) n = 0 := by show gn_w (kd n) = 0; rw [e]; decide
    have en : gl_nu (gn_L N kd px py vc) n = nI q := by show gn_n (kd n) (px n) (py n) = nI q; rw [e]; simp [gn_n]; exact ex
    have ew : gl_wi (gn_L N kd px py vc) n = 1 := hd
    obtain ⟨r, M, hr, mk, w⟩ := gx_make (nc := nc) (lv := lv) (fc := fc) (kd := kd) (px := px) (py := py) (vc := vc) (ip := ip) (dr := dr) (na := na) (re := re) (sl := sl) (fs := fs) (so := so) (la := la) h hl (w := 0) (a := -1) (b := -1) (n := nI q) (d := 1) (Or.inl ⟨Or.inl rfl, rfl, rfl, rfl, q, hq, rfl⟩)
    refine ⟨r, M, gt_nd_of hW hn hr (a := -1) (b := -1) (by rw [eo, en, ew]; exact mk) (fun z => ?_) (fun z => ?_) (fun _ => by rw [eo]; decide), fun post hp => And.intro hi (nm_r (e' := 0) (by rw [ecn, e]) (And.intro hi (nm_r (e' := nI q) (by rw [ecn, ex]) (br_t rfl (w _ hp)))))⟩
    · rw [eo] at z; exact absurd (Or.inl rfl) z
    · rw [eo] at z; exact absurd z (by unfold gh_bin; decide)
  · have eo : gl_op (gn_L N kd px py vc) n = 1 := by show gn_w (kd n) = 1; rw [e]; decide
    have en : gl_nu (gn_L N kd px py vc) n = px n := by show gn_n (kd n) (px n) (py n) = px n; rw [e]; simp [gn_n]
    have ew : gl_wi (gn_L N kd px py vc) n = 0 := hd
    obtain ⟨r, M, hr, mk, w⟩ := gx_make (nc := nc) (lv := lv) (fc := fc) (kd := kd) (px := px) (py := py) (vc := vc) (ip := ip) (dr := dr) (na := na) (re := re) (sl := sl) (fs := fs) (so := so) (la := la) h hl (w := 1) (a := -1) (b := -1) (n := px n) (d := 0) gx_ok1
    refine ⟨r, M, gt_nd_of hW hn hr (a := -1) (b := -1) (by rw [eo, en, ew]; exact mk) (fun z => ?_) (fun z => ?_) (fun _ => by rw [eo]; decide), fun post hp => And.intro hi (nm_r (e' := 1) (by rw [ecn, e]) (And.intro hi (nm_r (e' := px n) (by rw [ecn]) (br_f (by decide) (br_t rfl (w _ hp))))))⟩
    · rw [eo] at z; exact absurd (Or.inr (Or.inl rfl)) z
    · rw [eo] at z; exact absurd z (by unfold gh_bin; decide)
  · obtain ⟨a, ea, ha, hwa, hva⟩ := hat p hp
    obtain ⟨b, eb, hb, hwb, hvb⟩ := hat q hq
    have hip : vp_in (nI p) 12 := vp_in_nI (by omega) (by omega)
    have ecp : (nI p).toNatClampNeg = p := nI_clamp (by omega)
    have hiq : vp_in (nI q) 12 := vp_in_nI (by omega) (by omega)
    have ecq : (nI q).toNatClampNeg = q := nI_clamp (by omega)
    have eca : (nI a).toNatClampNeg = a := nI_clamp (by omega)
    have ecb : (nI b).toNatClampNeg = b := nI_clamp (by omega)
    have eo : gl_op (gn_L N kd px py vc) n = kd n := by show gn_w (kd n) = kd n; rcases e with e | e | e <;> rw [e] <;> decide
    have en : gl_nu (gn_L N kd px py vc) n = 0 := by show gn_n (kd n) (px n) (py n) = 0; rcases e with e | e | e <;> rw [e] <;> simp [gn_n]
    have ef : (gl_fi (gn_L N kd px py vc) n).toNatClampNeg = p := by
      rw [← ecp, ← ex]
      congr 1
      show gn_a (kd n) (px n) = px n
      rcases e with e | e | e <;> rw [e] <;> simp [gn_a]
    have es : (gl_se (gn_L N kd px py vc) n).toNatClampNeg = q := by
      rw [← ecq, ← ey]
      congr 1
      show gn_b (kd n) (px n) (py n) = py n
      rcases e with e | e | e <;> rw [e] <;> simp [gn_b]
    obtain ⟨r, M, hr, mk, w⟩ := gx_make (nc := nc) (lv := lv) (fc := fc) (kd := kd) (px := px) (py := py) (vc := vc) (ip := ip) (dr := dr) (na := na) (re := re) (sl := sl) (fs := fs) (so := so) (la := la) h hl (gx_ok2 (w := kd n) (d := vc n) e ha hb (by rw [hwa, hwb]; exact hm))
    refine ⟨r, M, gt_nd_of hW hn hr (a := nI a) (b := nI b) (by rw [eo, en]; exact mk) (fun _ iv dv c hc => ?_) (fun _ iv dv c hc => ?_) (fun z => by omega), fun post hpp => And.intro hi (nm_r (e' := kd n) (by rw [ecn]) (And.intro hi (nm_r (e' := nI p) (by rw [ecn, ex]) (br_f (by rcases e with e | e | e <;> rw [e] <;> decide) (br_f (by rcases e with e | e | e <;> rw [e] <;> decide) (And.intro hip (nm_r (e' := nI a) (by rw [ecp, ea]) (br_f (by rcases e with e | e | e <;> rw [e] <;> decide) (And.intro hi (And.intro (by rw [ecn, ey]; exact hiq) (And.intro hi ?_)))))))))))⟩
    · rw [eca, ef]; exact hva iv dv c hc
    · rw [ecb, es]; exact hvb iv dv c hc
    · rw [ecn, ey, ecq, eb]
      exact w _ hpp
  · obtain ⟨a, ea, ha, hwa, hva⟩ := hat p hp
    have hip : vp_in (nI p) 12 := vp_in_nI (by omega) (by omega)
    have ecp : (nI p).toNatClampNeg = p := nI_clamp (by omega)
    have eca : (nI a).toNatClampNeg = a := nI_clamp (by omega)
    have eo : gl_op (gn_L N kd px py vc) n = 13 := by show gn_w (kd n) = 13; rw [e]; decide
    have en : gl_nu (gn_L N kd px py vc) n = 0 := by show gn_n (kd n) (px n) (py n) = 0; rw [e]; simp [gn_n]
    have ef : (gl_fi (gn_L N kd px py vc) n).toNatClampNeg = p := by
      rw [← ecp, ← ex]
      congr 1
      show gn_a (kd n) (px n) = px n
      rw [e]; simp [gn_a]
    have es : (gl_se (gn_L N kd px py vc) n).toNatClampNeg = p := by
      rw [← ecp, ← ex]
      congr 1
      show gn_b (kd n) (px n) (py n) = px n
      rw [e]; simp [gn_b]
    have hw' : gl_wi L a = vc n := hwa.trans hw
    obtain ⟨r, M, hr, mk, w⟩ := gx_make (nc := nc) (lv := lv) (fc := fc) (kd := kd) (px := px) (py := py) (vc := vc) (ip := ip) (dr := dr) (na := na) (re := re) (sl := sl) (fs := fs) (so := so) (la := la) h hl (w := 13) (a := nI a) (b := nI a) (n := 0) (d := vc n) (Or.inr (Or.inr (Or.inr (Or.inl ⟨rfl, rfl, hd, a, a, ha, ha, rfl, rfl, hw', hw'⟩))))
    refine ⟨r, M, gt_nd_of hW hn hr (a := nI a) (b := nI a) (by rw [eo, en]; exact mk) (fun _ iv dv c hc => ?_) (fun _ iv dv c hc => ?_) (fun z => by omega), fun post hpp => And.intro hi (nm_r (e' := 9) (by rw [ecn, e]) (And.intro hi (nm_r (e' := nI p) (by rw [ecn, ex]) (br_f (by decide) (br_f (by decide) (And.intro hip (nm_r (e' := nI a) (by rw [ecp, ea]) (br_t (by decide) (br_t rfl (And.intro hi ?_))))))))))⟩
    · rw [eca, ef]; exact hva iv dv c hc
    · rw [eca, es]; exact hva iv dv c hc
    · rw [ecn]
      exact w _ hpp
  · obtain ⟨a, ea, ha, hwa, hva⟩ := hat p hp
    have hip : vp_in (nI p) 12 := vp_in_nI (by omega) (by omega)
    have ecp : (nI p).toNatClampNeg = p := nI_clamp (by omega)
    have eca : (nI a).toNatClampNeg = a := nI_clamp (by omega)
    obtain ⟨hgu, hga, hgb⟩ := gn_un_gl (x := px n) hu
    have eo : gl_op (gn_L N kd px py vc) n = kd n := by show gn_w (kd n) = kd n; rcases hu with ⟨e, _⟩ | ⟨e, _⟩ | ⟨e, _⟩ | ⟨e, _⟩ | ⟨e, _⟩ <;> rw [e] <;> decide
    have eo' : gn_w (kd n) = kd n := eo
    have ef : (gl_fi (gn_L N kd px py vc) n).toNatClampNeg = p := by
      rw [← ecp, ← ex]
      congr 1
    have hgu' : gl_un (kd n) (gl_nu (gn_L N kd px py vc) n) (gl_wi L a) (vc n) := by
      rw [hwa]
      rw [eo'] at hgu
      exact hgu
    have nb : ¬ gh_bin (kd n) := by rcases hu with ⟨e, _⟩ | ⟨e, _⟩ | ⟨e, _⟩ | ⟨e, _⟩ | ⟨e, _⟩ <;> rw [e] <;> unfold gh_bin <;> decide
    obtain ⟨r, M, hr, mk, w⟩ := gx_make (nc := nc) (lv := lv) (fc := fc) (kd := kd) (px := px) (py := py) (vc := vc) (ip := ip) (dr := dr) (na := na) (re := re) (sl := sl) (fs := fs) (so := so) (la := la) h hl (gx_okU ha hgu')
    refine ⟨r, M, gt_nd_of hW hn hr (a := nI a) (b := -1) (by rw [eo]; exact mk) (fun _ iv dv c hc => ?_) (fun z => ?_) (fun z => by omega), fun post hpp => ?_⟩
    · rw [eca, ef]; exact hva iv dv c hc
    · rw [eo] at z; exact absurd z nb
    · have eN : ∀ z, gn_n (kd n) (px n) (py n) = z → gl_nu (gn_L N kd px py vc) n = z := fun z hz => hz
      rcases hu with ⟨e, _⟩ | ⟨e, _⟩ | ⟨e, _, _, t, ht, ey⟩ | ⟨e, _⟩ | ⟨e, _⟩
      · rw [eN 0 (by rw [e]; simp [gn_n]), e] at w
        refine And.intro hi (nm_r (e' := 5) (by rw [ecn, e]) (And.intro hi (nm_r (e' := nI p) (by rw [ecn, ex]) (br_f (by decide) (br_f (by decide) (And.intro hip (nm_r (e' := nI a) (by rw [ecp, ea]) (br_t (by decide) (br_f (by decide) (br_f (by decide) (br_f (by decide) (And.intro hi ?_))))))))))))
        rw [ecn]; exact w _ hpp
      · rw [eN 1 (by rw [e]; simp [gn_n]), e] at w
        refine And.intro hi (nm_r (e' := 6) (by rw [ecn, e]) (And.intro hi (nm_r (e' := nI p) (by rw [ecn, ex]) (br_f (by decide) (br_f (by decide) (And.intro hip (nm_r (e' := nI a) (by rw [ecp, ea]) (br_t (by decide) (br_f (by decide) (br_t rfl (And.intro hi ?_)))))))))))
        rw [ecn]; exact w _ hpp
      · rw [eN (py n) (by rw [e]; simp [gn_n]), e] at w
        refine And.intro hi (nm_r (e' := 7) (by rw [ecn, e]) (And.intro hi (nm_r (e' := nI p) (by rw [ecn, ex]) (br_f (by decide) (br_f (by decide) (And.intro hip (nm_r (e' := nI a) (by rw [ecp, ea]) (br_t (by decide) (br_f (by decide) (br_f (by decide) (br_t rfl (And.intro hi (And.intro hi ?_)))))))))))))
        rw [ecn]; exact w _ hpp
      · rw [eN 0 (by rw [e]; simp [gn_n]), e] at w
        refine And.intro hi (nm_r (e' := 8) (by rw [ecn, e]) (And.intro hi (nm_r (e' := nI p) (by rw [ecn, ex]) (br_f (by decide) (br_f (by decide) (And.intro hip (nm_r (e' := nI a) (by rw [ecp, ea]) (br_t (by decide) (br_f (by decide) (br_f (by decide) (br_f (by decide) (And.intro hi ?_))))))))))))
        rw [ecn]; exact w _ hpp
      · rw [eN 0 (by rw [e]; simp [gn_n]), e] at w
        refine And.intro hi (nm_r (e' := 10) (by rw [ecn, e]) (And.intro hi (nm_r (e' := nI p) (by rw [ecn, ex]) (br_f (by decide) (br_f (by decide) (And.intro hip (nm_r (e' := nI a) (by rw [ecp, ea]) (br_t (by decide) (br_f (by decide) (br_f (by decide) (br_f (by decide) (And.intro hi ?_))))))))))))
        rw [ecn]; exact w _ hpp
end
section
variable {nc lv fc : Int32} {kd px py vc ip dr re sl fs so la : Nat → Int32}
def gt_sp (L NL : gl_L) (nb : Nat → Int32) (n : Nat) : Prop := gl_WF L ∧ (∀ i, i < n → gt_at L NL (nb i) i) ∧ L.1 ≤ 2 * n ∧ (0 < n → gl_ws gw_T L + 21 ≤ 26 * n) ∧ gl_ws gt_11 L = 0
theorem gt_loop {N : Nat} (hN : gn_ok N kd px py vc) {l : Nat} (hl : l < N) : ∀ q j, j + q = l + 1 → ∀ (L : gl_L) (na : Nat → Int32), gt_sp L (gn_L N kd px py vc) na j → ∃ M nb, gt_sp M (gn_L N kd px py vc) nb (l + 1) ∧
    ∀ post : SX → Prop, post (gx_S nc lv fc kd px py vc ip dr nb re sl fs so la M) → wX_trace_7 post (nI l) (q + 1) (nI j) nc lv (nI L.1) fc kd px py vc ip dr (gl_op L) (gl_fi L) (gl_se L) (gl_nu L) (gl_wi L) na re sl fs so la := by
  have hN12 := hN.1
  intro q
  induction q with
  | zero =>
    intro j hj L na hs
    have e : j = l + 1 := by omega
    subst e
    exact ⟨L, na, hs, fun post hp => br_t (nI_lt (by omega) (by omega)) hp⟩
  | succ q ih =>
    intro j hj L na hs
    obtain ⟨s1, s2, s3, s4, s5⟩ := hs
    have hi : vp_in (nI j) 12 := vp_in_nI (by omega) (by omega)
    have ec : (nI j).toNatClampNeg = j := nI_clamp (by omega)
    obtain ⟨r, M, ⟨hr, m1, m2, m3, m4, m5⟩, w⟩ := gt_node (nc := nc) (lv := lv) (fc := fc) (kd := kd) (px := px) (py := py) (vc := vc) (ip := ip) (dr := dr) (na := na) (re := re) (sl := sl) (fs := fs) (so := so) (la := la) hN s1 (by omega) (show j < N by omega) s2
    have hlen := m4 (fun _ => 1) 2 (by decide) (by decide)
    rw [gl_ws1, gl_ws1] at hlen
    have hT := m4 gw_T 26 (gw_T26 _) (by rw [gw_T1, gw_T8]; decide)
    have h11 := m4 gt_11 0 (Nat.le_of_eq (gn_not11 hN (by omega))) (by decide)
    obtain ⟨M2, nb, hs2, hw⟩ := ih (j + 1) (by omega) M (upd na j (nI r)) ⟨m2, fun i hi => by
        by_cases e : i = j
        · subst e; rw [pk_us]; exact m3
        · rw [pk_un e]; exact gt_at_ext m1 (s2 i (by omega)), by omega, fun _ => by
        by_cases j0 : j = 0
        · have h5 := m5 j0
          have h0 : gl_ws gw_T L = 0 := by
            have hz : L.1 = 0 := by omega
            unfold gl_ws
            rw [hz]
            rfl
          omega
        · have := s4 (by omega)
          omega, by omega⟩
    exact ⟨M2, nb, hs2, fun post hp => br_f (nI_nlt (by omega) (by omega)) (w _ (And.intro hi (nm_r (e' := upd na j (nI r)) (by rw [ec, gx_n16 hr]) (nm_r (nI_1 j) (hw post hp)))))⟩
theorem gt_trace {N : Nat} (hN : gn_ok N kd px py vc) {l : Nat} (hl : l < N) (le : Int32) (op fi se nu wi na : Nat → Int32) : ∃ M nb, gt_sp M (gn_L N kd px py vc) nb (l + 1) ∧
    ∀ post : SX → Prop, post (gx_S nc lv fc kd px py vc ip dr nb re sl fs so la M) → wpX_trace post (nc, lv, le, fc, kd, px, py, vc, ip, dr, op, fi, se, nu, wi, na, re, sl, fs, so, la) (nI l) := by
  obtain ⟨M, nb, hs, hw⟩ := gt_loop (nc := nc) (lv := lv) (fc := fc) (ip := ip) (dr := dr) (re := re) (sl := sl) (fs := fs) (so := so) (la := la) hN hl (l + 1) 0 (by omega) (0, op, fi, se, nu, wi) na ⟨⟨Nat.zero_le _, fun i hi => absurd hi (Nat.not_lt_zero i)⟩, fun i hi => absurd hi (Nat.not_lt_zero i), Nat.le_refl _, fun z => absurd z (by decide), rfl⟩
  exact ⟨M, nb, hs, fun post hp => ⟨l + 1 + 1, hw post hp⟩⟩
end
end
section
/-! derivatives forwards -/
def gf_E (iv : Nat → gh_T) (dv : Nat → Int32) : Prop := ∀ j, j < 12 → (iv j).2.1 = dv j
/-- plain value of an operation that may be wanting -/
def gf_ac (iv : Nat → gh_T) (dv : Nat → Int32) (L : gl_L) (z : Int32) (c : Nat) : Int32 := (gb_ac iv dv L z c).1
def gf_op (w p q : Int32) : Int32 := if w = 2 then p + q else p - q
def gf_ms (L M : gl_L) (z w l r d : Int32) : Prop :=
  gl_ext L M ∧ gl_WF M ∧ M.1 ≤ L.1 + 4 ∧ ((z = -1 ∧ l = -1 ∧ r = -1) ∨ ∃ g, z = nI g ∧ g < M.1 ∧ gl_wi M g = d ∧ ∀ iv dv c, c < 4 → (gl_val iv dv M g c).1 = gf_op w (gf_ac iv dv L l c) (gf_ac iv dv L r c))
theorem gf_ac_m1 (iv : Nat → gh_T) (dv : Nat → Int32) (L : gl_L) (c : Nat) : gf_ac iv dv L (-1) c = 0 := by
  unfold gf_ac; rw [gb_ac_m1]; rfl
theorem gf_ac_n (iv : Nat → gh_T) (dv : Nat → Int32) (L : gl_L) {g : Nat} (h : g < 450) (c : Nat) : gf_ac iv dv L (nI g) c = (gl_val iv dv L g c).1 := by
  unfold gf_ac; rw [gb_ac_n iv dv L h]
theorem gf_op0 (w p : Int32) : gf_op w p 0 = p := by
  unfold gf_op
  split
  · exact Int32.add_zero p
  · exact Int32.sub_zero p
theorem gx_ok_len {L M : gl_L} {r : Nat} {d : Int32} {F : (Nat → gh_T) → (Nat → Int32) → Nat → gh_T} {K : (Int32 → Nat) → Nat} (h : gx_out L M r d F K) {k : Nat} (hk : K (fun _ => 1) ≤ k) : M.1 ≤ L.1 + k := by
  have := h.2.2.2.2.2 (fun _ => 1)
  rw [gl_ws1, gl_ws1] at this
  omega
section
variable {nc lv fc : Int32} {kd px py vc ip dr na re sl fs so la : Nat → Int32}
theorem gf_ms54 {L : gl_L} (h : gl_WF L) (hl : L.1 + 2 ≤ 450) {w d : Int32} (hw : w = 2 ∨ w = 3) {a b : Nat} (ha : a < L.1) (hb : b < L.1) (hm : gl_wm (gl_wi L a) (gl_wi L b) d) : ∃ g M,
    (gl_ext L M ∧ gl_WF M ∧ M.1 ≤ L.1 + 2 ∧ g < M.1 ∧ gl_wi M g = d ∧ ∀ iv dv c, c < 4 → (gl_val iv dv M g c).1 = gf_op w (gl_val iv dv L a c).1 (gl_val iv dv L b c).1) ∧
    ∀ post : Int32 → SX → Prop, post (nI g) (gx_S nc lv fc kd px py vc ip dr na re sl fs so la M) → wX_movedSum_54 post w (nI b) d (nI a) nc lv (nI L.1) fc kd px py vc ip dr (gl_op L) (gl_fi L) (gl_se L) (gl_nu L) (gl_wi L) na re sl fs so la := by
  have hL := h.1
  obtain ⟨g, M, hg, mk, wk⟩ := gx_make (nc := nc) (lv := lv) (fc := fc) (kd := kd) (px := px) (py := py) (vc := vc) (ip := ip) (dr := dr) (na := na) (re := re) (sl := sl) (fs := fs) (so := so) (la := la) h hl (gx_ok2 (w := w) (d := d) (by rcases hw with e | e; exact Or.inl e; exact Or.inr (Or.inl e)) ha hb hm)
  refine ⟨g, M, ⟨mk.1, mk.2.1, gx_mk_len mk, mk.2.2.1, mk.2.2.2.1, fun iv dv c hc => ?_⟩, fun post hp => wk _ hp⟩
  rw [mk.2.2.2.2.1 iv dv c hc, nI_clamp (by omega), nI_clamp (by omega)]
  rcases hw with rfl | rfl
  · rw [gh_ov2]; rfl
  · rw [gh_ov3]; rfl
theorem gf_movedSum {L : gl_L} (h : gl_WF L) (hl : L.1 + 4 ≤ 450) {w l r wl wr d : Int32} (hw : w = 2 ∨ w = 3) (hm : gl_wm wl wr d) (zl : gb_z L l wl) (zr : gb_z L r wr) : ∃ z M, gf_ms L M z w l r d ∧
    ∀ post : Int32 → SX → Prop, post z (gx_S nc lv fc kd px py vc ip dr na re sl fs so la M) → wpX_movedSum post (gx_S nc lv fc kd px py vc ip dr na re sl fs so la L) w l r d := by
  have hL := h.1
  rcases zl with rfl | ⟨a, ha, rfl, hwa⟩
  · rcases zr with rfl | ⟨b, hb, rfl, hwb⟩
    · exact ⟨-1, L, ⟨gl_ext_rf L, h, by omega, Or.inl ⟨rfl, rfl, rfl⟩⟩, fun post hp => br_f (by decide) (br_f (by decide) hp)⟩
    · have pb : (0 : Int32) ≤ nI b := nI_pos' (by omega)
      rcases hw with rfl | rfl
      · obtain ⟨g, M, ho, wo⟩ := gx_widened (nc := nc) (lv := lv) (fc := fc) (kd := kd) (px := px) (py := py) (vc := vc) (ip := ip) (dr := dr) (na := na) (re := re) (sl := sl) (fs := fs) (so := so) (la := la) h (by omega) hb (d := d) (by rw [hwb]; exact gx_wm_y hm)
        have hlen := gx_ok_len ho (k := 1) (by dsimp only; split <;> omega)
        obtain ⟨o1, o2, o3, o4, o5, o6⟩ := ho
        refine ⟨nI g, M, ⟨o1, o2, by omega, Or.inr ⟨g, rfl, o3, o4, fun iv dv c hc => ?_⟩⟩, fun post hp => br_f (by decide) (br_t pb (br_t pb (br_f (by decide) (br_t rfl (wo _ hp)))))⟩
        rw [o5 iv dv c hc, gf_ac_m1, gf_ac_n iv dv L (by omega)]
        unfold gf_op
        rw [if_pos rfl, Int32.zero_add]
      · obtain ⟨z, M, ho, wo⟩ := gx_zero (nc := nc) (lv := lv) (fc := fc) (kd := kd) (px := px) (py := py) (vc := vc) (ip := ip) (dr := dr) (na := na) (re := re) (sl := sl) (fs := fs) (so := so) (la := la) h (by omega) (d := d) (gx_wm_d hm)
        have hlen := gx_ok_len ho (k := 2) (by dsimp only; split <;> omega)
        obtain ⟨o1, o2, o3, o4, o5, o6⟩ := ho
        have hlen0 := o1.1
        obtain ⟨g, N, ⟨n1, n2, n3, n4, n5, n6⟩, wn⟩ := gf_ms54 (nc := nc) (lv := lv) (fc := fc) (kd := kd) (px := px) (py := py) (vc := vc) (ip := ip) (dr := dr) (na := na) (re := re) (sl := sl) (fs := fs) (so := so) (la := la) o2 (by omega) (w := 3) (d := d) (Or.inr rfl) o3 (show b < M.1 by omega) (by rw [o4, (o1.2 b hb).2.2.2.2, hwb]; exact gb_wm_d1 hm)
        refine ⟨nI g, N, ⟨gl_ext_tr o1 n1, n2, by omega, Or.inr ⟨g, rfl, n4, n5, fun iv dv c hc => ?_⟩⟩, fun post hp => br_f (by decide) (br_t pb (br_t pb (br_f (by decide) (br_f (by decide) (br_f (by decide) (wo _ (wn post hp)))))))⟩
        rw [n6 iv dv c hc, o5 iv dv c hc, gl_val_ext o1 hb, gf_ac_m1, gf_ac_n iv dv L (by omega)]
        rfl
  · have pa : (0 : Int32) ≤ nI a := nI_pos' (by omega)
    rcases zr with rfl | ⟨b, hb, rfl, hwb⟩
    · obtain ⟨g, M, ho, wo⟩ := gx_widened (nc := nc) (lv := lv) (fc := fc) (kd := kd) (px := px) (py := py) (vc := vc) (ip := ip) (dr := dr) (na := na) (re := re) (sl := sl) (fs := fs) (so := so) (la := la) h (by omega) ha (d := d) (by rw [hwa]; exact gx_wm_x hm)
      have hlen := gx_ok_len ho (k := 1) (by dsimp only; split <;> omega)
      obtain ⟨o1, o2, o3, o4, o5, o6⟩ := ho
      refine ⟨nI g, M, ⟨o1, o2, by omega, Or.inr ⟨g, rfl, o3, o4, fun iv dv c hc => ?_⟩⟩, fun post hp => br_t pa (br_f (by decide) (wo _ hp))⟩
      rw [o5 iv dv c hc, gf_ac_m1, gf_ac_n iv dv L (by omega), gf_op0]
    · have pb : (0 : Int32) ≤ nI b := nI_pos' (by omega)
      obtain ⟨g, N, ⟨n1, n2, n3, n4, n5, n6⟩, wn⟩ := gf_ms54 (nc := nc) (lv := lv) (fc := fc) (kd := kd) (px := px) (py := py) (vc := vc) (ip := ip) (dr := dr) (na := na) (re := re) (sl := sl) (fs := fs) (so := so) (la := la) h (by omega) (w := w) (d := d) hw ha hb (by rw [hwa, hwb]; exact hm)
      refine ⟨nI g, N, ⟨n1, n2, by omega, Or.inr ⟨g, rfl, n4, n5, fun iv dv c hc => ?_⟩⟩, fun post hp => br_t pa (br_t pb (br_t pa (br_t pa (wn post hp))))⟩
      rw [n6 iv dv c hc, gf_ac_n iv dv L (by omega), gf_ac_n iv dv L (by omega)]
end
/-- what forwards has noted for operation id -/
def gf_ok (L : gl_L) (z : Int32) (id : Nat) : Prop := gb_z L z (gl_wi L id) ∧ ∀ iv dv, gf_E iv dv → ∀ c, c < 4 → gf_ac iv dv L z c = (gl_val iv dv L id c).2.1
theorem gf_ok_ext {L M : gl_L} (hL : L.1 ≤ 450) (h : gl_ext L M) {z : Int32} {id : Nat} (hid : id < L.1) (g : gf_ok L z id) : gf_ok M z id := by
  refine ⟨by rw [(h.2 id hid).2.2.2.2]; exact gb_z_ext h g.1, fun iv dv hE c hc => ?_⟩
  unfold gf_ac
  rw [gb_ac_ext hL h g.1, gl_val_ext h hid]
  exact g.2 iv dv hE c hc
def gf_mv (L M : gl_L) (z : Int32) (id : Nat) : Prop := gl_ext L M ∧ gl_WF M ∧ M.1 ≤ L.1 + 8 ∧ gf_ok M z id
theorem gf_a_pre {f : Nat → gh_T} {g : Nat → gh_T} : ∀ c, (∀ j, j ≤ c → (f j).1 = (g j).2.1) → (gh_pre f c).1 = (gh_pre g c).2.1 := by
  intro c
  induction c with
  | zero => intro h; exact h 0 (Nat.le_refl _)
  | succ c ih => intro h; show (gh_pre f c).1 + (f (c + 1)).1 = (gh_pre g c).2.1 + (g (c + 1)).2.1; rw [ih (fun j hj => h j (by omega)), h (c + 1) (Nat.le_refl _)]
theorem gf_a_un {w n wx d : Int32} (hu : gl_un w n wx d) {iv : Nat → gh_T} {dv : Nat → Int32} {V : Nat → Nat → gh_T} {x y b b' c : Nat} (hc : c < 4) (hV : ∀ c, c < 4 → (V y c).1 = (V x c).2.1) :
    (gh_ov iv dv w y b n V c).1 = (gh_ov iv dv w x b' n V c).2.1 := by
  rcases hu with ⟨rfl, _⟩ | ⟨rfl, _⟩ | ⟨rfl, _, _, t, ht, rfl⟩ | ⟨rfl, _⟩ | ⟨rfl, _⟩ | ⟨rfl, _⟩ | ⟨rfl, _⟩
  · rw [gh_ov5, gh_ov5]
    show (V y 0).1 + (V y 1).1 + (V y 2).1 + (V y 3).1 = (V x 0).2.1 + (V x 1).2.1 + (V x 2).2.1 + (V x 3).2.1
    rw [hV 0 (by omega), hV 1 (by omega), hV 2 (by omega), hV 3 (by omega)]
  · rw [gh_ov6, gh_ov6]; exact hV _ (Nat.mod_lt _ (by omega))
  · rw [gh_ov7, gh_ov7]; exact hV _ (by rw [nI_clamp (by omega)]; exact ht)
  · rw [gh_ov8, gh_ov8]; exact hV c hc
  · rw [gh_ov10, gh_ov10]; exact gf_a_pre c (fun j hj => hV j (by omega))
  · rw [gh_ov14, gh_ov14]
    unfold gh_suf
    split
    · show (V y 3).1 + (V y 2).1 + (V y 1).1 + (V y 0).1 = (V x 3).2.1 + (V x 2).2.1 + (V x 1).2.1 + (V x 0).2.1
      rw [hV 0 (by omega), hV 1 (by omega), hV 2 (by omega), hV 3 (by omega)]
    · split
      · show (V y 3).1 + (V y 2).1 + (V y 1).1 = (V x 3).2.1 + (V x 2).2.1 + (V x 1).2.1
        rw [hV 1 (by omega), hV 2 (by omega), hV 3 (by omega)]
      · split
        · show (V y 3).1 + (V y 2).1 = (V x 3).2.1 + (V x 2).2.1
          rw [hV 2 (by omega), hV 3 (by omega)]
        · exact hV 3 (by omega)
  · rw [gh_ov12, gh_ov12]
    split
    · exact hV 0 (by omega)
    · rfl
theorem gf_a_un0 {w n wx d : Int32} (hu : gl_un w n wx d) {iv : Nat → gh_T} {dv : Nat → Int32} {V : Nat → Nat → gh_T} {x b c : Nat} (hc : c < 4) (hV : ∀ c, c < 4 → (V x c).2.1 = 0) :
    (gh_ov iv dv w x b n V c).2.1 = 0 := by
  have h1 := gf_a_un hu (iv := iv) (dv := dv) (V := fun i c => if i = 0 then gh_0 else V x c) (x := 1) (y := 0) (b := 0) (b' := 0) hc (fun c hc => by
    show (0 : Int32) = (V x c).2.1
    exact (hV c hc).symm)
  have h2 : gh_ov iv dv w 1 0 n (fun i c => if i = 0 then gh_0 else V x c) c = gh_ov iv dv w x b n V c := by
    have nb : ¬ gh_bin w := by rcases hu with ⟨e, _⟩ | ⟨e, _⟩ | ⟨e, _⟩ | ⟨e, _⟩ | ⟨e, _⟩ | ⟨e, _⟩ | ⟨e, _⟩ <;> rw [e] <;> unfold gh_bin <;> decide
    refine gh_ov_map hc (fun z => ?_) (fun _ c _ => rfl) (fun z => absurd z nb)
    rcases hu with ⟨e, _⟩ | ⟨e, _⟩ | ⟨e, _, _, t, ht, e'⟩ | ⟨e, _⟩ | ⟨e, _⟩ | ⟨e, _⟩ | ⟨e, _⟩
    · rw [z] at e; exact absurd e (by decide)
    · rw [z] at e; exact absurd e (by decide)
    · rw [e', nI_clamp (by omega)]; exact ht
    all_goals rw [z] at e; exact absurd e (by decide)
  rw [← h2, ← h1]
  have h3 : gh_ov iv dv w 0 0 n (fun i c => if i = 0 then gh_0 else V x c) c = gh_0 := gx_un0 hu (fun _ => rfl)
  rw [h3]; rfl
end
section
/-! moved, forwards -/
section
variable {nc lv fc : Int32} {kd px py vc ip dr na re sl fs so la : Nat → Int32}
theorem gf_mvS {L : gl_L} (h : gl_WF L) (hl : L.1 + 8 ≤ 450) {id x y : Nat} {w : Int32} (hw : w = 2 ∨ w = 3) (hid : id < L.1) (hre : ∀ j, j < id → gf_ok L (re j) j)
    (e1 : gl_op L id = w) (e2 : gl_fi L id = nI x) (e3 : gl_se L id = nI y) (hx : x < id) (hy : y < id) (hm : gl_wm (gl_wi L x) (gl_wi L y) (gl_wi L id)) : ∃ z M, gf_mv L M z id ∧
    ∀ post : Int32 → SX → Prop, post z (gx_S nc lv fc kd px py vc ip dr na re sl fs so la M) → wpX_moved post (gx_S nc lv fc kd px py vc ip dr na re sl fs so la L) (nI id) := by
  have hL := h.1
  have hi : vp_in (nI id) 450 := vp_in_nI (by omega) (by omega)
  have ec : (nI id).toNatClampNeg = id := nI_clamp (by omega)
  have hix : vp_in (nI x) 450 := vp_in_nI (by omega) (by omega)
  have ecx : (nI x).toNatClampNeg = x := nI_clamp (by omega)
  have hiy : vp_in (nI y) 450 := vp_in_nI (by omega) (by omega)
  have ecy : (nI y).toNatClampNeg = y := nI_clamp (by omega)
  obtain ⟨z, M, ⟨o1, o2, o3, o4⟩, wm⟩ := gf_movedSum (nc := nc) (lv := lv) (fc := fc) (kd := kd) (px := px) (py := py) (vc := vc) (ip := ip) (dr := dr) (na := na) (re := re) (sl := sl) (fs := fs) (so := so) (la := la) h (by omega) hw hm (hre x hx).1 (hre y hy).1
  refine ⟨z, M, ⟨o1, o2, by omega, ?_, fun iv dv hE c hc => ?_⟩, fun post hp => ?_⟩
  · rcases o4 with ⟨ez, _⟩ | ⟨g, ez, hg, hwg, _⟩
    · exact Or.inl ez
    · exact Or.inr ⟨g, hg, ez, by rw [(o1.2 id hid).2.2.2.2]; exact hwg⟩
  · have hM := o2.1
    have a1 := (hre x hx).2 iv dv hE c hc
    have a2 := (hre y hy).2 iv dv hE c hc
    have hv : (gl_val iv dv M id c).2.1 = gf_op w (gl_val iv dv L x c).2.1 (gl_val iv dv L y c).2.1 := by
      rw [gl_val_ext o1 hid, gl_val_eq h hid, e1, e2, e3, ecx, ecy]
      rcases hw with rfl | rfl
      · rw [gh_ov2]; rfl
      · rw [gh_ov3]; rfl
    rw [hv, ← a1, ← a2]
    rcases o4 with ⟨ez, ex, ey⟩ | ⟨g, ez, hg, hwg, hv⟩
    · rw [ez, ex, ey, gf_ac_m1, gf_ac_m1, gf_op0]
    · rw [ez, gf_ac_n iv dv M (by omega), hv iv dv c hc]
  · have hb : wX_moved_59 post (nI id) w (nI x) (nI y) nc lv (nI L.1) fc kd px py vc ip dr (gl_op L) (gl_fi L) (gl_se L) (gl_nu L) (gl_wi L) na re sl fs so la := by
      refine And.intro hix (And.intro hiy (And.intro hi ?_))
      rw [ecx, ecy, ec]
      exact wm _ hp
    rcases hw with rfl | rfl
    · exact And.intro hi (nm_r (e' := 2) (by rw [ec, e1]) (And.intro hi (nm_r (e' := nI x) (by rw [ec, e2]) (And.intro hi (nm_r (e' := nI y) (by rw [ec, e3]) ( br_f (by decide) (br_f (by decide) (br_t rfl hb))))))))
    · exact And.intro hi (nm_r (e' := 3) (by rw [ec, e1]) (And.intro hi (nm_r (e' := nI x) (by rw [ec, e2]) (And.intro hi (nm_r (e' := nI y) (by rw [ec, e3]) ( br_f (by decide) (br_f (by decide) (br_f (by decide) (br_t rfl hb)))))))))
/-- one factor's change times the other factor; -1 if it has none -/
theorem gf_mv158 {L : gl_L} (h : gl_WF L) (hl : L.1 + 4 ≤ 450) {id : Nat} (hid : id < L.1) {l r : Int32} (zl : gb_z L l (gl_wi L id)) (zr : gb_z L r (gl_wi L id)) : ∃ z M, gf_ms L M z 2 l r (gl_wi L id) ∧
    ∀ post : Int32 → SX → Prop, post z (gx_S nc lv fc kd px py vc ip dr na re sl fs so la M) → wX_moved_158 post (nI id) l r nc lv (nI L.1) fc kd px py vc ip dr (gl_op L) (gl_fi L) (gl_se L) (gl_nu L) (gl_wi L) na re sl fs so la := by
  have hL := h.1
  have hi : vp_in (nI id) 450 := vp_in_nI (by omega) (by omega)
  have ec : (nI id).toNatClampNeg = id := nI_clamp (by omega)
  obtain ⟨z, M, ho, wm⟩ := gf_movedSum (nc := nc) (lv := lv) (fc := fc) (kd := kd) (px := px) (py := py) (vc := vc) (ip := ip) (dr := dr) (na := na) (re := re) (sl := sl) (fs := fs) (so := so) (la := la) h hl (w := 2) (Or.inl rfl) (gx_wm_same (gl_wd h hid) rfl) zl zr
  refine ⟨z, M, ho, fun post hp => And.intro hi ?_⟩
  rw [ec]
  exact wm _ hp
theorem gf_mv122 {L : gl_L} (h : gl_WF L) (hl : L.1 + 6 ≤ 450) {id x y : Nat} (hid : id < L.1) (hx : x < id) (hy : y < id) (zy : gb_z L (re y) (gl_wi L y)) (hm : gl_wm (gl_wi L x) (gl_wi L y) (gl_wi L id)) {l : Int32} (zl : gb_z L l (gl_wi L id)) : ∃ z M,
    (gl_ext L M ∧ gl_WF M ∧ M.1 ≤ L.1 + 6 ∧ ((z = -1 ∧ l = -1 ∧ re y = -1) ∨ ∃ g, z = nI g ∧ g < M.1 ∧ gl_wi M g = gl_wi L id ∧ ∀ iv dv c, c < 4 → (gl_val iv dv M g c).1 = gf_ac iv dv L l c + (gl_val iv dv L x c).1 * gf_ac iv dv L (re y) c)) ∧
    ∀ post : Int32 → SX → Prop, post z (gx_S nc lv fc kd px py vc ip dr na re sl fs so la M) → wX_moved_122 post (nI id) (nI x) (nI y) l nc lv (nI L.1) fc kd px py vc ip dr (gl_op L) (gl_fi L) (gl_se L) (gl_nu L) (gl_wi L) na re sl fs so la := by
  have hL := h.1
  have hi : vp_in (nI id) 450 := vp_in_nI (by omega) (by omega)
  have ec : (nI id).toNatClampNeg = id := nI_clamp (by omega)
  have ecx : (nI x).toNatClampNeg = x := nI_clamp (by omega)
  have hiy : vp_in (nI y) 450 := vp_in_nI (by omega) (by omega)
  have ecy : (nI y).toNatClampNeg = y := nI_clamp (by omega)
  rcases zy with ey | ⟨b, hb, ey, hwb⟩
  · obtain ⟨z, M, ⟨o1, o2, o3, o4⟩, wm⟩ := gf_mv158 (nc := nc) (lv := lv) (fc := fc) (kd := kd) (px := px) (py := py) (vc := vc) (ip := ip) (dr := dr) (na := na) (re := re) (sl := sl) (fs := fs) (so := so) (la := la) h (by omega) hid zl (Or.inl rfl)
    refine ⟨z, M, ⟨o1, o2, by omega, ?_⟩, fun post hp => And.intro hiy (br_f (by rw [ecy, ey]; decide) (wm _ hp))⟩
    rcases o4 with ⟨ez, el, _⟩ | ⟨g, ez, hg, hwg, hv⟩
    · exact Or.inl ⟨ez, el, ey⟩
    · refine Or.inr ⟨g, ez, hg, hwg, fun iv dv c hc => ?_⟩
      rw [hv iv dv c hc, ey, gf_ac_m1, gf_op0, Int32.mul_zero, Int32.add_zero]
  · obtain ⟨r, M1, hr, mk, wk⟩ := gx_make (nc := nc) (lv := lv) (fc := fc) (kd := kd) (px := px) (py := py) (vc := vc) (ip := ip) (dr := dr) (na := na) (re := re) (sl := sl) (fs := fs) (so := so) (la := la) h (by omega) (gx_ok2 (w := 4) (d := gl_wi L id) (Or.inr (Or.inr rfl)) (show x < L.1 by omega) hb (by rw [hwb]; exact hm))
    have x1 := mk.1
    have l1 := gx_mk_len mk
    have l1' := x1.1
    have wi1 : gl_wi M1 id = gl_wi L id := (x1.2 id hid).2.2.2.2
    obtain ⟨z, M, ⟨o1, o2, o3, o4⟩, wm⟩ := gf_mv158 (nc := nc) (lv := lv) (fc := fc) (kd := kd) (px := px) (py := py) (vc := vc) (ip := ip) (dr := dr) (na := na) (re := re) (sl := sl) (fs := fs) (so := so) (la := la) mk.2.1 (by omega) (show id < M1.1 by omega) (l := l) (r := nI r) (by rw [wi1]; exact gb_z_ext x1 zl) (Or.inr ⟨r, mk.2.2.1, rfl, by rw [wi1]; exact mk.2.2.2.1⟩)
    refine ⟨z, M, ⟨gl_ext_tr x1 o1, o2, by omega, ?_⟩, fun post hp => And.intro hiy (br_t (by rw [ecy, ey]; exact nI_pos' (by omega)) (And.intro hiy (And.intro hi ?_)))⟩
    · rcases o4 with ⟨_, _, e⟩ | ⟨g, ez, hg, hwg, hv⟩
      · exact (gl_nI_m1 hr e).elim
      · refine Or.inr ⟨g, ez, hg, hwg.trans wi1, fun iv dv c hc => ?_⟩
        rw [hv iv dv c hc, gf_ac_n iv dv M1 (by have := mk.2.2.1; have := mk.2.1.1; omega), mk.2.2.2.2.1 iv dv c hc, gh_ov4, ecx, nI_clamp (by omega), ey, gf_ac_n iv dv L (by omega)]
        have e : gf_ac iv dv M1 l c = gf_ac iv dv L l c := by unfold gf_ac; rw [gb_ac_ext hL x1 zl]
        rw [e]
        rfl
    · rw [ecy, ey, ec]
      exact wk _ (wm _ hp)
theorem gf_mv4 {L : gl_L} (h : gl_WF L) (hl : L.1 + 8 ≤ 450) {id x y : Nat} (hid : id < L.1) (hre : ∀ j, j < id → gf_ok L (re j) j)
    (e1 : gl_op L id = 4) (e2 : gl_fi L id = nI x) (e3 : gl_se L id = nI y) (hx : x < id) (hy : y < id) (hm : gl_wm (gl_wi L x) (gl_wi L y) (gl_wi L id)) : ∃ z M, gf_mv L M z id ∧
    ∀ post : Int32 → SX → Prop, post z (gx_S nc lv fc kd px py vc ip dr na re sl fs so la M) → wpX_moved post (gx_S nc lv fc kd px py vc ip dr na re sl fs so la L) (nI id) := by
  have hL := h.1
  have hi : vp_in (nI id) 450 := vp_in_nI (by omega) (by omega)
  have ec : (nI id).toNatClampNeg = id := nI_clamp (by omega)
  have hix : vp_in (nI x) 450 := vp_in_nI (by omega) (by omega)
  have ecx : (nI x).toNatClampNeg = x := nI_clamp (by omega)
  have ecy : (nI y).toNatClampNeg = y := nI_clamp (by omega)
  have hva : ∀ iv dv c, (gl_val iv dv L id c).2.1 = (gl_val iv dv L x c).2.1 * (gl_val iv dv L y c).1 + (gl_val iv dv L x c).1 * (gl_val iv dv L y c).2.1 := by
    intro iv dv c
    rw [gl_val_eq h hid, e1, e2, e3, ecx, ecy, gh_ov4]; rfl
  rcases (hre x hx).1 with ex | ⟨a, ha, ex, hwa⟩
  · obtain ⟨z, M, ⟨o1, o2, o3, o4⟩, wm⟩ := gf_mv122 (nc := nc) (lv := lv) (fc := fc) (kd := kd) (px := px) (py := py) (vc := vc) (ip := ip) (dr := dr) (na := na) (re := re) (sl := sl) (fs := fs) (so := so) (la := la) h (by omega) hid hx hy (hre y hy).1 hm (l := -1) (Or.inl rfl)
    have wi1 : gl_wi M id = gl_wi L id := (o1.2 id hid).2.2.2.2
    have hM := o2.1
    refine ⟨z, M, ⟨o1, o2, by omega, ?_, fun iv dv hE c hc => ?_⟩, fun post hp => And.intro hi (nm_r (e' := 4) (by rw [ec, e1]) (And.intro hi (nm_r (e' := nI x) (by rw [ec, e2]) (And.intro hi (nm_r (e' := nI y) (by rw [ec, e3]) ( br_f (by decide) (br_f (by decide) (br_f (by decide) (br_f (by decide) (br_t rfl (And.intro hix (br_f (by rw [ecx, ex]; decide) (wm _ hp)))))))))))))⟩
    · rcases o4 with ⟨ez, _⟩ | ⟨g, ez, hg, hwg, _⟩
      · exact Or.inl ez
      · exact Or.inr ⟨g, hg, ez, by rw [wi1]; exact hwg⟩
    · have a1 := (hre x hx).2 iv dv hE c hc
      have a2 := (hre y hy).2 iv dv hE c hc
      rw [ex, gf_ac_m1] at a1
      rw [gl_val_ext o1 hid, hva, ← a1, ← a2, Int32.zero_mul, Int32.zero_add]
      rcases o4 with ⟨ez, _, ey⟩ | ⟨g, ez, hg, hwg, hv⟩
      · rw [ez, ey, gf_ac_m1, gf_ac_m1, Int32.mul_zero]
      · rw [ez, gf_ac_n iv dv M (by omega), hv iv dv c hc, gf_ac_m1, Int32.zero_add]
  · obtain ⟨r, M1, hr, mk, wk⟩ := gx_make (nc := nc) (lv := lv) (fc := fc) (kd := kd) (px := px) (py := py) (vc := vc) (ip := ip) (dr := dr) (na := na) (re := re) (sl := sl) (fs := fs) (so := so) (la := la) h (by omega) (gx_ok2 (w := 4) (d := gl_wi L id) (Or.inr (Or.inr rfl)) ha (show y < L.1 by omega) (by rw [hwa]; exact hm))
    have x1 := mk.1
    have l1 := gx_mk_len mk
    have l1' := x1.1
    have wi1 : gl_wi M1 id = gl_wi L id := (x1.2 id hid).2.2.2.2
    have wx1 : gl_wi M1 x = gl_wi L x := (x1.2 x (by omega)).2.2.2.2
    have wy1 : gl_wi M1 y = gl_wi L y := (x1.2 y (by omega)).2.2.2.2
    obtain ⟨z, M, ⟨o1, o2, o3, o4⟩, wm⟩ := gf_mv122 (nc := nc) (lv := lv) (fc := fc) (kd := kd) (px := px) (py := py) (vc := vc) (ip := ip) (dr := dr) (na := na) (re := re) (sl := sl) (fs := fs) (so := so) (la := la) mk.2.1 (by omega) (show id < M1.1 by omega) hx hy (by rw [wy1]; exact gb_z_ext x1 (hre y hy).1) (by rw [wi1, wx1, wy1]; exact hm) (l := nI r) (Or.inr ⟨r, mk.2.2.1, rfl, by rw [wi1]; exact mk.2.2.2.1⟩)
    have x2 := gl_ext_tr x1 o1
    have wi2 : gl_wi M id = gl_wi L id := (x2.2 id hid).2.2.2.2
    have hM := o2.1
    refine ⟨z, M, ⟨x2, o2, by omega, ?_, fun iv dv hE c hc => ?_⟩, fun post hp => And.intro hi (nm_r (e' := 4) (by rw [ec, e1]) (And.intro hi (nm_r (e' := nI x) (by rw [ec, e2]) (And.intro hi (nm_r (e' := nI y) (by rw [ec, e3]) ( br_f (by decide) (br_f (by decide) (br_f (by decide) (br_f (by decide) (br_t rfl (And.intro hix (br_t (by rw [ecx, ex]; exact nI_pos' (by omega)) (And.intro hix (And.intro hi ?_))))))))))))))⟩
    · rcases o4 with ⟨ez, _⟩ | ⟨g, ez, hg, hwg, _⟩
      · exact Or.inl ez
      · exact Or.inr ⟨g, hg, ez, by rw [wi2, ← wi1]; exact hwg⟩
    · have a1 := (hre x hx).2 iv dv hE c hc
      have a2 := (hre y hy).2 iv dv hE c hc
      rw [gl_val_ext x2 hid, hva, ← a1, ← a2]
      rcases o4 with ⟨_, e, _⟩ | ⟨g, ez, hg, hwg, hv⟩
      · exact (gl_nI_m1 hr e).elim
      · have ey1 : gf_ac iv dv M1 (re y) c = gf_ac iv dv L (re y) c := by unfold gf_ac; rw [gb_ac_ext hL x1 (hre y hy).1]
        rw [ez, gf_ac_n iv dv M (by omega), hv iv dv c hc, gf_ac_n iv dv M1 (by have := mk.2.2.1; have := mk.2.1.1; omega), mk.2.2.2.2.1 iv dv c hc, gh_ov4, ecy, nI_clamp (by omega), ey1, gl_val_ext x1 (show x < L.1 by omega), ex, gf_ac_n iv dv L (by omega)]
        rfl
    · rw [ecx, ex, ec]
      exact wk _ (wm _ hp)
theorem gf_moved {L : gl_L} (h : gl_WF L) (hl : L.1 + 8 ≤ 450) {id : Nat} (hid : id < L.1) (h11 : gl_op L id ≠ 11) (hre : ∀ j, j < id → gf_ok L (re j) j) : ∃ z M, gf_mv L M z id ∧
    ∀ post : Int32 → SX → Prop, post z (gx_S nc lv fc kd px py vc ip dr na re sl fs so la M) → wpX_moved post (gx_S nc lv fc kd px py vc ip dr na re sl fs so la L) (nI id) := by
  have hL := h.1
  have hi : vp_in (nI id) 450 := vp_in_nI (by omega) (by omega)
  have ec : (nI id).toNatClampNeg = id := nI_clamp (by omega)
  rcases h.2 id hid with ⟨hw, e2, e3, hw1, q, hq, e4⟩ | ⟨e1, e2, e3, hw1⟩ | ⟨hw, e4, x, y, hx, hy, e2, e3, hm⟩ | ⟨e1, e4, hd, x, y, hx, hy, e2, e3, hwx, hwy⟩ | ⟨e3, x, hx, e2, hu⟩
  · rcases hw with e1 | e1
    · obtain ⟨r, M, hr, mk, wk⟩ := gx_make (nc := nc) (lv := lv) (fc := fc) (kd := kd) (px := px) (py := py) (vc := vc) (ip := ip) (dr := dr) (na := na) (re := re) (sl := sl) (fs := fs) (so := so) (la := la) h (by omega) (w := 11) (a := -1) (b := -1) (n := nI q) (d := 1) (Or.inl ⟨Or.inr rfl, rfl, rfl, rfl, q, hq, rfl⟩)
      refine ⟨nI r, M, ⟨mk.1, mk.2.1, by have := gx_mk_len mk; omega, Or.inr ⟨r, mk.2.2.1, rfl, ?_⟩, fun iv dv hE c hc => ?_⟩, fun post hp => And.intro hi (nm_r (e' := 0) (by rw [ec, e1]) (And.intro hi (nm_r (e' := (-1)) (by rw [ec, e2]) (And.intro hi (nm_r (e' := (-1)) (by rw [ec, e3]) ( br_t rfl (And.intro hi ?_)))))))⟩
      · rw [mk.2.2.2.1, (mk.1.2 id hid).2.2.2.2, hw1]
      · rw [gf_ac_n iv dv M hr, mk.2.2.2.2.1 iv dv c hc, gh_ov11, gl_val_ext mk.1 hid, gl_val_eq h hid, e1, e4, gh_ov0]
        exact (hE _ (by rw [nI_clamp (by omega)]; omega)).symm
      · rw [ec, e4]
        exact wk _ hp
    · exact absurd e1 h11
  · refine ⟨-1, L, ⟨gl_ext_rf L, h, by omega, Or.inl rfl, fun iv dv hE c hc => ?_⟩, fun post hp => And.intro hi (nm_r (e' := 1) (by rw [ec, e1]) (And.intro hi (nm_r (e' := (-1)) (by rw [ec, e2]) (And.intro hi (nm_r (e' := (-1)) (by rw [ec, e3]) ( br_f (by decide) (br_t rfl hp)))))))⟩
    rw [gf_ac_m1, gl_val_eq h hid, e1, gh_ov1]
    rfl
  · rcases hw with e1 | e1 | e1
    · exact gf_mvS h hl (Or.inl rfl) hid hre e1 e2 e3 hx hy hm
    · exact gf_mvS h hl (Or.inr rfl) hid hre e1 e2 e3 hx hy hm
    · exact gf_mv4 h hl hid hre e1 e2 e3 hx hy hm
  · have hiy : vp_in (nI y) 450 := vp_in_nI (by omega) (by omega)
    have ecy : (nI y).toNatClampNeg = y := nI_clamp (by omega)
    have ecx : (nI x).toNatClampNeg = x := nI_clamp (by omega)
    have hva : ∀ iv dv c, (gl_val iv dv L id c).2.1 = if (gl_val iv dv L x c).1 ≤ 0 then 0 else (gl_val iv dv L y c).2.1 := by
      intro iv dv c
      rw [gl_val_eq h hid, e1, e2, e3, ecx, ecy, gh_ov13, gh_gate]
      split <;> rfl
    rcases (hre y hy).1 with ey | ⟨b, hb, ey, hwb⟩
    · refine ⟨-1, L, ⟨gl_ext_rf L, h, by omega, Or.inl rfl, fun iv dv hE c hc => ?_⟩, fun post hp => And.intro hi (nm_r (e' := 13) (by rw [ec, e1]) (And.intro hi (nm_r (e' := nI x) (by rw [ec, e2]) (And.intro hi (nm_r (e' := nI y) (by rw [ec, e3]) ( br_f (by decide) (br_f (by decide) (br_f (by decide) (br_f (by decide) (br_f (by decide) (br_t rfl (And.intro hiy (br_f (by rw [ecy, ey]; decide) hp)))))))))))))⟩
      have a2 := (hre y hy).2 iv dv hE c hc
      rw [ey, gf_ac_m1] at a2
      rw [gf_ac_m1, hva, ← a2]
      split <;> rfl
    · obtain ⟨r, M, hr, mk, wk⟩ := gx_make (nc := nc) (lv := lv) (fc := fc) (kd := kd) (px := px) (py := py) (vc := vc) (ip := ip) (dr := dr) (na := na) (re := re) (sl := sl) (fs := fs) (so := so) (la := la) h (by omega) (w := 13) (a := nI x) (b := nI b) (n := 0) (d := gl_wi L id) (Or.inr (Or.inr (Or.inr (Or.inl ⟨rfl, rfl, hd, x, b, by omega, hb, rfl, rfl, hwx, hwb.trans hwy⟩))))
      refine ⟨nI r, M, ⟨mk.1, mk.2.1, by have := gx_mk_len mk; omega, Or.inr ⟨r, mk.2.2.1, rfl, ?_⟩, fun iv dv hE c hc => ?_⟩, fun post hp => And.intro hi (nm_r (e' := 13) (by rw [ec, e1]) (And.intro hi (nm_r (e' := nI x) (by rw [ec, e2]) (And.intro hi (nm_r (e' := nI y) (by rw [ec, e3]) ( br_f (by decide) (br_f (by decide) (br_f (by decide) (br_f (by decide) (br_f (by decide) (br_t rfl (And.intro hiy (br_t (by rw [ecy, ey]; exact nI_pos' (by omega)) (And.intro hiy (And.intro hi ?_)))))))))))))))⟩
      · rw [mk.2.2.2.1, (mk.1.2 id hid).2.2.2.2]
      · have a2 := (hre y hy).2 iv dv hE c hc
        rw [ey, gf_ac_n iv dv L (by omega)] at a2
        rw [gf_ac_n iv dv M hr, mk.2.2.2.2.1 iv dv c hc, gh_ov13, gl_val_ext mk.1 hid, hva, ecx, nI_clamp (by omega), gh_gate]
        split
        · rfl
        · exact a2
      · rw [ecy, ey, ec]
        exact wk _ hp
  · have hix : vp_in (nI x) 450 := vp_in_nI (by omega) (by omega)
    have ecx : (nI x).toNatClampNeg = x := nI_clamp (by omega)
    have hc : ¬ gl_op L id = 0 ∧ ¬ gl_op L id = 1 ∧ ¬ gl_op L id = 2 ∧ ¬ gl_op L id = 3 ∧ ¬ gl_op L id = 4 ∧ ¬ gl_op L id = 13 := by
      rcases hu with ⟨e, _⟩ | ⟨e, _⟩ | ⟨e, _⟩ | ⟨e, _⟩ | ⟨e, _⟩ | ⟨e, _⟩ | ⟨e, _⟩ <;> rw [e] <;> decide
    obtain ⟨c0, c1, c2, c3, c4, c13⟩ := hc
    have e1 : gl_op L id = gl_op L id := rfl
    rcases (hre x hx).1 with ex | ⟨a, ha, ex, hwa⟩
    · refine ⟨-1, L, ⟨gl_ext_rf L, h, by omega, Or.inl rfl, fun iv dv hE c hc => ?_⟩, fun post hp => And.intro hi (nm_r (e' := gl_op L id) (by rw [ec]) (And.intro hi (nm_r (e' := nI x) (by rw [ec, e2]) (And.intro hi (nm_r (e' := -1) (by rw [ec, e3]) (br_f c0 (br_f c1 (br_f c2 (br_f c3 (br_f c4 (br_f c13 (And.intro hix (br_f (by rw [ecx, ex]; decide) hp)))))))))))))⟩
      rw [gf_ac_m1, gl_val_eq h hid, e2, ecx]
      exact (gf_a_un0 hu hc (fun c hc => by
        have a1 := (hre x hx).2 iv dv hE c hc
        rw [ex, gf_ac_m1] at a1
        exact a1.symm)).symm
    · obtain ⟨r, M, hr, mk, wk⟩ := gx_make (nc := nc) (lv := lv) (fc := fc) (kd := kd) (px := px) (py := py) (vc := vc) (ip := ip) (dr := dr) (na := na) (re := re) (sl := sl) (fs := fs) (so := so) (la := la) h (by omega) (gx_okU (w := gl_op L id) (n := gl_nu L id) (d := gl_wi L id) ha (by rw [hwa]; exact hu))
      refine ⟨nI r, M, ⟨mk.1, mk.2.1, by have := gx_mk_len mk; omega, Or.inr ⟨r, mk.2.2.1, rfl, ?_⟩, fun iv dv hE c hc => ?_⟩, fun post hp => And.intro hi (nm_r (e' := gl_op L id) (by rw [ec]) (And.intro hi (nm_r (e' := nI x) (by rw [ec, e2]) (And.intro hi (nm_r (e' := -1) (by rw [ec, e3]) (br_f c0 (br_f c1 (br_f c2 (br_f c3 (br_f c4 (br_f c13 (And.intro hix (br_t (by rw [ecx, ex]; exact nI_pos' (by omega)) (And.intro hix (And.intro hi (And.intro hi ?_))))))))))))))))⟩
      · rw [mk.2.2.2.1, (mk.1.2 id hid).2.2.2.2]
      · rw [gf_ac_n iv dv M hr, mk.2.2.2.2.1 iv dv c hc, gl_val_ext mk.1 hid, gl_val_eq h hid, e2, ecx, nI_clamp (by omega)]
        exact gf_a_un hu hc (fun c hc => by
          have a1 := (hre x hx).2 iv dv hE c hc
          rw [ex, gf_ac_n iv dv L (by omega)] at a1
          exact a1)
      · rw [ecx, ex, ec]
        exact wk _ hp
end
section
variable {nc lv fc : Int32} {kd px py vc ip dr na sl fs so la : Nat → Int32}
def gf_fw (L M : gl_L) (re : Nat → Int32) (n : Nat) : Prop := gl_ext L M ∧ gl_WF M ∧ M.1 ≤ L.1 + 8 * n ∧ ∀ j, j < n → gf_ok M (re j) j
theorem gf_loop {L : gl_L} (hL : gl_WF L) {r : Nat} (hr : r < L.1) (hc : L.1 + 8 * (r + 1) ≤ 450) (h11 : ∀ i, i < L.1 → gl_op L i ≠ 11) : ∀ q j, j + q = r + 1 → ∀ (M : gl_L) (re : Nat → Int32), gf_fw L M re j → ∃ N rf, gf_fw L N rf (r + 1) ∧
    ∀ post : Int32 → SX → Prop, post (rf r) (gx_S nc lv fc kd px py vc ip dr na rf sl fs so la N) → wX_forwards_2 post (nI r) (q + 1) (nI j) nc lv (nI M.1) fc kd px py vc ip dr (gl_op M) (gl_fi M) (gl_se M) (gl_nu M) (gl_wi M) na re sl fs so la := by
  intro q
  induction q with
  | zero =>
    intro j hj M re hs
    have e : j = r + 1 := by omega
    subst e
    have hM := hL.1
    refine ⟨M, re, hs, fun post hp => br_t (nI_lt (by omega) (by omega)) (And.intro (vp_in_nI (by omega) (by omega)) ?_)⟩
    rw [nI_clamp (by omega)]
    exact hp
  | succ q ih =>
    intro j hj M re hs
    obtain ⟨s1, s2, s3, s4⟩ := hs
    have hM := s2.1
    have hl := s1.1
    have hi : vp_in (nI j) 450 := vp_in_nI (by omega) (by omega)
    have ec : (nI j).toNatClampNeg = j := nI_clamp (by omega)
    obtain ⟨z, N, ⟨n1, n2, n3, n4⟩, w⟩ := gf_moved (nc := nc) (lv := lv) (fc := fc) (kd := kd) (px := px) (py := py) (vc := vc) (ip := ip) (dr := dr) (na := na) (re := re) (sl := sl) (fs := fs) (so := so) (la := la) s2 (by omega) (show j < M.1 by omega) (by rw [(s1.2 j (by omega)).1]; exact h11 j (by omega)) s4
    have hz : vp_nar .short z.toInt16.toInt32 = z := by
      rcases n4.1 with rfl | ⟨g, hg, rfl, _⟩
      · exact gx_m16
      · exact gx_n16 (by have := n2.1; omega)
    obtain ⟨N2, rf, hs2, hw⟩ := ih (j + 1) (by omega) N (upd re j z) ⟨gl_ext_tr s1 n1, n2, by omega, fun i hi => by
        by_cases e : i = j
        · subst e; rw [pk_us]; exact n4
        · rw [pk_un e]; exact gf_ok_ext hM n1 (by omega) (s4 i (by omega))⟩
    exact ⟨N2, rf, hs2, fun post hp => br_f (nI_nlt (by omega) (by omega)) (w _ (And.intro hi (nm_r (e' := upd re j z) (by rw [ec, hz]) (nm_r (nI_1 j) (hw post hp)))))⟩
theorem gf_forwards {re : Nat → Int32} {L : gl_L} (hL : gl_WF L) {r : Nat} (hr : r < L.1) (hc : L.1 + 8 * (r + 1) ≤ 450) (h11 : ∀ i, i < L.1 → gl_op L i ≠ 11) : ∃ N rf, gf_fw L N rf (r + 1) ∧
    ∀ post : Int32 → SX → Prop, post (rf r) (gx_S nc lv fc kd px py vc ip dr na rf sl fs so la N) → wpX_forwards post (gx_S nc lv fc kd px py vc ip dr na re sl fs so la L) (nI r) := by
  obtain ⟨N, rf, hs, hw⟩ := gf_loop (nc := nc) (lv := lv) (fc := fc) (kd := kd) (px := px) (py := py) (vc := vc) (ip := ip) (dr := dr) (na := na) (sl := sl) (fs := fs) (so := so) (la := la) hL hr hc h11 (r + 1) 0 (by omega) L re ⟨gl_ext_rf L, hL, by omega, fun j hj => absurd hj (Nat.not_lt_zero j)⟩
  exact ⟨N, rf, hs, fun post hp => ⟨r + 1 + 1, hw post hp⟩⟩
end
end
section
/-! findLastUses -/
def gu_part (L : gl_L) (id p : Nat) : Prop := gl_fi L id = nI p ∨ gl_se L id = nI p
theorem gu_ok_ab {wi : Nat → Int32} {m : Nat} {w a b n d : Int32} (h : gl_ok wi m w a b n d) : (a = -1 ∨ ∃ p, p < m ∧ a = nI p) ∧ (b = -1 ∨ ∃ p, p < m ∧ b = nI p) := by
  rcases h with ⟨_, ha, hb, _⟩ | ⟨_, ha, hb, _⟩ | ⟨_, _, x, y, hx, hy, ha, hb, _⟩ | ⟨_, _, _, x, y, hx, hy, ha, hb, _⟩ | ⟨hb, x, hx, ha, _⟩
  · exact ⟨Or.inl ha, Or.inl hb⟩
  · exact ⟨Or.inl ha, Or.inl hb⟩
  · exact ⟨Or.inr ⟨x, hx, ha⟩, Or.inr ⟨y, hy, hb⟩⟩
  · exact ⟨Or.inr ⟨x, hx, ha⟩, Or.inr ⟨y, hy, hb⟩⟩
  · exact ⟨Or.inr ⟨x, hx, ha⟩, Or.inl hb⟩
theorem gu_fi {L : gl_L} (h : gl_WF L) {id : Nat} (hid : id < L.1) : gl_fi L id = -1 ∨ ∃ p, p < id ∧ gl_fi L id = nI p := (gu_ok_ab (h.2 id hid)).1
theorem gu_se {L : gl_L} (h : gl_WF L) {id : Nat} (hid : id < L.1) : gl_se L id = -1 ∨ ∃ p, p < id ∧ gl_se L id = nI p := (gu_ok_ab (h.2 id hid)).2
theorem gu_part_lt {L : gl_L} (h : gl_WF L) {id p : Nat} (hid : id < L.1) (hp : p < 450) (g : gu_part L id p) : p < id := by
  have hL := h.1
  rcases g with g | g
  · rcases gu_fi h hid with e | ⟨q, hq, e⟩
    · exact (gl_nI_m1 hp (g.symm.trans e)).elim
    · have := gl_nI_inj hp (by omega) (g.symm.trans e)
      omega
  · rcases gu_se h hid with e | ⟨q, hq, e⟩
    · exact (gl_nI_m1 hp (g.symm.trans e)).elim
    · have := gl_nI_inj hp (by omega) (g.symm.trans e)
      omega
def gu_I (L : gl_L) (r m : Nat) (re : Nat → Int32) : Prop :=
  (∀ j, j ≤ r → re j = -1 ∨ ∃ q, re j = nI q ∧ ((j = r ∧ q = 450) ∨ (j < q ∧ m ≤ q ∧ q ≤ r ∧ re q ≠ -1 ∧ gu_part L q j))) ∧ re r = nI 450 ∧
  ∀ id, m ≤ id → id ≤ r → re id ≠ -1 → ∀ p, p < 450 → gu_part L id p → ∃ q, re p = nI q ∧ id ≤ q ∧ q ≤ 450
/-- mark the part z as used by id, if nothing later uses it -/
def gu_t (re : Nat → Int32) (z : Int32) (id : Nat) : Nat → Int32 := if z < 0 then re else if re z.toNatClampNeg < 0 then upd re z.toNatClampNeg (nI id) else re
theorem gu_nI_ne {q : Nat} (h : q ≤ 450) : nI q ≠ -1 := fun e => nI_pos (n := q) (by omega) (by rw [e]; decide)
theorem gu_t_keep {re : Nat → Int32} {z : Int32} {id j : Nat} (h : ¬ re j < 0) : gu_t re z id j = re j := by
  unfold gu_t
  split
  · rfl
  · split
    · rename_i h2
      refine pk_un (fun e => h ?_)
      rw [e]; exact h2
    · rfl
theorem gu_t_chg {re : Nat → Int32} {z : Int32} {id j : Nat} (hz : z = -1 ∨ ∃ p, p < 450 ∧ z = nI p) : gu_t re z id j = re j ∨ (z = nI j ∧ gu_t re z id j = nI id) := by
  unfold gu_t
  split
  · exact Or.inl rfl
  · split
    · rename_i h1 h2
      rcases hz with rfl | ⟨p, hp, rfl⟩
      · exact absurd (by decide) h1
      · rw [nI_clamp (by omega)]
        by_cases e : j = p
        · subst e; exact Or.inr ⟨rfl, pk_us⟩
        · exact Or.inl (pk_un e)
    · exact Or.inl rfl
theorem gu_t_hit {re : Nat → Int32} {id p : Nat} (hp : p < 450) (h : re p < 0) : gu_t re (nI p) id p = nI id := by
  unfold gu_t
  rw [if_neg (nI_pos (by omega)), nI_clamp (by omega), if_pos h, pk_us]
theorem gu_step {L : gl_L} (h : gl_WF L) {r : Nat} (hr : r < L.1) {id : Nat} (hid : id ≤ r) {re : Nat → Int32} (g : gu_I L r (id + 1) re) (hn : re id ≠ -1) : gu_I L r id (gu_t (gu_t re (gl_fi L id) id) (gl_se L id) id) := by
  have hL := h.1
  obtain ⟨gA, gB, gC⟩ := g
  have fa : gl_fi L id = -1 ∨ ∃ p, p < 450 ∧ gl_fi L id = nI p := (gu_fi h (by omega)).imp (fun z => z) (fun ⟨p, hp, e⟩ => ⟨p, by omega, e⟩)
  have fb : gl_se L id = -1 ∨ ∃ p, p < 450 ∧ gl_se L id = nI p := (gu_se h (by omega)).imp (fun z => z) (fun ⟨p, hp, e⟩ => ⟨p, by omega, e⟩)
  have hge : ∀ q, q ≤ 450 → ¬ nI q < 0 := fun q hq => nI_pos (by omega)
  have keep : ∀ j, ¬ re j < 0 → gu_t (gu_t re (gl_fi L id) id) (gl_se L id) id j = re j := by
    intro j hj
    have e1 := gu_t_keep (z := gl_fi L id) (id := id) hj
    rw [gu_t_keep (by rw [e1]; exact hj), e1]
  have chg : ∀ j, j < 450 → gu_t (gu_t re (gl_fi L id) id) (gl_se L id) id j = re j ∨ (gu_part L id j ∧ gu_t (gu_t re (gl_fi L id) id) (gl_se L id) id j = nI id) := by
    intro j hj
    rcases gu_t_chg (re := gu_t re (gl_fi L id) id) (id := id) (j := j) fb with e | ⟨e1, e2⟩
    · rcases gu_t_chg (re := re) (id := id) (j := j) fa with e' | ⟨e1, e2⟩
      · exact Or.inl (e.trans e')
      · exact Or.inr ⟨Or.inl e1, e.trans e2⟩
    · exact Or.inr ⟨Or.inr e1, e2⟩
  have nonneg : ∀ j, j ≤ r → re j ≠ -1 → ¬ re j < 0 := by
    intro j hj hne
    rcases gA j hj with e | ⟨q, e, hq⟩
    · exact absurd e hne
    · rw [e]
      rcases hq with ⟨_, hq⟩ | ⟨_, _, hq, _⟩
      · exact hge q (by omega)
      · exact hge q (by omega)
  have hit : ∀ p, p < 450 → gu_part L id p → re p = -1 → gu_t (gu_t re (gl_fi L id) id) (gl_se L id) id p = nI id := by
    intro p hp hpart e
    have hlt : re p < 0 := by rw [e]; decide
    rcases hpart with hq | hq
    · rw [gu_t_keep] <;> rw [hq, gu_t_hit hp hlt]
      exact hge id (by omega)
    · rcases gu_t_chg (re := re) (id := id) (j := p) fa with e' | ⟨_, e'⟩
      · rw [hq]
        exact gu_t_hit hp (by rw [e']; exact hlt)
      · rw [gu_t_keep (by rw [e']; exact hge id (by omega)), e']
  generalize gu_t (gu_t re (gl_fi L id) id) (gl_se L id) id = rf at keep chg hit ⊢
  have hnid : rf id ≠ -1 := by rw [keep id (nonneg id hid hn)]; exact hn
  refine ⟨fun j hj => ?_, ?_, fun i hi hir hne p hp hpart => ?_⟩
  · rcases chg j (by omega) with e | ⟨hp, e⟩
    · rw [e]
      rcases gA j hj with e' | ⟨q, e', hq⟩
      · exact Or.inl e'
      · refine Or.inr ⟨q, e', ?_⟩
        rcases hq with hq | ⟨q1, q2, q3, q4, q5⟩
        · exact Or.inl hq
        · exact Or.inr ⟨q1, by omega, q3, by rw [keep q (nonneg q q3 q4)]; exact q4, q5⟩
    · exact Or.inr ⟨id, e, Or.inr ⟨gu_part_lt h (by omega) (by omega) hp, Nat.le_refl _, hid, hnid, hp⟩⟩
  · rw [keep r (by rw [gB]; exact hge 450 (by omega))]; exact gB
  · by_cases e : i = id
    · subst e
      have hpi := gu_part_lt h (by omega) hp hpart
      rcases chg p hp with e | ⟨_, e⟩
      · rcases gA p (by omega) with e' | ⟨q, e', hq⟩
        · exact ⟨i, hit p hp hpart e', Nat.le_refl _, by omega⟩
        · refine ⟨q, e.trans e', ?_, ?_⟩
          · rcases hq with ⟨_, hq⟩ | ⟨_, hq, _⟩ <;> omega
          · rcases hq with ⟨_, hq⟩ | ⟨_, _, hq, _⟩ <;> omega
      · exact ⟨i, e, Nat.le_refl _, by omega⟩
    · have hne' : re i ≠ -1 := by
        rcases chg i (by omega) with e' | ⟨hp', _⟩
        · rw [← e']; exact hne
        · have := gu_part_lt h (by omega) (by omega) hp'
          omega
      obtain ⟨q, e', h1, h2⟩ := gC i (by omega) hir hne' p hp hpart
      exact ⟨q, by rw [keep p (by rw [e']; exact hge q h2)]; exact e', h1, h2⟩
section
variable {nc lv fc : Int32} {kd px py vc ip dr na sl fs so la : Nat → Int32}
theorem gu_83 {re : Nat → Int32} {L : gl_L} (h : gl_WF L) {id : Nat} (hid : id < L.1) (post : SX → Prop) (J : Int32 → (Nat → Int32) → (Nat → Int32) → (Nat → Int32) → (Nat → Int32) → (Nat → Int32) → (Nat → Int32) → (Nat → Int32) → (Nat → Int32) → (Nat → Int32) → (Nat → Int32) → (Nat → Int32) → (Nat → Int32) → (Nat → Int32) → (Nat → Int32) → (Nat → Int32) → (Nat → Int32) → (Nat → Int32) → Prop)
    (hJ : J (nI id + (-1)) kd px py vc ip dr (gl_op L) (gl_fi L) (gl_se L) (gl_nu L) (gl_wi L) na (gu_t re (gl_se L id) id) sl fs so la) : wX_findLastUses_83 post J (nI id) nc lv (nI L.1) fc kd px py vc ip dr (gl_op L) (gl_fi L) (gl_se L) (gl_nu L) (gl_wi L) na re sl fs so la := by
  have hL := h.1
  have hi : vp_in (nI id) 450 := vp_in_nI (by omega) (by omega)
  have ec : (nI id).toNatClampNeg = id := nI_clamp (by omega)
  rcases gu_se h hid with e | ⟨p, hp, e⟩
  · have hJ' : gu_t re (gl_se L id) id = re := by unfold gu_t; rw [e, if_pos (by decide)]
    rw [hJ'] at hJ
    exact And.intro hi (br_t (by rw [ec, e]; decide) (nm_e hJ))
  · have hip : vp_in (gl_se L (nI id).toNatClampNeg) 450 := by rw [ec, e]; exact vp_in_nI (by omega) (by omega)
    have ecp : (gl_se L (nI id).toNatClampNeg).toNatClampNeg = p := by rw [ec, e]; exact nI_clamp (by omega)
    have hneg : ¬ gl_se L (nI id).toNatClampNeg < 0 := by rw [ec, e]; exact nI_pos (by omega)
    by_cases hz : re p < 0
    · have hJ' : gu_t re (gl_se L id) id = upd re p (nI id) := by unfold gu_t; rw [e, if_neg (nI_pos (by omega)), nI_clamp (by omega), if_pos hz]
      rw [hJ'] at hJ
      exact And.intro hi (br_f hneg (And.intro hi (And.intro hip (br_f (by rw [ecp]; exact Int32.not_le.mpr hz) (And.intro hi (And.intro hip (nm_r (e' := upd re p (nI id)) (by rw [ecp, gx_n16 (by omega)]) (nm_e hJ))))))))
    · have hJ' : gu_t re (gl_se L id) id = re := by unfold gu_t; rw [e, if_neg (nI_pos (by omega)), nI_clamp (by omega), if_neg hz]
      rw [hJ'] at hJ
      exact And.intro hi (br_f hneg (And.intro hi (And.intro hip (br_t (by rw [ecp]; exact Int32.not_lt.mp hz) (nm_e hJ)))))
theorem gu_loop {L : gl_L} (h : gl_WF L) {r : Nat} (hr : r < L.1) : ∀ m, m ≤ r + 1 → ∀ re : Nat → Int32, gu_I L r m re → ∃ rf, gu_I L r 0 rf ∧
    ∀ post : SX → Prop, post (gx_S nc lv fc kd px py vc ip dr na rf sl fs so la L) → wX_findLastUses_31 post nc lv (nI L.1) fc (m + 1) (nI m + (-1)) kd px py vc ip dr (gl_op L) (gl_fi L) (gl_se L) (gl_nu L) (gl_wi L) na re sl fs so la := by
  have hL := h.1
  intro m
  induction m with
  | zero =>
    intro _ re g
    exact ⟨re, g, fun post hp => br_t (by decide) hp⟩
  | succ id ih =>
    intro hm re g
    have hi : vp_in (nI id) 450 := vp_in_nI (by omega) (by omega)
    have ec : (nI id).toNatClampNeg = id := nI_clamp (by omega)
    by_cases hn : re id = -1
    · obtain ⟨rf, hrf, hw⟩ := ih (by omega) re (by
        obtain ⟨gA, gB, gC⟩ := g
        refine ⟨fun j hj => ?_, gB, fun i hi hir hne => gC i (by
          by_cases e : i = id
          · subst e; exact absurd hn hne
          · omega) hir hne⟩
        rcases gA j hj with e' | ⟨q, e', hq⟩
        · exact Or.inl e'
        · refine Or.inr ⟨q, e', ?_⟩
          rcases hq with hq | ⟨q1, q2, q3, q4, q5⟩
          · exact Or.inl hq
          · exact Or.inr ⟨q1, by omega, q3, q4, q5⟩)
      refine ⟨rf, hrf, fun post hp => ?_⟩
      rw [pk_m1]
      exact br_f (nI_pos (by omega)) (And.intro hi (br_f (by rw [ec, hn]; decide) (nm_e (hw post hp))))
    · have hnn : ¬ re id < 0 := by
        rcases g.1 id (by omega) with e | ⟨q, e, hq⟩
        · exact absurd e hn
        · rw [e]
          exact nI_pos (by rcases hq with ⟨_, hq⟩ | ⟨_, _, hq, _⟩ <;> omega)
      obtain ⟨rf, hrf, hw⟩ := ih (by omega) _ (gu_step h hr (by omega) g hn)
      refine ⟨rf, hrf, fun post hp => ?_⟩
      rw [pk_m1]
      refine br_f (nI_pos (by omega)) (And.intro hi (br_t (by rw [ec]; exact Int32.not_lt.mp hnn) (And.intro hi ?_)))
      have h83 := gu_83 (nc := nc) (lv := lv) (fc := fc) (kd := kd) (px := px) (py := py) (vc := vc) (ip := ip) (dr := dr) (na := na) (sl := sl) (fs := fs) (so := so) (la := la) (re := gu_t re (gl_fi L id) id) h (show id < L.1 by omega) post _ (hw post hp)
      rcases gu_fi h (show id < L.1 by omega) with e | ⟨p, hp', e⟩
      · have hJ' : gu_t re (gl_fi L id) id = re := by unfold gu_t; rw [e, if_pos (by decide)]
        rw [hJ'] at h83
        exact br_t (by rw [ec, e]; decide) h83
      · have hip : vp_in (gl_fi L (nI id).toNatClampNeg) 450 := by rw [ec, e]; exact vp_in_nI (by omega) (by omega)
        have ecp : (gl_fi L (nI id).toNatClampNeg).toNatClampNeg = p := by rw [ec, e]; exact nI_clamp (by omega)
        have hneg : ¬ gl_fi L (nI id).toNatClampNeg < 0 := by rw [ec, e]; exact nI_pos (by omega)
        by_cases hz : re p < 0
        · have hJ' : gu_t re (gl_fi L id) id = upd re p (nI id) := by unfold gu_t; rw [e, if_neg (nI_pos (by omega)), nI_clamp (by omega), if_pos hz]
          rw [hJ'] at h83
          exact br_f hneg (And.intro hi (And.intro hip (br_f (by rw [ecp]; exact Int32.not_le.mpr hz) (And.intro hi (And.intro hip (nm_r (e' := upd re p (nI id)) (by rw [ecp, gx_n16 (by omega)]) h83))))))
        · have hJ' : gu_t re (gl_fi L id) id = re := by unfold gu_t; rw [e, if_neg (nI_pos (by omega)), nI_clamp (by omega), if_neg hz]
          rw [hJ'] at h83
          exact br_f hneg (And.intro hi (And.intro hip (br_t (by rw [ecp]; exact Int32.not_lt.mp hz) h83)))
theorem gu_loop2 {L : gl_L} {r : Nat} (hr : r < 450) : ∀ q j, j + q = r + 1 → ∀ re : Nat → Int32, (∀ i, i < j → re i = -1) → ∃ rf, (∀ i, i < r + 1 → rf i = -1) ∧
    ∀ post : SX → Prop, wX_findLastUses_2 post (nI r) nc lv (nI L.1) fc 1 (nI (r + 1)) kd px py vc ip dr (gl_op L) (gl_fi L) (gl_se L) (gl_nu L) (gl_wi L) na rf sl fs so la → wX_findLastUses_2 post (nI r) nc lv (nI L.1) fc (q + 1) (nI j) kd px py vc ip dr (gl_op L) (gl_fi L) (gl_se L) (gl_nu L) (gl_wi L) na re sl fs so la := by
  intro q
  induction q with
  | zero =>
    intro j hj re hre
    have e : j = r + 1 := by omega
    subst e
    exact ⟨re, hre, fun post hp => hp⟩
  | succ q ih =>
    intro j hj re hre
    have hi : vp_in (nI j) 450 := vp_in_nI (by omega) (by omega)
    have ec : (nI j).toNatClampNeg = j := nI_clamp (by omega)
    obtain ⟨rf, hrf, hw⟩ := ih (j + 1) (by omega) (upd re j (-1)) (fun i hi => by
      by_cases e : i = j
      · subst e; exact pk_us
      · rw [pk_un e]; exact hre i (by omega))
    exact ⟨rf, hrf, fun post hp => br_f (nI_nlt (by omega) (by omega)) (And.intro hi (nm_r (e' := upd re j (-1)) (by rw [ec, gb_nm1]) (nm_r (nI_1 j) (hw post hp))))⟩
theorem gu_450 : vp_nar .short 450 = nI 450 := by rw [vp_nar_short]; decide
theorem gu_find {re : Nat → Int32} {L : gl_L} (h : gl_WF L) {r : Nat} (hr : r < L.1) : ∃ rf, gu_I L r 0 rf ∧
    ∀ post : SX → Prop, post (gx_S nc lv fc kd px py vc ip dr na rf sl fs so la L) → wpX_findLastUses post (gx_S nc lv fc kd px py vc ip dr na re sl fs so la L) (nI r) := by
  have hL := h.1
  have hi : vp_in (nI r) 450 := vp_in_nI (by omega) (by omega)
  have ec : (nI r).toNatClampNeg = r := nI_clamp (by omega)
  obtain ⟨r0, hr0, w2⟩ := gu_loop2 (nc := nc) (lv := lv) (fc := fc) (kd := kd) (px := px) (py := py) (vc := vc) (ip := ip) (dr := dr) (na := na) (sl := sl) (fs := fs) (so := so) (la := la) (L := L) (r := r) (by omega) (r + 1) 0 (by omega) re (fun i hi => by omega)
  obtain ⟨rf, hrf, w31⟩ := gu_loop (nc := nc) (lv := lv) (fc := fc) (kd := kd) (px := px) (py := py) (vc := vc) (ip := ip) (dr := dr) (na := na) (sl := sl) (fs := fs) (so := so) (la := la) h hr (r + 1) (Nat.le_refl _) (upd r0 r (nI 450)) ⟨fun j hj => by
      by_cases e : j = r
      · subst e; rw [pk_us]; exact Or.inr ⟨450, rfl, Or.inl ⟨rfl, rfl⟩⟩
      · rw [pk_un e]; exact Or.inl (hr0 j (by omega)), pk_us, fun id h1 h2 => by omega⟩
  refine ⟨rf, hrf, fun post hp => ⟨r + 1 + 1, w2 post (br_t (nI_lt (by omega) (by omega)) (And.intro hi (nm_r (e' := upd r0 r (nI 450)) (by rw [ec, gu_450]) ⟨r + 1 + 1, ?_⟩)))⟩⟩
  have := w31 post hp
  rw [pk_m1] at this
  exact this
end
end
section
/-! places: counting the live ones; the free stack and the live places together are all of them, each once -/
def gs_cnt (P : Nat → Bool) (n : Nat) : Nat := gl_sum (fun j => if P j = true then 1 else 0) n
def gs_up (P : Nat → Bool) (k : Nat) (b : Bool) : Nat → Bool := fun j => if j = k then b else P j
theorem gs_up_s (P : Nat → Bool) (k : Nat) (b : Bool) : gs_up P k b k = b := if_pos rfl
theorem gs_up_n (P : Nat → Bool) {k j : Nat} (b : Bool) (h : j ≠ k) : gs_up P k b j = P j := if_neg h
theorem gs_cnt_congr {P Q : Nat → Bool} {n : Nat} (h : ∀ j, j < n → P j = Q j) : gs_cnt P n = gs_cnt Q n := gl_sum_congr n (fun j hj => by rw [h j hj])
theorem gs_cnt_on {P : Nat → Bool} {k : Nat} (hk : P k = false) : ∀ n, k < n → gs_cnt (gs_up P k true) n = gs_cnt P n + 1 := by
  intro n
  induction n with
  | zero => intro h; omega
  | succ n ih =>
    intro h
    show gs_cnt (gs_up P k true) n + (if gs_up P k true n = true then 1 else 0) = gs_cnt P n + (if P n = true then 1 else 0) + 1
    by_cases e : k = n
    · subst e
      rw [gs_cnt_congr (Q := P) (fun j hj => gs_up_n P true (by omega)), gs_up_s, hk]
      rfl
    · rw [ih (by omega), gs_up_n P true (by omega)]
      omega
theorem gs_cnt_off {P : Nat → Bool} {k : Nat} (hk : P k = true) : ∀ n, k < n → gs_cnt (gs_up P k false) n + 1 = gs_cnt P n := by
  intro n
  induction n with
  | zero => intro h; omega
  | succ n ih =>
    intro h
    show gs_cnt (gs_up P k false) n + (if gs_up P k false n = true then 1 else 0) + 1 = gs_cnt P n + (if P n = true then 1 else 0)
    by_cases e : k = n
    · subst e
      rw [gs_cnt_congr (Q := P) (fun j hj => gs_up_n P false (by omega)), gs_up_s, hk]
      rfl
    · have := ih (by omega)
      rw [gs_up_n P false (by omega)]
      omega
theorem gs_cnt_le {P : Nat → Bool} {k : Nat} (h : ∀ j, P j = true → j < k) : ∀ n, gs_cnt P n ≤ n ∧ gs_cnt P n ≤ k := by
  intro n
  induction n with
  | zero => exact ⟨Nat.le_refl _, Nat.zero_le _⟩
  | succ n ih =>
    have e : gs_cnt P (n + 1) = gs_cnt P n + (if P n = true then 1 else 0) := rfl
    rw [e]
    by_cases hp : P n = true
    · have := h n hp
      rw [if_pos hp]
      omega
    · rw [if_neg hp]
      omega
theorem gs_cnt_0 {P : Nat → Bool} : ∀ n, (∀ j, j < n → P j = false) → gs_cnt P n = 0 := by
  intro n
  induction n with
  | zero => intro _; rfl
  | succ n ih =>
    intro h
    show gs_cnt P n + (if P n = true then 1 else 0) = 0
    rw [ih (fun j hj => h j (by omega)), h n (by omega)]
    rfl
theorem gs_cnt_1 {P : Nat → Bool} {k : Nat} (h : ∀ j, P j = true → j = k) (n : Nat) : gs_cnt P n ≤ 1 := by
  have h1 : gs_cnt (gs_up P k false) n = 0 := gs_cnt_0 n (fun j _ => by
    by_cases e : j = k
    · subst e; exact gs_up_s P j false
    · rw [gs_up_n P false e]
      cases hp : P j
      · rfl
      · exact absurd (h j hp) e)
  by_cases hk : k < n
  · cases hp : P k
    · have : gs_cnt (gs_up P k false) n = gs_cnt P n := gs_cnt_congr (fun j _ => by
        by_cases e : j = k
        · subst e; rw [gs_up_s, hp]
        · exact gs_up_n P false e)
      omega
    · have := gs_cnt_off hp n hk
      omega
  · have : gs_cnt P n = 0 := gs_cnt_0 n (fun j hj => by
      cases hp : P j
      · rfl
      · have := h j hp; omega)
    omega
theorem gl_sum_le {f g : Nat → Nat} : ∀ n, (∀ i, i < n → f i ≤ g i) → gl_sum f n ≤ gl_sum g n := by
  intro n
  induction n with
  | zero => intro _; exact Nat.le_refl _
  | succ n ih =>
    intro h
    have h1 := ih (fun i hi => h i (by omega))
    have h2 := h n (by omega)
    show gl_sum f n + f n ≤ gl_sum g n + g n
    omega
/-- operation j is in a place when id comes to be worked out -/
def gs_lv (re : Nat → Int32) (id j : Nat) : Bool := decide (j < id) && (decide (¬ re j < 0) && decide (id ≤ (re j).toNatClampNeg))
theorem gs_lv_iff {re : Nat → Int32} {id j : Nat} : gs_lv re id j = true ↔ j < id ∧ ¬ re j < 0 ∧ id ≤ (re j).toNatClampNeg := by
  unfold gs_lv
  rw [Bool.and_eq_true, Bool.and_eq_true, decide_eq_true_iff, decide_eq_true_iff, decide_eq_true_iff]
theorem gs_ind1 (a : Nat) : ∀ n, gl_sum (fun j => if j = a then 1 else 0) n ≤ 1 := by
  intro n
  have h := gs_cnt_1 (P := fun j => decide (j = a)) (k := a) (fun j hj => of_decide_eq_true hj) n
  have e : gs_cnt (fun j => decide (j = a)) n = gl_sum (fun j => if j = a then 1 else 0) n := gl_sum_congr n (fun j _ => by
    by_cases e : j = a
    · rw [if_pos e, if_pos (decide_eq_true e)]
    · rw [if_neg e, if_neg (fun z => e (of_decide_eq_true z))])
  omega
theorem gs_step {L : gl_L} (h : gl_WF L) {r : Nat} (hr : r < L.1) {re : Nat → Int32} (g : gu_I L r 0 re) {id : Nat} (hid : id ≤ r) : gs_cnt (gs_lv re id) (r + 1) ≤ gs_cnt (gs_lv re (id + 1)) (r + 1) + 1 := by
  have hL := h.1
  obtain ⟨gA, gB, gC⟩ := g
  have hcase : ∀ j, j < r + 1 → gs_lv re id j = true → gs_lv re (id + 1) j = true ∨ (re id ≠ -1 ∧ gu_part L id j) := by
    intro j hj hl
    obtain ⟨h1, h2, h3⟩ := gs_lv_iff.mp hl
    by_cases e : (re j).toNatClampNeg = id
    · rcases gA j (by omega) with e' | ⟨q, e', hq⟩
      · exact absurd (by rw [e']; decide) h2
      · rw [e', nI_clamp (by rcases hq with ⟨_, hq⟩ | ⟨_, _, hq, _⟩ <;> omega)] at e
        rcases hq with ⟨_, hq⟩ | ⟨_, _, hq, q4, q5⟩
        · omega
        · subst e; exact Or.inr ⟨q4, q5⟩
    · exact Or.inl (gs_lv_iff.mpr ⟨by omega, h2, by omega⟩)
  by_cases hn : re id = -1
  · refine Nat.le_trans (gl_sum_le _ (fun j hj => ?_)) (Nat.le_succ _)
    by_cases hl : gs_lv re id j = true
    · rcases hcase j hj hl with hl' | ⟨hc, _⟩
      · rw [if_pos hl']; split <;> omega
      · exact absurd hn hc
    · rw [if_neg hl]; omega
  · obtain ⟨a, ha⟩ : ∃ a, ∀ p, p < 450 → gl_fi L id = nI p → p = a := by
      rcases gu_fi h (show id < L.1 by omega) with e | ⟨p, hp, e⟩
      · exact ⟨0, fun p hp e' => (gl_nI_m1 hp (e'.symm.trans e)).elim⟩
      · exact ⟨p, fun p' hp' e' => gl_nI_inj hp' (by omega) (e'.symm.trans e)⟩
    obtain ⟨b, hb⟩ : ∃ b, ∀ p, p < 450 → gl_se L id = nI p → p = b := by
      rcases gu_se h (show id < L.1 by omega) with e | ⟨p, hp, e⟩
      · exact ⟨0, fun p hp e' => (gl_nI_m1 hp (e'.symm.trans e)).elim⟩
      · exact ⟨p, fun p' hp' e' => gl_nI_inj hp' (by omega) (e'.symm.trans e)⟩
    have hlid : gs_lv re (id + 1) id = true := by
      rcases gA id hid with e' | ⟨q, e', hq⟩
      · exact absurd e' hn
      · have hq' : id < q ∧ q ≤ 450 := by rcases hq with ⟨_, hq⟩ | ⟨_, _, hq, _⟩ <;> omega
        exact gs_lv_iff.mpr ⟨by omega, by rw [e']; exact nI_pos (by omega), by rw [e', nI_clamp (by omega)]; omega⟩
    have hlid0 : ¬ gs_lv re id id = true := fun z => by
      have := (gs_lv_iff.mp z).1
      omega
    have hs : gl_sum (fun j => (if gs_lv re id j = true then 1 else 0) + (if j = id then 1 else 0)) (r + 1) ≤ gl_sum (fun j => ((if gs_lv re (id + 1) j = true then 1 else 0) + (if j = a then 1 else 0)) + (if j = b then 1 else 0)) (r + 1) := by
      refine gl_sum_le _ (fun j hj => ?_)
      by_cases e : j = id
      · subst e
        rw [if_neg hlid0, if_pos rfl, if_pos hlid]
        omega
      · rw [if_neg e]
        by_cases hl : gs_lv re id j = true
        · rw [if_pos hl]
          rcases hcase j hj hl with hl' | ⟨_, hp | hp⟩
          · rw [if_pos hl']; omega
          · rw [if_pos (ha j (by omega) hp)]; omega
          · rw [if_pos (hb j (by omega) hp)]; omega
        · rw [if_neg hl]; omega
    rw [gl_sum_add, gl_sum_add, gl_sum_add] at hs
    have h1 := gs_ind1 a (r + 1)
    have h2 := gs_ind1 b (r + 1)
    have h3 : 1 ≤ gl_sum (fun j => if j = id then 1 else 0) (r + 1) := by
      have hm : gl_sum (fun j => if j = id then 1 else 0) (id + 1) ≤ gl_sum (fun j => if j = id then 1 else 0) (r + 1) := gl_sum_mono _ (by omega)
      have e : gl_sum (fun j => if j = id then 1 else 0) (id + 1) = gl_sum (fun j => if j = id then 1 else 0) id + 1 := by
        show _ + (if id = id then 1 else 0) = _
        rw [if_pos rfl]
      omega
    show gl_sum (fun j => if gs_lv re id j = true then 1 else 0) (r + 1) ≤ gl_sum (fun j => if gs_lv re (id + 1) j = true then 1 else 0) (r + 1) + 1
    omega
theorem gs_up_bound {L : gl_L} (h : gl_WF L) {r : Nat} (hr : r < L.1) {re : Nat → Int32} (g : gu_I L r 0 re) : ∀ d id, id + d = r + 1 → gs_cnt (gs_lv re id) (r + 1) ≤ 1 + d := by
  have hL := h.1
  intro d
  induction d with
  | zero =>
    intro id hid
    refine gs_cnt_1 (k := r) (fun j hj => ?_) _
    obtain ⟨h1, h2, h3⟩ := gs_lv_iff.mp hj
    rcases g.1 j (by omega) with e' | ⟨q, e', hq⟩
    · exact absurd (by rw [e']; decide) h2
    · rw [e', nI_clamp (by rcases hq with ⟨_, hq⟩ | ⟨_, _, hq, _⟩ <;> omega)] at h3
      rcases hq with ⟨hq, _⟩ | ⟨_, _, hq, _⟩
      · exact hq
      · omega
  | succ d ih =>
    intro id hid
    have h1 := ih (id + 1) (by omega)
    have h2 := gs_step h hr g (show id ≤ r by omega)
    omega
theorem gs_bound {L : gl_L} (h : gl_WF L) {r : Nat} (hr : r < L.1) (hr2 : r ≤ 317) {re : Nat → Int32} (g : gu_I L r 0 re) {id : Nat} (hid : id ≤ r) : gs_cnt (gs_lv re id) (r + 1) ≤ 159 := by
  have h1 := gs_up_bound h hr g (r + 1 - id) id (by omega)
  have h2 := (gs_cnt_le (P := gs_lv re id) (k := id) (fun j hj => (gs_lv_iff.mp hj).1) (r + 1)).2
  omega
def gs_SI (P : Nat → Bool) (n f : Nat) (fs so : Nat → Int32) : Prop :=
  gs_cnt P n + f = 160 ∧ (∀ p, p < f → ∃ s, s < 160 ∧ fs p = nI s) ∧ (∀ p q, p < f → q < f → fs p = fs q → p = q) ∧
  (∀ j, j < n → P j = true → ∃ s, s < 160 ∧ so j = nI s) ∧ (∀ i j, i < n → j < n → P i = true → P j = true → so i = so j → i = j) ∧ (∀ p j, p < f → j < n → P j = true → fs p ≠ so j)
theorem gs_alloc {P : Nat → Bool} {n f : Nat} {fs so : Nat → Int32} (h : gs_SI P n (f + 1) fs so) {id : Nat} (hid : id < n) (hP : P id = false) : gs_SI (gs_up P id true) n f fs (upd so id (fs f)) := by
  obtain ⟨h1, h2, h3, h4, h5, h6⟩ := h
  have hj : ∀ j, j ≠ id → gs_up P id true j = true → P j = true := fun j e z => by rw [gs_up_n P true e] at z; exact z
  refine ⟨by rw [gs_cnt_on hP n hid]; omega, fun p hp => h2 p (by omega), fun p q hp hq => h3 p q (by omega) (by omega), fun j hjn hp => ?_, fun i j hi hjn hpi hpj e => ?_, fun p j hp hjn hpj e => ?_⟩
  · by_cases e : j = id
    · subst e; rw [pk_us]; exact h2 f (by omega)
    · rw [pk_un e]; exact h4 j hjn (hj j e hp)
  · by_cases ei : i = id
    · subst ei
      by_cases ej : j = i
      · exact ej.symm
      · rw [pk_us, pk_un ej] at e
        exact absurd e (h6 f j (by omega) hjn (hj j ej hpj))
    · by_cases ej : j = id
      · subst ej
        rw [pk_us, pk_un ei] at e
        exact absurd e.symm (h6 f i (by omega) hi (hj i ei hpi))
      · rw [pk_un ei, pk_un ej] at e
        exact h5 i j hi hjn (hj i ei hpi) (hj j ej hpj) e
  · by_cases ej : j = id
    · subst ej
      rw [pk_us] at e
      have := h3 p f (by omega) (by omega) e
      omega
    · rw [pk_un ej] at e
      exact h6 p j (by omega) hjn (hj j ej hpj) e
theorem gs_free {P : Nat → Bool} {n f : Nat} {fs so : Nat → Int32} (h : gs_SI P n f fs so) {k : Nat} (hk : k < n) (hP : P k = true) : f < 160 ∧ gs_SI (gs_up P k false) n (f + 1) (upd fs f (so k)) so := by
  obtain ⟨h1, h2, h3, h4, h5, h6⟩ := h
  have hc := gs_cnt_off hP n hk
  have hj : ∀ j, gs_up P k false j = true → j ≠ k ∧ P j = true := by
    intro j z
    by_cases e : j = k
    · subst e; rw [gs_up_s] at z; exact absurd z (by decide)
    · rw [gs_up_n P false e] at z; exact ⟨e, z⟩
  refine ⟨by omega, by omega, fun p hp => ?_, fun p q hp hq e => ?_, fun j hjn hp => h4 j hjn (hj j hp).2, fun i j hi hjn hpi hpj => h5 i j hi hjn (hj i hpi).2 (hj j hpj).2, fun p j hp hjn hpj e => ?_⟩
  · by_cases e : p = f
    · subst e; rw [pk_us]; exact h4 k hk hP
    · rw [pk_un e]; exact h2 p (by omega)
  · by_cases ep : p = f
    · subst ep
      by_cases eq : q = p
      · exact eq.symm
      · rw [pk_us, pk_un eq] at e
        exact absurd e.symm (h6 q k (by omega) hk hP)
    · by_cases eq : q = f
      · subst eq
        rw [pk_us, pk_un ep] at e
        exact absurd e (h6 p k (by omega) hk hP)
      · rw [pk_un ep, pk_un eq] at e
        exact h3 p q (by omega) (by omega) e
  · obtain ⟨ejk, hpj'⟩ := hj j hpj
    by_cases ep : p = f
    · subst ep
      rw [pk_us] at e
      exact ejk (h5 j k hjn hk hpj' hP e.symm)
    · rw [pk_un ep] at e
      exact h6 p j (by omega) hjn hpj' e
theorem gs_SI_congr {P Q : Nat → Bool} {n f : Nat} {fs so : Nat → Int32} (h : gs_SI P n f fs so) (e : ∀ j, j < n → P j = Q j) : gs_SI Q n f fs so := by
  obtain ⟨h1, h2, h3, h4, h5, h6⟩ := h
  exact ⟨by rw [← gs_cnt_congr e]; exact h1, h2, h3, fun j hj hp => h4 j hj (by rw [e j hj]; exact hp), fun i j hi hj hpi hpj => h5 i j hi hj (by rw [e i hi]; exact hpi) (by rw [e j hj]; exact hpj), fun p j hp hj hpj => h6 p j hp hj (by rw [e j hj]; exact hpj)⟩
end
section
/-! working one operation out -/
def ge_iv (ip : Nat → Int32) (e : Nat) : Nat → gh_T := fun j => gh_k (ip (12 * e + j))
def ge_dv (dr : Nat → Int32) (e : Nat) : Nat → Int32 := fun j => dr (12 * e + j)
/-- plain value of operation j, component c, in example e -/
def ge_V (ip dr : Nat → Int32) (L : gl_L) (e j c : Nat) : Int32 := (gl_val (ge_iv ip e) (ge_dv dr e) L j c).1
def ge_of (L : gl_L) (j c : Nat) : Nat := if gl_wi L j = 0 then 0 else c
/-- the lanes hold operation p's value in example e -/
def ge_ln (L : gl_L) (so la : Nat → Int32) (p : Nat) (s e : Nat) (V : Nat → Int32) : Prop := p < L.1 ∧ s < 160 ∧ so p = nI s ∧ ∀ c, c < 4 → la (12 * s + 4 * e + ge_of L p c) = V c
theorem ge_n12 (s : Nat) : (12 : Int32) * nI s = nI (12 * s) := pk_mul 12 s
theorem ge_n4 (s : Nat) : (4 : Int32) * nI s = nI (4 * s) := pk_mul 4 s
theorem ge_ix (s e c : Nat) : (12 * nI s + 4 * nI e) + nI c = nI (12 * s + 4 * e + c) := by
  rw [ge_n12, ge_n4, nI_add, nI_add]
theorem ge_ix0 (s e : Nat) : (12 * nI s + 4 * nI e) + 0 = nI (12 * s + 4 * e) := by
  rw [ge_n12, ge_n4, nI_add, Int32.add_zero]
def gs_fill (la : Nat → Int32) (t : Nat) (f : Nat → Int32) (c : Nat) : Nat → Int32 := fun k => if t ≤ k ∧ k < t + c then f (k - t) else la k
theorem gs_fill0 (la : Nat → Int32) (t : Nat) (f : Nat → Int32) : gs_fill la t f 0 = la := by
  funext k
  exact if_neg (by omega)
theorem gs_fillS (la : Nat → Int32) (t : Nat) (f : Nat → Int32) (c : Nat) : upd (gs_fill la t f c) (t + c) (f c) = gs_fill la t f (c + 1) := by
  funext k
  unfold upd gs_fill
  by_cases e : k = t + c
  · subst e
    rw [if_pos rfl, if_pos ⟨by omega, by omega⟩]
    congr 1
    omega
  · rw [if_neg e]
    by_cases h : t ≤ k ∧ k < t + c
    · rw [if_pos h, if_pos ⟨h.1, by omega⟩]
    · rw [if_neg h, if_neg (by omega)]
theorem gs_fill_out {la : Nat → Int32} {t : Nat} {f : Nat → Int32} {c k : Nat} (h : k < t ∨ t + c ≤ k) : gs_fill la t f c k = la k := if_neg (by omega)
theorem gs_fill_in {la : Nat → Int32} {t : Nat} {f : Nat → Int32} {c i : Nat} (h : i < c) : gs_fill la t f c (t + i) = f i := by
  unfold gs_fill
  rw [if_pos ⟨by omega, by omega⟩]
  congr 1
  omega
theorem ge_ln_out {L : gl_L} {so la lb : Nat → Int32} {p s e t : Nat} {V : Nat → Int32} (h : ge_ln L so la p s e V) (hd : 12 * s + 4 * e + 4 ≤ t ∨ t + 4 ≤ 12 * s + 4 * e) (hb : ∀ k, k < t ∨ t + 4 ≤ k → lb k = la k) : ge_ln L so lb p s e V := by
  obtain ⟨h1, h2, h3, h4⟩ := h
  refine ⟨h1, h2, h3, fun c hc => ?_⟩
  have : ge_of L p c ≤ 3 := by unfold ge_of; split <;> omega
  rw [hb _ (by omega)]
  exact h4 c hc
section
variable {nc lv fc : Int32} {kd px py vc ip dr na re sl fs so : Nat → Int32}
theorem ge_lane {L : gl_L} (hL : L.1 ≤ 450) {la : Nat → Int32} {p s e c : Nat} {V : Nat → Int32} (h : ge_ln L so la p s e V) (he : e < 3) (hc : c < 4) (post : Int32 → Prop) (hp : post (V c)) : wpX_lane post (gx_S nc lv fc kd px py vc ip dr na re sl fs so la L) (nI p) (nI c) (nI e) := by
  obtain ⟨h1, h2, h3, h4⟩ := h
  have hi : vp_in (nI p) 450 := vp_in_nI (by omega) (by omega)
  have ec : (nI p).toNatClampNeg = p := nI_clamp (by omega)
  have h5 := h4 c hc
  unfold ge_of at h5
  by_cases hw : gl_wi L p = 0
  · rw [if_pos hw] at h5
    refine And.intro hi (And.intro hi (br_t (by rw [ec]; exact hw) (And.intro ?_ ?_)))
    · rw [ec, h3, ge_ix0]; exact vp_in_nI (by omega) (by omega)
    · rw [ec, h3, ge_ix0, nI_clamp (by omega), show 12 * s + 4 * e = 12 * s + 4 * e + 0 from rfl, h5]; exact hp
  · rw [if_neg hw] at h5
    refine And.intro hi (And.intro hi (br_f (by rw [ec]; exact hw) (And.intro ?_ ?_)))
    · rw [ec, h3, ge_ix]; exact vp_in_nI (by omega) (by omega)
    · rw [ec, h3, ge_ix, nI_clamp (by omega), h5]; exact hp
theorem ge_laneOf {L : gl_L} (hL : L.1 ≤ 450) {la : Nat → Int32} {p s e c : Nat} {V : Nat → Int32} (h : ge_ln L so la p s e V) (he : e < 3) (hc : c < 4) (post : Int32 → Prop) (hp : post (V c)) : wpX_laneOf post (gx_S nc lv fc kd px py vc ip dr na re sl fs so la L) (nI p) (nI c) (nI e) := by
  obtain ⟨h1, h2, h3, h4⟩ := h
  have hi : vp_in (nI p) 450 := vp_in_nI (by omega) (by omega)
  have ec : (nI p).toNatClampNeg = p := nI_clamp (by omega)
  have h5 := h4 c hc
  unfold ge_of at h5
  by_cases hw : gl_wi L p = 0
  · rw [if_pos hw] at h5
    refine And.intro hi (And.intro hi (br_t (by rw [ec]; exact hw) (And.intro ?_ ?_)))
    · rw [ec, h3, ge_ix0]; exact vp_in_nI (by omega) (by omega)
    · rw [ec, h3, ge_ix0, nI_clamp (by omega), show 12 * s + 4 * e = 12 * s + 4 * e + 0 from rfl, h5]; exact hp
  · rw [if_neg hw] at h5
    refine And.intro hi (And.intro hi (br_f (by rw [ec]; exact hw) (And.intro ?_ ?_)))
    · rw [ec, h3, ge_ix]; exact vp_in_nI (by omega) (by omega)
    · rw [ec, h3, ge_ix, nI_clamp (by omega), h5]; exact hp
theorem ge_load {L : gl_L} {la : Nat → Int32} {w : Int32} {k t e : Nat} (hk : k < 3) (he : e < 3) (ht : t + 4 ≤ 1920) (f : Nat → Int32) (hf : ∀ c, c < 4 → f c = if w = 0 then ip (12 * e + 4 * k + c) else dr (12 * e + 4 * k + c)) (post : SX → Prop) (hp : post (gx_S nc lv fc kd px py vc ip dr na re sl fs so (gs_fill la t f 4) L)) :
    ∀ q c, c + q = 4 → wX_load_3 post w (nI k) (nI t) (nI e) nc lv (nI L.1) fc (q + 1) (nI c) kd px py vc ip dr (gl_op L) (gl_fi L) (gl_se L) (gl_nu L) (gl_wi L) na re sl fs so (gs_fill la t f c) := by
  intro q
  induction q with
  | zero =>
    intro c hc
    have e4 : c = 4 := by omega
    subst e4
    exact br_t (nI_le (a := 4) (b := 4) (by omega) (by decide)) hp
  | succ q ih =>
    intro c hc
    have hix : (12 * nI e + 4 * nI k) + nI c = nI (12 * e + 4 * k + c) := ge_ix e k c
    have hi : vp_in ((12 * nI e + 4 * nI k) + nI c) 36 := by rw [hix]; exact vp_in_nI (by omega) (by omega)
    have hj : vp_in (nI t + nI c) 1920 := by rw [nI_add]; exact vp_in_nI (by omega) (by omega)
    have hfc := hf c (by omega)
    have h4 : ¬ (4 : Int32) ≤ nI c := nI_ge (b := 4) (by omega) (by decide)
    by_cases hw : w = 0
    · rw [if_pos hw] at hfc
      exact br_f h4 (br_t hw (And.intro hi (And.intro hj (nm_r (e' := gs_fill la t f (c + 1)) (by rw [nI_add, nI_clamp (by omega), hix, nI_clamp (by omega), ← hfc, gs_fillS]) (nm_r (nI_1 c) (ih (c + 1) (by omega)))))))
    · rw [if_neg hw] at hfc
      exact br_f h4 (br_f hw (And.intro hi (And.intro hj (nm_r (e' := gs_fill la t f (c + 1)) (by rw [nI_add, nI_clamp (by omega), hix, nI_clamp (by omega), ← hfc, gs_fillS]) (nm_r (nI_1 c) (ih (c + 1) (by omega)))))))
theorem ge_sumOf {L : gl_L} (hL : L.1 ≤ 450) {la : Nat → Int32} {p s e : Nat} {V : Nat → Int32} (h : ge_ln L so la p s e V) (he : e < 3) (post : Int32 → Prop) (hp : post (V 0 + V 1 + V 2 + V 3)) : wpX_sumOf post (gx_S nc lv fc kd px py vc ip dr na re sl fs so la L) (nI p) 3 (nI e) := by
  refine ⟨5, br_f (by decide) (ge_lane hL h he (c := 0) (by omega) _ (nm_r (e' := V 0) (Int32.zero_add _) (nm_r (e' := nI 1) (by decide) ?_)))⟩
  refine br_f (by decide) (ge_lane hL h he (c := 1) (by omega) _ (nm_e (nm_r (e' := nI 2) (by decide) ?_)))
  refine br_f (by decide) (ge_lane hL h he (c := 2) (by omega) _ (nm_e (nm_r (e' := nI 3) (by decide) ?_)))
  refine br_f (by decide) (ge_lane hL h he (c := 3) (by omega) _ (nm_e (nm_r (e' := nI 4) (by decide) ?_)))
  exact br_t (by decide) hp
end
end
section
/-! runAlong, component, execute -/
theorem ge_and3 (n : Nat) (h : n < 2 ^ 32) : nI n &&& 3 = nI (n % 4) := pk_andN h 2 (by decide)
section
variable {nc lv fc : Int32} {kd px py vc ip dr na re sl fs so : Nat → Int32}
theorem ge_run_step {L : gl_L} (hL : L.1 ≤ 450) {la : Nat → Int32} {w : Int32} {p s e t k c n : Nat} {V : Nat → Int32} {sum : Int32} (h : ge_ln L so la p s e V) (he : e < 3) (ht : t + 4 ≤ 1920) (hc : c < 4) (hw : (w = 10 ∧ c = k) ∨ (w ≠ 10 ∧ c + k = 3)) (post : SX → Prop)
    (hn : wX_runAlong_6 post w (nI p) (nI t) (nI e) nc lv (nI L.1) fc n (sum + V c) (nI (k + 1)) kd px py vc ip dr (gl_op L) (gl_fi L) (gl_se L) (gl_nu L) (gl_wi L) na re sl fs so (upd la (t + c) (sum + V c))) : wX_runAlong_6 post w (nI p) (nI t) (nI e) nc lv (nI L.1) fc (n + 1) sum (nI k) kd px py vc ip dr (gl_op L) (gl_fi L) (gl_se L) (gl_nu L) (gl_wi L) na re sl fs so la := by
  have hj : vp_in (nI t + nI c) 1920 := by rw [nI_add]; exact vp_in_nI (by omega) (by omega)
  have h4 : ¬ (4 : Int32) ≤ nI k := nI_ge (b := 4) (by omega) (by decide)
  rcases hw with ⟨hw, rfl⟩ | ⟨hw, hck⟩
  · exact br_f h4 (br_t hw (ge_lane hL h he hc _ (nm_e (And.intro hj (nm_r (e' := upd la (t + c) (sum + V c)) (by rw [nI_add, nI_clamp (by omega)]) (nm_r (nI_1 c) hn))))))
  · have e3 : (3 : Int32) - nI k = nI c := by
      have : (3 : Int32) - nI k = nI (3 - k) := pk_sub (a := 3) (by omega)
      rw [this, show 3 - k = c by omega]
    refine br_f h4 (br_f hw ?_)
    rw [e3]
    exact ge_lane hL h he hc _ (nm_e (And.intro hj (nm_r (e' := upd la (t + c) (sum + V c)) (by rw [nI_add, nI_clamp (by omega)]) (nm_r (nI_1 k) hn))))
theorem ge_run {L : gl_L} (hL : L.1 ≤ 450) {la : Nat → Int32} {p s e t : Nat} {V : Nat → Int32} (h : ge_ln L so la p s e V) (he : e < 3) (ht : t + 4 ≤ 1920) (hd : 12 * s + 4 * e + 4 ≤ t ∨ t + 4 ≤ 12 * s + 4 * e) : ∃ lb : Nat → Int32, (∀ k, k < t ∨ t + 4 ≤ k → lb k = la k) ∧
    (lb t = V 0 ∧ lb (t + 1) = V 0 + V 1 ∧ lb (t + 2) = V 0 + V 1 + V 2 ∧ lb (t + 3) = V 0 + V 1 + V 2 + V 3) ∧ ∀ post : SX → Prop, post (gx_S nc lv fc kd px py vc ip dr na re sl fs so lb L) → wpX_runAlong post (gx_S nc lv fc kd px py vc ip dr na re sl fs so la L) 10 (nI p) (nI t) (nI e) := by
  refine ⟨upd (upd (upd (upd la (t + 0) (0 + V 0)) (t + 1) (0 + V 0 + V 1)) (t + 2) (0 + V 0 + V 1 + V 2)) (t + 3) (0 + V 0 + V 1 + V 2 + V 3), fun k hk => ?_, ⟨?_, ?_, ?_, ?_⟩, fun post hp => ?_⟩
  · rw [pk_un (by omega), pk_un (by omega), pk_un (by omega), pk_un (by omega)]
  · rw [pk_un (by omega), pk_un (by omega), pk_un (by omega), Nat.add_zero, pk_us, Int32.zero_add]
  · rw [pk_un (by omega), pk_un (by omega), pk_us, Int32.zero_add]
  · rw [pk_un (by omega), pk_us, Int32.zero_add]
  · rw [pk_us, Int32.zero_add]
  · refine ⟨5, ge_run_step (c := 0) (k := 0) hL h he ht (by omega) (Or.inl ⟨rfl, rfl⟩) post ?_⟩
    refine ge_run_step (c := 1) (k := 1) hL (ge_ln_out h hd (fun k hk => ?_)) he ht (by omega) (Or.inl ⟨rfl, rfl⟩) post ?_
    · rw [pk_un (by omega)]
    refine ge_run_step (c := 2) (k := 2) hL (ge_ln_out h hd (fun k hk => ?_)) he ht (by omega) (Or.inl ⟨rfl, rfl⟩) post ?_
    · rw [pk_un (by omega), pk_un (by omega)]
    refine ge_run_step (c := 3) (k := 3) hL (ge_ln_out h hd (fun k hk => ?_)) he ht (by omega) (Or.inl ⟨rfl, rfl⟩) post ?_
    · rw [pk_un (by omega), pk_un (by omega), pk_un (by omega)]
    exact br_t (nI_le (a := 4) (b := 4) (by omega) (by decide)) hp
theorem ge_runB {L : gl_L} (hL : L.1 ≤ 450) {la : Nat → Int32} {p s e t : Nat} {V : Nat → Int32} (h : ge_ln L so la p s e V) (he : e < 3) (ht : t + 4 ≤ 1920) (hd : 12 * s + 4 * e + 4 ≤ t ∨ t + 4 ≤ 12 * s + 4 * e) : ∃ lb : Nat → Int32, (∀ k, k < t ∨ t + 4 ≤ k → lb k = la k) ∧
    (lb (t + 3) = V 3 ∧ lb (t + 2) = V 3 + V 2 ∧ lb (t + 1) = V 3 + V 2 + V 1 ∧ lb t = V 3 + V 2 + V 1 + V 0) ∧ ∀ post : SX → Prop, post (gx_S nc lv fc kd px py vc ip dr na re sl fs so lb L) → wpX_runAlong post (gx_S nc lv fc kd px py vc ip dr na re sl fs so la L) 14 (nI p) (nI t) (nI e) := by
  refine ⟨upd (upd (upd (upd la (t + 3) (0 + V 3)) (t + 2) (0 + V 3 + V 2)) (t + 1) (0 + V 3 + V 2 + V 1)) (t + 0) (0 + V 3 + V 2 + V 1 + V 0), fun k hk => ?_, ⟨?_, ?_, ?_, ?_⟩, fun post hp => ?_⟩
  · rw [pk_un (by omega), pk_un (by omega), pk_un (by omega), pk_un (by omega)]
  · rw [pk_un (by omega), pk_un (by omega), pk_un (by omega), pk_us, Int32.zero_add]
  · rw [pk_un (by omega), pk_un (by omega), pk_us, Int32.zero_add]
  · rw [pk_un (by omega), pk_us, Int32.zero_add]
  · exact pk_us.trans (by rw [Int32.zero_add])
  · refine ⟨5, ge_run_step (c := 3) (k := 0) hL h he ht (by omega) (Or.inr ⟨by decide, rfl⟩) post ?_⟩
    refine ge_run_step (c := 2) (k := 1) hL (ge_ln_out h hd (fun k hk => ?_)) he ht (by omega) (Or.inr ⟨by decide, rfl⟩) post ?_
    · rw [pk_un (by omega)]
    refine ge_run_step (c := 1) (k := 2) hL (ge_ln_out h hd (fun k hk => ?_)) he ht (by omega) (Or.inr ⟨by decide, rfl⟩) post ?_
    · rw [pk_un (by omega), pk_un (by omega)]
    refine ge_run_step (c := 0) (k := 3) hL (ge_ln_out h hd (fun k hk => ?_)) he ht (by omega) (Or.inr ⟨by decide, rfl⟩) post ?_
    · rw [pk_un (by omega), pk_un (by omega), pk_un (by omega)]
    exact br_t (nI_le (a := 4) (b := 4) (by omega) (by decide)) hp
/-- the parts of id have their values in the lanes, away from t -/
def ge_par (ip dr : Nat → Int32) (L : gl_L) (so la : Nat → Int32) (id t e : Nat) : Prop := ∀ p, p < 450 → gu_part L id p → ∃ s, (12 * s + 4 * e + 4 ≤ t ∨ t + 4 ≤ 12 * s + 4 * e) ∧ ge_ln L so la p s e (fun c => ge_V ip dr L e p c)
theorem ge_par_out {L : gl_L} {la lb : Nat → Int32} {id t e : Nat} (h : ge_par ip dr L so la id t e) (hb : ∀ k, k < t ∨ t + 4 ≤ k → lb k = la k) : ge_par ip dr L so lb id t e := by
  intro p hp g
  obtain ⟨s, hd, hl⟩ := h p hp g
  exact ⟨s, hd, ge_ln_out hl hd hb⟩
theorem ge_component {L : gl_L} (h : gl_WF L) {la : Nat → Int32} {id t e c : Nat} (hid : id < L.1) (he : e < 3) (hc : c < 4) (hp : ge_par ip dr L so la id t e)
    (hop : gl_op L id = 2 ∨ gl_op L id = 3 ∨ gl_op L id = 4 ∨ gl_op L id = 6 ∨ gl_op L id = 8 ∨ gl_op L id = 12 ∨ gl_op L id = 13) (post : Int32 → Prop) (hpp : post (ge_V ip dr L e id c)) : wpX_component post (gx_S nc lv fc kd px py vc ip dr na re sl fs so la L) (nI id) (nI c) (nI e) := by
  have hL := h.1
  have hi : vp_in (nI id) 450 := vp_in_nI (by omega) (by omega)
  have ec : (nI id).toNatClampNeg = id := nI_clamp (by omega)
  have hv : ge_V ip dr L e id c = (gh_ov (ge_iv ip e) (ge_dv dr e) (gl_op L id) (gl_fi L id).toNatClampNeg (gl_se L id).toNatClampNeg (gl_nu L id) (gl_val (ge_iv ip e) (ge_dv dr e) L) c).1 := by
    unfold ge_V
    rw [gl_val_eq h hid]
  rw [hv] at hpp
  have hk := h.2 id hid
  rcases hk with ⟨hw, _⟩ | ⟨hw, _⟩ | ⟨hw, e4, x, y, hx, hy, e2, e3, hm⟩ | ⟨e1, e4, hd, x, y, hx, hy, e2, e3, hwx, hwy⟩ | ⟨e3, x, hx, e2, hu⟩
  · rcases hw with hw | hw <;> rw [hw] at hop <;> exact absurd hop (by decide)
  · rw [hw] at hop; exact absurd hop (by decide)
  · obtain ⟨sx, _, hlx⟩ := hp x (by omega) (Or.inl e2)
    obtain ⟨sy, _, hly⟩ := hp y (by omega) (Or.inr e3)
    rw [e2, e3, nI_clamp (by omega), nI_clamp (by omega)] at hpp
    rcases hw with e1 | e1 | e1
    · rw [e1, gh_ov2] at hpp
      refine And.intro hi (nm_r (e' := 2) (by rw [ec, e1]) (And.intro hi (nm_r (e' := nI x) (by rw [ec, e2]) (br_f (by decide) (br_f (by decide) (ge_lane hL hlx he hc _ (br_f (by decide) (And.intro hi ?_))))))))
      rw [ec, e3]
      exact ge_lane hL hly he hc _ (br_t rfl hpp)
    · rw [e1, gh_ov3] at hpp
      refine And.intro hi (nm_r (e' := 3) (by rw [ec, e1]) (And.intro hi (nm_r (e' := nI x) (by rw [ec, e2]) (br_f (by decide) (br_f (by decide) (ge_lane hL hlx he hc _ (br_f (by decide) (And.intro hi ?_))))))))
      rw [ec, e3]
      exact ge_lane hL hly he hc _ (br_f (by decide) (br_t rfl hpp))
    · rw [e1, gh_ov4] at hpp
      refine And.intro hi (nm_r (e' := 4) (by rw [ec, e1]) (And.intro hi (nm_r (e' := nI x) (by rw [ec, e2]) (br_f (by decide) (br_f (by decide) (ge_lane hL hlx he hc _ (br_f (by decide) (And.intro hi ?_))))))))
      rw [ec, e3]
      exact ge_lane hL hly he hc _ (br_f (by decide) (br_f (by decide) (br_t rfl hpp)))
  · obtain ⟨sx, _, hlx⟩ := hp x (by omega) (Or.inl e2)
    obtain ⟨sy, _, hly⟩ := hp y (by omega) (Or.inr e3)
    rw [e1, e2, e3, nI_clamp (by omega), nI_clamp (by omega), gh_ov13, gh_gate] at hpp
    refine And.intro hi (nm_r (e' := 13) (by rw [ec, e1]) (And.intro hi (nm_r (e' := nI x) (by rw [ec, e2]) (br_f (by decide) (br_f (by decide) (ge_lane hL hlx he hc _ (br_f (by decide) (And.intro hi ?_))))))))
    rw [ec, e3]
    refine ge_lane hL hly he hc _ (br_f (by decide) (br_f (by decide) (br_f (by decide) ?_)))
    by_cases hz : (gl_val (ge_iv ip e) (ge_dv dr e) L x c).1 ≤ 0
    · rw [if_pos hz] at hpp
      exact br_t hz hpp
    · rw [if_neg hz] at hpp
      exact br_f hz hpp
  · obtain ⟨sx, _, hlx⟩ := hp x (by omega) (Or.inl e2)
    rw [e2, nI_clamp (by omega)] at hpp
    rcases hu with ⟨e1, _⟩ | ⟨e1, _, _, t', h1, h3, en⟩ | ⟨e1, _⟩ | ⟨e1, _⟩ | ⟨e1, _⟩ | ⟨e1, _⟩ | ⟨e1, _, _, t', ht', en⟩
    · rw [e1] at hop; exact absurd hop (by decide)
    · rw [e1, en, gh_ov6, nI_clamp (by omega)] at hpp
      refine And.intro hi (nm_r (e' := 6) (by rw [ec, e1]) (And.intro hi (nm_r (e' := nI x) (by rw [ec, e2]) (br_t rfl (And.intro hi ?_)))))
      rw [ec, en, nI_add, ge_and3 _ (by omega)]
      exact ge_lane hL hlx he (Nat.mod_lt _ (by omega)) _ hpp
    · rw [e1] at hop; exact absurd hop (by decide)
    · rw [e1, gh_ov8] at hpp
      exact And.intro hi (nm_r (e' := 8) (by rw [ec, e1]) (And.intro hi (nm_r (e' := nI x) (by rw [ec, e2]) (br_f (by decide) (br_f (by decide) (ge_lane hL hlx he hc _ (br_t rfl hpp)))))))
    · rw [e1] at hop; exact absurd hop (by decide)
    · rw [e1] at hop; exact absurd hop (by decide)
    · rw [e1, en, gh_ov12, nI_clamp (by omega)] at hpp
      by_cases hct : c = t'
      · rw [if_pos hct] at hpp
        exact And.intro hi (nm_r (e' := 12) (by rw [ec, e1]) (And.intro hi (nm_r (e' := nI x) (by rw [ec, e2]) (br_f (by decide) (br_t rfl (And.intro hi (br_t (by rw [ec, en, hct]) (ge_lane hL hlx he (c := 0) (by omega) _ hpp))))))))
      · rw [if_neg hct] at hpp
        exact And.intro hi (nm_r (e' := 12) (by rw [ec, e1]) (And.intro hi (nm_r (e' := nI x) (by rw [ec, e2]) (br_f (by decide) (br_t rfl (And.intro hi (br_f (by rw [ec, en]; exact fun z => hct ((nI_eq (by omega) (by omega)).mp z)) hpp)))))))
theorem ge_x160 {L : gl_L} (h : gl_WF L) {la : Nat → Int32} {id t e n : Nat} (hid : id < L.1) (he : e < 3) (hn : n ≤ 4) (ht : t + 4 ≤ 1920) (hp : ge_par ip dr L so la id t e)
    (hop : gl_op L id = 2 ∨ gl_op L id = 3 ∨ gl_op L id = 4 ∨ gl_op L id = 6 ∨ gl_op L id = 8 ∨ gl_op L id = 12 ∨ gl_op L id = 13) (post : SX → Prop) (hpp : post (gx_S nc lv fc kd px py vc ip dr na re sl fs so (gs_fill la t (ge_V ip dr L e id) n) L)) :
    ∀ q c, c + q = n → wX_execute_160 post (nI id) (nI t) (nI e) (nI n) nc lv (nI L.1) fc (q + 1) (nI c) kd px py vc ip dr (gl_op L) (gl_fi L) (gl_se L) (gl_nu L) (gl_wi L) na re sl fs so (gs_fill la t (ge_V ip dr L e id) c) := by
  intro q
  induction q with
  | zero =>
    intro c hc
    have e4 : c = n := by omega
    subst e4
    exact br_t (nI_le (by omega) (by omega)) hpp
  | succ q ih =>
    intro c hc
    have hj : vp_in (nI t + nI c) 1920 := by rw [nI_add]; exact vp_in_nI (by omega) (by omega)
    exact br_f (nI_ge (by omega) (by omega)) (ge_component h hid he (by omega) (ge_par_out hp (fun k hk => gs_fill_out (by omega))) hop _ (And.intro hj (nm_r (e' := gs_fill la t (ge_V ip dr L e id) (c + 1)) (by rw [nI_add, nI_clamp (by omega), gs_fillS]) (nm_r (nI_1 c) (ih (c + 1) (by omega))))))
def ge_ex (ip dr : Nat → Int32) (L : gl_L) (la lb : Nat → Int32) (id t e : Nat) : Prop := (∀ k, k < t ∨ t + 4 ≤ k → lb k = la k) ∧ ∀ c, c < 4 → lb (t + ge_of L id c) = ge_V ip dr L e id c
theorem ge_c4 {P : Nat → Prop} (h0 : P 0) (h1 : P 1) (h2 : P 2) (h3 : P 3) : ∀ c, c < 4 → P c := by
  intro c hc
  have : c = 0 ∨ c = 1 ∨ c = 2 ∨ c = 3 := by omega
  rcases this with rfl | rfl | rfl | rfl
  · exact h0
  · exact h1
  · exact h2
  · exact h3
theorem ge_execute {L : gl_L} (h : gl_WF L) {la : Nat → Int32} {id t e : Nat} (hid : id < L.1) (he : e < 3) (ht : t + 4 ≤ 1920) (hp : ge_par ip dr L so la id t e) : ∃ lb, ge_ex ip dr L la lb id t e ∧
    ∀ post : SX → Prop, post (gx_S nc lv fc kd px py vc ip dr na re sl fs so lb L) → wpX_execute post (gx_S nc lv fc kd px py vc ip dr na re sl fs so la L) (nI id) (nI t) (nI e) := by
  have hL := h.1
  have hi : vp_in (nI id) 450 := vp_in_nI (by omega) (by omega)
  have hit : vp_in (nI t) 1920 := vp_in_nI (by omega) (by omega)
  have ect : (nI t).toNatClampNeg = t := nI_clamp (by omega)
  have ec : (nI id).toNatClampNeg = id := nI_clamp (by omega)
  have hv : ∀ c, ge_V ip dr L e id c = (gh_ov (ge_iv ip e) (ge_dv dr e) (gl_op L id) (gl_fi L id).toNatClampNeg (gl_se L id).toNatClampNeg (gl_nu L id) (gl_val (ge_iv ip e) (ge_dv dr e) L) c).1 := by
    intro c
    unfold ge_V
    rw [gl_val_eq h hid]
  have hnar : gl_wi L id = 0 → ∀ c, ge_of L id c = 0 := fun z c => if_pos z
  have hwid : gl_wi L id = 1 → ∀ c, ge_of L id c = c := fun z c => if_neg (by rw [z]; decide)
  have hone : ∀ v : Int32, gl_wi L id = 0 → (∀ c, c < 4 → ge_V ip dr L e id c = v) → ge_ex ip dr L la (upd la t v) id t e := by
    intro v hw hvv
    refine ⟨fun k hk => pk_un (by omega), fun c hc => ?_⟩
    rw [hnar hw, hvv c hc]
    exact pk_us
  have hcomp : (gl_op L id = 2 ∨ gl_op L id = 3 ∨ gl_op L id = 4 ∨ gl_op L id = 6 ∨ gl_op L id = 8 ∨ gl_op L id = 12 ∨ gl_op L id = 13) → ∃ lb, ge_ex ip dr L la lb id t e ∧ ∀ post : SX → Prop, post (gx_S nc lv fc kd px py vc ip dr na re sl fs so lb L) → wpX_execute post (gx_S nc lv fc kd px py vc ip dr na re sl fs so la L) (nI id) (nI t) (nI e) := by
    intro hop
    have hc : ¬ gl_op L id = 1 ∧ ¬ gl_op L id = 0 ∧ ¬ gl_op L id = 11 ∧ ¬ gl_op L id = 5 ∧ ¬ gl_op L id = 7 ∧ ¬ gl_op L id = 10 ∧ ¬ gl_op L id = 14 := by
      rcases hop with e1 | e1 | e1 | e1 | e1 | e1 | e1 <;> rw [e1] <;> decide
    obtain ⟨c1, c0, c11, c5, c7, c10, c14⟩ := hc
    rcases gl_wd h hid with hw | hw
    · refine ⟨gs_fill la t (ge_V ip dr L e id) 1, ⟨fun k hk => gs_fill_out (by omega), fun c hc => ?_⟩, fun post hpp => ?_⟩
      · rw [hnar hw, gs_fill_in (by omega)]
        unfold ge_V
        rw [gl_nr h hid hw c]
      · refine And.intro hi (nm_r (e' := gl_op L id) (by rw [ec]) (And.intro hi (nm_r (e' := gl_fi L id) (by rw [ec]) (And.intro hi (nm_r (e' := gl_nu L id) (by rw [ec]) (br_f c1 (br_f c0 (br_f c11 (br_f c5 (br_f c7 (br_f c10 (br_f c14 (And.intro hi (br_t (by rw [ec]; exact hw) ⟨1 + 1, ?_⟩))))))))))))))
        have := ge_x160 (nc := nc) (lv := lv) (fc := fc) (kd := kd) (px := px) (py := py) (vc := vc) (na := na) (re := re) (sl := sl) (fs := fs) h hid he (n := 1) (by omega) ht hp hop post hpp 1 0 rfl
        rw [gs_fill0] at this
        exact this
    · refine ⟨gs_fill la t (ge_V ip dr L e id) 4, ⟨fun k hk => gs_fill_out (by omega), fun c hc => ?_⟩, fun post hpp => ?_⟩
      · rw [hwid hw, gs_fill_in hc]
      · refine And.intro hi (nm_r (e' := gl_op L id) (by rw [ec]) (And.intro hi (nm_r (e' := gl_fi L id) (by rw [ec]) (And.intro hi (nm_r (e' := gl_nu L id) (by rw [ec]) (br_f c1 (br_f c0 (br_f c11 (br_f c5 (br_f c7 (br_f c10 (br_f c14 (And.intro hi (br_f (by rw [ec, hw]; decide) ⟨4 + 1, ?_⟩))))))))))))))
        have := ge_x160 (nc := nc) (lv := lv) (fc := fc) (kd := kd) (px := px) (py := py) (vc := vc) (na := na) (re := re) (sl := sl) (fs := fs) h hid he (n := 4) (by omega) ht hp hop post hpp 4 0 rfl
        rw [gs_fill0] at this
        exact this
  rcases h.2 id hid with ⟨hw, e2, e3, hw1, k, hk, e4⟩ | ⟨e1, e2, e3, hw0⟩ | ⟨hw, e4, x, y, hx, hy, e2, e3, hm⟩ | ⟨e1, e4, hd, x, y, hx, hy, e2, e3, hwx, hwy⟩ | ⟨e3, x, hx, e2, hu⟩
  · rcases hw with e1 | e1
    · refine ⟨gs_fill la t (ge_V ip dr L e id) 4, ⟨fun k hk => gs_fill_out (by omega), fun c hc => by rw [hwid hw1, gs_fill_in hc]⟩, fun post hpp => And.intro hi (nm_r (e' := 0) (by rw [ec, e1]) (And.intro hi (nm_r (e' := (-1)) (by rw [ec, e2]) (And.intro hi (nm_r (e' := nI k) (by rw [ec, e4]) ( br_f (by decide) (br_t rfl ⟨4 + 1, ?_⟩)))))))⟩
      have := ge_load (nc := nc) (lv := lv) (fc := fc) (kd := kd) (px := px) (py := py) (vc := vc) (ip := ip) (dr := dr) (na := na) (re := re) (sl := sl) (fs := fs) (so := so) (L := L) (la := la) (w := 0) hk he ht (ge_V ip dr L e id) (fun c _ => by
        rw [if_pos rfl, hv, e1, e4, gh_ov0, nI_clamp (by omega), Nat.add_assoc]; rfl) post hpp 4 0 rfl
      rw [gs_fill0] at this
      exact this
    · refine ⟨gs_fill la t (ge_V ip dr L e id) 4, ⟨fun k hk => gs_fill_out (by omega), fun c hc => by rw [hwid hw1, gs_fill_in hc]⟩, fun post hpp => And.intro hi (nm_r (e' := 11) (by rw [ec, e1]) (And.intro hi (nm_r (e' := (-1)) (by rw [ec, e2]) (And.intro hi (nm_r (e' := nI k) (by rw [ec, e4]) ( br_f (by decide) (br_f (by decide) (br_t rfl ⟨4 + 1, ?_⟩))))))))⟩
      have := ge_load (nc := nc) (lv := lv) (fc := fc) (kd := kd) (px := px) (py := py) (vc := vc) (ip := ip) (dr := dr) (na := na) (re := re) (sl := sl) (fs := fs) (so := so) (L := L) (la := la) (w := 11) hk he ht (ge_V ip dr L e id) (fun c _ => by
        rw [if_neg (by decide), hv, e1, e4, gh_ov11, nI_clamp (by omega), Nat.add_assoc]; rfl) post hpp 4 0 rfl
      rw [gs_fill0] at this
      exact this
  · obtain ⟨n, e4⟩ : ∃ n, gl_nu L id = n := ⟨_, rfl⟩
    refine ⟨upd la t n, hone n hw0 (fun c _ => ?_), fun post hpp => And.intro hi (nm_r (e' := 1) (by rw [ec, e1]) (And.intro hi (nm_r (e' := (-1)) (by rw [ec, e2]) (And.intro hi (nm_r (e' := n) (by rw [ec, e4]) ( br_t rfl (And.intro hit (nm_r (e' := upd la t n) (by rw [ect]) hpp))))))))⟩
    rw [hv, e1, e4, gh_ov1]; rfl
  · exact hcomp (by rcases hw with e | e | e <;> simp [e])
  · exact hcomp (by simp [e1])
  · have ecx : (nI x).toNatClampNeg = x := nI_clamp (by omega)
    obtain ⟨s, hd, hlx⟩ := hp x (by omega) (Or.inl e2)
    rcases hu with ⟨e1, e4, _, hw0⟩ | ⟨e1, _⟩ | ⟨e1, _, hw0, t', ht', e4⟩ | ⟨e1, _⟩ | ⟨e1, e4, _, hw1⟩ | ⟨e1, e4, _, hw1⟩ | ⟨e1, _⟩
    · refine ⟨_, hone (ge_V ip dr L e x 0 + ge_V ip dr L e x 1 + ge_V ip dr L e x 2 + ge_V ip dr L e x 3) hw0 (fun c _ => ?_), fun post hpp => And.intro hi (nm_r (e' := 5) (by rw [ec, e1]) (And.intro hi (nm_r (e' := nI x) (by rw [ec, e2]) (And.intro hi (nm_r (e' := 0) (by rw [ec, e4]) ( br_f (by decide) (br_f (by decide) (br_f (by decide) (br_t rfl (ge_sumOf hL hlx he _ (And.intro hit (nm_r (e' := upd la t (ge_V ip dr L e x 0 + ge_V ip dr L e x 1 + ge_V ip dr L e x 2 + ge_V ip dr L e x 3)) (by rw [ect]) hpp))))))))))))⟩
      rw [hv, e1, e2, gh_ov5, ecx]; rfl
    · exact hcomp (by simp [e1])
    · refine ⟨_, hone (ge_V ip dr L e x t') hw0 (fun c _ => ?_), fun post hpp => And.intro hi (nm_r (e' := 7) (by rw [ec, e1]) (And.intro hi (nm_r (e' := nI x) (by rw [ec, e2]) (And.intro hi (nm_r (e' := nI t') (by rw [ec, e4]) ( br_f (by decide) (br_f (by decide) (br_f (by decide) (br_f (by decide) (br_t rfl (ge_lane hL hlx he ht' _ (And.intro hit (nm_r (e' := upd la t (ge_V ip dr L e x t')) (by rw [ect]) hpp)))))))))))))⟩
      rw [hv, e1, e2, e4, gh_ov7, ecx, nI_clamp (by omega)]; rfl
    · exact hcomp (by simp [e1])
    · obtain ⟨lb, h1, ⟨r0, r1, r2, r3⟩, hw⟩ := ge_run (nc := nc) (lv := lv) (fc := fc) (kd := kd) (px := px) (py := py) (vc := vc) (ip := ip) (dr := dr) (na := na) (re := re) (sl := sl) (fs := fs) hL hlx he ht hd
      refine ⟨lb, ⟨h1, ge_c4 ?_ ?_ ?_ ?_⟩, fun post hpp => And.intro hi (nm_r (e' := 10) (by rw [ec, e1]) (And.intro hi (nm_r (e' := nI x) (by rw [ec, e2]) (And.intro hi (nm_r (e' := 0) (by rw [ec, e4]) ( br_f (by decide) (br_f (by decide) (br_f (by decide) (br_f (by decide) (br_f (by decide) (br_t rfl (hw _ hpp))))))))))))⟩
      · rw [hwid hw1, hv, e1, e2, gh_ov10, ecx]; exact r0
      · rw [hwid hw1, hv, e1, e2, gh_ov10, ecx]; exact r1
      · rw [hwid hw1, hv, e1, e2, gh_ov10, ecx]; exact r2
      · rw [hwid hw1, hv, e1, e2, gh_ov10, ecx]; exact r3
    · obtain ⟨lb, h1, ⟨r3, r2, r1, r0⟩, hw⟩ := ge_runB (nc := nc) (lv := lv) (fc := fc) (kd := kd) (px := px) (py := py) (vc := vc) (ip := ip) (dr := dr) (na := na) (re := re) (sl := sl) (fs := fs) hL hlx he ht hd
      refine ⟨lb, ⟨h1, ge_c4 ?_ ?_ ?_ ?_⟩, fun post hpp => And.intro hi (nm_r (e' := 14) (by rw [ec, e1]) (And.intro hi (nm_r (e' := nI x) (by rw [ec, e2]) (And.intro hi (nm_r (e' := 0) (by rw [ec, e4]) ( br_f (by decide) (br_f (by decide) (br_f (by decide) (br_f (by decide) (br_f (by decide) (br_f (by decide) (br_t rfl (hw _ hpp)))))))))))))⟩
      · rw [hwid hw1, hv, e1, e2, gh_ov14, ecx]; exact r0
      · rw [hwid hw1, hv, e1, e2, gh_ov14, ecx]; exact r1
      · rw [hwid hw1, hv, e1, e2, gh_ov14, ecx]; exact r2
      · rw [hwid hw1, hv, e1, e2, gh_ov14, ecx]; exact r3
    · exact hcomp (by simp [e1])
end
end
section
/-! workOut -/
theorem gx_n16' {x : Nat} (hx : x < 450) : vp_nar .short (nI x) = nI x := by
  rw [vp_nar_short]
  exact lg_i2s_small (by rw [nI_toInt (by omega)]; omega) (by rw [nI_toInt (by omega)]; omega)
/-- the lanes of all live operations -/
def gk_la (ip dr : Nat → Int32) (L : gl_L) (P : Nat → Bool) (n : Nat) (so la : Nat → Int32) : Prop := ∀ j, j < n → P j = true → ∀ e c, e < 3 → c < 4 → la (12 * (so j).toNatClampNeg + 4 * e + ge_of L j c) = ge_V ip dr L e j c
section
variable {nc lv : Int32} {kd px py vc ip dr na re sl : Nat → Int32}
theorem gk_release {L : gl_L} (hL : L.1 ≤ 450) {P : Nat → Bool} {n f id : Nat} {fs so la : Nat → Int32} (h : gs_SI P n f fs so) (hn : n ≤ 450) {z : Int32} (hz : z = -1 ∨ ∃ p, p < n ∧ z = nI p ∧ P p = true) : ∃ g ft Q, gs_SI Q n g ft so ∧ (∀ j, j < n → (Q j = true ↔ P j = true ∧ ¬ (z = nI j ∧ re j = nI id))) ∧
    ∀ post : SX → Prop, post (gx_S nc lv (nI g) kd px py vc ip dr na re sl ft so la L) → wpX_release post (gx_S nc lv (nI f) kd px py vc ip dr na re sl fs so la L) z (nI id) := by
  rcases hz with rfl | ⟨p, hp, rfl, hP⟩
  · refine ⟨f, fs, P, h, fun j hj => ⟨fun z => ⟨z, fun z' => gl_nI_m1 (by omega) z'.1.symm⟩, fun z => z.1⟩, fun post hpp => br_t (by decide) hpp⟩
  · have hi : vp_in (nI p) 450 := vp_in_nI (by omega) (by omega)
    have ec : (nI p).toNatClampNeg = p := nI_clamp (by omega)
    by_cases e : re p = nI id
    · obtain ⟨hf, hs⟩ := gs_free h hp hP
      obtain ⟨s, hs1, es⟩ := h.2.2.2.1 p hp hP
      have hif : vp_in (nI f) 160 := vp_in_nI (by omega) (by omega)
      refine ⟨f + 1, upd fs f (so p), gs_up P p false, hs, fun j hj => ?_, fun post hpp => br_f (nI_pos (by omega)) (And.intro hi (br_t (by rw [ec]; exact e) (And.intro hi (And.intro hif (nm_r (e' := upd fs f (so p)) (by rw [ec, nI_clamp (by omega), es, gx_n16' (by omega)]) (nm_r (nI_1 f) hpp))))))⟩
      by_cases ej : j = p
      · subst ej
        rw [gs_up_s]
        exact ⟨fun z => absurd z (by decide), fun z => absurd ⟨rfl, e⟩ z.2⟩
      · rw [gs_up_n P false ej]
        exact ⟨fun z => ⟨z, fun z' => ej (gl_nI_inj (by omega) (by omega) z'.1).symm⟩, fun z => z.1⟩
    · refine ⟨f, fs, P, h, fun j hj => ⟨fun z => ⟨z, fun z' => ?_⟩, fun z => z.1⟩, fun post hpp => br_f (nI_pos (by omega)) (And.intro hi (br_f (by rw [ec]; exact e) hpp))⟩
      have := gl_nI_inj (by omega) (by omega) z'.1
      subst this
      exact e z'.2
/-- the three examples of one operation -/
theorem gk_loopE {L : gl_L} (h : gl_WF L) {fc : Int32} {fs so la : Nat → Int32} {id s : Nat} (hid : id < L.1) (hs : s < 160) (es : so id = nI s)
    (hp : ∀ p, p < 450 → gu_part L id p → ∃ sp, sp < 160 ∧ sp ≠ s ∧ so p = nI sp ∧ p < L.1 ∧ ∀ e c, e < 3 → c < 4 → la (12 * sp + 4 * e + ge_of L p c) = ge_V ip dr L e p c) :
    ∀ q e, e + q = 3 → ∀ lb : Nat → Int32, (∀ k, k < 12 * s ∨ 12 * s + 12 ≤ k → lb k = la k) → (∀ e' c, e' < e → c < 4 → lb (12 * s + 4 * e' + ge_of L id c) = ge_V ip dr L e' id c) →
    ∃ lc : Nat → Int32, (∀ k, k < 12 * s ∨ 12 * s + 12 ≤ k → lc k = la k) ∧ (∀ e' c, e' < 3 → c < 4 → lc (12 * s + 4 * e' + ge_of L id c) = ge_V ip dr L e' id c) ∧
    ∀ (post : Int32 → SX → Prop) (J : Int32 → Int32 → Int32 → Int32 → Int32 → (Nat → Int32) → (Nat → Int32) → (Nat → Int32) → (Nat → Int32) → (Nat → Int32) → (Nat → Int32) → (Nat → Int32) → (Nat → Int32) → (Nat → Int32) → (Nat → Int32) → (Nat → Int32) → (Nat → Int32) → (Nat → Int32) → (Nat → Int32) → (Nat → Int32) → (Nat → Int32) → (Nat → Int32) → Prop) (x1 x2 x3 : Int32),
      wX_workOut_105 post J x1 x2 x3 (nI id) 1 (nI 3) nc lv (nI L.1) fc kd px py vc ip dr (gl_op L) (gl_fi L) (gl_se L) (gl_nu L) (gl_wi L) na re sl fs so lc → wX_workOut_105 post J x1 x2 x3 (nI id) (q + 1) (nI e) nc lv (nI L.1) fc kd px py vc ip dr (gl_op L) (gl_fi L) (gl_se L) (gl_nu L) (gl_wi L) na re sl fs so lb := by
  have hL := h.1
  have hi : vp_in (nI id) 450 := vp_in_nI (by omega) (by omega)
  have ec : (nI id).toNatClampNeg = id := nI_clamp (by omega)
  intro q
  induction q with
  | zero =>
    intro e he lb h1 h2
    have e3 : e = 3 := by omega
    subst e3
    exact ⟨lb, h1, h2, fun post J x1 x2 x3 hj => hj⟩
  | succ q ih =>
    intro e he lb h1 h2
    have hof : ∀ j c, c < 4 → ge_of L j c ≤ 3 := by intro j c hc; unfold ge_of; split <;> omega
    obtain ⟨lc, ⟨x1, x2⟩, hw⟩ := ge_execute (nc := nc) (lv := lv) (fc := fc) (kd := kd) (px := px) (py := py) (vc := vc) (ip := ip) (dr := dr) (na := na) (re := re) (sl := sl) (fs := fs) (so := so) h (la := lb) (id := id) (t := 12 * s + 4 * e) (e := e) hid (by omega) (by omega) (fun p hp' hpart => by
      obtain ⟨sp, p1, p2, p3, p4, p5⟩ := hp p hp' hpart
      refine ⟨sp, by omega, p4, p1, p3, fun c hc => ?_⟩
      have := hof p c hc
      rw [h1 _ (by omega)]
      exact p5 e c (by omega) hc)
    obtain ⟨ld, y1, y2, y3⟩ := ih (e + 1) (by omega) lc (fun k hk => by rw [x1 k (by omega)]; exact h1 k hk) (fun e' c he' hc => by
      by_cases ee : e' = e
      · subst ee; exact x2 c hc
      · have := hof id c hc
        rw [x1 _ (by omega)]
        exact h2 e' c (by omega) hc)
    refine ⟨ld, y1, y2, fun post J z1 z2 z3 hj => br_f (nI_ge (b := 3) (by omega) (by decide)) (And.intro hi ?_)⟩
    rw [ec, es, ge_n12, ge_n4, nI_add]
    exact hw _ (nm_r (nI_1 e) (y3 post J z1 z2 z3 hj))
def gk_st (ip dr : Nat → Int32) (L : gl_L) (re : Nat → Int32) (r id f : Nat) (fs so la : Nat → Int32) : Prop := gs_SI (gs_lv re id) (r + 1) f fs so ∧ gk_la ip dr L (gs_lv re id) (r + 1) so la
theorem gk_lv_next {L : gl_L} (h : gl_WF L) {r : Nat} (hr : r < L.1) (g : gu_I L r 0 re) {id : Nat} (hid : id ≤ r) (hn : re id ≠ -1) {P Q : Nat → Bool} (hP : ∀ j, j < r + 1 → P j = gs_up (gs_lv re id) id true j)
    (hQ : ∀ j, j < r + 1 → (Q j = true ↔ P j = true ∧ ¬ (gu_part L id j ∧ re j = nI id))) : ∀ j, j < r + 1 → Q j = gs_lv re (id + 1) j := by
  have hL := h.1
  intro j hj
  rw [Bool.eq_iff_iff, hQ j hj, hP j hj, gs_lv_iff]
  by_cases e : j = id
  · subst e
    rw [gs_up_s]
    rcases g.1 j hid with e' | ⟨q, e', hq⟩
    · exact absurd e' hn
    · have hq' : j < q ∧ q ≤ 450 := by rcases hq with ⟨_, hq⟩ | ⟨_, _, hq, _⟩ <;> omega
      refine ⟨fun _ => ⟨by omega, by rw [e']; exact nI_pos (by omega), by rw [e', nI_clamp (by omega)]; omega⟩, fun _ => ⟨rfl, fun z => ?_⟩⟩
      have := gu_part_lt h (show j < L.1 by omega) (by omega) z.1
      omega
  · rw [gs_up_n _ true e, gs_lv_iff]
    rcases g.1 j (by omega) with e' | ⟨q, e', hq⟩
    · rw [e']
      exact ⟨fun z => absurd (by decide) z.1.2.1, fun z => absurd (by decide) z.2.1⟩
    · have hq' : q ≤ 450 := by rcases hq with ⟨_, hq⟩ | ⟨_, _, hq, _⟩ <;> omega
      rw [e', nI_clamp (by omega)]
      constructor
      · rintro ⟨⟨z1, z2, z3⟩, z4⟩
        refine ⟨by omega, z2, ?_⟩
        by_cases eq : q = id
        · rcases hq with ⟨_, hq⟩ | ⟨_, _, _, _, hq⟩
          · omega
          · subst eq
            exact absurd ⟨hq, rfl⟩ z4
        · omega
      · rintro ⟨z1, z2, z3⟩
        refine ⟨⟨by omega, z2, by omega⟩, fun z => ?_⟩
        have := (nI_eq (by omega) (by omega)).mp z.2
        omega
theorem gk_lv_same {L : gl_L} {r : Nat} (g : gu_I L r 0 re) {id : Nat} (hid : id ≤ r) (hr : r < 450) (hn : re id = -1) : ∀ j, j < r + 1 → gs_lv re id j = gs_lv re (id + 1) j := by
  intro j hj
  rw [Bool.eq_iff_iff, gs_lv_iff, gs_lv_iff]
  rcases g.1 j (by omega) with e' | ⟨q, e', hq⟩
  · rw [e']
    exact ⟨fun z => absurd (by decide) z.2.1, fun z => absurd (by decide) z.2.1⟩
  · have hq' : q ≤ 450 := by rcases hq with ⟨_, hq⟩ | ⟨_, _, hq, _⟩ <;> omega
    have hqi : q ≠ id := by
      intro e
      rcases hq with ⟨_, hq⟩ | ⟨_, _, _, hq, _⟩
      · omega
      · rw [e] at hq; exact hq hn
    have hji : j ≠ id := by
      intro e
      rw [e] at e'
      exact gu_nI_ne hq' (e'.symm.trans hn)
    rw [e', nI_clamp (by omega)]
    exact ⟨fun z => ⟨by omega, z.2.1, by omega⟩, fun z => ⟨by omega, z.2.1, by omega⟩⟩
theorem gk_loop {L : gl_L} (h : gl_WF L) {r : Nat} (hr : r < L.1) (hr2 : r ≤ 317) (g : gu_I L r 0 re) : ∀ q id, id + q = r + 1 → ∀ (f : Nat) (fs so la : Nat → Int32), gk_st ip dr L re r id f fs so la →
    ∃ (f' : Nat) (ft sp lb : Nat → Int32), gk_st ip dr L re r (r + 1) f' ft sp lb ∧
    ∀ (post : Int32 → SX → Prop) (x2 x3 : Int32), wX_workOut_57 post (nI r) x2 x3 1 (nI (r + 1)) nc lv (nI L.1) (nI f') kd px py vc ip dr (gl_op L) (gl_fi L) (gl_se L) (gl_nu L) (gl_wi L) na re sl ft sp lb → wX_workOut_57 post (nI r) x2 x3 (q + 1) (nI id) nc lv (nI L.1) (nI f) kd px py vc ip dr (gl_op L) (gl_fi L) (gl_se L) (gl_nu L) (gl_wi L) na re sl fs so la := by
  have hL := h.1
  intro q
  induction q with
  | zero =>
    intro id hid f fs so la hs
    have e : id = r + 1 := by omega
    subst e
    exact ⟨f, fs, so, la, hs, fun post x2 x3 hp => hp⟩
  | succ q ih =>
    intro id hid f fs so la hs
    obtain ⟨hSI, hLA⟩ := hs
    have hi : vp_in (nI id) 450 := vp_in_nI (by omega) (by omega)
    have ec : (nI id).toNatClampNeg = id := nI_clamp (by omega)
    by_cases hn : re id = -1
    · obtain ⟨f', ft, sp, lb, hs', hw⟩ := ih (id + 1) (by omega) f fs so la ⟨gs_SI_congr hSI (gk_lv_same g (by omega) (by omega) hn), fun j hj hp => hLA j hj (by rw [gk_lv_same g (by omega) (by omega) hn j hj]; exact hp)⟩
      exact ⟨f', ft, sp, lb, hs', fun post x2 x3 hp => br_f (nI_nlt (by omega) (by omega)) (And.intro hi (br_f (by rw [ec, hn]; decide) (nm_r (nI_1 id) (hw post x2 x3 hp))))⟩
    · have hnn : (0 : Int32) ≤ re id := by
        rcases g.1 id (by omega) with e | ⟨q, e, hq⟩
        · exact absurd e hn
        · rw [e]
          exact nI_pos' (by rcases hq with ⟨_, hq⟩ | ⟨_, _, hq, _⟩ <;> omega)
      have hb := gs_bound h hr hr2 g (show id ≤ r by omega)
      obtain ⟨f0, rfl⟩ : ∃ f0, f = f0 + 1 := ⟨f - 1, by have := hSI.1; omega⟩
      have hPid : gs_lv re id id = false := by
        cases hb : gs_lv re id id
        · rfl
        · have := (gs_lv_iff.mp hb).1; omega
      obtain ⟨s, hs, es⟩ := hSI.2.1 f0 (by omega)
      have hf160 : f0 < 160 := by have := hSI.1; omega
      have hA := gs_alloc hSI (show id < r + 1 by omega) hPid
      have hso : upd so id (fs f0) id = nI s := by rw [pk_us]; exact es
      have hlive : ∀ p, p < 450 → gu_part L id p → p < id ∧ gs_lv re id p = true := by
        intro p hp hpart
        have hlt := gu_part_lt h (show id < L.1 by omega) hp hpart
        obtain ⟨q, e, h1, h2⟩ := g.2.2 id (by omega) (by omega) hn p hp hpart
        exact ⟨hlt, gs_lv_iff.mpr ⟨hlt, by rw [e]; exact nI_pos (by omega), by rw [e, nI_clamp (by omega)]; exact h1⟩⟩
      have hup : ∀ j, j ≠ id → gs_lv re id j = true → gs_up (gs_lv re id) id true j = true := fun j e z => by rw [gs_up_n _ true e]; exact z
      have hupid : gs_up (gs_lv re id) id true id = true := gs_up_s _ id true
      obtain ⟨lc, y1, y2, y3⟩ := gk_loopE (nc := nc) (lv := lv) (fc := nI f0) (kd := kd) (px := px) (py := py) (vc := vc) (ip := ip) (dr := dr) (na := na) (re := re) (sl := sl) (fs := fs) h (so := upd so id (fs f0)) (la := la) (id := id) (s := s) (by omega) hs hso (fun p hp hpart => by
        obtain ⟨hlt, hl⟩ := hlive p hp hpart
        obtain ⟨sp, hsp, esp⟩ := hA.2.2.2.1 p (by omega) (hup p (by omega) hl)
        have esp' : so p = nI sp := by rw [pk_un (by omega)] at esp; exact esp
        refine ⟨sp, hsp, fun e => ?_, esp, by omega, fun e c he hc => ?_⟩
        · have := hA.2.2.2.2.1 p id (by omega) (by omega) (hup p (by omega) hl) hupid (by rw [esp, hso, e])
          omega
        · have := hLA p (by omega) hl e c he hc
          rw [esp', nI_clamp (by omega)] at this
          exact this) 3 0 rfl la (fun k _ => rfl) (fun e' c he' => by omega)
      have hLA1 : gk_la ip dr L (gs_up (gs_lv re id) id true) (r + 1) (upd so id (fs f0)) lc := by
        intro j hj hp e c he hc
        by_cases ej : j = id
        · subst ej
          rw [hso, nI_clamp (by omega)]
          exact y2 e c he hc
        · have hl : gs_lv re id j = true := by rw [gs_up_n _ true ej] at hp; exact hp
          obtain ⟨sj, hsj, esj⟩ := hA.2.2.2.1 j hj hp
          have esj' : so j = nI sj := by rw [pk_un ej] at esj; exact esj
          have hne : sj ≠ s := by
            intro e
            exact ej (hA.2.2.2.2.1 j id hj (by omega) hp hupid (by rw [esj, hso, e]))
          have hof : ge_of L j c ≤ 3 := by unfold ge_of; split <;> omega
          rw [esj, nI_clamp (by omega), y1 _ (by omega)]
          have := hLA j hj hl e c he hc
          rw [esj', nI_clamp (by omega)] at this
          exact this
      have hfi : gl_fi L id = -1 ∨ ∃ p, p < r + 1 ∧ gl_fi L id = nI p ∧ gs_up (gs_lv re id) id true p = true := by
        rcases gu_fi h (show id < L.1 by omega) with e | ⟨p, hp, e⟩
        · exact Or.inl e
        · exact Or.inr ⟨p, by omega, e, hup p (by omega) (hlive p (by omega) (Or.inl e)).2⟩
      obtain ⟨f1, fs1, Q1, s1, q1, w1⟩ := gk_release (nc := nc) (lv := lv) (kd := kd) (px := px) (py := py) (vc := vc) (ip := ip) (dr := dr) (na := na) (re := re) (sl := sl) (la := lc) (L := L) (id := id) hL hA (by omega) hfi
      by_cases hsf : gl_se L id = gl_fi L id
      · have hnext := gk_lv_next h hr g (show id ≤ r by omega) hn (P := gs_up (gs_lv re id) id true) (Q := Q1) (fun _ _ => rfl) (fun j hj => by
          rw [q1 j hj]
          unfold gu_part
          rw [hsf, or_self])
        obtain ⟨f', ft, sp, lb, hs', hw⟩ := ih (id + 1) (by omega) f1 fs1 (upd so id (fs f0)) lc ⟨gs_SI_congr s1 hnext, fun j hj hp => hLA1 j hj ((q1 j hj).mp (by rw [hnext j hj]; exact hp)).1⟩
        refine ⟨f', ft, sp, lb, hs', fun post x2 x3 hp => br_f (nI_nlt (by omega) (by omega)) (And.intro hi (br_t (by rw [ec]; exact hnn) (nm_r (nI_pred f0) (And.intro (vp_in_nI hf160 (by omega)) (And.intro hi (nm_r (e' := upd so id (fs f0)) (by rw [ec, nI_clamp (by omega), es, gx_n16' (by omega)]) ⟨3 + 1, ?_⟩))))))⟩
        refine y3 post _ (nI r) x2 x3 (br_t (nI_le (a := 3) (b := 3) (by omega) (by decide)) (And.intro hi ?_))
        rw [ec]
        exact w1 _ (And.intro hi (And.intro hi (br_t hsf (nm_r (nI_1 id) (hw post x2 x3 hp)))))
      · have hse : gl_se L id = -1 ∨ ∃ p, p < r + 1 ∧ gl_se L id = nI p ∧ Q1 p = true := by
          rcases gu_se h (show id < L.1 by omega) with e | ⟨p, hp, e⟩
          · exact Or.inl e
          · exact Or.inr ⟨p, by omega, e, (q1 p (by omega)).mpr ⟨hup p (by omega) (hlive p (by omega) (Or.inr e)).2, fun z => hsf (e.trans z.1.symm)⟩⟩
        obtain ⟨f2, fs2, Q2, s2, q2, w2⟩ := gk_release (nc := nc) (lv := lv) (kd := kd) (px := px) (py := py) (vc := vc) (ip := ip) (dr := dr) (na := na) (re := re) (sl := sl) (la := lc) (L := L) (id := id) hL s1 (by omega) hse
        have hnext := gk_lv_next h hr g (show id ≤ r by omega) hn (P := gs_up (gs_lv re id) id true) (Q := Q2) (fun _ _ => rfl) (fun j hj => by
          rw [q2 j hj, q1 j hj]
          unfold gu_part
          constructor
          · rintro ⟨⟨z1, z2⟩, z3⟩
            exact ⟨z1, fun z => z.1.elim (fun y => z2 ⟨y, z.2⟩) (fun y => z3 ⟨y, z.2⟩)⟩
          · rintro ⟨z1, z2⟩
            exact ⟨⟨z1, fun z => z2 ⟨Or.inl z.1, z.2⟩⟩, fun z => z2 ⟨Or.inr z.1, z.2⟩⟩)
        obtain ⟨f', ft, sp, lb, hs', hw⟩ := ih (id + 1) (by omega) f2 fs2 (upd so id (fs f0)) lc ⟨gs_SI_congr s2 hnext, fun j hj hp => hLA1 j hj ((q1 j hj).mp ((q2 j hj).mp (by rw [hnext j hj]; exact hp)).1).1⟩
        refine ⟨f', ft, sp, lb, hs', fun post x2 x3 hp => br_f (nI_nlt (by omega) (by omega)) (And.intro hi (br_t (by rw [ec]; exact hnn) (nm_r (nI_pred f0) (And.intro (vp_in_nI hf160 (by omega)) (And.intro hi (nm_r (e' := upd so id (fs f0)) (by rw [ec, nI_clamp (by omega), es, gx_n16' (by omega)]) ⟨3 + 1, ?_⟩))))))⟩
        refine y3 post _ (nI r) x2 x3 (br_t (nI_le (a := 3) (b := 3) (by omega) (by decide)) (And.intro hi ?_))
        rw [ec]
        refine w1 _ (And.intro hi (And.intro hi (br_f hsf (And.intro hi ?_))))
        exact w2 _ (nm_r (nI_1 id) (hw post x2 x3 hp))
end
section
variable {nc lv : Int32} {kd px py vc ip dr na sl : Nat → Int32}
theorem gk_loop21 {L : gl_L} {re so la : Nat → Int32} : ∀ j, j ≤ 160 → ∀ fs : Nat → Int32, (∀ p, p < 160 - j → fs p = nI (159 - p)) → ∃ ft : Nat → Int32, (∀ p, p < 160 → ft p = nI (159 - p)) ∧
    ∀ (post : Int32 → SX → Prop) (x1 x2 x3 : Int32), (∃ n57, wX_workOut_57 post x1 x2 x3 n57 0 nc lv (nI L.1) (nI 160) kd px py vc ip dr (gl_op L) (gl_fi L) (gl_se L) (gl_nu L) (gl_wi L) na re sl ft so la) → wX_workOut_21 post x1 x2 x3 nc lv (nI L.1) (j + 1) (nI j + (-1)) (nI (160 - j)) kd px py vc ip dr (gl_op L) (gl_fi L) (gl_se L) (gl_nu L) (gl_wi L) na re sl fs so la := by
  intro j
  induction j with
  | zero =>
    intro _ fs hf
    exact ⟨fs, fun p hp => hf p (by omega), fun post x1 x2 x3 hp => br_t (by decide) hp⟩
  | succ j ih =>
    intro hj fs hf
    have hi : vp_in (nI (160 - (j + 1))) 160 := vp_in_nI (by omega) (by omega)
    have ec : (nI (160 - (j + 1))).toNatClampNeg = 160 - (j + 1) := nI_clamp (by omega)
    obtain ⟨ft, h1, hw⟩ := ih (by omega) (upd fs (160 - (j + 1)) (nI j)) (fun p hp => by
      by_cases e : p = 160 - (j + 1)
      · subst e
        rw [pk_us]
        exact congrArg nI (by omega)
      · rw [pk_un e]
        exact hf p (by omega))
    refine ⟨ft, h1, fun post x1 x2 x3 hp => ?_⟩
    have hw' := hw post x1 x2 x3 hp
    rw [show 160 - j = 160 - (j + 1) + 1 by omega] at hw'
    rw [pk_m1]
    exact br_f (nI_pos (by omega)) (And.intro hi (nm_r (e' := upd fs (160 - (j + 1)) (nI j)) (by rw [ec, gx_n16 (by omega)]) (nm_r (nI_1 _) (nm_e hw'))))
/-- the outcome of workOut -/
def gk_out (ip dr : Nat → Int32) (L : gl_L) (r : Nat) (so la : Nat → Int32) : Prop := ∃ s, ∀ e, e < 3 → ge_ln L so la r s e (fun c => ge_V ip dr L e r c)
theorem gk_workOut {fc : Int32} {re fs so la : Nat → Int32} {L : gl_L} (h : gl_WF L) {r : Nat} (hr : r < L.1) (hr2 : r ≤ 317) : ∃ (f' : Nat) (rf ft sp lb : Nat → Int32), gk_out ip dr L r sp lb ∧
    ∀ (post : Int32 → SX → Prop) (i e : Nat), i < 4 → e < 3 → post (ge_V ip dr L e r i) (gx_S nc lv (nI f') kd px py vc ip dr na rf sl ft sp lb L) → wpX_workOut post (gx_S nc lv fc kd px py vc ip dr na re sl fs so la L) (nI r) (nI i) (nI e) := by
  have hL := h.1
  obtain ⟨rf, hrf, w1⟩ := gu_find (nc := nc) (lv := lv) (fc := fc) (kd := kd) (px := px) (py := py) (vc := vc) (ip := ip) (dr := dr) (na := na) (sl := sl) (fs := fs) (so := so) (la := la) (re := re) h hr
  obtain ⟨ft, hft, w2⟩ := gk_loop21 (nc := nc) (lv := lv) (kd := kd) (px := px) (py := py) (vc := vc) (ip := ip) (dr := dr) (na := na) (sl := sl) (so := so) (la := la) (re := rf) (L := L) 160 (Nat.le_refl _) fs (fun p hp => by omega)
  have hno : ∀ j, gs_lv rf 0 j = true → False := fun j z => absurd (gs_lv_iff.mp z).1 (Nat.not_lt_zero j)
  have hst : gk_st ip dr L rf r 0 160 ft so la := by
    refine ⟨⟨?_, fun p hp => ⟨159 - p, by omega, hft p hp⟩, fun p q hp hq e => ?_, fun j _ z => (hno j z).elim, fun i j _ _ z => (hno i z).elim, fun p j _ _ z => (hno j z).elim⟩, fun j _ z => (hno j z).elim⟩
    · rw [gs_cnt_0 (r + 1) (fun j _ => by
        cases hb : gs_lv rf 0 j
        · rfl
        · exact (hno j hb).elim)]
    · rw [hft p hp, hft q hq] at e
      have := (nI_eq (by omega) (by omega)).mp e
      omega
  obtain ⟨f', fu, sp, lb, ⟨hSI, hLA⟩, w3⟩ := gk_loop (nc := nc) (lv := lv) (kd := kd) (px := px) (py := py) (vc := vc) (na := na) (sl := sl) h hr hr2 hrf (r + 1) 0 (by omega) 160 ft so la hst
  have hlive : gs_lv rf (r + 1) r = true := gs_lv_iff.mpr ⟨by omega, by rw [hrf.2.1]; exact nI_pos (by omega), by rw [hrf.2.1, nI_clamp (by omega)]; omega⟩
  obtain ⟨s, hs, es⟩ := hSI.2.2.2.1 r (by omega) hlive
  have hln : ∀ e, e < 3 → ge_ln L sp lb r s e (fun c => ge_V ip dr L e r c) := by
    intro e he
    refine ⟨hr, hs, es, fun c hc => ?_⟩
    have := hLA r (by omega) hlive e c he hc
    rw [es, nI_clamp (by omega)] at this
    exact this
  refine ⟨f', rf, fu, sp, lb, ⟨s, hln⟩, fun post i e hi he hp => br_t (nI_pos' (by omega)) (w1 _ ⟨160 + 1, w2 post (nI r) (nI i) (nI e) ⟨r + 1 + 1, w3 post (nI i) (nI e) (br_t (nI_lt (by omega) (by omega)) (ge_laneOf hL (hln e he) he hi _ hp))⟩⟩)⟩
end
end
section
/-! the reference: put, add, multiply, place, single, workOut -/
def gy_4 (yp yf ys yb : Nat → Int32) (i : Nat) : gh_T := (yp i, yf i, ys i, yb i)
theorem gy_uu (f : Nat → Int32) (k : Nat) (a b : Int32) : upd (upd f k a) k b = upd f k b := by
  funext j
  unfold upd
  split <;> rfl
section
variable {nc : Int32} {kd px yy vc ip dr y1 y2 yp yf ys yb yz : Nat → Int32}
theorem gy_put {a : Nat} (ha : a < 48) (v w : gh_T) (post : SY → Prop) (hp : post (nc, kd, px, yy, vc, ip, dr, y1, y2, (upd yp a w.1), (upd yf a w.2.1), (upd ys a w.2.2.1), (upd yb a w.2.2.2), yz)) : wpY_put post (nc, kd, px, yy, vc, ip, dr, y1, y2, (upd yp a v.1), (upd yf a v.2.1), (upd ys a v.2.2.1), (upd yb a v.2.2.2), yz) (nI a) w.1 w.2.1 w.2.2.1 w.2.2.2 := by
  have hi : vp_in (nI a) 48 := vp_in_nI ha (by omega)
  have ec : (nI a).toNatClampNeg = a := nI_clamp (by omega)
  exact And.intro hi (nm_r (e' := upd yp a w.1) (by rw [ec, gy_uu]) (And.intro hi (nm_r (e' := upd yf a w.2.1) (by rw [ec, gy_uu]) (And.intro hi (nm_r (e' := upd ys a w.2.2.1) (by rw [ec, gy_uu]) (And.intro hi (nm_r (e' := upd yb a w.2.2.2) (by rw [ec, gy_uu]) hp)))))))
theorem gy_put0 {a : Nat} (ha : a < 48) (w : gh_T) (post : SY → Prop) (hp : post (nc, kd, px, yy, vc, ip, dr, y1, y2, (upd yp a w.1), (upd yf a w.2.1), (upd ys a w.2.2.1), (upd yb a w.2.2.2), yz)) : wpY_put post (nc, kd, px, yy, vc, ip, dr, y1, y2, yp, yf, ys, yb, yz) (nI a) w.1 w.2.1 w.2.2.1 w.2.2.2 := by
  have hi : vp_in (nI a) 48 := vp_in_nI ha (by omega)
  have ec : (nI a).toNatClampNeg = a := nI_clamp (by omega)
  exact And.intro hi (nm_r (e' := upd yp a w.1) (by rw [ec]) (And.intro hi (nm_r (e' := upd yf a w.2.1) (by rw [ec]) (And.intro hi (nm_r (e' := upd ys a w.2.2.1) (by rw [ec]) (And.intro hi (nm_r (e' := upd yb a w.2.2.2) (by rw [ec]) hp)))))))
theorem gy_add {a b : Nat} (ha : a < 48) (hb : b < 48) (hab : b ≠ a) (v : gh_T) (post : SY → Prop) (hp : post (nc, kd, px, yy, vc, ip, dr, y1, y2, (upd yp a (gh_add v (gy_4 yp yf ys yb b)).1), (upd yf a (gh_add v (gy_4 yp yf ys yb b)).2.1), (upd ys a (gh_add v (gy_4 yp yf ys yb b)).2.2.1), (upd yb a (gh_add v (gy_4 yp yf ys yb b)).2.2.2), yz)) : wpY_add post (nc, kd, px, yy, vc, ip, dr, y1, y2, (upd yp a v.1), (upd yf a v.2.1), (upd ys a v.2.2.1), (upd yb a v.2.2.2), yz) (nI a) (nI b) 1 := by
  have hi : vp_in (nI a) 48 := vp_in_nI ha (by omega)
  have ec : (nI a).toNatClampNeg = a := nI_clamp (by omega)
  have hj : vp_in (nI b) 48 := vp_in_nI hb (by omega)
  have ed : (nI b).toNatClampNeg = b := nI_clamp (by omega)
  have key : ∀ (f : Nat → Int32) (x : Int32), upd (upd f a x) (nI a).toNatClampNeg ((upd f a x) (nI a).toNatClampNeg + 1 * (upd f a x) (nI b).toNatClampNeg) = upd f a (x + f b) := by
    intro f x
    rw [ec, ed, gy_uu, pk_us, pk_un hab, Int32.one_mul]
  exact And.intro hi (And.intro hj (And.intro hi (nm_r (key yp v.1) (And.intro hi (And.intro hj (And.intro hi (nm_r (key yf v.2.1) (And.intro hi (And.intro hj (And.intro hi (nm_r (key ys v.2.2.1) (And.intro hi (And.intro hj (And.intro hi (nm_r (key yb v.2.2.2) hp)))))))))))))))
theorem gy_sub {a b : Nat} (ha : a < 48) (hb : b < 48) (hab : b ≠ a) (v : gh_T) (post : SY → Prop) (hp : post (nc, kd, px, yy, vc, ip, dr, y1, y2, (upd yp a (gh_sub v (gy_4 yp yf ys yb b)).1), (upd yf a (gh_sub v (gy_4 yp yf ys yb b)).2.1), (upd ys a (gh_sub v (gy_4 yp yf ys yb b)).2.2.1), (upd yb a (gh_sub v (gy_4 yp yf ys yb b)).2.2.2), yz)) : wpY_add post (nc, kd, px, yy, vc, ip, dr, y1, y2, (upd yp a v.1), (upd yf a v.2.1), (upd ys a v.2.2.1), (upd yb a v.2.2.2), yz) (nI a) (nI b) (-1) := by
  have hi : vp_in (nI a) 48 := vp_in_nI ha (by omega)
  have ec : (nI a).toNatClampNeg = a := nI_clamp (by omega)
  have hj : vp_in (nI b) 48 := vp_in_nI hb (by omega)
  have ed : (nI b).toNatClampNeg = b := nI_clamp (by omega)
  have key : ∀ (f : Nat → Int32) (x : Int32), upd (upd f a x) (nI a).toNatClampNeg ((upd f a x) (nI a).toNatClampNeg + (-1) * (upd f a x) (nI b).toNatClampNeg) = upd f a (x - f b) := by
    intro f x
    rw [ec, ed, gy_uu, pk_us, pk_un hab]
    congr 1
    grind
  exact And.intro hi (And.intro hj (And.intro hi (nm_r (key yp v.1) (And.intro hi (And.intro hj (And.intro hi (nm_r (key yf v.2.1) (And.intro hi (And.intro hj (And.intro hi (nm_r (key ys v.2.2.1) (And.intro hi (And.intro hj (And.intro hi (nm_r (key yb v.2.2.2) hp)))))))))))))))
theorem gy_multiply {a x y : Nat} (ha : a < 48) (hx : x < 48) (hy : y < 48) (hxa : x ≠ a) (hya : y ≠ a) (v : gh_T) (post : SY → Prop) (hp : post (nc, kd, px, yy, vc, ip, dr, y1, y2, (upd yp a (gh_mul (gy_4 yp yf ys yb x) (gy_4 yp yf ys yb y)).1), (upd yf a (gh_mul (gy_4 yp yf ys yb x) (gy_4 yp yf ys yb y)).2.1), (upd ys a (gh_mul (gy_4 yp yf ys yb x) (gy_4 yp yf ys yb y)).2.2.1), (upd yb a (gh_mul (gy_4 yp yf ys yb x) (gy_4 yp yf ys yb y)).2.2.2), yz)) : wpY_multiply post (nc, kd, px, yy, vc, ip, dr, y1, y2, (upd yp a v.1), (upd yf a v.2.1), (upd ys a v.2.2.1), (upd yb a v.2.2.2), yz) (nI a) (nI x) (nI y) := by
  have hix : vp_in (nI x) 48 := vp_in_nI hx (by omega)
  have hiy : vp_in (nI y) 48 := vp_in_nI hy (by omega)
  have ex : ∀ (f : Nat → Int32) (u : Int32), (upd f a u) (nI x).toNatClampNeg = f x := fun f u => by rw [nI_clamp (by omega), pk_un hxa]
  have ey : ∀ (f : Nat → Int32) (u : Int32), (upd f a u) (nI y).toNatClampNeg = f y := fun f u => by rw [nI_clamp (by omega), pk_un hya]
  refine And.intro hix (And.intro hiy (nm_r (e' := yp x * yp y) (by rw [ex, ey]) (And.intro hix (And.intro hiy (And.intro hix (And.intro hiy (nm_r (e' := yf x * yp y + yp x * yf y) (by rw [ex, ey, ex, ey]) (And.intro hix (And.intro hiy (And.intro hix (And.intro hiy (nm_r (e' := ys x * yp y + yp x * ys y) (by rw [ex, ey, ex, ey]) (And.intro hix (And.intro hiy (And.intro hix (And.intro hiy (And.intro hix (And.intro hiy (And.intro hix (And.intro hiy (nm_r (e' := yb x * yp y + yf x * ys y + ys x * yf y + yp x * yb y) (by rw [ex, ey, ex, ey, ex, ey, ex, ey]) ?_)))))))))))))))))))))
  exact gy_put ha v (gh_mul (gy_4 yp yf ys yb x) (gy_4 yp yf ys yb y)) _ hp
theorem gy_place {k i : Nat} (hk : k < 12) (post : Int32 → Prop) (hp : post (nI (4 * k + (if vc k = 0 then 0 else i)))) : wpY_place post (nc, kd, px, yy, vc, ip, dr, y1, y2, yp, yf, ys, yb, yz) (nI k) (nI i) := by
  have hik : vp_in (nI k) 12 := vp_in_nI hk (by omega)
  have eck : (nI k).toNatClampNeg = k := nI_clamp (by omega)
  by_cases hv : vc k = 0
  · rw [if_pos hv] at hp
    refine And.intro hik (br_t (by rw [eck]; exact hv) ?_)
    rw [ge_n4, Int32.add_zero]
    exact hp
  · rw [if_neg hv] at hp
    refine And.intro hik (br_f (by rw [eck]; exact hv) ?_)
    rw [ge_n4, nI_add]
    exact hp
/-- the running sum over components 0 .. j-1 -/
def gy_run (f : Nat → gh_T) : Nat → gh_T
  | 0 => gh_0
  | n + 1 => gh_add (gy_run f n) (f n)
theorem gy_run_pre (f : Nat → gh_T) : ∀ n, gy_run f (n + 1) = gh_pre f n := by
  intro n
  induction n with
  | zero => exact gh_0add _
  | succ n ih => show gh_add (gy_run f (n + 1)) _ = gh_add (gh_pre f n) _; rw [ih]
theorem gy_single19 {a k i x : Nat} {o : Int32} (ha : a < 48) (hx : 4 * x + 4 ≤ a ∨ a < 4 * x) (hx2 : x < 12) (post : SY → Prop) (hp : wY_single_42 post (nI a) (nI k) (nI i) o (nI (4 * x)) nc kd px yy vc ip dr y1 y2 (upd yp a (gy_run (fun c => gy_4 yp yf ys yb (4 * x + c)) 4).1) (upd yf a (gy_run (fun c => gy_4 yp yf ys yb (4 * x + c)) 4).2.1) (upd ys a (gy_run (fun c => gy_4 yp yf ys yb (4 * x + c)) 4).2.2.1) (upd yb a (gy_run (fun c => gy_4 yp yf ys yb (4 * x + c)) 4).2.2.2) yz) :
    ∀ q j, j + q = 4 → wY_single_19 post (nI a) (nI k) (nI i) o (nI (4 * x)) (q + 1) (nI j) nc kd px yy vc ip dr y1 y2 (upd yp a (gy_run (fun c => gy_4 yp yf ys yb (4 * x + c)) j).1) (upd yf a (gy_run (fun c => gy_4 yp yf ys yb (4 * x + c)) j).2.1) (upd ys a (gy_run (fun c => gy_4 yp yf ys yb (4 * x + c)) j).2.2.1) (upd yb a (gy_run (fun c => gy_4 yp yf ys yb (4 * x + c)) j).2.2.2) yz := by
  intro q
  induction q with
  | zero =>
    intro j hj
    have e : j = 4 := by omega
    subst e
    exact br_t (nI_le (a := 4) (b := 4) (by omega) (by decide)) hp
  | succ q ih =>
    intro j hj
    refine br_f (nI_ge (b := 4) (by omega) (by decide)) ?_
    rw [nI_add]
    exact gy_add ha (by omega) (by omega) _ _ (nm_r (nI_1 j) (ih (j + 1) (by omega)))
theorem gy_single141 {a i x : Nat} (ha : a < 48) (hi : i < 4) (hx : 4 * x + 4 ≤ a ∨ a < 4 * x) (hx2 : x < 12) (post : SY → Prop) (hp : post (nc, kd, px, yy, vc, ip, dr, y1, y2, (upd yp a (gy_run (fun c => gy_4 yp yf ys yb (4 * x + c)) (i + 1)).1), (upd yf a (gy_run (fun c => gy_4 yp yf ys yb (4 * x + c)) (i + 1)).2.1), (upd ys a (gy_run (fun c => gy_4 yp yf ys yb (4 * x + c)) (i + 1)).2.2.1), (upd yb a (gy_run (fun c => gy_4 yp yf ys yb (4 * x + c)) (i + 1)).2.2.2), yz)) :
    ∀ q j, j + q = i + 1 → wY_single_141 post (nI a) (nI i) (nI (4 * x)) (q + 1) (nI j) nc kd px yy vc ip dr y1 y2 (upd yp a (gy_run (fun c => gy_4 yp yf ys yb (4 * x + c)) j).1) (upd yf a (gy_run (fun c => gy_4 yp yf ys yb (4 * x + c)) j).2.1) (upd ys a (gy_run (fun c => gy_4 yp yf ys yb (4 * x + c)) j).2.2.1) (upd yb a (gy_run (fun c => gy_4 yp yf ys yb (4 * x + c)) j).2.2.2) yz := by
  intro q
  induction q with
  | zero =>
    intro j hj
    have e : j = i + 1 := by omega
    subst e
    exact br_t (nI_lt (by omega) (by omega)) hp
  | succ q ih =>
    intro j hj
    refine br_f (nI_nlt (by omega) (by omega)) ?_
    rw [nI_add]
    exact gy_add ha (by omega) (by omega) _ _ (nm_r (nI_1 j) (ih (j + 1) (by omega)))
end
end
section
/-! the reference: workOut, workAll, seed -/
def gy_iv (ip y1 y2 : Nat → Int32) (e : Nat) : Nat → gh_T := fun j => (ip (12 * e + j), y1 j, y2 j, 0)
def gy_at (NL : gl_L) (iv : Nat → gh_T) (dv : Nat → Int32) (yp yf ys yb : Nat → Int32) (k c : Nat) : Prop :=
  ∀ p c', (p < k ∨ (p = k ∧ c' < c)) → c' < 4 → (gl_wi NL p = 1 ∨ c' = 0) → gy_4 yp yf ys yb (4 * p + c') = gl_val iv dv NL p c'
section
variable {nc : Int32} {kd px yy vc ip dr y1 y2 yp yf ys yb yz : Nat → Int32}
theorem gy_single {a k i x : Nat} {o : Int32} {v : gh_T} (hk : k < 12) (ha : a < 48) (hi : i < 4) (hx : 4 * x + 4 ≤ a ∨ a < 4 * x) (hx2 : x < 12) (ex : px k = nI x)
    (ho : (o = 5 ∧ v = gh_s4 (fun c => gy_4 yp yf ys yb (4 * x + c))) ∨ (o = 6 ∧ v = gy_4 yp yf ys yb (4 * x + (i + 1) % 4)) ∨ (o = 7 ∧ ∃ t, t < 4 ∧ yy k = nI t ∧ v = gy_4 yp yf ys yb (4 * x + t)) ∨
      (o = 8 ∧ v = gy_4 yp yf ys yb (4 * x)) ∨ (o = 9 ∧ v = gh_gate (gy_4 yp yf ys yb (4 * x + i)) (gy_4 yp yf ys yb (4 * x + i))) ∨ (o = 10 ∧ v = gh_pre (fun c => gy_4 yp yf ys yb (4 * x + c)) i))
    (post : SY → Prop) (hp : post (nc, kd, px, yy, vc, ip, dr, y1, y2, (upd yp a v.1), (upd yf a v.2.1), (upd ys a v.2.2.1), (upd yb a v.2.2.2), yz)) : wpY_single post (nc, kd, px, yy, vc, ip, dr, y1, y2, (upd yp a gh_0.1), (upd yf a gh_0.2.1), (upd ys a gh_0.2.2.1), (upd yb a gh_0.2.2.2), yz) (nI a) (nI k) (nI i) o := by
  have hik : vp_in (nI k) 12 := vp_in_nI hk (by omega)
  have eck : (nI k).toNatClampNeg = k := nI_clamp (by omega)
  refine And.intro hik (nm_r (e' := nI (4 * x)) (by rw [eck, ex, ge_n4]) ?_)
  rcases ho with ⟨rfl, rfl⟩ | ⟨rfl, rfl⟩ | ⟨rfl, t, ht, et, rfl⟩ | ⟨rfl, rfl⟩ | ⟨rfl, rfl⟩ | ⟨rfl, rfl⟩
  · refine br_t rfl ⟨4 + 1, gy_single19 (k := k) (i := i) (o := 5) ha hx hx2 post ?_ 4 0 rfl⟩
    rw [gy_run_pre]
    exact br_f (by decide) (br_f (by decide) (br_f (by decide) (br_f (by decide) (br_f (by decide) hp))))
  · refine br_f (by decide) (br_t rfl ?_)
    rw [nI_1, ge_and3 _ (by omega), nI_add]
    refine gy_add ha (by omega) (by omega) _ _ ?_
    rw [gh_0add]
    exact br_f (by decide) (br_f (by decide) (br_f (by decide) (br_f (by decide) hp)))
  · refine br_f (by decide) (br_f (by decide) (br_t rfl (And.intro hik ?_)))
    rw [eck, et, ge_and3 _ (by omega), Nat.mod_eq_of_lt ht, nI_add]
    refine gy_add ha (by omega) (by omega) _ _ ?_
    rw [gh_0add]
    exact br_f (by decide) (br_f (by decide) (br_f (by decide) hp))
  · refine br_f (by decide) (br_f (by decide) (br_f (by decide) (br_t rfl ?_)))
    refine gy_add ha (by omega) (by omega) _ _ ?_
    rw [gh_0add]
    exact br_f (by decide) (br_f (by decide) hp)
  · have hiv : vp_in (nI (4 * x) + nI i) 48 := by rw [nI_add]; exact vp_in_nI (by omega) (by omega)
    have eread : (upd yp a gh_0.1) (nI (4 * x) + nI i).toNatClampNeg = yp (4 * x + i) := by rw [nI_add, nI_clamp (by omega), pk_un (by omega)]
    refine br_f (by decide) (br_f (by decide) (br_f (by decide) (br_f (by decide) (br_t rfl (And.intro hiv ?_)))))
    by_cases hz : yp (4 * x + i) ≤ 0
    · have e : gh_gate (gy_4 yp yf ys yb (4 * x + i)) (gy_4 yp yf ys yb (4 * x + i)) = gh_0 := if_pos hz
      rw [e] at hp
      exact br_t (by rw [eread]; exact hz) (br_f (by decide) hp)
    · have e : gh_gate (gy_4 yp yf ys yb (4 * x + i)) (gy_4 yp yf ys yb (4 * x + i)) = gy_4 yp yf ys yb (4 * x + i) := if_neg hz
      rw [e] at hp
      refine br_f (by rw [eread]; exact hz) ?_
      rw [nI_add]
      refine gy_add ha (by omega) (by omega) _ _ ?_
      rw [gh_0add]
      exact br_f (by decide) hp
  · refine br_f (by decide) (br_f (by decide) (br_f (by decide) (br_f (by decide) (br_f (by decide) (br_t rfl ⟨i + 1 + 1, gy_single141 ha hi hx hx2 post ?_ (i + 1) 0 (by omega)⟩)))))
    rw [gy_run_pre]
    exact hp
theorem gy_workOut {N : Nat} (hN : gn_ok N kd px yy vc) (dv : Nat → Int32) {k i e : Nat} (hk : k < N) (hi : i < 4) (hki : vc k = 1 ∨ i = 0) (he : e < 3) (hat : gy_at (gn_L N kd px yy vc) (gy_iv ip y1 y2 e) dv yp yf ys yb k 0)
    (post : SY → Prop) (hp : post (nc, kd, px, yy, vc, ip, dr, y1, y2, (upd yp (4 * k + i) (gl_val (gy_iv ip y1 y2 e) dv (gn_L N kd px yy vc) k i).1), (upd yf (4 * k + i) (gl_val (gy_iv ip y1 y2 e) dv (gn_L N kd px yy vc) k i).2.1), (upd ys (4 * k + i) (gl_val (gy_iv ip y1 y2 e) dv (gn_L N kd px yy vc) k i).2.2.1), (upd yb (4 * k + i) (gl_val (gy_iv ip y1 y2 e) dv (gn_L N kd px yy vc) k i).2.2.2), yz)) : wpY_workOut post (nc, kd, px, yy, vc, ip, dr, y1, y2, yp, yf, ys, yb, yz) (nI k) (nI i) (nI e) := by
  have hN12 := hN.1
  have hW := gn_WF hN
  have hik : vp_in (nI k) 12 := vp_in_nI (by omega) (by omega)
  have eck : (nI k).toNatClampNeg = k := nI_clamp (by omega)
  have hval : ∀ p, p < k → ∀ c, c < 4 → (vc p = 1 ∨ c = 0) → gy_4 yp yf ys yb (4 * p + c) = gl_val (gy_iv ip y1 y2 e) dv (gn_L N kd px yy vc) p c := fun p hp c hc hv => hat p c (Or.inl hp) hc hv
  have hpl : ∀ p, p < k → gy_4 yp yf ys yb (4 * p + (if vc p = 0 then 0 else i)) = gl_val (gy_iv ip y1 y2 e) dv (gn_L N kd px yy vc) p i := by
    intro p hp
    rcases gl_wd hW (show p < N by omega) with h0 | h1
    · have h0' : vc p = 0 := h0
      rw [if_pos h0', hval p hp 0 (by omega) (Or.inr rfl)]
      exact (gl_nr hW (show p < N by omega) h0 i).symm
    · have h1' : vc p = 1 := h1
      rw [if_neg (by rw [h1']; decide), hval p hp i hi (Or.inl h1')]
  rw [gl_val_eq hW hk] at hp
  refine nm_r (e' := nI (4 * k + i)) (by rw [ge_n4, nI_add]) (And.intro hik (nm_r (e' := kd k) (by rw [eck]) (gy_put0 (by omega) gh_0 _ ?_)))
  rcases hN.2 k hk with ⟨ek, hd, q, hq, ex⟩ | ⟨ek, hd⟩ | ⟨ek, p, q, hp', hq, ex, ey, hm⟩ | ⟨ek, hd, p, hp', ex, hw⟩ | ⟨p, hp', ex, hu⟩
  · have eo : gl_op (gn_L N kd px yy vc) k = 0 := by show gn_w (kd k) = 0; rw [ek]; decide
    have en : gl_nu (gn_L N kd px yy vc) k = nI q := by show gn_n (kd k) (px k) (yy k) = nI q; rw [ek]; simp [gn_n]; exact ex
    rw [eo, en, gh_ov0, nI_clamp (by omega)] at hp
    have hi36 : vp_in (12 * nI e + nI (4 * q + i)) 36 := by rw [ge_n12, nI_add]; exact vp_in_nI (by omega) (by omega)
    have hi12 : vp_in (nI (4 * q + i)) 12 := vp_in_nI (by omega) (by omega)
    refine br_t ek (And.intro hik (nm_r (e' := nI (4 * q + i)) (by rw [eck, ex, ge_n4, nI_add]) (And.intro hi36 (And.intro hi12 (And.intro hi12 ?_)))))
    rw [ge_n12, nI_add, nI_clamp (by omega), nI_clamp (by omega)]
    exact gy_put (by omega) gh_0 (gy_iv ip y1 y2 e (4 * q + i)) _ hp
  · have eo : gl_op (gn_L N kd px yy vc) k = 1 := by show gn_w (kd k) = 1; rw [ek]; decide
    have en : gl_nu (gn_L N kd px yy vc) k = px k := by show gn_n (kd k) (px k) (yy k) = px k; rw [ek]; simp [gn_n]
    rw [eo, en, gh_ov1] at hp
    refine br_f (by rw [ek]; decide) (br_t ek (And.intro hik ?_))
    rw [eck]
    exact gy_put (by omega) gh_0 (gh_k (px k)) _ hp
  · have eo : gl_op (gn_L N kd px yy vc) k = kd k := by show gn_w (kd k) = kd k; rcases ek with e | e | e <;> rw [e] <;> decide
    have ecp : (nI p).toNatClampNeg = p := nI_clamp (by omega)
    have ecq : (nI q).toNatClampNeg = q := nI_clamp (by omega)
    have ef : (gl_fi (gn_L N kd px yy vc) k).toNatClampNeg = p := by
      rw [← ecp, ← ex]
      congr 1
      show gn_a (kd k) (px k) = px k
      rcases ek with e | e | e <;> rw [e] <;> simp [gn_a]
    have es : (gl_se (gn_L N kd px yy vc) k).toNatClampNeg = q := by
      rw [← ecq, ← ey]
      congr 1
      show gn_b (kd k) (px k) (yy k) = yy k
      rcases ek with e | e | e <;> rw [e] <;> simp [gn_b]
    rw [eo, ef, es] at hp
    have k0 : ¬ kd k = 0 := by rcases ek with e | e | e <;> rw [e] <;> decide
    have k1 : ¬ kd k = 1 := by rcases ek with e | e | e <;> rw [e] <;> decide
    have k4 : ¬ 4 < kd k := by rcases ek with e | e | e <;> rw [e] <;> decide
    refine br_f k0 (br_f k1 (br_f k4 (And.intro hik ?_)))
    rw [eck, ex]
    refine gy_place (i := i) (by omega) _ (And.intro hik ?_)
    rw [ey]
    refine gy_place (i := i) (by omega) _ ?_
    have hofp : (if vc p = 0 then 0 else i) ≤ 3 := by split <;> omega
    have hofq : (if vc q = 0 then 0 else i) ≤ 3 := by split <;> omega
    rcases ek with e | e | e
    · rw [e, gh_ov2, ← hpl p hp', ← hpl q hq] at hp
      refine br_f (by rw [e]; decide) (gy_add (by omega) (by omega) (by omega) _ _ (br_t e (gy_add (by omega) (by omega) (by omega) _ _ ?_)))
      rw [gh_0add]
      exact hp
    · rw [e, gh_ov3, ← hpl p hp', ← hpl q hq] at hp
      refine br_f (by rw [e]; decide) (gy_add (by omega) (by omega) (by omega) _ _ (br_f (by rw [e]; decide) (gy_sub (by omega) (by omega) (by omega) _ _ ?_)))
      rw [gh_0add]
      exact hp
    · rw [e, gh_ov4, ← hpl p hp', ← hpl q hq] at hp
      exact br_t e (gy_multiply (by omega) (by omega) (by omega) (by omega) (by omega) _ _ hp)
  · have eo : gl_op (gn_L N kd px yy vc) k = 13 := by show gn_w (kd k) = 13; rw [ek]; decide
    have ecp : (nI p).toNatClampNeg = p := nI_clamp (by omega)
    have ef : (gl_fi (gn_L N kd px yy vc) k).toNatClampNeg = p := by
      rw [← ecp, ← ex]
      congr 1
      show gn_a (kd k) (px k) = px k
      rw [ek]; simp [gn_a]
    have es : (gl_se (gn_L N kd px yy vc) k).toNatClampNeg = p := by
      rw [← ecp, ← ex]
      congr 1
      show gn_b (kd k) (px k) (yy k) = px k
      rw [ek]; simp [gn_b]
    rw [eo, ef, es, gh_ov13, ← hval p hp' i hi (by rw [hw]; exact hki)] at hp
    exact br_f (by rw [ek]; decide) (br_f (by rw [ek]; decide) (br_t (by rw [ek]; decide) (gy_single (by omega) (by omega) hi (by omega) (by omega) ex (Or.inr (Or.inr (Or.inr (Or.inr (Or.inl ⟨ek, rfl⟩))))) _ hp)))
  · have ecp : (nI p).toNatClampNeg = p := nI_clamp (by omega)
    obtain ⟨hgu, hga, hgb⟩ := gn_un_gl (x := px k) hu
    have eo : gl_op (gn_L N kd px yy vc) k = kd k := by show gn_w (kd k) = kd k; rcases hu with ⟨e, _⟩ | ⟨e, _⟩ | ⟨e, _⟩ | ⟨e, _⟩ | ⟨e, _⟩ <;> rw [e] <;> decide
    have ef : (gl_fi (gn_L N kd px yy vc) k).toNatClampNeg = p := by
      rw [← ecp, ← ex]
      congr 1
    have eN : ∀ z, gn_n (kd k) (px k) (yy k) = z → gl_nu (gn_L N kd px yy vc) k = z := fun z hz => hz
    rw [eo, ef] at hp
    have k0 : ¬ kd k = 0 := by rcases hu with ⟨e, _⟩ | ⟨e, _⟩ | ⟨e, _⟩ | ⟨e, _⟩ | ⟨e, _⟩ <;> rw [e] <;> decide
    have k1 : ¬ kd k = 1 := by rcases hu with ⟨e, _⟩ | ⟨e, _⟩ | ⟨e, _⟩ | ⟨e, _⟩ | ⟨e, _⟩ <;> rw [e] <;> decide
    have k4 : 4 < kd k := by rcases hu with ⟨e, _⟩ | ⟨e, _⟩ | ⟨e, _⟩ | ⟨e, _⟩ | ⟨e, _⟩ <;> rw [e] <;> decide
    refine br_f k0 (br_f k1 (br_t k4 ?_))
    rcases hu with ⟨ek, hw, _⟩ | ⟨ek, hw, _⟩ | ⟨ek, hw, _, t, ht, ey⟩ | ⟨ek, hw, _⟩ | ⟨ek, hw, _⟩
    · rw [ek, gh_ov5] at hp
      refine gy_single (v := gh_s4 (gl_val (gy_iv ip y1 y2 e) dv (gn_L N kd px yy vc) p)) (by omega) (by omega) hi (by omega) (by omega) ex (Or.inl ⟨ek, ?_⟩) _ hp
      unfold gh_s4
      dsimp only
      rw [hval p hp' 0 (by omega) (Or.inl hw), hval p hp' 1 (by omega) (Or.inl hw), hval p hp' 2 (by omega) (Or.inl hw), hval p hp' 3 (by omega) (Or.inl hw)]
    · rw [ek, eN 1 (by rw [ek]; simp [gn_n]), gh_ov6, ← hval p hp' _ (Nat.mod_lt _ (by omega)) (Or.inl hw)] at hp
      exact gy_single (by omega) (by omega) hi (by omega) (by omega) ex (Or.inr (Or.inl ⟨ek, rfl⟩)) _ hp
    · rw [ek, eN (nI t) (by rw [ek]; simp [gn_n]; exact ey), gh_ov7, nI_clamp (by omega), ← hval p hp' t ht (Or.inl hw)] at hp
      exact gy_single (by omega) (by omega) hi (by omega) (by omega) ex (Or.inr (Or.inr (Or.inl ⟨ek, t, ht, ey, rfl⟩))) _ hp
    · have hnr : gl_val (gy_iv ip y1 y2 e) dv (gn_L N kd px yy vc) p i = gl_val (gy_iv ip y1 y2 e) dv (gn_L N kd px yy vc) p 0 := gl_nr hW (show p < N by omega) hw i
      rw [ek, gh_ov8, hnr, ← hval p hp' 0 (by omega) (Or.inr rfl)] at hp
      exact gy_single (by omega) (by omega) hi (by omega) (by omega) ex (Or.inr (Or.inr (Or.inr (Or.inl ⟨ek, rfl⟩)))) _ hp
    · rw [ek, gh_ov10] at hp
      refine gy_single (v := gh_pre (gl_val (gy_iv ip y1 y2 e) dv (gn_L N kd px yy vc) p) i) (by omega) (by omega) hi (by omega) (by omega) ex (Or.inr (Or.inr (Or.inr (Or.inr (Or.inr ⟨ek, ?_⟩))))) _ hp
      exact gh_pre_map i (fun j hj => (hval p hp' j (by omega) (Or.inl hw)).symm)
end
end
section
/-! the reference: workAll, seed -/
theorem gy_at_upd {NL : gl_L} {iv : Nat → gh_T} {dv : Nat → Int32} {yp yf ys yb : Nat → Int32} {k c : Nat} (hc : c < 4) (h : gy_at NL iv dv yp yf ys yb k c) {v : gh_T} (hv : v = gl_val iv dv NL k c) :
    gy_at NL iv dv (upd yp (4 * k + c) v.1) (upd yf (4 * k + c) v.2.1) (upd ys (4 * k + c) v.2.2.1) (upd yb (4 * k + c) v.2.2.2) k (c + 1) := by
  intro p c' hp hc' hw
  by_cases e : p = k ∧ c' = c
  · obtain ⟨rfl, rfl⟩ := e
    unfold gy_4
    rw [pk_us, pk_us, pk_us, pk_us]
    exact hv
  · unfold gy_4
    rw [pk_un (by omega), pk_un (by omega), pk_un (by omega), pk_un (by omega)]
    exact h p c' (by omega) hc' hw
section
variable {nc : Int32} {kd px yy vc ip dr y1 y2 yz : Nat → Int32}
theorem gy_loop12 {N : Nat} (hN : gn_ok N kd px yy vc) (dv : Nat → Int32) {k e : Nat} (hk : k < N) (he : e < 3) : ∀ q c, c + q = 4 → ∀ yp yf ys yb : Nat → Int32, gy_at (gn_L N kd px yy vc) (gy_iv ip y1 y2 e) dv yp yf ys yb k c →
    ∃ zp zf zs zb : Nat → Int32, gy_at (gn_L N kd px yy vc) (gy_iv ip y1 y2 e) dv zp zf zs zb k 4 ∧
    ∀ (post : SY → Prop) (J : Int32 → Int32 → (Nat → Int32) → (Nat → Int32) → (Nat → Int32) → (Nat → Int32) → (Nat → Int32) → (Nat → Int32) → (Nat → Int32) → (Nat → Int32) → (Nat → Int32) → (Nat → Int32) → (Nat → Int32) → (Nat → Int32) → (Nat → Int32) → Prop),
      J (nI (k + 1)) nc kd px yy vc ip dr y1 y2 zp zf zs zb yz → wY_workAll_12 post J (nI e) (nI k) (q + 1) (nI c) nc kd px yy vc ip dr y1 y2 yp yf ys yb yz := by
  have hN12 := hN.1
  have hW := gn_WF hN
  have hik : vp_in (nI k) 12 := vp_in_nI (by omega) (by omega)
  have eck : (nI k).toNatClampNeg = k := nI_clamp (by omega)
  intro q
  induction q with
  | zero =>
    intro c hc yp yf ys yb h
    have e4 : c = 4 := by omega
    subst e4
    exact ⟨yp, yf, ys, yb, h, fun post J hj => br_t (nI_le (a := 4) (b := 4) (by omega) (by decide)) (nm_r (nI_1 k) hj)⟩
  | succ q ih =>
    intro c hc yp yf ys yb h
    have h4 : ¬ (4 : Int32) ≤ nI c := nI_ge (b := 4) (by omega) (by decide)
    have h0 : gy_at (gn_L N kd px yy vc) (gy_iv ip y1 y2 e) dv yp yf ys yb k 0 := fun p c' hp => h p c' (by omega)
    obtain ⟨zp, zf, zs, zb, hz, hw⟩ := ih (c + 1) (by omega) _ _ _ _ (gy_at_upd (by omega) h rfl)
    rcases gl_wd hW (show k < N from hk) with w0 | w1
    · have w0' : vc k = 0 := w0
      by_cases c0 : c = 0
      · subst c0
        refine ⟨zp, zf, zs, zb, hz, fun post J hj => br_f h4 (And.intro hik (br_t (by rw [eck]; exact w0') (br_t rfl ?_)))⟩
        exact gy_workOut hN dv hk (by omega) (Or.inr rfl) he h0 _ (nm_r (nI_1 0) (hw post J hj))
      · obtain ⟨zp, zf, zs, zb, hz, hw⟩ := ih (c + 1) (by omega) yp yf ys yb (fun p c' hp hc' hw' => by
          by_cases ee : p = k ∧ c' = c
          · obtain ⟨rfl, rfl⟩ := ee
            rcases hw' with hw' | hw'
            · rw [w0] at hw'; exact absurd hw' (by decide)
            · exact absurd hw' c0
          · exact h p c' (by omega) hc' hw')
        exact ⟨zp, zf, zs, zb, hz, fun post J hj => br_f h4 (And.intro hik (br_t (by rw [eck]; exact w0') (br_f (nI_ne0 (by omega) (by omega)) (nm_r (nI_1 c) (hw post J hj)))))⟩
    · have w1' : vc k = 1 := w1
      refine ⟨zp, zf, zs, zb, hz, fun post J hj => br_f h4 (And.intro hik (br_f (by rw [eck, w1']; decide) ?_))⟩
      exact gy_workOut hN dv hk (by omega) (Or.inl w1') he h0 _ (nm_r (nI_1 c) (hw post J hj))
theorem gy_loop2 {N : Nat} (hN : gn_ok N kd px yy vc) (dv : Nat → Int32) {e : Nat} (he : e < 3) : ∀ q k, k + q = N → ∀ yp yf ys yb : Nat → Int32, gy_at (gn_L N kd px yy vc) (gy_iv ip y1 y2 e) dv yp yf ys yb k 0 →
    ∃ zp zf zs zb : Nat → Int32, gy_at (gn_L N kd px yy vc) (gy_iv ip y1 y2 e) dv zp zf zs zb N 0 ∧
    ∀ post : SY → Prop, post (nI N, kd, px, yy, vc, ip, dr, y1, y2, zp, zf, zs, zb, yz) → wY_workAll_2 post (nI e) (q + 1) (nI k) (nI N) kd px yy vc ip dr y1 y2 yp yf ys yb yz := by
  have hN12 := hN.1
  intro q
  induction q with
  | zero =>
    intro k hk yp yf ys yb h
    have ek : k = N := by omega
    subst ek
    exact ⟨yp, yf, ys, yb, h, fun post hp => br_t (nI_le (by omega) (by omega)) hp⟩
  | succ q ih =>
    intro k hk yp yf ys yb h
    obtain ⟨ap, af, as', ab, ha, hw1⟩ := gy_loop12 (nc := nI N) (dr := dr) (yz := yz) hN dv (show k < N by omega) he 4 0 rfl yp yf ys yb h
    obtain ⟨zp, zf, zs, zb, hz, hw2⟩ := ih (k + 1) (by omega) ap af as' ab (fun p c' hp hc' hw' => ha p c' (by omega) hc' hw')
    exact ⟨zp, zf, zs, zb, hz, fun post hp => br_f (nI_ge (by omega) (by omega)) ⟨4 + 1, hw1 post _ (hw2 post hp)⟩⟩
theorem gy_workAll {N : Nat} (hN : gn_ok N kd px yy vc) (dv : Nat → Int32) {e : Nat} (he : e < 3) {yp yf ys yb : Nat → Int32} : ∃ zp zf zs zb : Nat → Int32, gy_at (gn_L N kd px yy vc) (gy_iv ip y1 y2 e) dv zp zf zs zb N 0 ∧
    ∀ post : SY → Prop, post (nI N, kd, px, yy, vc, ip, dr, y1, y2, zp, zf, zs, zb, yz) → wpY_workAll post (nI N, kd, px, yy, vc, ip, dr, y1, y2, yp, yf, ys, yb, yz) (nI e) := by
  obtain ⟨zp, zf, zs, zb, hz, hw⟩ := gy_loop2 (dr := dr) (yz := yz) hN dv he N 0 (by omega) yp yf ys yb (fun p c' hp => by omega)
  exact ⟨zp, zf, zs, zb, hz, fun post hp => ⟨N + 1, hw post hp⟩⟩
end
def gy_sd (x : Int32) (y : Nat → Int32) : Prop := ∀ c, c < 12 → y c = if nI c = x then 1 else 0
section
variable {nc : Int32} {kd px yy vc ip dr yp yf ys yb yz : Nat → Int32}
theorem gy_seedL {a b : Int32} : ∀ q c, c + q = 12 → ∀ y1 y2 : Nat → Int32, (∀ j, j < c → y1 j = if nI j = a then 1 else 0) → (∀ j, j < c → y2 j = if nI j = b then 1 else 0) → ∃ z1 z2 : Nat → Int32, gy_sd a z1 ∧ gy_sd b z2 ∧
    ∀ post : SY → Prop, post (nc, kd, px, yy, vc, ip, dr, z1, z2, yp, yf, ys, yb, yz) → wY_seed_2 post a b nc (q + 1) (nI c) kd px yy vc ip dr y1 y2 yp yf ys yb yz := by
  intro q
  induction q with
  | zero =>
    intro c hc y1 y2 h1 h2
    have e : c = 12 := by omega
    subst e
    exact ⟨y1, y2, h1, h2, fun post hp => br_t (nI_le (a := 12) (b := 12) (by omega) (by decide)) hp⟩
  | succ q ih =>
    intro c hc y1 y2 h1 h2
    have h12 : ¬ (12 : Int32) ≤ nI c := nI_ge (b := 12) (by omega) (by decide)
    have hi : vp_in (nI c) 12 := vp_in_nI (by omega) (by omega)
    have ec : (nI c).toNatClampNeg = c := nI_clamp (by omega)
    obtain ⟨z1, z2, s1, s2, hw⟩ := ih (c + 1) (by omega) (upd y1 c (if nI c = a then 1 else 0)) (upd y2 c (if nI c = b then 1 else 0)) (fun j hj => by
      by_cases e : j = c
      · subst e; exact pk_us
      · rw [pk_un e]; exact h1 j (by omega)) (fun j hj => by
      by_cases e : j = c
      · subst e; exact pk_us
      · rw [pk_un e]; exact h2 j (by omega))
    refine ⟨z1, z2, s1, s2, fun post hp => ?_⟩
    have hw' := hw post hp
    by_cases ea : nI c = a
    · rw [if_pos ea] at hw'
      by_cases eb : nI c = b
      · rw [if_pos eb] at hw'
        exact br_f h12 (br_t ea (And.intro hi (nm_r (e' := upd y1 c 1) (by rw [ec]) (br_t eb (And.intro hi (nm_r (e' := upd y2 c 1) (by rw [ec]) (nm_r (nI_1 c) hw')))))))
      · rw [if_neg eb] at hw'
        exact br_f h12 (br_t ea (And.intro hi (nm_r (e' := upd y1 c 1) (by rw [ec]) (br_f eb (And.intro hi (nm_r (e' := upd y2 c 0) (by rw [ec]) (nm_r (nI_1 c) hw')))))))
    · rw [if_neg ea] at hw'
      by_cases eb : nI c = b
      · rw [if_pos eb] at hw'
        exact br_f h12 (br_f ea (And.intro hi (nm_r (e' := upd y1 c 0) (by rw [ec]) (br_t eb (And.intro hi (nm_r (e' := upd y2 c 1) (by rw [ec]) (nm_r (nI_1 c) hw')))))))
      · rw [if_neg eb] at hw'
        exact br_f h12 (br_f ea (And.intro hi (nm_r (e' := upd y1 c 0) (by rw [ec]) (br_f eb (And.intro hi (nm_r (e' := upd y2 c 0) (by rw [ec]) (nm_r (nI_1 c) hw')))))))
theorem gy_seed {y1 y2 : Nat → Int32} (a b : Int32) : ∃ z1 z2 : Nat → Int32, gy_sd a z1 ∧ gy_sd b z2 ∧ ∀ post : SY → Prop, post (nc, kd, px, yy, vc, ip, dr, z1, z2, yp, yf, ys, yb, yz) → wpY_seed post (nc, kd, px, yy, vc, ip, dr, y1, y2, yp, yf, ys, yb, yz) a b := by
  obtain ⟨z1, z2, h1, h2, hw⟩ := gy_seedL (nc := nc) (kd := kd) (px := px) (yy := yy) (vc := vc) (ip := ip) (dr := dr) (yp := yp) (yf := yf) (ys := ys) (yb := yb) (yz := yz) (a := a) (b := b) 12 0 rfl y1 y2 (fun j hj => by omega) (fun j hj => by omega)
  exact ⟨z1, z2, h1, h2, fun post hp => ⟨12 + 1, hw post hp⟩⟩
end
end
section
/-! the relation; forget, set, aim, input, isVector, level -/
def gr_ok (N : Nat) (kd px py yy vc : Nat → Int32) : Prop :=
  gn_ok N kd px py vc ∧ gn_ok N kd px yy vc ∧ ∀ i, i < N → (kd i = 2 ∨ kd i = 3 ∨ kd i = 4 ∨ kd i = 7) → py i = yy i
def i_Rel (k : Nat) (u : SX) (v : SY) : Prop := match u, v with
  | (nc, lv, le, fc, kd, px, py, vc, ip, dr, op, fi, se, nu, wi, na, re, sl, fs, so, la), (yn, yk, yx, yy, yv, yi, yd, y1, y2, yp, yf, ys, yb, yz) =>
    ∃ N : Nat, nc = nI N ∧ yn = nI N ∧ yk = kd ∧ yx = px ∧ yv = vc ∧ yi = ip ∧ yd = dr ∧ gr_ok N kd px py yy vc
theorem i_up {k : Nat} {u : SX} {v : SY} (h : i_Rel k u v) : i_Rel (k + 5) u v := h
section
variable {lv le fc : Int32} {kd px py vc ip dr op fi se nu wi na re sl fs so la yy y1 y2 yp yf ys yb yz : Nat → Int32}
theorem gr_mk {k N : Nat} (h : gr_ok N kd px py yy vc) : i_Rel k (nI N, lv, le, fc, kd, px, py, vc, ip, dr, op, fi, se, nu, wi, na, re, sl, fs, so, la) (nI N, kd, px, yy, vc, ip, dr, y1, y2, yp, yf, ys, yb, yz) :=
  ⟨N, rfl, rfl, rfl, rfl, rfl, rfl, rfl, h⟩
end
theorem gr_el {P : SX → SY → Prop} {k : Nat} {u : SX} {v : SY} (I : i_Rel k u v)
    (h : ∀ (N : Nat) (lv le fc : Int32) (kd px py vc ip dr op fi se nu wi na re sl fs so la yy y1 y2 yp yf ys yb yz : Nat → Int32), gr_ok N kd px py yy vc →
      P (nI N, lv, le, fc, kd, px, py, vc, ip, dr, op, fi, se, nu, wi, na, re, sl, fs, so, la) (nI N, kd, px, yy, vc, ip, dr, y1, y2, yp, yf, ys, yb, yz)) : P u v := by
  obtain ⟨nc, lv, le, fc, kd, px, py, vc, ip, dr, op, fi, se, nu, wi, na, re, sl, fs, so, la⟩ := u
  obtain ⟨yn, yk, yx, yy, yv, yi, yd, y1, y2, yp, yf, ys, yb, yz⟩ := v
  obtain ⟨N, e1, e2, e3, e4, e5, e6, e7, hg⟩ := I
  subst e1 e2 e3 e4 e5 e6 e7
  exact h N _ _ _ _ _ _ _ _ _ _ _ _ _ _ _ _ _ _ _ _ _ _ _ _ _ _ _ _ hg
theorem i_vc0 : wpX_init (fun u => wpY_init (fun v => i_Rel 0 u v)) :=
  ⟨0, rfl, rfl, rfl, rfl, rfl, rfl, rfl, ⟨Nat.zero_le _, fun i hi => absurd hi (Nat.not_lt_zero i)⟩, ⟨Nat.zero_le _, fun i hi => absurd hi (Nat.not_lt_zero i)⟩, fun i hi => absurd hi (Nat.not_lt_zero i)⟩
theorem gr_ok0 {kd px py yy vc : Nat → Int32} : gr_ok 0 kd px py yy vc :=
  ⟨⟨Nat.zero_le _, fun i hi => absurd hi (Nat.not_lt_zero i)⟩, ⟨Nat.zero_le _, fun i hi => absurd hi (Nat.not_lt_zero i)⟩, fun i hi => absurd hi (Nat.not_lt_zero i)⟩
theorem i_vc_forget {k : Nat} {u : SX} {v : SY} (I : i_Rel k u v) (hk : k + 5 ≤ 2560) : wpX_forget (fun r u' => wpY_forget (fun r' v' => r' = r ∧ i_Rel (k + 5) u' v') v) u := by
  refine gr_el (P := fun u v => wpX_forget (fun r u' => wpY_forget (fun r' v' => r' = r ∧ i_Rel (k + 5) u' v') v) u) I ?_
  intro N lv le fc kd px py vc ip dr op fi se nu wi na re sl fs so la yy y1 y2 yp yf ys yb yz h
  exact And.intro rfl (gr_mk (N := 0) gr_ok0)
/-- a component at and an example e: both sides answer alike -/
theorem gr_comp (a e : Int32) : (∃ i j : Nat, i < 12 ∧ j < 3 ∧ a = nI i ∧ e = nI j ∧ (∀ (u : SX) (post : Int32 → Prop), post 1 → wpX_isComponent post u a e) ∧ (∀ (v : SY) (post : Int32 → Prop), post 1 → wpY_isPlace post v a e)) ∨
    ((∀ (u : SX) (post : Int32 → Prop), post 0 → wpX_isComponent post u a e) ∧ (∀ (v : SY) (post : Int32 → Prop), post 0 → wpY_isPlace post v a e)) := by
  by_cases h1 : a < 0
  · exact Or.inr ⟨fun u post hp => br_t h1 hp, fun v post hp => by unfold wpY_isPlace; exact br_t h1 (br_t rfl hp)⟩
  · by_cases h2 : 11 < a
    · exact Or.inr ⟨fun u post hp => br_f h1 (br_t h2 hp), fun v post hp => by unfold wpY_isPlace; exact br_f h1 (br_t h2 (br_t rfl hp))⟩
    · by_cases h3 : e < 0
      · exact Or.inr ⟨fun u post hp => br_f h1 (br_f h2 (br_t h3 hp)), fun v post hp => by unfold wpY_isPlace; exact br_f h1 (br_f h2 (br_f (by decide) (br_t h3 (br_t rfl hp))))⟩
      · by_cases h4 : 2 < e
        · exact Or.inr ⟨fun u post hp => br_f h1 (br_f h2 (br_f h3 (br_t h4 hp))), fun v post hp => by unfold wpY_isPlace; exact br_f h1 (br_f h2 (br_f (by decide) (br_f h3 (br_t h4 (br_t rfl hp)))))⟩
        · obtain ⟨i, hi, ei⟩ := nI_of2 (M := 11) (n := 11) (by decide) h1 (Int32.not_lt.mp h2)
          obtain ⟨j, hj, ej⟩ := nI_of2 (M := 2) (n := 2) (by decide) h3 (Int32.not_lt.mp h4)
          exact Or.inl ⟨i, j, by omega, by omega, ei, ej, fun u post hp => br_f h1 (br_f h2 (br_f h3 (br_f h4 hp))), fun v post hp => by unfold wpY_isPlace; exact br_f h1 (br_f h2 (br_f (by decide) (br_f h3 (br_f h4 (br_f (by decide) hp)))))⟩
theorem i_vc_set {k : Nat} {u : SX} {v : SY} (I : i_Rel k u v) (hk : k + 5 ≤ 2560) (v1 : Int32) (v2 : Int32) (v3 : Int32) : wpX_set (fun r u' => wpY_set (fun r' v' => r' = r ∧ i_Rel (k + 5) u' v') v v1 v2 v3) u v1 v2 v3 := by
  refine gr_el (P := fun u v => wpX_set (fun r u' => wpY_set (fun r' v' => r' = r ∧ i_Rel (k + 5) u' v') v v1 v2 v3) u v1 v2 v3) I ?_
  intro N lv le fc kd px py vc ip dr op fi se nu wi na re sl fs so la yy y1 y2 yp yf ys yb yz h
  unfold wpX_set wpY_set
  rcases gr_comp v1 v2 with ⟨i, j, hi, hj, rfl, rfl, hX, hY⟩ | ⟨hX, hY⟩
  · have hin : vp_in (12 * nI j + nI i) 36 := by rw [ge_n12, nI_add]; exact vp_in_nI (by omega) (by omega)
    exact hX _ _ (br_f (by decide) (And.intro hin (nm_e (hY _ _ (br_f (by decide) (And.intro hin (nm_e (And.intro rfl (gr_mk h)))))))))
  · exact hX _ _ (br_t rfl (hY _ _ (br_t rfl (And.intro rfl (gr_mk h)))))
theorem i_vc_aim {k : Nat} {u : SX} {v : SY} (I : i_Rel k u v) (hk : k + 5 ≤ 2560) (v1 : Int32) (v2 : Int32) (v3 : Int32) : wpX_aim (fun r u' => wpY_aim (fun r' v' => r' = r ∧ i_Rel (k + 5) u' v') v v1 v2 v3) u v1 v2 v3 := by
  refine gr_el (P := fun u v => wpX_aim (fun r u' => wpY_aim (fun r' v' => r' = r ∧ i_Rel (k + 5) u' v') v v1 v2 v3) u v1 v2 v3) I ?_
  intro N lv le fc kd px py vc ip dr op fi se nu wi na re sl fs so la yy y1 y2 yp yf ys yb yz h
  unfold wpX_aim wpY_aim
  rcases gr_comp v1 v2 with ⟨i, j, hi, hj, rfl, rfl, hX, hY⟩ | ⟨hX, hY⟩
  · have hin : vp_in (12 * nI j + nI i) 36 := by rw [ge_n12, nI_add]; exact vp_in_nI (by omega) (by omega)
    exact hX _ _ (br_f (by decide) (And.intro hin (nm_e (hY _ _ (br_f (by decide) (And.intro hin (nm_e (And.intro rfl (gr_mk h)))))))))
  · exact hX _ _ (br_t rfl (hY _ _ (br_t rfl (And.intro rfl (gr_mk h)))))
theorem i_vc_input {k : Nat} {u : SX} {v : SY} (I : i_Rel k u v) (hk : k + 5 ≤ 2560) (v1 : Int32) (v2 : Int32) : wpX_input (fun r => wpY_input (fun r' => r' = r ∧ i_Rel (k + 5) u v) v v1 v2) u v1 v2 := by
  refine gr_el (P := fun u v => wpX_input (fun r => wpY_input (fun r' => r' = r ∧ i_Rel (k + 5) u v) v v1 v2) u v1 v2) I ?_
  intro N lv le fc kd px py vc ip dr op fi se nu wi na re sl fs so la yy y1 y2 yp yf ys yb yz h
  unfold wpX_input wpY_input
  rcases gr_comp v1 v2 with ⟨i, j, hi, hj, rfl, rfl, hX, hY⟩ | ⟨hX, hY⟩
  · have hin : vp_in (12 * nI j + nI i) 36 := by rw [ge_n12, nI_add]; exact vp_in_nI (by omega) (by omega)
    exact hX _ _ (br_f (by decide) (And.intro hin (hY _ _ (br_f (by decide) (And.intro hin (And.intro rfl (gr_mk h)))))))
  · exact hX _ _ (br_t rfl (hY _ _ (br_t rfl (And.intro rfl (gr_mk h)))))
/-- a node: both sides answer alike -/
theorem gr_node {N : Nat} (hN : N ≤ 12) (p : Int32) {lv le fc : Int32} {kd px py vc ip dr op fi se nu wi na re sl fs so la : Nat → Int32} {yk yx yy yv yi yd y1 y2 yp yf ys yb yz : Nat → Int32} :
    (∃ j : Nat, j < N ∧ p = nI j ∧ (∀ post : Int32 → Prop, post 1 → wpX_isNode post (nI N, lv, le, fc, kd, px, py, vc, ip, dr, op, fi, se, nu, wi, na, re, sl, fs, so, la) p) ∧ (∀ post : Int32 → Prop, post 1 → wpY_isNode post (nI N, yk, yx, yy, yv, yi, yd, y1, y2, yp, yf, ys, yb, yz) p)) ∨
    ((∀ post : Int32 → Prop, post 0 → wpX_isNode post (nI N, lv, le, fc, kd, px, py, vc, ip, dr, op, fi, se, nu, wi, na, re, sl, fs, so, la) p) ∧ (∀ post : Int32 → Prop, post 0 → wpY_isNode post (nI N, yk, yx, yy, yv, yi, yd, y1, y2, yp, yf, ys, yb, yz) p)) := by
  by_cases h0 : p < 0
  · exact Or.inr ⟨fun post hp => br_t h0 hp, fun post hp => by unfold wpY_isNode; exact br_t h0 (And.intro rfl hp)⟩
  · obtain ⟨j, hj, rfl⟩ := nI_of h0
    by_cases h1 : j < N
    · have hb : ¬ nI N - 1 < nI j := by
        obtain ⟨M, rfl⟩ : ∃ M, N = M + 1 := ⟨N - 1, by omega⟩
        rw [nI_pred]
        exact nI_nlt (by omega) (by omega)
      exact Or.inl ⟨j, h1, rfl, fun post hp => br_f h0 (br_f (nI_ge h1 (by omega)) hp), fun post hp => by unfold wpY_isNode; exact br_f h0 (br_f hb (And.intro rfl hp))⟩
    · have hb : nI N - 1 < nI j := by
        by_cases hz : N = 0
        · subst hz
          rw [show nI 0 - 1 = -1 by decide, Int32.lt_iff_toInt_lt, nI_toInt hj]
          show (-1 : Int) < _
          omega
        · obtain ⟨M, rfl⟩ : ∃ M, N = M + 1 := ⟨N - 1, by omega⟩
          rw [nI_pred]
          exact nI_lt (by omega) hj
      exact Or.inr ⟨fun post hp => br_f h0 (br_t (nI_le (by omega) hj) hp), fun post hp => by unfold wpY_isNode; exact br_f h0 (br_t hb (And.intro rfl hp))⟩
theorem i_vc_isVector {k : Nat} {u : SX} {v : SY} (I : i_Rel k u v) (hk : k + 5 ≤ 2560) (v1 : Int32) : wpX_isVector (fun r => wpY_isVector (fun r' => r' = r ∧ i_Rel (k + 5) u v) v v1) u v1 := by
  refine gr_el (P := fun u v => wpX_isVector (fun r => wpY_isVector (fun r' => r' = r ∧ i_Rel (k + 5) u v) v v1) u v1) I ?_
  intro N lv le fc kd px py vc ip dr op fi se nu wi na re sl fs so la yy y1 y2 yp yf ys yb yz h
  have hN := h.1.1
  unfold wpX_isVector wpY_isVector
  rcases gr_node hN v1 with ⟨j, hj, rfl, hX, hY⟩ | ⟨hX, hY⟩
  · have hin : vp_in (nI j) 12 := vp_in_nI (by omega) (by omega)
    by_cases hv : vc (nI j).toNatClampNeg = 0
    · exact hX _ (br_f (by decide) (And.intro hin (br_t hv (hY _ (br_f (by decide) (And.intro hin (br_t hv (And.intro rfl (gr_mk h)))))))))
    · exact hX _ (br_f (by decide) (And.intro hin (br_f hv (hY _ (br_f (by decide) (And.intro hin (br_f hv (And.intro rfl (gr_mk h)))))))))
  · exact hX _ (br_t rfl (hY _ (br_t rfl (And.intro rfl (gr_mk h)))))
theorem i_vc_level {k : Nat} {u : SX} {v : SY} (I : i_Rel k u v) (hk : k + 5 ≤ 2560) (v1 : Int32) : wpX_level (fun r u' => wpY_level (fun r' => r' = r ∧ i_Rel (k + 5) u' v) v v1) u v1 := by
  refine gr_el (P := fun u v => wpX_level (fun r u' => wpY_level (fun r' => r' = r ∧ i_Rel (k + 5) u' v) v v1) u v1) I ?_
  intro N lv le fc kd px py vc ip dr op fi se nu wi na re sl fs so la yy y1 y2 yp yf ys yb yz h
  unfold wpX_level wpY_level
  by_cases h0 : v1 < 0
  · exact br_t h0 (br_t h0 (And.intro rfl (And.intro rfl (gr_mk h))))
  · by_cases h2 : v1 ≤ 2
    · exact br_f h0 (br_t h2 (br_f h0 (br_f (Int32.not_lt.mpr h2) (And.intro rfl (And.intro rfl (gr_mk h))))))
    · exact br_f h0 (br_f h2 (br_f h0 (br_t (Int32.not_le.mp h2) (And.intro rfl (And.intro rfl (gr_mk h))))))
end
section
/-! node -/
theorem gd_nd_mono {vc vd : Nat → Int32} {i : Nat} (hv : ∀ p, p < i → vd p = vc p) {k x y d : Int32} (h : gn_nd vc i k x y d) : gn_nd vd i k x y d := by
  rcases h with h | h | ⟨h1, p, q, hp, hq, h2, h3, h4⟩ | ⟨h1, h2, p, hp, h3, h4⟩ | ⟨p, hp, h1, h2⟩
  · exact Or.inl h
  · exact Or.inr (Or.inl h)
  · exact Or.inr (Or.inr (Or.inl ⟨h1, p, q, hp, hq, h2, h3, by rw [hv p hp, hv q hq]; exact h4⟩))
  · exact Or.inr (Or.inr (Or.inr (Or.inl ⟨h1, h2, p, hp, h3, by rw [hv p hp]; exact h4⟩)))
  · exact Or.inr (Or.inr (Or.inr (Or.inr ⟨p, hp, h1, by rw [hv p hp]; exact h2⟩)))
theorem gd_ok_ext {N : Nat} {kd px py vc : Nat → Int32} (h : gn_ok N kd px py vc) (hN : N < 12) {k x y d : Int32} (hn : gn_nd vc N k x y d) : gn_ok (N + 1) (upd kd N k) (upd px N x) (upd py N y) (upd vc N d) := by
  refine ⟨hN, fun i hi => ?_⟩
  by_cases e : i = N
  · subst e
    rw [pk_us, pk_us, pk_us, pk_us]
    exact gd_nd_mono (fun p hp => pk_un (by omega)) hn
  · rw [pk_un e, pk_un e, pk_un e, pk_un e]
    exact gd_nd_mono (fun p hp => pk_un (by omega)) (h.2 i (by omega))
theorem gd_rel_ext {N : Nat} {kd px py yy vc : Nat → Int32} (h : gr_ok N kd px py yy vc) (hN : N < 12) {k x y z d : Int32} (hy : gn_nd vc N k x y d) (hz : gn_nd vc N k x z d) (hyz : (k = 2 ∨ k = 3 ∨ k = 4 ∨ k = 7) → y = z) :
    gr_ok (N + 1) (upd kd N k) (upd px N x) (upd py N y) (upd yy N z) (upd vc N d) := by
  refine ⟨gd_ok_ext h.1 hN hy, gd_ok_ext h.2.1 hN hz, fun i hi hk => ?_⟩
  by_cases e : i = N
  · subst e
    rw [pk_us] at hk
    rw [pk_us, pk_us]
    exact hyz hk
  · rw [pk_un e] at hk
    rw [pk_un e, pk_un e]
    exact h.2.2 i (by omega) hk
theorem gd_b {n : Nat} (h : n < 12) : (nI n).toInt8.toInt32 = nI n := lg_i2b_small (by rw [nI_toInt (by omega)]; omega) (by rw [nI_toInt (by omega)]; omega)
section
variable {N : Nat} {lv le fc : Int32} {kd px py vc ip dr op fi se nu wi na re sl fs so la : Nat → Int32} {yy y1 y2 yp yf ys yb yz : Nat → Int32}
theorem gd_Xbad (hN : N < 12) {k x y : Int32} (h0 : ¬ k < 0) (h10 : ¬ 10 < k) (hf : ∀ post : Int32 → Prop, post 0 → wpX_operandsFit post (nI N, lv, le, fc, kd, px, py, vc, ip, dr, op, fi, se, nu, wi, na, re, sl, fs, so, la) k x y) (post : Int32 → SX → Prop) (hp : post (-1) (nI N, lv, le, fc, kd, px, py, vc, ip, dr, op, fi, se, nu, wi, na, re, sl, fs, so, la)) : wpX_node post (nI N, lv, le, fc, kd, px, py, vc, ip, dr, op, fi, se, nu, wi, na, re, sl, fs, so, la) k x y :=
  br_t (nI_lt (b := 12) hN (by decide)) (br_f h0 (br_f h10 (hf _ (br_t rfl hp))))
theorem gd_Xwrong (hN : N < 12) {k x y : Int32} (h0 : ¬ k < 0) (h10 : ¬ 10 < k) (hf : ∀ post : Int32 → Prop, post 1 → wpX_operandsFit post (nI N, lv, le, fc, kd, px, py, vc, ip, dr, op, fi, se, nu, wi, na, re, sl, fs, so, la) k x y) (hw : ∀ post : Int32 → Prop, post 1 → wpX_isWrong post (nI N, lv, le, fc, kd, px, py, vc, ip, dr, op, fi, se, nu, wi, na, re, sl, fs, so, la) k x) (post : Int32 → SX → Prop) (hp : post (-3) (nI N, lv, le, fc, kd, px, py, vc, ip, dr, op, fi, se, nu, wi, na, re, sl, fs, so, la)) : wpX_node post (nI N, lv, le, fc, kd, px, py, vc, ip, dr, op, fi, se, nu, wi, na, re, sl, fs, so, la) k x y :=
  br_t (nI_lt (b := 12) hN (by decide)) (br_f h0 (br_f h10 (hf _ (br_f (by decide) (hw _ (br_f (by decide) hp))))))
theorem gd_Xok (hN : N < 12) {n : Nat} (hn : n ≤ 10) {x y d : Int32} (hd : d = 0 ∨ d = 1) (hf : ∀ post : Int32 → Prop, post 1 → wpX_operandsFit post (nI N, lv, le, fc, kd, px, py, vc, ip, dr, op, fi, se, nu, wi, na, re, sl, fs, so, la) (nI n) x y) (hw : ∀ post : Int32 → Prop, post 0 → wpX_isWrong post (nI N, lv, le, fc, kd, px, py, vc, ip, dr, op, fi, se, nu, wi, na, re, sl, fs, so, la) (nI n) x)
    (hm : ∀ (kd px py : Nat → Int32) (post : Int32 → Prop), post d → wpX_makesVector post (nI N, lv, le, fc, kd, px, py, vc, ip, dr, op, fi, se, nu, wi, na, re, sl, fs, so, la) (nI n) x y) (post : Int32 → SX → Prop)
    (hp : post (nI N) (nI (N + 1), lv, le, fc, upd kd N (nI n), upd px N x, upd py N y.toInt8.toInt32, upd vc N d, ip, dr, op, fi, se, nu, wi, na, re, sl, fs, so, la)) : wpX_node post (nI N, lv, le, fc, kd, px, py, vc, ip, dr, op, fi, se, nu, wi, na, re, sl, fs, so, la) (nI n) x y := by
  have hi : vp_in (nI N) 12 := vp_in_nI hN (by omega)
  have ec : (nI N).toNatClampNeg = N := nI_clamp (by omega)
  refine br_t (nI_lt (b := 12) hN (by decide)) (br_f (nI_pos (by omega)) (br_f (nI_nlt (a := 10) hn (by decide)) (hf _ (br_f (by decide) (hw _ (br_t rfl ?_))))))
  exact And.intro hi (nm_r (e' := upd kd N (nI n)) (by rw [ec, pk_vb, gd_b (by omega)]) (And.intro hi (nm_r (e' := upd px N x) (by rw [ec]) (And.intro hi (nm_r (e' := upd py N y.toInt8.toInt32) (by rw [ec, pk_vb]) (hm _ _ _ _ (And.intro hi (nm_r (e' := upd vc N d) (by rw [ec, gx_nb hd]) (nm_r (nI_1 N) hp)))))))))
theorem gd_Y247 (hN : N < 12) {d : Int32} (hd : d = 0 ∨ d = 1) {kd px yy : Nat → Int32} (post : Int32 → SY → Prop) (hp : post (nI N) (nI (N + 1), kd, px, yy, upd vc N d, ip, dr, y1, y2, yp, yf, ys, yb, yz)) : wY_node_247 post d (nI N) (nI N) kd px yy vc ip dr y1 y2 yp yf ys yb yz := by
  have hi : vp_in (nI N) 12 := vp_in_nI hN (by omega)
  have ec : (nI N).toNatClampNeg = N := nI_clamp (by omega)
  refine And.intro hi (nm_r (e' := upd vc N d) (by rw [ec, gx_nb hd]) (nm_r (nI_1 N) ?_))
  rw [nI_pred]
  exact hp
theorem gd_Yst (hN : N < 12) {k x y x4 : Int32} (post : Int32 → SY → Prop)
    (hp : (k = 0 → wY_node_242 post (nI N) (nI N) (upd kd N k) (upd px N x) (upd yy N y) vc ip dr y1 y2 yp yf ys yb yz) ∧ (¬ k = 0 → ((k = 6 → wY_node_242 post (nI N) (nI N) (upd kd N k) (upd px N x) (upd yy N y) vc ip dr y1 y2 yp yf ys yb yz) ∧ (¬ k = 6 → ((k = 8 → wY_node_242 post (nI N) (nI N) (upd kd N k) (upd px N x) (upd yy N y) vc ip dr y1 y2 yp yf ys yb yz) ∧ (¬ k = 8 → ((k = 10 → wY_node_242 post (nI N) (nI N) (upd kd N k) (upd px N x) (upd yy N y) vc ip dr y1 y2 yp yf ys yb yz) ∧ (¬ k = 10 → ((k = 9 → (vp_in x 12 ∧ ((vc x.toNatClampNeg = 0 → wY_node_219 post x y x4 (nI N) (nI N) (upd kd N k) (upd px N x) (upd yy N y) vc ip dr y1 y2 yp yf ys yb yz) ∧ (¬ vc x.toNatClampNeg = 0 → wY_node_242 post (nI N) (nI N) (upd kd N k) (upd px N x) (upd yy N y) vc ip dr y1 y2 yp yf ys yb yz)))) ∧ (¬ k = 9 → wY_node_219 post x y x4 (nI N) (nI N) (upd kd N k) (upd px N x) (upd yy N y) vc ip dr y1 y2 yp yf ys yb yz)))))))))) :
    wY_node_144 post k x y x4 (nI N) kd px yy vc ip dr y1 y2 yp yf ys yb yz := by
  have hi : vp_in (nI N) 12 := vp_in_nI hN (by omega)
  have ec : (nI N).toNatClampNeg = N := nI_clamp (by omega)
  exact And.intro hi (nm_r (e' := upd kd N k) (by rw [ec]) (And.intro hi (nm_r (e' := upd px N x) (by rw [ec]) (And.intro hi (nm_r (e' := upd yy N y) (by rw [ec]) hp)))))
end
end
section
/-! the eleven kinds of node (printed by genkinds.py) -/
section
variable {k : Nat} {N : Nat} {lv le fc : Int32} {kd px py vc ip dr op fi se nu wi na re sl fs so la : Nat → Int32} {yy y1 y2 yp yf ys yb yz : Nat → Int32}
theorem gd_dbad (h : gr_ok N kd px py yy vc) {n : Nat} {x y r : Int32} (hX : ∀ post : Int32 → SX → Prop, post r (nI N, lv, le, fc, kd, px, py, vc, ip, dr, op, fi, se, nu, wi, na, re, sl, fs, so, la) → wpX_node post (nI N, lv, le, fc, kd, px, py, vc, ip, dr, op, fi, se, nu, wi, na, re, sl, fs, so, la) (nI n) x y) (hY : ∀ post : Int32 → SY → Prop, post r (nI N, kd, px, yy, vc, ip, dr, y1, y2, yp, yf, ys, yb, yz) → wpY_node post (nI N, kd, px, yy, vc, ip, dr, y1, y2, yp, yf, ys, yb, yz) (nI n) x y) : wpX_node (fun r u' => wpY_node (fun r' v' => r' = r ∧ i_Rel (k + 5) u' v') (nI N, kd, px, yy, vc, ip, dr, y1, y2, yp, yf, ys, yb, yz) (nI n) x y) (nI N, lv, le, fc, kd, px, py, vc, ip, dr, op, fi, se, nu, wi, na, re, sl, fs, so, la) (nI n) x y :=
  hX _ (hY _ (And.intro rfl (gr_mk h)))
theorem gd_dok (h : gr_ok N kd px py yy vc) (hN : N < 12) {n : Nat} {x y d : Int32} (hX : ∀ post : Int32 → SX → Prop, post (nI N) (nI (N + 1), lv, le, fc, upd kd N (nI n), upd px N x, upd py N y.toInt8.toInt32, upd vc N d, ip, dr, op, fi, se, nu, wi, na, re, sl, fs, so, la) → wpX_node post (nI N, lv, le, fc, kd, px, py, vc, ip, dr, op, fi, se, nu, wi, na, re, sl, fs, so, la) (nI n) x y)
    (hY : ∀ post : Int32 → SY → Prop, post (nI N) (nI (N + 1), upd kd N (nI n), upd px N x, upd yy N y, upd vc N d, ip, dr, y1, y2, yp, yf, ys, yb, yz) → wpY_node post (nI N, kd, px, yy, vc, ip, dr, y1, y2, yp, yf, ys, yb, yz) (nI n) x y)
    (h1 : gn_nd vc N (nI n) x y.toInt8.toInt32 d) (h2 : gn_nd vc N (nI n) x y d) (h3 : (nI n = 2 ∨ nI n = 3 ∨ nI n = 4 ∨ nI n = 7) → y.toInt8.toInt32 = y) : wpX_node (fun r u' => wpY_node (fun r' v' => r' = r ∧ i_Rel (k + 5) u' v') (nI N, kd, px, yy, vc, ip, dr, y1, y2, yp, yf, ys, yb, yz) (nI n) x y) (nI N, lv, le, fc, kd, px, py, vc, ip, dr, op, fi, se, nu, wi, na, re, sl, fs, so, la) (nI n) x y :=
  hX _ (hY _ (And.intro rfl (gr_mk (gd_rel_ext h hN h1 h2 h3))))
theorem gd_k0 (h : gr_ok N kd px py yy vc) (hN : N < 12) (x y : Int32) : wpX_node (fun r u' => wpY_node (fun r' v' => r' = r ∧ i_Rel (k + 5) u' v') (nI N, kd, px, yy, vc, ip, dr, y1, y2, yp, yf, ys, yb, yz) (nI 0) x y) (nI N, lv, le, fc, kd, px, py, vc, ip, dr, op, fi, se, nu, wi, na, re, sl, fs, so, la) (nI 0) x y := by
  have h12 : ¬ nI N = 12 := fun z => by have := (nI_eq (a := N) (b := 12) (by omega) (by decide)).mp z; omega
  have hN12 := h.1.1
  have hw : ∀ post : Int32 → Prop, post 0 → wpX_isWrong post (nI N, lv, le, fc, kd, px, py, vc, ip, dr, op, fi, se, nu, wi, na, re, sl, fs, so, la) (nI 0) x := fun post hp => by (repeat (first | refine br_f (by decide) ?_ | refine br_t (by decide) ?_)); exact hp
  by_cases h0 : x < 0
  · refine gd_dbad h (r := -1) (gd_Xbad hN (by decide) (by decide) (fun post hp => by (repeat (first | refine br_f (by decide) ?_ | refine br_t (by decide) ?_)); exact br_t h0 hp)) (fun post hp => ?_)
    refine br_f h12 ?_
    (repeat (first | refine br_f (by decide) ?_ | refine br_t (by decide) ?_))
    exact br_t h0 (br_t rfl hp)
  · by_cases h2 : 2 < x
    · refine gd_dbad h (r := -1) (gd_Xbad hN (by decide) (by decide) (fun post hp => by (repeat (first | refine br_f (by decide) ?_ | refine br_t (by decide) ?_)); exact br_f h0 (br_t h2 hp))) (fun post hp => ?_)
      refine br_f h12 ?_
      (repeat (first | refine br_f (by decide) ?_ | refine br_t (by decide) ?_))
      exact br_f h0 (br_t h2 (br_t rfl hp))
    · obtain ⟨q, hq, ex⟩ := nI_of2 (M := 2) (n := 2) (by decide) h0 (Int32.not_lt.mp h2)
      have hnd : ∀ z, gn_nd vc N (nI 0) x z 1 := fun z => Or.inl ⟨by decide, rfl, q, by omega, ex⟩
      refine gd_dok h hN (d := 1) (gd_Xok hN (by omega) (Or.inr rfl) (fun post hp => by (repeat (first | refine br_f (by decide) ?_ | refine br_t (by decide) ?_)); exact br_f h0 (br_f h2 hp)) hw (fun kd px py post hp => by (repeat (first | refine br_f (by decide) ?_ | refine br_t (by decide) ?_)); exact hp)) (fun post hp => ?_) (hnd _) (hnd _) (fun z => absurd z (by decide))
      refine br_f h12 ?_
      (repeat (first | refine br_f (by decide) ?_ | refine br_t (by decide) ?_))
      refine br_f h0 (br_f h2 ?_)
      (repeat (first | refine br_f (by decide) ?_ | refine br_t (by decide) ?_))
      refine gd_Yst hN post ?_
      (repeat (first | refine br_f (by decide) ?_ | refine br_t (by decide) ?_))
      exact gd_Y247 hN (Or.inr rfl) post hp
theorem gd_k1 (h : gr_ok N kd px py yy vc) (hN : N < 12) (x y : Int32) : wpX_node (fun r u' => wpY_node (fun r' v' => r' = r ∧ i_Rel (k + 5) u' v') (nI N, kd, px, yy, vc, ip, dr, y1, y2, yp, yf, ys, yb, yz) (nI 1) x y) (nI N, lv, le, fc, kd, px, py, vc, ip, dr, op, fi, se, nu, wi, na, re, sl, fs, so, la) (nI 1) x y := by
  have h12 : ¬ nI N = 12 := fun z => by have := (nI_eq (a := N) (b := 12) (by omega) (by decide)).mp z; omega
  have hN12 := h.1.1
  have hw : ∀ post : Int32 → Prop, post 0 → wpX_isWrong post (nI N, lv, le, fc, kd, px, py, vc, ip, dr, op, fi, se, nu, wi, na, re, sl, fs, so, la) (nI 1) x := fun post hp => by (repeat (first | refine br_f (by decide) ?_ | refine br_t (by decide) ?_)); exact hp
  have hnd : ∀ z, gn_nd vc N (nI 1) x z 0 := fun z => Or.inr (Or.inl ⟨by decide, rfl⟩)
  refine gd_dok h hN (d := 0) (gd_Xok hN (by omega) (Or.inl rfl) (fun post hp => by (repeat (first | refine br_f (by decide) ?_ | refine br_t (by decide) ?_)); exact hp) hw (fun kd px py post hp => by (repeat (first | refine br_f (by decide) ?_ | refine br_t (by decide) ?_)); exact hp)) (fun post hp => ?_) (hnd _) (hnd _) (fun z => absurd z (by decide))
  refine br_f h12 ?_
  (repeat (first | refine br_f (by decide) ?_ | refine br_t (by decide) ?_))
  refine gd_Yst hN post ?_
  (repeat (first | refine br_f (by decide) ?_ | refine br_t (by decide) ?_))
  exact gd_Y247 hN (Or.inl rfl) post hp
theorem gd_k2 (h : gr_ok N kd px py yy vc) (hN : N < 12) (x y : Int32) : wpX_node (fun r u' => wpY_node (fun r' v' => r' = r ∧ i_Rel (k + 5) u' v') (nI N, kd, px, yy, vc, ip, dr, y1, y2, yp, yf, ys, yb, yz) (nI 2) x y) (nI N, lv, le, fc, kd, px, py, vc, ip, dr, op, fi, se, nu, wi, na, re, sl, fs, so, la) (nI 2) x y := by
  have h12 : ¬ nI N = 12 := fun z => by have := (nI_eq (a := N) (b := 12) (by omega) (by decide)).mp z; omega
  have hN12 := h.1.1
  have hw : ∀ post : Int32 → Prop, post 0 → wpX_isWrong post (nI N, lv, le, fc, kd, px, py, vc, ip, dr, op, fi, se, nu, wi, na, re, sl, fs, so, la) (nI 2) x := fun post hp => by (repeat (first | refine br_f (by decide) ?_ | refine br_t (by decide) ?_)); exact hp
  rcases gr_node (N := N) (lv := lv) (le := le) (fc := fc) (kd := kd) (px := px) (py := py) (vc := vc) (ip := ip) (dr := dr) (op := op) (fi := fi) (se := se) (nu := nu) (wi := wi) (na := na) (re := re) (sl := sl) (fs := fs) (so := so) (la := la) (yk := kd) (yx := px) (yy := yy) (yv := vc) (yi := ip) (yd := dr) (y1 := y1) (y2 := y2) (yp := yp) (yf := yf) (ys := ys) (yb := yb) (yz := yz) hN12 x with ⟨p, hp, ep, xX, xY⟩ | ⟨xX, xY⟩
  · have hix : vp_in x 12 := by rw [ep]; exact vp_in_nI (by omega) (by omega)
    have ecx : x.toNatClampNeg = p := by rw [ep]; exact nI_clamp (by omega)
    rcases gr_node (N := N) (lv := lv) (le := le) (fc := fc) (kd := kd) (px := px) (py := py) (vc := vc) (ip := ip) (dr := dr) (op := op) (fi := fi) (se := se) (nu := nu) (wi := wi) (na := na) (re := re) (sl := sl) (fs := fs) (so := so) (la := la) (yk := kd) (yx := px) (yy := yy) (yv := vc) (yi := ip) (yd := dr) (y1 := y1) (y2 := y2) (yp := yp) (yf := yf) (ys := ys) (yb := yb) (yz := yz) hN12 y with ⟨q, hq, eq, yX, yY⟩ | ⟨yX, yY⟩
    · have hiy : vp_in y 12 := by rw [eq]; exact vp_in_nI (by omega) (by omega)
      have ecy : y.toNatClampNeg = q := by rw [eq]; exact nI_clamp (by omega)
      have hf : ∀ post : Int32 → Prop, post 1 → wpX_operandsFit post (nI N, lv, le, fc, kd, px, py, vc, ip, dr, op, fi, se, nu, wi, na, re, sl, fs, so, la) (nI 2) x y := fun post hp => by (repeat (first | refine br_f (by decide) ?_ | refine br_t (by decide) ?_)); refine xX _ ?_; (repeat (first | refine br_f (by decide) ?_ | refine br_t (by decide) ?_)); exact yX _ (And.intro rfl hp)
      have hnd : ∀ d, gl_wm (vc p) (vc q) d → gn_nd vc N (nI 2) x y d := fun d hm => Or.inr (Or.inr (Or.inl ⟨by decide, p, q, hp, hq, ep, eq, hm⟩))
      have hyb : y.toInt8.toInt32 = y := by rw [eq]; exact gd_b (by omega)
      have hwp : vc p = 0 ∨ vc p = 1 := gl_wd (gn_WF h.1) (show p < N from hp)
      have hwq : vc q = 0 ∨ vc q = 1 := gl_wd (gn_WF h.1) (show q < N from hq)
      rcases hwp with p0 | p1
      · rcases hwq with q0 | q1
        · refine gd_dok h hN (d := 0) (gd_Xok hN (by omega) (Or.inl rfl) hf hw (fun kd px py post hpp => by (repeat (first | refine br_f (by decide) ?_ | refine br_t (by decide) ?_)); refine And.intro hix (br_t (by rw [ecx]; exact p0) ?_); (repeat (first | refine br_f (by decide) ?_ | refine br_t (by decide) ?_)); exact And.intro hiy (br_t (by rw [ecy]; exact q0) hpp))) (fun post hpp => ?_) (by rw [hyb]; exact hnd _ (Or.inl ⟨p0, q0, rfl⟩)) (hnd _ (Or.inl ⟨p0, q0, rfl⟩)) (fun _ => hyb)
          refine br_f h12 ?_
          (repeat (first | refine br_f (by decide) ?_ | refine br_t (by decide) ?_))
          refine xY _ ?_
          (repeat (first | refine br_f (by decide) ?_ | refine br_t (by decide) ?_))
          refine yY _ ?_
          (repeat (first | refine br_f (by decide) ?_ | refine br_t (by decide) ?_))
          refine gd_Yst hN post ?_
          (repeat (first | refine br_f (by decide) ?_ | refine br_t (by decide) ?_))
          refine And.intro hix (br_t (by rw [ecx]; exact p0) (And.intro hiy (br_t (by rw [ecy]; exact q0) ?_)))
          exact gd_Y247 hN (Or.inl rfl) post hpp
        · refine gd_dok h hN (d := 1) (gd_Xok hN (by omega) (Or.inr rfl) hf hw (fun kd px py post hpp => by (repeat (first | refine br_f (by decide) ?_ | refine br_t (by decide) ?_)); refine And.intro hix (br_t (by rw [ecx]; exact p0) ?_); (repeat (first | refine br_f (by decide) ?_ | refine br_t (by decide) ?_)); exact And.intro hiy (br_f (by rw [ecy, q1]; decide) hpp))) (fun post hpp => ?_) (by rw [hyb]; exact hnd _ (Or.inr (Or.inr (Or.inl ⟨p0, q1, rfl⟩)))) (hnd _ (Or.inr (Or.inr (Or.inl ⟨p0, q1, rfl⟩)))) (fun _ => hyb)
          refine br_f h12 ?_
          (repeat (first | refine br_f (by decide) ?_ | refine br_t (by decide) ?_))
          refine xY _ ?_
          (repeat (first | refine br_f (by decide) ?_ | refine br_t (by decide) ?_))
          refine yY _ ?_
          (repeat (first | refine br_f (by decide) ?_ | refine br_t (by decide) ?_))
          refine gd_Yst hN post ?_
          (repeat (first | refine br_f (by decide) ?_ | refine br_t (by decide) ?_))
          refine And.intro hix (br_t (by rw [ecx]; exact p0) (And.intro hiy (br_f (by rw [ecy, q1]; decide) ?_)))
          exact gd_Y247 hN (Or.inr rfl) post hpp
      · rcases hwq with q0 | q1
        · refine gd_dok h hN (d := 1) (gd_Xok hN (by omega) (Or.inr rfl) hf hw (fun kd px py post hpp => by (repeat (first | refine br_f (by decide) ?_ | refine br_t (by decide) ?_)); exact And.intro hix (br_f (by rw [ecx, p1]; decide) hpp))) (fun post hpp => ?_) (by rw [hyb]; exact hnd _ (Or.inr (Or.inl ⟨p1, q0, rfl⟩))) (hnd _ (Or.inr (Or.inl ⟨p1, q0, rfl⟩))) (fun _ => hyb)
          refine br_f h12 ?_
          (repeat (first | refine br_f (by decide) ?_ | refine br_t (by decide) ?_))
          refine xY _ ?_
          (repeat (first | refine br_f (by decide) ?_ | refine br_t (by decide) ?_))
          refine yY _ ?_
          (repeat (first | refine br_f (by decide) ?_ | refine br_t (by decide) ?_))
          refine gd_Yst hN post ?_
          (repeat (first | refine br_f (by decide) ?_ | refine br_t (by decide) ?_))
          refine And.intro hix (br_f (by rw [ecx, p1]; decide) ?_)
          exact gd_Y247 hN (Or.inr rfl) post hpp
        · refine gd_dok h hN (d := 1) (gd_Xok hN (by omega) (Or.inr rfl) hf hw (fun kd px py post hpp => by (repeat (first | refine br_f (by decide) ?_ | refine br_t (by decide) ?_)); exact And.intro hix (br_f (by rw [ecx, p1]; decide) hpp))) (fun post hpp => ?_) (by rw [hyb]; exact hnd _ (Or.inr (Or.inr (Or.inr ⟨p1, q1, rfl⟩)))) (hnd _ (Or.inr (Or.inr (Or.inr ⟨p1, q1, rfl⟩)))) (fun _ => hyb)
          refine br_f h12 ?_
          (repeat (first | refine br_f (by decide) ?_ | refine br_t (by decide) ?_))
          refine xY _ ?_
          (repeat (first | refine br_f (by decide) ?_ | refine br_t (by decide) ?_))
          refine yY _ ?_
          (repeat (first | refine br_f (by decide) ?_ | refine br_t (by decide) ?_))
          refine gd_Yst hN post ?_
          (repeat (first | refine br_f (by decide) ?_ | refine br_t (by decide) ?_))
          refine And.intro hix (br_f (by rw [ecx, p1]; decide) ?_)
          exact gd_Y247 hN (Or.inr rfl) post hpp
    · refine gd_dbad h (r := -1) (gd_Xbad hN (by decide) (by decide) (fun post hp => by (repeat (first | refine br_f (by decide) ?_ | refine br_t (by decide) ?_)); refine xX _ ?_; (repeat (first | refine br_f (by decide) ?_ | refine br_t (by decide) ?_)); exact yX _ (And.intro rfl hp))) (fun post hp => ?_)
      refine br_f h12 ?_
      (repeat (first | refine br_f (by decide) ?_ | refine br_t (by decide) ?_))
      refine xY _ ?_
      (repeat (first | refine br_f (by decide) ?_ | refine br_t (by decide) ?_))
      refine yY _ ?_
      (repeat (first | refine br_f (by decide) ?_ | refine br_t (by decide) ?_))
      exact hp
  · refine gd_dbad h (r := -1) (gd_Xbad hN (by decide) (by decide) (fun post hp => by (repeat (first | refine br_f (by decide) ?_ | refine br_t (by decide) ?_)); refine xX _ ?_; (repeat (first | refine br_f (by decide) ?_ | refine br_t (by decide) ?_)); exact hp)) (fun post hp => ?_)
    refine br_f h12 ?_
    (repeat (first | refine br_f (by decide) ?_ | refine br_t (by decide) ?_))
    refine xY _ ?_
    (repeat (first | refine br_f (by decide) ?_ | refine br_t (by decide) ?_))
    exact hp
theorem gd_k3 (h : gr_ok N kd px py yy vc) (hN : N < 12) (x y : Int32) : wpX_node (fun r u' => wpY_node (fun r' v' => r' = r ∧ i_Rel (k + 5) u' v') (nI N, kd, px, yy, vc, ip, dr, y1, y2, yp, yf, ys, yb, yz) (nI 3) x y) (nI N, lv, le, fc, kd, px, py, vc, ip, dr, op, fi, se, nu, wi, na, re, sl, fs, so, la) (nI 3) x y := by
  have h12 : ¬ nI N = 12 := fun z => by have := (nI_eq (a := N) (b := 12) (by omega) (by decide)).mp z; omega
  have hN12 := h.1.1
  have hw : ∀ post : Int32 → Prop, post 0 → wpX_isWrong post (nI N, lv, le, fc, kd, px, py, vc, ip, dr, op, fi, se, nu, wi, na, re, sl, fs, so, la) (nI 3) x := fun post hp => by (repeat (first | refine br_f (by decide) ?_ | refine br_t (by decide) ?_)); exact hp
  rcases gr_node (N := N) (lv := lv) (le := le) (fc := fc) (kd := kd) (px := px) (py := py) (vc := vc) (ip := ip) (dr := dr) (op := op) (fi := fi) (se := se) (nu := nu) (wi := wi) (na := na) (re := re) (sl := sl) (fs := fs) (so := so) (la := la) (yk := kd) (yx := px) (yy := yy) (yv := vc) (yi := ip) (yd := dr) (y1 := y1) (y2 := y2) (yp := yp) (yf := yf) (ys := ys) (yb := yb) (yz := yz) hN12 x with ⟨p, hp, ep, xX, xY⟩ | ⟨xX, xY⟩
  · have hix : vp_in x 12 := by rw [ep]; exact vp_in_nI (by omega) (by omega)
    have ecx : x.toNatClampNeg = p := by rw [ep]; exact nI_clamp (by omega)
    rcases gr_node (N := N) (lv := lv) (le := le) (fc := fc) (kd := kd) (px := px) (py := py) (vc := vc) (ip := ip) (dr := dr) (op := op) (fi := fi) (se := se) (nu := nu) (wi := wi) (na := na) (re := re) (sl := sl) (fs := fs) (so := so) (la := la) (yk := kd) (yx := px) (yy := yy) (yv := vc) (yi := ip) (yd := dr) (y1 := y1) (y2 := y2) (yp := yp) (yf := yf) (ys := ys) (yb := yb) (yz := yz) hN12 y with ⟨q, hq, eq, yX, yY⟩ | ⟨yX, yY⟩
    · have hiy : vp_in y 12 := by rw [eq]; exact vp_in_nI (by omega) (by omega)
      have ecy : y.toNatClampNeg = q := by rw [eq]; exact nI_clamp (by omega)
      have hf : ∀ post : Int32 → Prop, post 1 → wpX_operandsFit post (nI N, lv, le, fc, kd, px, py, vc, ip, dr, op, fi, se, nu, wi, na, re, sl, fs, so, la) (nI 3) x y := fun post hp => by (repeat (first | refine br_f (by decide) ?_ | refine br_t (by decide) ?_)); refine xX _ ?_; (repeat (first | refine br_f (by decide) ?_ | refine br_t (by decide) ?_)); exact yX _ (And.intro rfl hp)
      have hnd : ∀ d, gl_wm (vc p) (vc q) d → gn_nd vc N (nI 3) x y d := fun d hm => Or.inr (Or.inr (Or.inl ⟨by decide, p, q, hp, hq, ep, eq, hm⟩))
      have hyb : y.toInt8.toInt32 = y := by rw [eq]; exact gd_b (by omega)
      have hwp : vc p = 0 ∨ vc p = 1 := gl_wd (gn_WF h.1) (show p < N from hp)
      have hwq : vc q = 0 ∨ vc q = 1 := gl_wd (gn_WF h.1) (show q < N from hq)
      rcases hwp with p0 | p1
      · rcases hwq with q0 | q1
        · refine gd_dok h hN (d := 0) (gd_Xok hN (by omega) (Or.inl rfl) hf hw (fun kd px py post hpp => by (repeat (first | refine br_f (by decide) ?_ | refine br_t (by decide) ?_)); refine And.intro hix (br_t (by rw [ecx]; exact p0) ?_); (repeat (first | refine br_f (by decide) ?_ | refine br_t (by decide) ?_)); exact And.intro hiy (br_t (by rw [ecy]; exact q0) hpp))) (fun post hpp => ?_) (by rw [hyb]; exact hnd _ (Or.inl ⟨p0, q0, rfl⟩)) (hnd _ (Or.inl ⟨p0, q0, rfl⟩)) (fun _ => hyb)
          refine br_f h12 ?_
          (repeat (first | refine br_f (by decide) ?_ | refine br_t (by decide) ?_))
          refine xY _ ?_
          (repeat (first | refine br_f (by decide) ?_ | refine br_t (by decide) ?_))
          refine yY _ ?_
          (repeat (first | refine br_f (by decide) ?_ | refine br_t (by decide) ?_))
          refine gd_Yst hN post ?_
          (repeat (first | refine br_f (by decide) ?_ | refine br_t (by decide) ?_))
          refine And.intro hix (br_t (by rw [ecx]; exact p0) (And.intro hiy (br_t (by rw [ecy]; exact q0) ?_)))
          exact gd_Y247 hN (Or.inl rfl) post hpp
        · refine gd_dok h hN (d := 1) (gd_Xok hN (by omega) (Or.inr rfl) hf hw (fun kd px py post hpp => by (repeat (first | refine br_f (by decide) ?_ | refine br_t (by decide) ?_)); refine And.intro hix (br_t (by rw [ecx]; exact p0) ?_); (repeat (first | refine br_f (by decide) ?_ | refine br_t (by decide) ?_)); exact And.intro hiy (br_f (by rw [ecy, q1]; decide) hpp))) (fun post hpp => ?_) (by rw [hyb]; exact hnd _ (Or.inr (Or.inr (Or.inl ⟨p0, q1, rfl⟩)))) (hnd _ (Or.inr (Or.inr (Or.inl ⟨p0, q1, rfl⟩)))) (fun _ => hyb)
          refine br_f h12 ?_
          (repeat (first | refine br_f (by decide) ?_ | refine br_t (by decide) ?_))
          refine xY _ ?_
          (repeat (first | refine br_f (by decide) ?_ | refine br_t (by decide) ?_))
          refine yY _ ?_
          (repeat (first | refine br_f (by decide) ?_ | refine br_t (by decide) ?_))
          refine gd_Yst hN post ?_
          (repeat (first | refine br_f (by decide) ?_ | refine br_t (by decide) ?_))
          refine And.intro hix (br_t (by rw [ecx]; exact p0) (And.intro hiy (br_f (by rw [ecy, q1]; decide) ?_)))
          exact gd_Y247 hN (Or.inr rfl) post hpp
      · rcases hwq with q0 | q1
        · refine gd_dok h hN (d := 1) (gd_Xok hN (by omega) (Or.inr rfl) hf hw (fun kd px py post hpp => by (repeat (first | refine br_f (by decide) ?_ | refine br_t (by decide) ?_)); exact And.intro hix (br_f (by rw [ecx, p1]; decide) hpp))) (fun post hpp => ?_) (by rw [hyb]; exact hnd _ (Or.inr (Or.inl ⟨p1, q0, rfl⟩))) (hnd _ (Or.inr (Or.inl ⟨p1, q0, rfl⟩))) (fun _ => hyb)
          refine br_f h12 ?_
          (repeat (first | refine br_f (by decide) ?_ | refine br_t (by decide) ?_))
          refine xY _ ?_
          (repeat (first | refine br_f (by decide) ?_ | refine br_t (by decide) ?_))
          refine yY _ ?_
          (repeat (first | refine br_f (by decide) ?_ | refine br_t (by decide) ?_))
          refine gd_Yst hN post ?_
          (repeat (first | refine br_f (by decide) ?_ | refine br_t (by decide) ?_))
          refine And.intro hix (br_f (by rw [ecx, p1]; decide) ?_)
          exact gd_Y247 hN (Or.inr rfl) post hpp
        · refine gd_dok h hN (d := 1) (gd_Xok hN (by omega) (Or.inr rfl) hf hw (fun kd px py post hpp => by (repeat (first | refine br_f (by decide) ?_ | refine br_t (by decide) ?_)); exact And.intro hix (br_f (by rw [ecx, p1]; decide) hpp))) (fun post hpp => ?_) (by rw [hyb]; exact hnd _ (Or.inr (Or.inr (Or.inr ⟨p1, q1, rfl⟩)))) (hnd _ (Or.inr (Or.inr (Or.inr ⟨p1, q1, rfl⟩)))) (fun _ => hyb)
          refine br_f h12 ?_
          (repeat (first | refine br_f (by decide) ?_ | refine br_t (by decide) ?_))
          refine xY _ ?_
          (repeat (first | refine br_f (by decide) ?_ | refine br_t (by decide) ?_))
          refine yY _ ?_
          (repeat (first | refine br_f (by decide) ?_ | refine br_t (by decide) ?_))
          refine gd_Yst hN post ?_
          (repeat (first | refine br_f (by decide) ?_ | refine br_t (by decide) ?_))
          refine And.intro hix (br_f (by rw [ecx, p1]; decide) ?_)
          exact gd_Y247 hN (Or.inr rfl) post hpp
    · refine gd_dbad h (r := -1) (gd_Xbad hN (by decide) (by decide) (fun post hp => by (repeat (first | refine br_f (by decide) ?_ | refine br_t (by decide) ?_)); refine xX _ ?_; (repeat (first | refine br_f (by decide) ?_ | refine br_t (by decide) ?_)); exact yX _ (And.intro rfl hp))) (fun post hp => ?_)
      refine br_f h12 ?_
      (repeat (first | refine br_f (by decide) ?_ | refine br_t (by decide) ?_))
      refine xY _ ?_
      (repeat (first | refine br_f (by decide) ?_ | refine br_t (by decide) ?_))
      refine yY _ ?_
      (repeat (first | refine br_f (by decide) ?_ | refine br_t (by decide) ?_))
      exact hp
  · refine gd_dbad h (r := -1) (gd_Xbad hN (by decide) (by decide) (fun post hp => by (repeat (first | refine br_f (by decide) ?_ | refine br_t (by decide) ?_)); refine xX _ ?_; (repeat (first | refine br_f (by decide) ?_ | refine br_t (by decide) ?_)); exact hp)) (fun post hp => ?_)
    refine br_f h12 ?_
    (repeat (first | refine br_f (by decide) ?_ | refine br_t (by decide) ?_))
    refine xY _ ?_
    (repeat (first | refine br_f (by decide) ?_ | refine br_t (by decide) ?_))
    exact hp
theorem gd_k4 (h : gr_ok N kd px py yy vc) (hN : N < 12) (x y : Int32) : wpX_node (fun r u' => wpY_node (fun r' v' => r' = r ∧ i_Rel (k + 5) u' v') (nI N, kd, px, yy, vc, ip, dr, y1, y2, yp, yf, ys, yb, yz) (nI 4) x y) (nI N, lv, le, fc, kd, px, py, vc, ip, dr, op, fi, se, nu, wi, na, re, sl, fs, so, la) (nI 4) x y := by
  have h12 : ¬ nI N = 12 := fun z => by have := (nI_eq (a := N) (b := 12) (by omega) (by decide)).mp z; omega
  have hN12 := h.1.1
  have hw : ∀ post : Int32 → Prop, post 0 → wpX_isWrong post (nI N, lv, le, fc, kd, px, py, vc, ip, dr, op, fi, se, nu, wi, na, re, sl, fs, so, la) (nI 4) x := fun post hp => by (repeat (first | refine br_f (by decide) ?_ | refine br_t (by decide) ?_)); exact hp
  rcases gr_node (N := N) (lv := lv) (le := le) (fc := fc) (kd := kd) (px := px) (py := py) (vc := vc) (ip := ip) (dr := dr) (op := op) (fi := fi) (se := se) (nu := nu) (wi := wi) (na := na) (re := re) (sl := sl) (fs := fs) (so := so) (la := la) (yk := kd) (yx := px) (yy := yy) (yv := vc) (yi := ip) (yd := dr) (y1 := y1) (y2 := y2) (yp := yp) (yf := yf) (ys := ys) (yb := yb) (yz := yz) hN12 x with ⟨p, hp, ep, xX, xY⟩ | ⟨xX, xY⟩
  · have hix : vp_in x 12 := by rw [ep]; exact vp_in_nI (by omega) (by omega)
    have ecx : x.toNatClampNeg = p := by rw [ep]; exact nI_clamp (by omega)
    rcases gr_node (N := N) (lv := lv) (le := le) (fc := fc) (kd := kd) (px := px) (py := py) (vc := vc) (ip := ip) (dr := dr) (op := op) (fi := fi) (se := se) (nu := nu) (wi := wi) (na := na) (re := re) (sl := sl) (fs := fs) (so := so) (la := la) (yk := kd) (yx := px) (yy := yy) (yv := vc) (yi := ip) (yd := dr) (y1 := y1) (y2 := y2) (yp := yp) (yf := yf) (ys := ys) (yb := yb) (yz := yz) hN12 y with ⟨q, hq, eq, yX, yY⟩ | ⟨yX, yY⟩
    · have hiy : vp_in y 12 := by rw [eq]; exact vp_in_nI (by omega) (by omega)
      have ecy : y.toNatClampNeg = q := by rw [eq]; exact nI_clamp (by omega)
      have hf : ∀ post : Int32 → Prop, post 1 → wpX_operandsFit post (nI N, lv, le, fc, kd, px, py, vc, ip, dr, op, fi, se, nu, wi, na, re, sl, fs, so, la) (nI 4) x y := fun post hp => by (repeat (first | refine br_f (by decide) ?_ | refine br_t (by decide) ?_)); refine xX _ ?_; (repeat (first | refine br_f (by decide) ?_ | refine br_t (by decide) ?_)); exact yX _ (And.intro rfl hp)
      have hnd : ∀ d, gl_wm (vc p) (vc q) d → gn_nd vc N (nI 4) x y d := fun d hm => Or.inr (Or.inr (Or.inl ⟨by decide, p, q, hp, hq, ep, eq, hm⟩))
      have hyb : y.toInt8.toInt32 = y := by rw [eq]; exact gd_b (by omega)
      have hwp : vc p = 0 ∨ vc p = 1 := gl_wd (gn_WF h.1) (show p < N from hp)
      have hwq : vc q = 0 ∨ vc q = 1 := gl_wd (gn_WF h.1) (show q < N from hq)
      rcases hwp with p0 | p1
      · rcases hwq with q0 | q1
        · refine gd_dok h hN (d := 0) (gd_Xok hN (by omega) (Or.inl rfl) hf hw (fun kd px py post hpp => by (repeat (first | refine br_f (by decide) ?_ | refine br_t (by decide) ?_)); refine And.intro hix (br_t (by rw [ecx]; exact p0) ?_); (repeat (first | refine br_f (by decide) ?_ | refine br_t (by decide) ?_)); exact And.intro hiy (br_t (by rw [ecy]; exact q0) hpp))) (fun post hpp => ?_) (by rw [hyb]; exact hnd _ (Or.inl ⟨p0, q0, rfl⟩)) (hnd _ (Or.inl ⟨p0, q0, rfl⟩)) (fun _ => hyb)
          refine br_f h12 ?_
          (repeat (first | refine br_f (by decide) ?_ | refine br_t (by decide) ?_))
          refine xY _ ?_
          (repeat (first | refine br_f (by decide) ?_ | refine br_t (by decide) ?_))
          refine yY _ ?_
          (repeat (first | refine br_f (by decide) ?_ | refine br_t (by decide) ?_))
          refine gd_Yst hN post ?_
          (repeat (first | refine br_f (by decide) ?_ | refine br_t (by decide) ?_))
          refine And.intro hix (br_t (by rw [ecx]; exact p0) (And.intro hiy (br_t (by rw [ecy]; exact q0) ?_)))
          exact gd_Y247 hN (Or.inl rfl) post hpp
        · refine gd_dok h hN (d := 1) (gd_Xok hN (by omega) (Or.inr rfl) hf hw (fun kd px py post hpp => by (repeat (first | refine br_f (by decide) ?_ | refine br_t (by decide) ?_)); refine And.intro hix (br_t (by rw [ecx]; exact p0) ?_); (repeat (first | refine br_f (by decide) ?_ | refine br_t (by decide) ?_)); exact And.intro hiy (br_f (by rw [ecy, q1]; decide) hpp))) (fun post hpp => ?_) (by rw [hyb]; exact hnd _ (Or.inr (Or.inr (Or.inl ⟨p0, q1, rfl⟩)))) (hnd _ (Or.inr (Or.inr (Or.inl ⟨p0, q1, rfl⟩)))) (fun _ => hyb)
          refine br_f h12 ?_
          (repeat (first | refine br_f (by decide) ?_ | refine br_t (by decide) ?_))
          refine xY _ ?_
          (repeat (first | refine br_f (by decide) ?_ | refine br_t (by decide) ?_))
          refine yY _ ?_
          (repeat (first | refine br_f (by decide) ?_ | refine br_t (by decide) ?_))
          refine gd_Yst hN post ?_
          (repeat (first | refine br_f (by decide) ?_ | refine br_t (by decide) ?_))
          refine And.intro hix (br_t (by rw [ecx]; exact p0) (And.intro hiy (br_f (by rw [ecy, q1]; decide) ?_)))
          exact gd_Y247 hN (Or.inr rfl) post hpp
      · rcases hwq with q0 | q1
        · refine gd_dok h hN (d := 1) (gd_Xok hN (by omega) (Or.inr rfl) hf hw (fun kd px py post hpp => by (repeat (first | refine br_f (by decide) ?_ | refine br_t (by decide) ?_)); exact And.intro hix (br_f (by rw [ecx, p1]; decide) hpp))) (fun post hpp => ?_) (by rw [hyb]; exact hnd _ (Or.inr (Or.inl ⟨p1, q0, rfl⟩))) (hnd _ (Or.inr (Or.inl ⟨p1, q0, rfl⟩))) (fun _ => hyb)
          refine br_f h12 ?_
          (repeat (first | refine br_f (by decide) ?_ | refine br_t (by decide) ?_))
          refine xY _ ?_
          (repeat (first | refine br_f (by decide) ?_ | refine br_t (by decide) ?_))
          refine yY _ ?_
          (repeat (first | refine br_f (by decide) ?_ | refine br_t (by decide) ?_))
          refine gd_Yst hN post ?_
          (repeat (first | refine br_f (by decide) ?_ | refine br_t (by decide) ?_))
          refine And.intro hix (br_f (by rw [ecx, p1]; decide) ?_)
          exact gd_Y247 hN (Or.inr rfl) post hpp
        · refine gd_dok h hN (d := 1) (gd_Xok hN (by omega) (Or.inr rfl) hf hw (fun kd px py post hpp => by (repeat (first | refine br_f (by decide) ?_ | refine br_t (by decide) ?_)); exact And.intro hix (br_f (by rw [ecx, p1]; decide) hpp))) (fun post hpp => ?_) (by rw [hyb]; exact hnd _ (Or.inr (Or.inr (Or.inr ⟨p1, q1, rfl⟩)))) (hnd _ (Or.inr (Or.inr (Or.inr ⟨p1, q1, rfl⟩)))) (fun _ => hyb)
          refine br_f h12 ?_
          (repeat (first | refine br_f (by decide) ?_ | refine br_t (by decide) ?_))
          refine xY _ ?_
          (repeat (first | refine br_f (by decide) ?_ | refine br_t (by decide) ?_))
          refine yY _ ?_
          (repeat (first | refine br_f (by decide) ?_ | refine br_t (by decide) ?_))
          refine gd_Yst hN post ?_
          (repeat (first | refine br_f (by decide) ?_ | refine br_t (by decide) ?_))
          refine And.intro hix (br_f (by rw [ecx, p1]; decide) ?_)
          exact gd_Y247 hN (Or.inr rfl) post hpp
    · refine gd_dbad h (r := -1) (gd_Xbad hN (by decide) (by decide) (fun post hp => by (repeat (first | refine br_f (by decide) ?_ | refine br_t (by decide) ?_)); refine xX _ ?_; (repeat (first | refine br_f (by decide) ?_ | refine br_t (by decide) ?_)); exact yX _ (And.intro rfl hp))) (fun post hp => ?_)
      refine br_f h12 ?_
      (repeat (first | refine br_f (by decide) ?_ | refine br_t (by decide) ?_))
      refine xY _ ?_
      (repeat (first | refine br_f (by decide) ?_ | refine br_t (by decide) ?_))
      refine yY _ ?_
      (repeat (first | refine br_f (by decide) ?_ | refine br_t (by decide) ?_))
      exact hp
  · refine gd_dbad h (r := -1) (gd_Xbad hN (by decide) (by decide) (fun post hp => by (repeat (first | refine br_f (by decide) ?_ | refine br_t (by decide) ?_)); refine xX _ ?_; (repeat (first | refine br_f (by decide) ?_ | refine br_t (by decide) ?_)); exact hp)) (fun post hp => ?_)
    refine br_f h12 ?_
    (repeat (first | refine br_f (by decide) ?_ | refine br_t (by decide) ?_))
    refine xY _ ?_
    (repeat (first | refine br_f (by decide) ?_ | refine br_t (by decide) ?_))
    exact hp
theorem gd_k5 (h : gr_ok N kd px py yy vc) (hN : N < 12) (x y : Int32) : wpX_node (fun r u' => wpY_node (fun r' v' => r' = r ∧ i_Rel (k + 5) u' v') (nI N, kd, px, yy, vc, ip, dr, y1, y2, yp, yf, ys, yb, yz) (nI 5) x y) (nI N, lv, le, fc, kd, px, py, vc, ip, dr, op, fi, se, nu, wi, na, re, sl, fs, so, la) (nI 5) x y := by
  have h12 : ¬ nI N = 12 := fun z => by have := (nI_eq (a := N) (b := 12) (by omega) (by decide)).mp z; omega
  have hN12 := h.1.1
  rcases gr_node (N := N) (lv := lv) (le := le) (fc := fc) (kd := kd) (px := px) (py := py) (vc := vc) (ip := ip) (dr := dr) (op := op) (fi := fi) (se := se) (nu := nu) (wi := wi) (na := na) (re := re) (sl := sl) (fs := fs) (so := so) (la := la) (yk := kd) (yx := px) (yy := yy) (yv := vc) (yi := ip) (yd := dr) (y1 := y1) (y2 := y2) (yp := yp) (yf := yf) (ys := ys) (yb := yb) (yz := yz) hN12 x with ⟨p, hp, ep, xX, xY⟩ | ⟨xX, xY⟩
  · have hix : vp_in x 12 := by rw [ep]; exact vp_in_nI (by omega) (by omega)
    have ecx : x.toNatClampNeg = p := by rw [ep]; exact nI_clamp (by omega)
    have hwp : vc p = 0 ∨ vc p = 1 := gl_wd (gn_WF h.1) (show p < N from hp)
    have hf : ∀ post : Int32 → Prop, post 1 → wpX_operandsFit post (nI N, lv, le, fc, kd, px, py, vc, ip, dr, op, fi, se, nu, wi, na, re, sl, fs, so, la) (nI 5) x y := fun post hp => by (repeat (first | refine br_f (by decide) ?_ | refine br_t (by decide) ?_)); refine xX _ ?_; (repeat (first | refine br_f (by decide) ?_ | refine br_t (by decide) ?_)); exact hp
    rcases hwp with p0 | p1
    · refine gd_dbad h (r := -3) (gd_Xwrong hN (by decide) (by decide) hf (fun post hp => by (repeat (first | refine br_f (by decide) ?_ | refine br_t (by decide) ?_)); exact And.intro hix (br_t (by rw [ecx]; exact p0) hp))) (fun post hp => ?_)
      refine br_f h12 ?_
      (repeat (first | refine br_f (by decide) ?_ | refine br_t (by decide) ?_))
      refine xY _ ?_
      (repeat (first | refine br_f (by decide) ?_ | refine br_t (by decide) ?_))
      exact And.intro hix (br_t (by rw [ecx]; exact p0) hp)
    · have hnd : ∀ z : Int32, gn_nd vc N (nI 5) x z 0 := fun z => Or.inr (Or.inr (Or.inr (Or.inr ⟨p, hp, ep, Or.inl ⟨by decide, p1, rfl⟩⟩)))
      refine gd_dok h hN (d := 0) (gd_Xok hN (by omega) (Or.inl rfl) hf (fun post hp => by (repeat (first | refine br_f (by decide) ?_ | refine br_t (by decide) ?_)); exact And.intro hix (br_f (by rw [ecx, p1]; decide) hp)) (fun kd px py post hpp => by (repeat (first | refine br_f (by decide) ?_ | refine br_t (by decide) ?_)); exact hpp)) (fun post hpp => ?_) (hnd _) (hnd _) (fun z => absurd z (by decide))
      refine br_f h12 ?_
      (repeat (first | refine br_f (by decide) ?_ | refine br_t (by decide) ?_))
      refine xY _ ?_
      (repeat (first | refine br_f (by decide) ?_ | refine br_t (by decide) ?_))
      refine And.intro hix (br_f (by rw [ecx, p1]; decide) ?_)
      (repeat (first | refine br_f (by decide) ?_ | refine br_t (by decide) ?_))
      refine gd_Yst hN post ?_
      (repeat (first | refine br_f (by decide) ?_ | refine br_t (by decide) ?_))
      exact gd_Y247 hN (Or.inl rfl) post hpp
  · refine gd_dbad h (r := -1) (gd_Xbad hN (by decide) (by decide) (fun post hp => by (repeat (first | refine br_f (by decide) ?_ | refine br_t (by decide) ?_)); refine xX _ ?_; (repeat (first | refine br_f (by decide) ?_ | refine br_t (by decide) ?_)); exact hp)) (fun post hp => ?_)
    refine br_f h12 ?_
    (repeat (first | refine br_f (by decide) ?_ | refine br_t (by decide) ?_))
    refine xY _ ?_
    (repeat (first | refine br_f (by decide) ?_ | refine br_t (by decide) ?_))
    exact hp
theorem gd_k6 (h : gr_ok N kd px py yy vc) (hN : N < 12) (x y : Int32) : wpX_node (fun r u' => wpY_node (fun r' v' => r' = r ∧ i_Rel (k + 5) u' v') (nI N, kd, px, yy, vc, ip, dr, y1, y2, yp, yf, ys, yb, yz) (nI 6) x y) (nI N, lv, le, fc, kd, px, py, vc, ip, dr, op, fi, se, nu, wi, na, re, sl, fs, so, la) (nI 6) x y := by
  have h12 : ¬ nI N = 12 := fun z => by have := (nI_eq (a := N) (b := 12) (by omega) (by decide)).mp z; omega
  have hN12 := h.1.1
  rcases gr_node (N := N) (lv := lv) (le := le) (fc := fc) (kd := kd) (px := px) (py := py) (vc := vc) (ip := ip) (dr := dr) (op := op) (fi := fi) (se := se) (nu := nu) (wi := wi) (na := na) (re := re) (sl := sl) (fs := fs) (so := so) (la := la) (yk := kd) (yx := px) (yy := yy) (yv := vc) (yi := ip) (yd := dr) (y1 := y1) (y2 := y2) (yp := yp) (yf := yf) (ys := ys) (yb := yb) (yz := yz) hN12 x with ⟨p, hp, ep, xX, xY⟩ | ⟨xX, xY⟩
  · have hix : vp_in x 12 := by rw [ep]; exact vp_in_nI (by omega) (by omega)
    have ecx : x.toNatClampNeg = p := by rw [ep]; exact nI_clamp (by omega)
    have hwp : vc p = 0 ∨ vc p = 1 := gl_wd (gn_WF h.1) (show p < N from hp)
    have hf : ∀ post : Int32 → Prop, post 1 → wpX_operandsFit post (nI N, lv, le, fc, kd, px, py, vc, ip, dr, op, fi, se, nu, wi, na, re, sl, fs, so, la) (nI 6) x y := fun post hp => by (repeat (first | refine br_f (by decide) ?_ | refine br_t (by decide) ?_)); refine xX _ ?_; (repeat (first | refine br_f (by decide) ?_ | refine br_t (by decide) ?_)); exact hp
    rcases hwp with p0 | p1
    · refine gd_dbad h (r := -3) (gd_Xwrong hN (by decide) (by decide) hf (fun post hp => by (repeat (first | refine br_f (by decide) ?_ | refine br_t (by decide) ?_)); exact And.intro hix (br_t (by rw [ecx]; exact p0) hp))) (fun post hp => ?_)
      refine br_f h12 ?_
      (repeat (first | refine br_f (by decide) ?_ | refine br_t (by decide) ?_))
      refine xY _ ?_
      (repeat (first | refine br_f (by decide) ?_ | refine br_t (by decide) ?_))
      exact And.intro hix (br_t (by rw [ecx]; exact p0) hp)
    · have hnd : ∀ z : Int32, gn_nd vc N (nI 6) x z 1 := fun z => Or.inr (Or.inr (Or.inr (Or.inr ⟨p, hp, ep, Or.inr (Or.inl ⟨by decide, p1, rfl⟩)⟩)))
      refine gd_dok h hN (d := 1) (gd_Xok hN (by omega) (Or.inr rfl) hf (fun post hp => by (repeat (first | refine br_f (by decide) ?_ | refine br_t (by decide) ?_)); exact And.intro hix (br_f (by rw [ecx, p1]; decide) hp)) (fun kd px py post hpp => by (repeat (first | refine br_f (by decide) ?_ | refine br_t (by decide) ?_)); exact hpp)) (fun post hpp => ?_) (hnd _) (hnd _) (fun z => absurd z (by decide))
      refine br_f h12 ?_
      (repeat (first | refine br_f (by decide) ?_ | refine br_t (by decide) ?_))
      refine xY _ ?_
      (repeat (first | refine br_f (by decide) ?_ | refine br_t (by decide) ?_))
      refine And.intro hix (br_f (by rw [ecx, p1]; decide) ?_)
      (repeat (first | refine br_f (by decide) ?_ | refine br_t (by decide) ?_))
      refine gd_Yst hN post ?_
      (repeat (first | refine br_f (by decide) ?_ | refine br_t (by decide) ?_))
      exact gd_Y247 hN (Or.inr rfl) post hpp
  · refine gd_dbad h (r := -1) (gd_Xbad hN (by decide) (by decide) (fun post hp => by (repeat (first | refine br_f (by decide) ?_ | refine br_t (by decide) ?_)); refine xX _ ?_; (repeat (first | refine br_f (by decide) ?_ | refine br_t (by decide) ?_)); exact hp)) (fun post hp => ?_)
    refine br_f h12 ?_
    (repeat (first | refine br_f (by decide) ?_ | refine br_t (by decide) ?_))
    refine xY _ ?_
    (repeat (first | refine br_f (by decide) ?_ | refine br_t (by decide) ?_))
    exact hp
theorem gd_k7 (h : gr_ok N kd px py yy vc) (hN : N < 12) (x y : Int32) : wpX_node (fun r u' => wpY_node (fun r' v' => r' = r ∧ i_Rel (k + 5) u' v') (nI N, kd, px, yy, vc, ip, dr, y1, y2, yp, yf, ys, yb, yz) (nI 7) x y) (nI N, lv, le, fc, kd, px, py, vc, ip, dr, op, fi, se, nu, wi, na, re, sl, fs, so, la) (nI 7) x y := by
  have h12 : ¬ nI N = 12 := fun z => by have := (nI_eq (a := N) (b := 12) (by omega) (by decide)).mp z; omega
  have hN12 := h.1.1
  rcases gr_node (N := N) (lv := lv) (le := le) (fc := fc) (kd := kd) (px := px) (py := py) (vc := vc) (ip := ip) (dr := dr) (op := op) (fi := fi) (se := se) (nu := nu) (wi := wi) (na := na) (re := re) (sl := sl) (fs := fs) (so := so) (la := la) (yk := kd) (yx := px) (yy := yy) (yv := vc) (yi := ip) (yd := dr) (y1 := y1) (y2 := y2) (yp := yp) (yf := yf) (ys := ys) (yb := yb) (yz := yz) hN12 x with ⟨p, hp, ep, xX, xY⟩ | ⟨xX, xY⟩
  · have hix : vp_in x 12 := by rw [ep]; exact vp_in_nI (by omega) (by omega)
    have ecx : x.toNatClampNeg = p := by rw [ep]; exact nI_clamp (by omega)
    have hwp : vc p = 0 ∨ vc p = 1 := gl_wd (gn_WF h.1) (show p < N from hp)
    by_cases h0 : y < 0
    · refine gd_dbad h (r := -1) (gd_Xbad hN (by decide) (by decide) (fun post hp => by (repeat (first | refine br_f (by decide) ?_ | refine br_t (by decide) ?_)); refine xX _ ?_; (repeat (first | refine br_f (by decide) ?_ | refine br_t (by decide) ?_)); exact br_t h0 hp)) (fun post hp => ?_)
      refine br_f h12 ?_
      (repeat (first | refine br_f (by decide) ?_ | refine br_t (by decide) ?_))
      refine xY _ ?_
      (repeat (first | refine br_f (by decide) ?_ | refine br_t (by decide) ?_))
      exact br_t h0 (br_t rfl hp)
    by_cases h3 : 3 < y
    · refine gd_dbad h (r := -1) (gd_Xbad hN (by decide) (by decide) (fun post hp => by (repeat (first | refine br_f (by decide) ?_ | refine br_t (by decide) ?_)); refine xX _ ?_; (repeat (first | refine br_f (by decide) ?_ | refine br_t (by decide) ?_)); exact br_f h0 (br_t h3 hp))) (fun post hp => ?_)
      refine br_f h12 ?_
      (repeat (first | refine br_f (by decide) ?_ | refine br_t (by decide) ?_))
      refine xY _ ?_
      (repeat (first | refine br_f (by decide) ?_ | refine br_t (by decide) ?_))
      exact br_f h0 (br_t h3 (br_t rfl hp))
    obtain ⟨t, ht, et⟩ := nI_of2 (M := 3) (n := 3) (by decide) h0 (Int32.not_lt.mp h3)
    have hyb : y.toInt8.toInt32 = y := by rw [et]; exact gd_b (by omega)
    have hf : ∀ post : Int32 → Prop, post 1 → wpX_operandsFit post (nI N, lv, le, fc, kd, px, py, vc, ip, dr, op, fi, se, nu, wi, na, re, sl, fs, so, la) (nI 7) x y := fun post hp => by (repeat (first | refine br_f (by decide) ?_ | refine br_t (by decide) ?_)); refine xX _ ?_; (repeat (first | refine br_f (by decide) ?_ | refine br_t (by decide) ?_)); exact br_f h0 (br_f h3 hp)
    rcases hwp with p0 | p1
    · refine gd_dbad h (r := -3) (gd_Xwrong hN (by decide) (by decide) hf (fun post hp => by (repeat (first | refine br_f (by decide) ?_ | refine br_t (by decide) ?_)); exact And.intro hix (br_t (by rw [ecx]; exact p0) hp))) (fun post hp => ?_)
      refine br_f h12 ?_
      (repeat (first | refine br_f (by decide) ?_ | refine br_t (by decide) ?_))
      refine xY _ ?_
      (repeat (first | refine br_f (by decide) ?_ | refine br_t (by decide) ?_))
      refine br_f h0 (br_f h3 ?_)
      (repeat (first | refine br_f (by decide) ?_ | refine br_t (by decide) ?_))
      exact And.intro hix (br_t (by rw [ecx]; exact p0) hp)
    · have hnd : gn_nd vc N (nI 7) x y 0 := (fun z => Or.inr (Or.inr (Or.inr (Or.inr ⟨p, hp, ep, Or.inr (Or.inr (Or.inl ⟨by decide, p1, rfl, t, by omega, et⟩))⟩)))) (0 : Int32)
      refine gd_dok h hN (d := 0) (gd_Xok hN (by omega) (Or.inl rfl) hf (fun post hp => by (repeat (first | refine br_f (by decide) ?_ | refine br_t (by decide) ?_)); exact And.intro hix (br_f (by rw [ecx, p1]; decide) hp)) (fun kd px py post hpp => by (repeat (first | refine br_f (by decide) ?_ | refine br_t (by decide) ?_)); exact hpp)) (fun post hpp => ?_) (by rw [hyb]; exact hnd) hnd (fun _ => hyb)
      refine br_f h12 ?_
      (repeat (first | refine br_f (by decide) ?_ | refine br_t (by decide) ?_))
      refine xY _ ?_
      (repeat (first | refine br_f (by decide) ?_ | refine br_t (by decide) ?_))
      refine br_f h0 (br_f h3 ?_)
      (repeat (first | refine br_f (by decide) ?_ | refine br_t (by decide) ?_))
      refine And.intro hix (br_f (by rw [ecx, p1]; decide) ?_)
      (repeat (first | refine br_f (by decide) ?_ | refine br_t (by decide) ?_))
      refine gd_Yst hN post ?_
      (repeat (first | refine br_f (by decide) ?_ | refine br_t (by decide) ?_))
      exact gd_Y247 hN (Or.inl rfl) post hpp
  · refine gd_dbad h (r := -1) (gd_Xbad hN (by decide) (by decide) (fun post hp => by (repeat (first | refine br_f (by decide) ?_ | refine br_t (by decide) ?_)); refine xX _ ?_; (repeat (first | refine br_f (by decide) ?_ | refine br_t (by decide) ?_)); exact hp)) (fun post hp => ?_)
    refine br_f h12 ?_
    (repeat (first | refine br_f (by decide) ?_ | refine br_t (by decide) ?_))
    refine xY _ ?_
    (repeat (first | refine br_f (by decide) ?_ | refine br_t (by decide) ?_))
    exact hp
theorem gd_k8 (h : gr_ok N kd px py yy vc) (hN : N < 12) (x y : Int32) : wpX_node (fun r u' => wpY_node (fun r' v' => r' = r ∧ i_Rel (k + 5) u' v') (nI N, kd, px, yy, vc, ip, dr, y1, y2, yp, yf, ys, yb, yz) (nI 8) x y) (nI N, lv, le, fc, kd, px, py, vc, ip, dr, op, fi, se, nu, wi, na, re, sl, fs, so, la) (nI 8) x y := by
  have h12 : ¬ nI N = 12 := fun z => by have := (nI_eq (a := N) (b := 12) (by omega) (by decide)).mp z; omega
  have hN12 := h.1.1
  rcases gr_node (N := N) (lv := lv) (le := le) (fc := fc) (kd := kd) (px := px) (py := py) (vc := vc) (ip := ip) (dr := dr) (op := op) (fi := fi) (se := se) (nu := nu) (wi := wi) (na := na) (re := re) (sl := sl) (fs := fs) (so := so) (la := la) (yk := kd) (yx := px) (yy := yy) (yv := vc) (yi := ip) (yd := dr) (y1 := y1) (y2 := y2) (yp := yp) (yf := yf) (ys := ys) (yb := yb) (yz := yz) hN12 x with ⟨p, hp, ep, xX, xY⟩ | ⟨xX, xY⟩
  · have hix : vp_in x 12 := by rw [ep]; exact vp_in_nI (by omega) (by omega)
    have ecx : x.toNatClampNeg = p := by rw [ep]; exact nI_clamp (by omega)
    have hwp : vc p = 0 ∨ vc p = 1 := gl_wd (gn_WF h.1) (show p < N from hp)
    have hf : ∀ post : Int32 → Prop, post 1 → wpX_operandsFit post (nI N, lv, le, fc, kd, px, py, vc, ip, dr, op, fi, se, nu, wi, na, re, sl, fs, so, la) (nI 8) x y := fun post hp => by (repeat (first | refine br_f (by decide) ?_ | refine br_t (by decide) ?_)); refine xX _ ?_; (repeat (first | refine br_f (by decide) ?_ | refine br_t (by decide) ?_)); exact hp
    rcases hwp with p0 | p1
    · have hnd : ∀ z : Int32, gn_nd vc N (nI 8) x z 1 := fun z => Or.inr (Or.inr (Or.inr (Or.inr ⟨p, hp, ep, Or.inr (Or.inr (Or.inr (Or.inl ⟨by decide, p0, rfl⟩)))⟩)))
      refine gd_dok h hN (d := 1) (gd_Xok hN (by omega) (Or.inr rfl) hf (fun post hp => by (repeat (first | refine br_f (by decide) ?_ | refine br_t (by decide) ?_)); exact And.intro hix (br_t (by rw [ecx]; exact p0) hp)) (fun kd px py post hpp => by (repeat (first | refine br_f (by decide) ?_ | refine br_t (by decide) ?_)); exact hpp)) (fun post hpp => ?_) (hnd _) (hnd _) (fun z => absurd z (by decide))
      refine br_f h12 ?_
      (repeat (first | refine br_f (by decide) ?_ | refine br_t (by decide) ?_))
      refine xY _ ?_
      (repeat (first | refine br_f (by decide) ?_ | refine br_t (by decide) ?_))
      refine And.intro hix (br_t (by rw [ecx]; exact p0) ?_)
      (repeat (first | refine br_f (by decide) ?_ | refine br_t (by decide) ?_))
      refine gd_Yst hN post ?_
      (repeat (first | refine br_f (by decide) ?_ | refine br_t (by decide) ?_))
      exact gd_Y247 hN (Or.inr rfl) post hpp
    · refine gd_dbad h (r := -3) (gd_Xwrong hN (by decide) (by decide) hf (fun post hp => by (repeat (first | refine br_f (by decide) ?_ | refine br_t (by decide) ?_)); exact And.intro hix (br_f (by rw [ecx, p1]; decide) hp))) (fun post hp => ?_)
      refine br_f h12 ?_
      (repeat (first | refine br_f (by decide) ?_ | refine br_t (by decide) ?_))
      refine xY _ ?_
      (repeat (first | refine br_f (by decide) ?_ | refine br_t (by decide) ?_))
      exact And.intro hix (br_f (by rw [ecx, p1]; decide) hp)
  · refine gd_dbad h (r := -1) (gd_Xbad hN (by decide) (by decide) (fun post hp => by (repeat (first | refine br_f (by decide) ?_ | refine br_t (by decide) ?_)); refine xX _ ?_; (repeat (first | refine br_f (by decide) ?_ | refine br_t (by decide) ?_)); exact hp)) (fun post hp => ?_)
    refine br_f h12 ?_
    (repeat (first | refine br_f (by decide) ?_ | refine br_t (by decide) ?_))
    refine xY _ ?_
    (repeat (first | refine br_f (by decide) ?_ | refine br_t (by decide) ?_))
    exact hp
theorem gd_k9 (h : gr_ok N kd px py yy vc) (hN : N < 12) (x y : Int32) : wpX_node (fun r u' => wpY_node (fun r' v' => r' = r ∧ i_Rel (k + 5) u' v') (nI N, kd, px, yy, vc, ip, dr, y1, y2, yp, yf, ys, yb, yz) (nI 9) x y) (nI N, lv, le, fc, kd, px, py, vc, ip, dr, op, fi, se, nu, wi, na, re, sl, fs, so, la) (nI 9) x y := by
  have h12 : ¬ nI N = 12 := fun z => by have := (nI_eq (a := N) (b := 12) (by omega) (by decide)).mp z; omega
  have hN12 := h.1.1
  rcases gr_node (N := N) (lv := lv) (le := le) (fc := fc) (kd := kd) (px := px) (py := py) (vc := vc) (ip := ip) (dr := dr) (op := op) (fi := fi) (se := se) (nu := nu) (wi := wi) (na := na) (re := re) (sl := sl) (fs := fs) (so := so) (la := la) (yk := kd) (yx := px) (yy := yy) (yv := vc) (yi := ip) (yd := dr) (y1 := y1) (y2 := y2) (yp := yp) (yf := yf) (ys := ys) (yb := yb) (yz := yz) hN12 x with ⟨p, hp, ep, xX, xY⟩ | ⟨xX, xY⟩
  · have hix : vp_in x 12 := by rw [ep]; exact vp_in_nI (by omega) (by omega)
    have ecx : x.toNatClampNeg = p := by rw [ep]; exact nI_clamp (by omega)
    have hwp : vc p = 0 ∨ vc p = 1 := gl_wd (gn_WF h.1) (show p < N from hp)
    have hf : ∀ post : Int32 → Prop, post 1 → wpX_operandsFit post (nI N, lv, le, fc, kd, px, py, vc, ip, dr, op, fi, se, nu, wi, na, re, sl, fs, so, la) (nI 9) x y := fun post hp => by (repeat (first | refine br_f (by decide) ?_ | refine br_t (by decide) ?_)); refine xX _ ?_; (repeat (first | refine br_f (by decide) ?_ | refine br_t (by decide) ?_)); exact hp
    rcases hwp with p0 | p1
    · have hnd : ∀ z : Int32, gn_nd vc N (nI 9) x z 0 := fun z => Or.inr (Or.inr (Or.inr (Or.inl ⟨by decide, Or.inl rfl, p, hp, ep, p0⟩)))
      refine gd_dok h hN (d := 0) (gd_Xok hN (by omega) (Or.inl rfl) hf (fun post hp => by (repeat (first | refine br_f (by decide) ?_ | refine br_t (by decide) ?_)); exact hp) (fun kd px py post hpp => by (repeat (first | refine br_f (by decide) ?_ | refine br_t (by decide) ?_)); refine And.intro hix (br_t (by rw [ecx]; exact p0) ?_); (repeat (first | refine br_f (by decide) ?_ | refine br_t (by decide) ?_)); exact hpp)) (fun post hpp => ?_) (hnd _) (hnd _) (fun z => absurd z (by decide))
      refine br_f h12 ?_
      (repeat (first | refine br_f (by decide) ?_ | refine br_t (by decide) ?_))
      refine xY _ ?_
      (repeat (first | refine br_f (by decide) ?_ | refine br_t (by decide) ?_))
      refine gd_Yst hN post ?_
      (repeat (first | refine br_f (by decide) ?_ | refine br_t (by decide) ?_))
      refine And.intro hix (br_t (by rw [ecx]; exact p0) ?_)
      (repeat (first | refine br_f (by decide) ?_ | refine br_t (by decide) ?_))
      exact gd_Y247 hN (Or.inl rfl) post hpp
    · have hnd : ∀ z : Int32, gn_nd vc N (nI 9) x z 1 := fun z => Or.inr (Or.inr (Or.inr (Or.inl ⟨by decide, Or.inr rfl, p, hp, ep, p1⟩)))
      refine gd_dok h hN (d := 1) (gd_Xok hN (by omega) (Or.inr rfl) hf (fun post hp => by (repeat (first | refine br_f (by decide) ?_ | refine br_t (by decide) ?_)); exact hp) (fun kd px py post hpp => by (repeat (first | refine br_f (by decide) ?_ | refine br_t (by decide) ?_)); refine And.intro hix (br_f (by rw [ecx, p1]; decide) ?_); (repeat (first | refine br_f (by decide) ?_ | refine br_t (by decide) ?_)); exact hpp)) (fun post hpp => ?_) (hnd _) (hnd _) (fun z => absurd z (by decide))
      refine br_f h12 ?_
      (repeat (first | refine br_f (by decide) ?_ | refine br_t (by decide) ?_))
      refine xY _ ?_
      (repeat (first | refine br_f (by decide) ?_ | refine br_t (by decide) ?_))
      refine gd_Yst hN post ?_
      (repeat (first | refine br_f (by decide) ?_ | refine br_t (by decide) ?_))
      refine And.intro hix (br_f (by rw [ecx, p1]; decide) ?_)
      (repeat (first | refine br_f (by decide) ?_ | refine br_t (by decide) ?_))
      exact gd_Y247 hN (Or.inr rfl) post hpp
  · refine gd_dbad h (r := -1) (gd_Xbad hN (by decide) (by decide) (fun post hp => by (repeat (first | refine br_f (by decide) ?_ | refine br_t (by decide) ?_)); refine xX _ ?_; (repeat (first | refine br_f (by decide) ?_ | refine br_t (by decide) ?_)); exact hp)) (fun post hp => ?_)
    refine br_f h12 ?_
    (repeat (first | refine br_f (by decide) ?_ | refine br_t (by decide) ?_))
    refine xY _ ?_
    (repeat (first | refine br_f (by decide) ?_ | refine br_t (by decide) ?_))
    exact hp
theorem gd_k10 (h : gr_ok N kd px py yy vc) (hN : N < 12) (x y : Int32) : wpX_node (fun r u' => wpY_node (fun r' v' => r' = r ∧ i_Rel (k + 5) u' v') (nI N, kd, px, yy, vc, ip, dr, y1, y2, yp, yf, ys, yb, yz) (nI 10) x y) (nI N, lv, le, fc, kd, px, py, vc, ip, dr, op, fi, se, nu, wi, na, re, sl, fs, so, la) (nI 10) x y := by
  have h12 : ¬ nI N = 12 := fun z => by have := (nI_eq (a := N) (b := 12) (by omega) (by decide)).mp z; omega
  have hN12 := h.1.1
  rcases gr_node (N := N) (lv := lv) (le := le) (fc := fc) (kd := kd) (px := px) (py := py) (vc := vc) (ip := ip) (dr := dr) (op := op) (fi := fi) (se := se) (nu := nu) (wi := wi) (na := na) (re := re) (sl := sl) (fs := fs) (so := so) (la := la) (yk := kd) (yx := px) (yy := yy) (yv := vc) (yi := ip) (yd := dr) (y1 := y1) (y2 := y2) (yp := yp) (yf := yf) (ys := ys) (yb := yb) (yz := yz) hN12 x with ⟨p, hp, ep, xX, xY⟩ | ⟨xX, xY⟩
  · have hix : vp_in x 12 := by rw [ep]; exact vp_in_nI (by omega) (by omega)
    have ecx : x.toNatClampNeg = p := by rw [ep]; exact nI_clamp (by omega)
    have hwp : vc p = 0 ∨ vc p = 1 := gl_wd (gn_WF h.1) (show p < N from hp)
    have hf : ∀ post : Int32 → Prop, post 1 → wpX_operandsFit post (nI N, lv, le, fc, kd, px, py, vc, ip, dr, op, fi, se, nu, wi, na, re, sl, fs, so, la) (nI 10) x y := fun post hp => by (repeat (first | refine br_f (by decide) ?_ | refine br_t (by decide) ?_)); refine xX _ ?_; (repeat (first | refine br_f (by decide) ?_ | refine br_t (by decide) ?_)); exact hp
    rcases hwp with p0 | p1
    · refine gd_dbad h (r := -3) (gd_Xwrong hN (by decide) (by decide) hf (fun post hp => by (repeat (first | refine br_f (by decide) ?_ | refine br_t (by decide) ?_)); exact And.intro hix (br_t (by rw [ecx]; exact p0) hp))) (fun post hp => ?_)
      refine br_f h12 ?_
      (repeat (first | refine br_f (by decide) ?_ | refine br_t (by decide) ?_))
      refine xY _ ?_
      (repeat (first | refine br_f (by decide) ?_ | refine br_t (by decide) ?_))
      exact And.intro hix (br_t (by rw [ecx]; exact p0) hp)
    · have hnd : ∀ z : Int32, gn_nd vc N (nI 10) x z 1 := fun z => Or.inr (Or.inr (Or.inr (Or.inr ⟨p, hp, ep, Or.inr (Or.inr (Or.inr (Or.inr ⟨by decide, p1, rfl⟩)))⟩)))
      refine gd_dok h hN (d := 1) (gd_Xok hN (by omega) (Or.inr rfl) hf (fun post hp => by (repeat (first | refine br_f (by decide) ?_ | refine br_t (by decide) ?_)); exact And.intro hix (br_f (by rw [ecx, p1]; decide) hp)) (fun kd px py post hpp => by (repeat (first | refine br_f (by decide) ?_ | refine br_t (by decide) ?_)); exact hpp)) (fun post hpp => ?_) (hnd _) (hnd _) (fun z => absurd z (by decide))
      refine br_f h12 ?_
      (repeat (first | refine br_f (by decide) ?_ | refine br_t (by decide) ?_))
      refine xY _ ?_
      (repeat (first | refine br_f (by decide) ?_ | refine br_t (by decide) ?_))
      refine And.intro hix (br_f (by rw [ecx, p1]; decide) ?_)
      (repeat (first | refine br_f (by decide) ?_ | refine br_t (by decide) ?_))
      refine gd_Yst hN post ?_
      (repeat (first | refine br_f (by decide) ?_ | refine br_t (by decide) ?_))
      exact gd_Y247 hN (Or.inr rfl) post hpp
  · refine gd_dbad h (r := -1) (gd_Xbad hN (by decide) (by decide) (fun post hp => by (repeat (first | refine br_f (by decide) ?_ | refine br_t (by decide) ?_)); refine xX _ ?_; (repeat (first | refine br_f (by decide) ?_ | refine br_t (by decide) ?_)); exact hp)) (fun post hp => ?_)
    refine br_f h12 ?_
    (repeat (first | refine br_f (by decide) ?_ | refine br_t (by decide) ?_))
    refine xY _ ?_
    (repeat (first | refine br_f (by decide) ?_ | refine br_t (by decide) ?_))
    exact hp
end
end
section
/-! node as a whole; values under related inputs; parts and numbers on both sides -/
theorem i_vc_node {k : Nat} {u : SX} {v : SY} (I : i_Rel k u v) (hk : k + 5 ≤ 2560) (v1 : Int32) (v2 : Int32) (v3 : Int32) : wpX_node (fun r u' => wpY_node (fun r' v' => r' = r ∧ i_Rel (k + 5) u' v') v v1 v2 v3) u v1 v2 v3 := by
  refine gr_el (P := fun u v => wpX_node (fun r u' => wpY_node (fun r' v' => r' = r ∧ i_Rel (k + 5) u' v') v v1 v2 v3) u v1 v2 v3) I ?_
  intro N lv le fc kd px py vc ip dr op fi se nu wi na re sl fs so la yy y1 y2 yp yf ys yb yz h
  have hN := h.1.1
  by_cases hf : N = 12
  · subst hf
    exact br_f (by decide) (br_t (by decide) (And.intro rfl (gr_mk h)))
  · have hlt : nI N < 12 := nI_lt (b := 12) (by omega) (by decide)
    have h12 : ¬ nI N = 12 := fun z => by have := (nI_eq (a := N) (b := 12) (by omega) (by decide)).mp z; omega
    by_cases h0 : v1 < 0
    · exact br_t hlt (br_t h0 (br_f h12 (br_t h0 (br_t rfl (And.intro rfl (gr_mk h))))))
    · by_cases h10 : 10 < v1
      · exact br_t hlt (br_f h0 (br_t h10 (br_f h12 (br_f h0 (br_t h10 (br_t rfl (And.intro rfl (gr_mk h))))))))
      · obtain ⟨n, hn, rfl⟩ := nI_of2 (M := 10) (n := 10) (by decide) h0 (Int32.not_lt.mp h10)
        have hc : n = 0 ∨ n = 1 ∨ n = 2 ∨ n = 3 ∨ n = 4 ∨ n = 5 ∨ n = 6 ∨ n = 7 ∨ n = 8 ∨ n = 9 ∨ n = 10 := by omega
        have hN' : N < 12 := by omega
        rcases hc with rfl | rfl | rfl | rfl | rfl | rfl | rfl | rfl | rfl | rfl | rfl
        · exact gd_k0 h hN' v2 v3
        · exact gd_k1 h hN' v2 v3
        · exact gd_k2 h hN' v2 v3
        · exact gd_k3 h hN' v2 v3
        · exact gd_k4 h hN' v2 v3
        · exact gd_k5 h hN' v2 v3
        · exact gd_k6 h hN' v2 v3
        · exact gd_k7 h hN' v2 v3
        · exact gd_k8 h hN' v2 v3
        · exact gd_k9 h hN' v2 v3
        · exact gd_k10 h hN' v2 v3
/-- a relation that all operations keep -/
def gv_cl (R : gh_T → gh_T → Prop) : Prop := R gh_0 gh_0 ∧ (∀ n, R (gh_k n) (gh_k n)) ∧ (∀ x y x' y', R x x' → R y y' → R (gh_add x y) (gh_add x' y')) ∧ (∀ x y x' y', R x x' → R y y' → R (gh_sub x y) (gh_sub x' y')) ∧
  (∀ x y x' y', R x x' → R y y' → R (gh_mul x y) (gh_mul x' y')) ∧ ∀ x x', R x x' → x.1 = x'.1
theorem gv_gate {R : gh_T → gh_T → Prop} (h : gv_cl R) {x y x' y' : gh_T} (hx : R x x') (hy : R y y') : R (gh_gate x y) (gh_gate x' y') := by
  unfold gh_gate
  rw [h.2.2.2.2.2 x x' hx]
  split
  · exact h.1
  · exact hy
theorem gv_pre {R : gh_T → gh_T → Prop} (h : gv_cl R) {f g : Nat → gh_T} (hf : ∀ c, R (f c) (g c)) : ∀ c, R (gh_pre f c) (gh_pre g c) := by
  intro c
  induction c with
  | zero => exact hf 0
  | succ c ih => exact h.2.2.1 _ _ _ _ ih (hf (c + 1))
theorem gv_ov {R : gh_T → gh_T → Prop} (h : gv_cl R) {iv iw : Nat → gh_T} (hi : ∀ j, R (iv j) (iw j)) {dv : Nat → Int32} {w n : Int32} {a b : Nat} {V W : Nat → Nat → gh_T} (hV : ∀ i c, R (V i c) (W i c)) (c : Nat) :
    R (gh_ov iv dv w a b n V c) (gh_ov iw dv w a b n W c) := by
  have hadd := h.2.2.1
  by_cases w0 : w = 0
  · subst w0; rw [gh_ov0, gh_ov0]; exact hi _
  by_cases w1 : w = 1
  · subst w1; rw [gh_ov1, gh_ov1]; exact h.2.1 _
  by_cases w2 : w = 2
  · subst w2; rw [gh_ov2, gh_ov2]; exact hadd _ _ _ _ (hV _ _) (hV _ _)
  by_cases w3 : w = 3
  · subst w3; rw [gh_ov3, gh_ov3]; exact h.2.2.2.1 _ _ _ _ (hV _ _) (hV _ _)
  by_cases w4 : w = 4
  · subst w4; rw [gh_ov4, gh_ov4]; exact h.2.2.2.2.1 _ _ _ _ (hV _ _) (hV _ _)
  by_cases w5 : w = 5
  · subst w5; rw [gh_ov5, gh_ov5]; exact hadd _ _ _ _ (hadd _ _ _ _ (hadd _ _ _ _ (hV _ _) (hV _ _)) (hV _ _)) (hV _ _)
  by_cases w6 : w = 6
  · subst w6; rw [gh_ov6, gh_ov6]; exact hV _ _
  by_cases w7 : w = 7
  · subst w7; rw [gh_ov7, gh_ov7]; exact hV _ _
  by_cases w8 : w = 8
  · subst w8; rw [gh_ov8, gh_ov8]; exact hV _ _
  by_cases w10 : w = 10
  · subst w10; rw [gh_ov10, gh_ov10]; exact gv_pre h (hV a) c
  by_cases w11 : w = 11
  · subst w11; rw [gh_ov11, gh_ov11]; exact h.2.1 _
  by_cases w12 : w = 12
  · subst w12; rw [gh_ov12, gh_ov12]
    split
    · exact hV _ _
    · exact h.1
  by_cases w13 : w = 13
  · subst w13; rw [gh_ov13, gh_ov13]; exact gv_gate h (hV _ _) (hV _ _)
  simp only [gh_ov, w0, w1, w2, w3, w4, w5, w6, w7, w8, w10, w11, w12, w13, if_false, gh_suf]
  split
  · exact hadd _ _ _ _ (hadd _ _ _ _ (hadd _ _ _ _ (hV _ _) (hV _ _)) (hV _ _)) (hV _ _)
  · split
    · exact hadd _ _ _ _ (hadd _ _ _ _ (hV _ _) (hV _ _)) (hV _ _)
    · split
      · exact hadd _ _ _ _ (hV _ _) (hV _ _)
      · exact hV _ _
theorem gv_val {R : gh_T → gh_T → Prop} (h : gv_cl R) {iv iw : Nat → gh_T} (hi : ∀ j, R (iv j) (iw j)) {dv : Nat → Int32} (L : gl_L) (i c : Nat) : R (gl_val iv dv L i c) (gl_val iw dv L i c) := by
  have key : ∀ m i c, R (gl_tab iv dv L m i c) (gl_tab iw dv L m i c) := by
    intro m
    induction m with
    | zero => intro i c; exact h.1
    | succ m ih =>
      intro i c
      show R (if i = m then _ else _) (if i = m then _ else _)
      split
      · exact gv_ov h hi ih c
      · exact ih i c
  exact key _ i c
theorem gv_cl1 : gv_cl (fun x y => x.1 = y.1) := by
  refine ⟨rfl, fun _ => rfl, fun x y x' y' hx hy => ?_, fun x y x' y' hx hy => ?_, fun x y x' y' hx hy => ?_, fun _ _ h => h⟩
  · show x.1 + y.1 = x'.1 + y'.1; rw [hx, hy]
  · show x.1 - y.1 = x'.1 - y'.1; rw [hx, hy]
  · show x.1 * y.1 = x'.1 * y'.1; rw [hx, hy]
theorem gv_cl2 : gv_cl (fun x y => x.1 = y.1 ∧ x.2.1 = y.2.2.1) := by
  refine ⟨⟨rfl, rfl⟩, fun _ => ⟨rfl, rfl⟩, fun x y x' y' hx hy => ?_, fun x y x' y' hx hy => ?_, fun x y x' y' hx hy => ?_, fun _ _ h => h.1⟩
  · exact ⟨show x.1 + y.1 = x'.1 + y'.1 by rw [hx.1, hy.1], show x.2.1 + y.2.1 = x'.2.2.1 + y'.2.2.1 by rw [hx.2, hy.2]⟩
  · exact ⟨show x.1 - y.1 = x'.1 - y'.1 by rw [hx.1, hy.1], show x.2.1 - y.2.1 = x'.2.2.1 - y'.2.2.1 by rw [hx.2, hy.2]⟩
  · exact ⟨show x.1 * y.1 = x'.1 * y'.1 by rw [hx.1, hy.1], show x.2.1 * y.1 + x.1 * y.2.1 = x'.2.2.1 * y'.1 + x'.1 * y'.2.2.1 by rw [hx.1, hx.2, hy.1, hy.2]⟩
/-- the plain value that is worked out is the plain part over the reference's inputs -/
theorem gv_V (ip dr y1 y2 : Nat → Int32) (L : gl_L) (e j c : Nat) : ge_V ip dr L e j c = (gl_val (gy_iv ip y1 y2 e) (ge_dv dr e) L j c).1 :=
  gv_val gv_cl1 (iv := ge_iv ip e) (iw := gy_iv ip y1 y2 e) (fun _ => rfl) L j c
/-- the second small part as a first one -/
theorem gv_swap (ip y1 y2 y3 : Nat → Int32) (dv : Nat → Int32) (L : gl_L) (e j c : Nat) : (gl_val (gy_iv ip y2 y3 e) dv L j c).2.1 = (gl_val (gy_iv ip y1 y2 e) dv L j c).2.2.1 :=
  (gv_val gv_cl2 (iv := gy_iv ip y2 y3 e) (iw := gy_iv ip y1 y2 e) (fun _ => ⟨rfl, rfl⟩) L j c).2
/-- the two node lists are the same -/
theorem gr_ext {N : Nat} {kd px py yy vc : Nat → Int32} (h : gr_ok N kd px py yy vc) : gl_ext (gn_L N kd px py vc) (gn_L N kd px yy vc) := by
  refine ⟨Nat.le_refl _, fun i hi => ⟨rfl, rfl, ?_, ?_, rfl⟩⟩
  · show gn_b (kd i) (px i) (yy i) = gn_b (kd i) (px i) (py i)
    unfold gn_b
    by_cases hk : kd i = 2 ∨ kd i = 3 ∨ kd i = 4
    · rw [h.2.2 i hi (by rcases hk with e | e | e <;> simp [e])]
    · rw [if_neg hk, if_neg hk]
  · show gn_n (kd i) (px i) (yy i) = gn_n (kd i) (px i) (py i)
    unfold gn_n
    by_cases hk : kd i = 7
    · rw [h.2.2 i hi (by simp [hk])]
    · rw [if_neg hk, if_neg hk]
section
variable {N : Nat} {lv le fc : Int32} {kd px py vc ip dr op fi se nu wi na re sl fs so la : Nat → Int32} {yy y1 y2 yp yf ys yb yz : Nat → Int32}
theorem gr_part (h : gr_ok N kd px py yy vc) (n i e : Int32) :
    (∃ n' i' e' : Nat, n' < N ∧ i' < 4 ∧ e' < 3 ∧ n = nI n' ∧ i = nI i' ∧ e = nI e' ∧ (vc n' = 1 ∨ i' = 0) ∧ (∀ post : Int32 → Prop, post 1 → wpX_isPart post (nI N, lv, le, fc, kd, px, py, vc, ip, dr, op, fi, se, nu, wi, na, re, sl, fs, so, la) n i e) ∧ (∀ post : Int32 → Prop, post 1 → wpY_isComponent post (nI N, kd, px, yy, vc, ip, dr, y1, y2, yp, yf, ys, yb, yz) n i e)) ∨
    ((∀ post : Int32 → Prop, post 0 → wpX_isPart post (nI N, lv, le, fc, kd, px, py, vc, ip, dr, op, fi, se, nu, wi, na, re, sl, fs, so, la) n i e) ∧ (∀ post : Int32 → Prop, post 0 → wpY_isComponent post (nI N, kd, px, yy, vc, ip, dr, y1, y2, yp, yf, ys, yb, yz) n i e)) := by
  have hN := h.1.1
  rcases gr_node (lv := lv) (le := le) (fc := fc) (kd := kd) (px := px) (py := py) (vc := vc) (ip := ip) (dr := dr) (op := op) (fi := fi) (se := se) (nu := nu) (wi := wi) (na := na) (re := re) (sl := sl) (fs := fs) (so := so) (la := la) (yk := kd) (yx := px) (yy := yy) (yv := vc) (yi := ip) (yd := dr) (y1 := y1) (y2 := y2) (yp := yp) (yf := yf) (ys := ys) (yb := yb) (yz := yz) hN n with ⟨j, hj, rfl, hX, hY⟩ | ⟨hX, hY⟩
  · have hin : vp_in (nI j) 12 := vp_in_nI (by omega) (by omega)
    have ec : (nI j).toNatClampNeg = j := nI_clamp (by omega)
    have hw : vc j = 0 ∨ vc j = 1 := gl_wd (gn_WF h.1) (show j < N from hj)
    by_cases i0 : i < 0
    · refine Or.inr ⟨fun post hp => ?_, fun post hp => ?_⟩
      · unfold wpX_isPart
        refine hX _ (br_f (by decide) (br_c (fun _ => hp) (fun e0 => br_c (fun e2 => br_t i0 hp) (fun e2 => hp))))
      · unfold wpY_isComponent
        exact hY _ (br_f (by decide) (And.intro hin (br_c (fun _ => br_t i0 (br_t rfl hp)) (fun _ => br_t i0 (br_t rfl hp)))))
    · by_cases e0 : e < 0
      · refine Or.inr ⟨fun post hp => ?_, fun post hp => ?_⟩
        · unfold wpX_isPart
          exact hX _ (br_f (by decide) (br_t e0 hp))
        · unfold wpY_isComponent
          refine hY _ (br_f (by decide) (And.intro hin (br_c (fun _ => br_f i0 (br_c (fun _ => br_t rfl hp) (fun _ => br_f (by decide) (br_t e0 (br_t rfl hp))))) (fun _ => br_f i0 (br_c (fun _ => br_t rfl hp) (fun _ => br_f (by decide) (br_t e0 (br_t rfl hp))))))))
      · by_cases e2 : e ≤ 2
        · rcases hw with w0 | w1
          · by_cases i1 : 0 < i
            · refine Or.inr ⟨fun post hp => ?_, fun post hp => ?_⟩
              · unfold wpX_isPart
                exact hX _ (br_f (by decide) (br_f e0 (br_t e2 (br_f i0 (And.intro hin (br_t (by rw [ec]; exact w0) (br_t i1 hp)))))))
              · unfold wpY_isComponent
                exact hY _ (br_f (by decide) (And.intro hin (br_t (by rw [ec]; exact w0) (br_f i0 (br_t i1 (br_t rfl hp))))))
            · obtain ⟨i', hi', rfl⟩ := nI_of2 (M := 0) (n := 0) (by decide) i0 (Int32.not_lt.mp i1)
              obtain ⟨e', he', rfl⟩ := nI_of2 (M := 2) (n := 2) (by decide) e0 e2
              refine Or.inl ⟨j, i', e', hj, by omega, by omega, rfl, rfl, rfl, Or.inr (by omega), fun post hp => ?_, fun post hp => ?_⟩
              · unfold wpX_isPart
                exact hX _ (br_f (by decide) (br_f e0 (br_t e2 (br_f i0 (And.intro hin (br_t (by rw [ec]; exact w0) (br_f i1 hp)))))))
              · unfold wpY_isComponent
                exact hY _ (br_f (by decide) (And.intro hin (br_t (by rw [ec]; exact w0) (br_f i0 (br_f i1 (br_f (by decide) (br_f e0 (br_f (Int32.not_lt.mpr e2) (br_f (by decide) hp)))))))))
          · by_cases i3 : 3 < i
            · refine Or.inr ⟨fun post hp => ?_, fun post hp => ?_⟩
              · unfold wpX_isPart
                exact hX _ (br_f (by decide) (br_f e0 (br_t e2 (br_f i0 (And.intro hin (br_f (by rw [ec, w1]; decide) (br_t i3 hp)))))))
              · unfold wpY_isComponent
                exact hY _ (br_f (by decide) (And.intro hin (br_f (by rw [ec, w1]; decide) (br_f i0 (br_t i3 (br_t rfl hp))))))
            · obtain ⟨i', hi', rfl⟩ := nI_of2 (M := 3) (n := 3) (by decide) i0 (Int32.not_lt.mp i3)
              obtain ⟨e', he', rfl⟩ := nI_of2 (M := 2) (n := 2) (by decide) e0 e2
              refine Or.inl ⟨j, i', e', hj, by omega, by omega, rfl, rfl, rfl, Or.inl w1, fun post hp => ?_, fun post hp => ?_⟩
              · unfold wpX_isPart
                exact hX _ (br_f (by decide) (br_f e0 (br_t e2 (br_f i0 (And.intro hin (br_f (by rw [ec, w1]; decide) (br_f i3 hp)))))))
              · unfold wpY_isComponent
                exact hY _ (br_f (by decide) (And.intro hin (br_f (by rw [ec, w1]; decide) (br_f i0 (br_f i3 (br_f (by decide) (br_f e0 (br_f (Int32.not_lt.mpr e2) (br_f (by decide) hp)))))))))
        · have e2' : 2 < e := Int32.not_le.mp e2
          refine Or.inr ⟨fun post hp => ?_, fun post hp => ?_⟩
          · unfold wpX_isPart
            exact hX _ (br_f (by decide) (br_f e0 (br_f e2 hp)))
          · unfold wpY_isComponent
            refine hY _ (br_f (by decide) (And.intro hin (br_c (fun _ => br_f i0 (br_c (fun _ => br_t rfl hp) (fun _ => br_f (by decide) (br_f e0 (br_t e2' (br_t rfl hp)))))) (fun _ => br_f i0 (br_c (fun _ => br_t rfl hp) (fun _ => br_f (by decide) (br_f e0 (br_t e2' (br_t rfl hp)))))))))
  · refine Or.inr ⟨fun post hp => ?_, fun post hp => ?_⟩
    · unfold wpX_isPart
      exact hX _ (br_t rfl hp)
    · unfold wpY_isComponent
      exact hY _ (br_t rfl hp)
end
/-- a number: both sides answer alike, whatever else they hold -/
theorem gr_num {N : Nat} {kd px py yy vc : Nat → Int32} (h : gr_ok N kd px py yy vc) (n : Int32) :
    (∃ n' : Nat, n' < N ∧ n = nI n' ∧ vc n' = 0 ∧ (∀ (lv le fc : Int32) (kd px py ip dr op fi se nu wi na re sl fs so la : Nat → Int32) (post : Int32 → Prop), post 1 → wpX_isNumber post (nI N, lv, le, fc, kd, px, py, vc, ip, dr, op, fi, se, nu, wi, na, re, sl, fs, so, la) n) ∧ (∀ (kd px yy ip dr y1 y2 yp yf ys yb yz : Nat → Int32) (post : Int32 → Prop), post 1 → wpY_isNumber post (nI N, kd, px, yy, vc, ip, dr, y1, y2, yp, yf, ys, yb, yz) n)) ∨
    ((∀ (lv le fc : Int32) (kd px py ip dr op fi se nu wi na re sl fs so la : Nat → Int32) (post : Int32 → Prop), post 0 → wpX_isNumber post (nI N, lv, le, fc, kd, px, py, vc, ip, dr, op, fi, se, nu, wi, na, re, sl, fs, so, la) n) ∧ (∀ (kd px yy ip dr y1 y2 yp yf ys yb yz : Nat → Int32) (post : Int32 → Prop), post 0 → wpY_isNumber post (nI N, kd, px, yy, vc, ip, dr, y1, y2, yp, yf, ys, yb, yz) n)) := by
  have hN := h.1.1
  by_cases h0 : n < 0
  · refine Or.inr ⟨fun lv le fc kd px py ip dr op fi se nu wi na re sl fs so la post hp => ?_, fun kd px yy ip dr y1 y2 yp yf ys yb yz post hp => ?_⟩
    · unfold wpX_isNumber; exact br_t h0 (br_t rfl hp)
    · unfold wpY_isNumber; unfold wpY_isNode; exact br_t h0 (And.intro rfl (br_t rfl hp))
  · obtain ⟨j, hj, rfl⟩ := nI_of h0
    by_cases h1 : j < N
    · have hb : ¬ nI N - 1 < nI j := by
        obtain ⟨M, rfl⟩ : ∃ M, N = M + 1 := ⟨N - 1, by omega⟩
        rw [nI_pred]
        exact nI_nlt (by omega) (by omega)
      have hin : vp_in (nI j) 12 := vp_in_nI (by omega) (by omega)
      have ec : (nI j).toNatClampNeg = j := nI_clamp (by omega)
      have hc : ¬ nI N ≤ nI j := nI_ge h1 (by omega)
      by_cases hw : vc j = 0
      · refine Or.inl ⟨j, h1, rfl, hw, fun lv le fc kd px py ip dr op fi se nu wi na re sl fs so la post hp => ?_, fun kd px yy ip dr y1 y2 yp yf ys yb yz post hp => ?_⟩
        · unfold wpX_isNumber; exact br_f h0 (br_f hc (br_f (by decide) (And.intro hin (br_t (by rw [ec]; exact hw) hp))))
        · unfold wpY_isNumber; unfold wpY_isNode; exact br_f h0 (br_f hb (And.intro rfl (br_f (by decide) (And.intro hin (br_t (by rw [ec]; exact hw) hp)))))
      · refine Or.inr ⟨fun lv le fc kd px py ip dr op fi se nu wi na re sl fs so la post hp => ?_, fun kd px yy ip dr y1 y2 yp yf ys yb yz post hp => ?_⟩
        · unfold wpX_isNumber; exact br_f h0 (br_f hc (br_f (by decide) (And.intro hin (br_f (by rw [ec]; exact hw) hp))))
        · unfold wpY_isNumber; unfold wpY_isNode; exact br_f h0 (br_f hb (And.intro rfl (br_f (by decide) (And.intro hin (br_f (by rw [ec]; exact hw) hp)))))
    · have hb : nI N - 1 < nI j := by
        by_cases hz : N = 0
        · subst hz
          rw [show nI 0 - 1 = -1 by decide, Int32.lt_iff_toInt_lt, nI_toInt hj]
          show (-1 : Int) < _
          omega
        · obtain ⟨M, rfl⟩ : ∃ M, N = M + 1 := ⟨N - 1, by omega⟩
          rw [nI_pred]
          exact nI_lt (by omega) hj
      have hc : nI N ≤ nI j := nI_le (by omega) hj
      refine Or.inr ⟨fun lv le fc kd px py ip dr op fi se nu wi na re sl fs so la post hp => ?_, fun kd px yy ip dr y1 y2 yp yf ys yb yz post hp => ?_⟩
      · unfold wpX_isNumber; exact br_f h0 (br_t hc (br_t rfl hp))
      · unfold wpY_isNumber; unfold wpY_isNode; exact br_f h0 (br_t hb (And.intro rfl (br_t rfl hp)))
end
section
/-! value, along -/
theorem gz_eq {N : Nat} {kd px py yy vc : Nat → Int32} (h : gr_ok N kd px py yy vc) {L : gl_L} {p n i : Nat} (hvp : ∀ iv dv c, c < 4 → gl_val iv dv L p c = gl_val iv dv (gn_L N kd px py vc) n c) {iv : Nat → gh_T} {dv : Nat → Int32} {zp zf zs zb : Nat → Int32}
    (hat : gy_at (gn_L N kd px yy vc) iv dv zp zf zs zb N 0) (hn : n < N) (hi : i < 4) (hv : vc n = 1 ∨ i = 0) : gy_4 zp zf zs zb (4 * n + i) = gl_val iv dv L p i := by
  rw [hat n i (Or.inl hn) hi hv, hvp iv dv i hi, gl_val_ext (gr_ext h) (show n < N from hn)]
section
variable {nc : Int32} {kd px yy vc ip dr yp yf ys yb yz : Nat → Int32}
theorem gz_alongL {e : Nat} (he : e < 3) : ∀ q c, c + q = 12 → ∀ y1 y2 : Nat → Int32, (∀ j, j < c → y1 j = dr (12 * e + j)) → ∃ z1 z2 : Nat → Int32, (∀ j, j < 12 → z1 j = dr (12 * e + j)) ∧
    ∀ (post : Int32 → SY → Prop) (x1 x2 : Int32), wY_along_15 post x1 x2 (nI e) nc 1 (nI 12) kd px yy vc ip dr z1 z2 yp yf ys yb yz → wY_along_15 post x1 x2 (nI e) nc (q + 1) (nI c) kd px yy vc ip dr y1 y2 yp yf ys yb yz := by
  intro q
  induction q with
  | zero =>
    intro c hc y1 y2 h1
    have e12 : c = 12 := by omega
    subst e12
    exact ⟨y1, y2, h1, fun post x1 x2 hp => hp⟩
  | succ q ih =>
    intro c hc y1 y2 h1
    have h12 : ¬ (12 : Int32) ≤ nI c := nI_ge (b := 12) (by omega) (by decide)
    have hi : vp_in (nI c) 12 := vp_in_nI (by omega) (by omega)
    have ec : (nI c).toNatClampNeg = c := nI_clamp (by omega)
    have hix : (12 : Int32) * nI e + nI c = nI (12 * e + c) := by rw [ge_n12, nI_add]
    have hi36 : vp_in (12 * nI e + nI c) 36 := by rw [hix]; exact vp_in_nI (by omega) (by omega)
    obtain ⟨z1, z2, s1, hw⟩ := ih (c + 1) (by omega) (upd y1 c (dr (12 * e + c))) (upd y2 c 0) (fun j hj => by
      by_cases e' : j = c
      · subst e'; exact pk_us
      · rw [pk_un e']; exact h1 j (by omega))
    exact ⟨z1, z2, s1, fun post x1 x2 hp => br_f h12 (And.intro hi36 (And.intro hi (nm_r (e' := upd y1 c (dr (12 * e + c))) (by rw [ec, hix, nI_clamp (by omega)]) (And.intro hi (nm_r (e' := upd y2 c 0) (by rw [ec]) (nm_r (nI_1 c) (hw post x1 x2 hp)))))))⟩
end
theorem i_vc_value {k : Nat} {u : SX} {v : SY} (I : i_Rel k u v) (hk : k + 5 ≤ 2560) (v1 : Int32) (v2 : Int32) (v3 : Int32) : wpX_value (fun r u' => wpY_value (fun r' v' => r' = r ∧ i_Rel (k + 5) u' v') v v1 v2 v3) u v1 v2 v3 := by
  refine gr_el (P := fun u v => wpX_value (fun r u' => wpY_value (fun r' v' => r' = r ∧ i_Rel (k + 5) u' v') v v1 v2 v3) u v1 v2 v3) I ?_
  intro N lv le fc kd px py vc ip dr op fi se nu wi na re sl fs so la yy y1 y2 yp yf ys yb yz h
  have hN := h.1.1
  unfold wpX_value wpY_value
  rcases gr_part h v1 v2 v3 with ⟨n, i, e, hn, hi, he, rfl, rfl, rfl, hv, hX, hY⟩ | ⟨hX, hY⟩
  · have hin : vp_in (nI n) 12 := vp_in_nI (by omega) (by omega)
    have ec : (nI n).toNatClampNeg = n := nI_clamp (by omega)
    obtain ⟨L, nb, ⟨s1, s2, s3, s4, s5⟩, wT⟩ := gt_trace (nc := nI N) (lv := lv) (fc := fc) (ip := ip) (dr := dr) (re := re) (sl := sl) (fs := fs) (so := so) (la := la) h.1 hn le op fi se nu wi na
    obtain ⟨p, ep, hp, hwp, hvp⟩ := s2 n (by omega)
    obtain ⟨f', rf, ft, sp, lb, hout, wW⟩ := gk_workOut (nc := nI N) (lv := lv) (fc := fc) (kd := kd) (px := px) (py := py) (vc := vc) (ip := ip) (dr := dr) (na := nb) (re := re) (sl := sl) (fs := fs) (so := so) (la := la) s1 hp (by omega)
    obtain ⟨z1, z2, _, _, wS⟩ := gy_seed (nc := nI N) (kd := kd) (px := px) (yy := yy) (vc := vc) (ip := ip) (dr := dr) (y1 := y1) (y2 := y2) (yp := yp) (yf := yf) (ys := ys) (yb := yb) (yz := yz) (-1) (-1)
    obtain ⟨zp, zf, zs, zb, hat, wA⟩ := gy_workAll (ip := ip) (dr := dr) (y1 := z1) (y2 := z2) (yz := yz) (yp := yp) (yf := yf) (ys := ys) (yb := yb) h.2.1 (ge_dv dr e) he
    have hix : (4 : Int32) * nI n + nI i = nI (4 * n + i) := by rw [ge_n4, nI_add]
    have hin2 : vp_in (4 * nI n + nI i) 48 := by rw [hix]; exact vp_in_nI (by omega) (by omega)
    refine hX _ (br_f (by decide) (wT _ (And.intro hin ?_)))
    rw [ec, ep]
    refine wW _ i e hi he ?_
    refine hY _ (br_f (by decide) (wS _ (wA _ (And.intro hin2 ?_))))
    refine And.intro ?_ (gr_mk h)
    rw [hix, nI_clamp (by omega), gv_V ip dr z1 z2, ← gz_eq h hvp hat hn hi hv]
    rfl
  · exact hX _ (br_t rfl (hY _ (br_t rfl (And.intro rfl (gr_mk h)))))
theorem i_vc_along {k : Nat} {u : SX} {v : SY} (I : i_Rel k u v) (hk : k + 5 ≤ 2560) (v1 : Int32) (v2 : Int32) (v3 : Int32) : wpX_along (fun r u' => wpY_along (fun r' v' => r' = r ∧ i_Rel (k + 5) u' v') v v1 v2 v3) u v1 v2 v3 := by
  refine gr_el (P := fun u v => wpX_along (fun r u' => wpY_along (fun r' v' => r' = r ∧ i_Rel (k + 5) u' v') v v1 v2 v3) u v1 v2 v3) I ?_
  intro N lv le fc kd px py vc ip dr op fi se nu wi na re sl fs so la yy y1 y2 yp yf ys yb yz h
  have hN := h.1.1
  unfold wpX_along wpY_along
  rcases gr_part h v1 v2 v3 with ⟨n, i, e, hn, hi, he, rfl, rfl, rfl, hv, hX, hY⟩ | ⟨hX, hY⟩
  · have hin : vp_in (nI n) 12 := vp_in_nI (by omega) (by omega)
    have ec : (nI n).toNatClampNeg = n := nI_clamp (by omega)
    obtain ⟨L, nb, ⟨s1, s2, s3, s4, s5⟩, wT⟩ := gt_trace (nc := nI N) (lv := lv) (fc := fc) (ip := ip) (dr := dr) (re := re) (sl := sl) (fs := fs) (so := so) (la := la) h.1 hn le op fi se nu wi na
    obtain ⟨p, ep, hp, hwp, hvp⟩ := s2 n (by omega)
    obtain ⟨M, rf, ⟨m1, m2, m3, m4⟩, wF⟩ := gf_forwards (nc := nI N) (lv := lv) (fc := fc) (kd := kd) (px := px) (py := py) (vc := vc) (ip := ip) (dr := dr) (na := nb) (re := re) (sl := sl) (fs := fs) (so := so) (la := la) s1 hp (by omega) (fun i hi => gt_no11 s5 hi)
    obtain ⟨z1, z2, hz1, wS⟩ := gz_alongL (nc := nI N) (kd := kd) (px := px) (yy := yy) (vc := vc) (ip := ip) (dr := dr) (yp := yp) (yf := yf) (ys := ys) (yb := yb) (yz := yz) he 12 0 rfl y1 y2 (fun j hj => by omega)
    obtain ⟨zp, zf, zs, zb, hat, wA⟩ := gy_workAll (ip := ip) (dr := dr) (y1 := z1) (y2 := z2) (yz := yz) (yp := yp) (yf := yf) (ys := ys) (yb := yb) h.2.1 (ge_dv dr e) he
    have hix : (4 : Int32) * nI n + nI i = nI (4 * n + i) := by rw [ge_n4, nI_add]
    have hin2 : vp_in (4 * nI n + nI i) 48 := by rw [hix]; exact vp_in_nI (by omega) (by omega)
    have hE : gf_E (gy_iv ip z1 z2 e) (ge_dv dr e) := fun j hj => hz1 j hj
    have hg := (m4 p (by omega)).2 (gy_iv ip z1 z2 e) (ge_dv dr e) hE i hi
    have hans : zf (4 * n + i) = gf_ac (gy_iv ip z1 z2 e) (ge_dv dr e) M (rf p) i := by
      rw [hg, gl_val_ext m1 hp, ← gz_eq h hvp hat hn hi hv]
      rfl
    refine hX _ (br_f (by decide) (wT _ (And.intro hin ?_)))
    rw [ec, ep]
    refine wF _ ?_
    have hM := m2.1
    rcases (m4 p (by omega)).1 with ez | ⟨g, hg', ez, _⟩
    · rw [ez, gf_ac_m1] at hans
      refine br_f (by rw [ez]; decide) ?_
      refine hY _ (br_f (by decide) ⟨12 + 1, wS _ _ _ (br_t (nI_le (a := 12) (b := 12) (by omega) (by decide)) (wA _ (And.intro hin2 ?_)))⟩)
      refine And.intro ?_ (gr_mk h)
      rw [hix, nI_clamp (by omega), hans]
    · rw [ez, gf_ac_n _ _ M (by omega)] at hans
      obtain ⟨f', rf2, ft, sp, lb, hout, wW⟩ := gk_workOut (nc := nI N) (lv := lv) (fc := fc) (kd := kd) (px := px) (py := py) (vc := vc) (ip := ip) (dr := dr) (na := nb) (re := rf) (sl := sl) (fs := fs) (so := so) (la := la) m2 hg' (by omega)
      show wpX_workOut _ _ (rf p) (nI i) (nI e)
      rw [ez]
      refine wW _ i e hi he ?_
      refine hY _ (br_f (by decide) ⟨12 + 1, wS _ _ _ (br_t (nI_le (a := 12) (b := 12) (by omega) (by decide)) (wA _ (And.intro hin2 ?_)))⟩)
      refine And.intro ?_ (gr_mk h)
      rw [hix, nI_clamp (by omega), hans, gv_V ip dr z1 z2]
  · exact hX _ (br_t rfl (hY _ (br_t rfl (And.intro rfl (gr_mk h)))))
end
section
/-! slope -/
theorem gz_I1 {iv : Nat → gh_T} {dv : Nat → Int32} {M : gl_L} {sm : Nat → Int32} {at' : Nat} (ha : at' < 12) (hz : ∀ j, j < 12 → (iv j).2.1 = if j = at' then 1 else 0) : gb_I true iv dv M sm = (gb_ac iv dv M (sm (at' / 4)) (at' % 4)).1 := by
  have p : ∀ v t : gh_T, gh_pr true v t = v.1 * t.2.1 := fun _ _ => rfl
  unfold gb_I
  rw [gb_pp1, gb_pp1, gb_pp1]
  simp only [p]
  rw [hz 0 (by omega), hz 1 (by omega), hz 2 (by omega), hz 3 (by omega), hz (4 + 0) (by omega), hz (4 + 1) (by omega), hz (4 + 2) (by omega), hz (4 + 3) (by omega), hz (8 + 0) (by omega), hz (8 + 1) (by omega), hz (8 + 2) (by omega), hz (8 + 3) (by omega)]
  have hc : at' = 0 ∨ at' = 1 ∨ at' = 2 ∨ at' = 3 ∨ at' = 4 ∨ at' = 5 ∨ at' = 6 ∨ at' = 7 ∨ at' = 8 ∨ at' = 9 ∨ at' = 10 ∨ at' = 11 := by omega
  rcases hc with rfl | rfl | rfl | rfl | rfl | rfl | rfl | rfl | rfl | rfl | rfl | rfl <;> simp
theorem gz_I0 {iv : Nat → gh_T} {dv : Nat → Int32} {M : gl_L} {sm : Nat → Int32} {at' : Nat} (ha : at' < 12) (hz : ∀ j, j < 12 → (iv j).2.1 = if j = at' then 1 else 0) (h0 : ∀ j, j < 12 → (iv j).2.2.2 = 0) : gb_I false iv dv M sm = (gb_ac iv dv M (sm (at' / 4)) (at' % 4)).2.2.1 := by
  have p : ∀ v t : gh_T, gh_pr false v t = v.1 * t.2.2.2 + v.2.2.1 * t.2.1 := fun _ _ => rfl
  unfold gb_I
  rw [gb_pp1, gb_pp1, gb_pp1]
  simp only [p]
  rw [hz 0 (by omega), hz 1 (by omega), hz 2 (by omega), hz 3 (by omega), hz (4 + 0) (by omega), hz (4 + 1) (by omega), hz (4 + 2) (by omega), hz (4 + 3) (by omega), hz (8 + 0) (by omega), hz (8 + 1) (by omega), hz (8 + 2) (by omega), hz (8 + 3) (by omega),
    h0 0 (by omega), h0 1 (by omega), h0 2 (by omega), h0 3 (by omega), h0 (4 + 0) (by omega), h0 (4 + 1) (by omega), h0 (4 + 2) (by omega), h0 (4 + 3) (by omega), h0 (8 + 0) (by omega), h0 (8 + 1) (by omega), h0 (8 + 2) (by omega), h0 (8 + 3) (by omega)]
  have hc : at' = 0 ∨ at' = 1 ∨ at' = 2 ∨ at' = 3 ∨ at' = 4 ∨ at' = 5 ∨ at' = 6 ∨ at' = 7 ∨ at' = 8 ∨ at' = 9 ∨ at' = 10 ∨ at' = 11 := by omega
  rcases hc with rfl | rfl | rfl | rfl | rfl | rfl | rfl | rfl | rfl | rfl | rfl | rfl <;> simp
theorem gz_sd {at' : Nat} (ha : at' < 12) {z : Nat → Int32} (h : gy_sd (nI at') z) : ∀ j, j < 12 → z j = if j = at' then 1 else 0 := by
  intro j hj
  rw [h j hj]
  by_cases e : j = at'
  · rw [if_pos e, if_pos (by rw [e])]
  · rw [if_neg e, if_neg (fun z => e ((nI_eq (by omega) (by omega)).mp z))]
/-- what trace and backwards leave -/
def gz_tb (NL L M : gl_L) (sm : Nat → Int32) (n p : Nat) : Prop :=
  gl_WF M ∧ gb_oks M sm ∧ (∀ k iv dv, gb_I k iv dv M sm = gh_pr k (gh_k 1) (gl_val iv dv NL n 0)) ∧ gl_ws gw_2 M ≤ 295 ∧ M.1 ≤ 293
section
variable {nc lv fc : Int32} {kd px py vc ip dr fs so la : Nat → Int32}
theorem gz_back {N : Nat} (hN : gn_ok N kd px py vc) {n : Nat} (hn : n < N) (hv : vc n = 0) (le : Int32) (op fi se nu wi na re sl : Nat → Int32) : ∃ L nb M rf sm p, gz_tb (gn_L N kd px py vc) L M sm n p ∧ nb n = nI p ∧
    (∀ post : SX → Prop, post (gx_S nc lv fc kd px py vc ip dr nb re sl fs so la L) → wpX_trace post (nc, lv, le, fc, kd, px, py, vc, ip, dr, op, fi, se, nu, wi, na, re, sl, fs, so, la) (nI n)) ∧ (∀ post : SX → Prop, post (gx_S nc lv fc kd px py vc ip dr nb rf sm fs so la M) → wpX_backwards post (gx_S nc lv fc kd px py vc ip dr nb re sl fs so la L) (nI p)) := by
  have hN12 := hN.1
  obtain ⟨L, nb, ⟨s1, s2, s3, s4, s5⟩, wT⟩ := gt_trace (nc := nc) (lv := lv) (fc := fc) (ip := ip) (dr := dr) (re := re) (sl := sl) (fs := fs) (so := so) (la := la) hN hn le op fi se nu wi na
  obtain ⟨p, ep, hp, hwp, hvp⟩ := s2 n (by omega)
  have s4' := s4 (by omega)
  have h2 := gw_ws2 L (show p + 1 ≤ L.1 by omega)
  have hT := gw_wsT L (show p + 1 ≤ L.1 by omega)
  obtain ⟨M, rf, sm, ⟨b1, b2, b3, b4, b5⟩, wB⟩ := gb_backwards (nc := nc) (lv := lv) (fc := fc) (kd := kd) (px := px) (py := py) (vc := vc) (ip := ip) (dr := dr) (na := nb) (fs := fs) (so := so) (la := la) (re := re) (sl := sl) s1 hp (hwp.trans hv) (by omega)
  have c1 := b5 (fun _ => 1)
  rw [gl_ws1, gl_ws1, gw_1A] at c1
  have c2 := b5 gw_2
  rw [gw_A, gw_21] at c2
  refine ⟨L, nb, M, rf, sm, p, ⟨b2, b3, fun k iv dv => ?_, by omega, by omega⟩, ep, wT, wB⟩
  rw [b4, hvp iv dv 0 (by omega)]
end
/-- the slope that is worked out -/
def gz_x (ip dr : Nat → Int32) (M : gl_L) (sm : Nat → Int32) (at' e : Nat) : Int32 := gf_ac (ge_iv ip e) (ge_dv dr e) M (sm (at' / 4)) (at' % 4)
theorem gz_x_eq (ip dr z1 z2 : Nat → Int32) {M : gl_L} (hM : M.1 ≤ 450) {sm : Nat → Int32} (hs : gb_oks M sm) {at' : Nat} (ha : at' < 12) (e : Nat) : gz_x ip dr M sm at' e = (gb_ac (gy_iv ip z1 z2 e) (ge_dv dr e) M (sm (at' / 4)) (at' % 4)).1 := by
  unfold gz_x
  rcases hs (at' / 4) (by omega) with ez | ⟨g, hg, ez, _⟩
  · rw [ez, gf_ac_m1, gb_ac_m1]; rfl
  · rw [ez, gf_ac_n _ _ M (by omega), gb_ac_n _ _ M (by omega)]
    exact gv_V ip dr z1 z2 M e g (at' % 4)
section
variable {kd px py vc ip dr yy yz : Nat → Int32}
theorem gz_slopeY {N : Nat} (h : gr_ok N kd px py yy vc) {n : Nat} (hn : n < N) (hv : vc n = 0) {L M : gl_L} {sm : Nat → Int32} {p : Nat} (ht : gz_tb (gn_L N kd px py vc) L M sm n p)
    (hnum : ∀ (kd px yy ip dr y1 y2 yp yf ys yb yz : Nat → Int32) (post : Int32 → Prop), post 1 → wpY_isNumber post (nI N, kd, px, yy, vc, ip, dr, y1, y2, yp, yf, ys, yb, yz) (nI n)) {at' e : Nat} (ha : at' < 12) (he : e < 3) (y1 y2 yp yf ys yb : Nat → Int32) : ∃ z1 z2 zp zf zs zb : Nat → Int32,
    ∀ post : Int32 → SY → Prop, post (gz_x ip dr M sm at' e) (nI N, kd, px, yy, vc, ip, dr, z1, z2, zp, zf, zs, zb, yz) → wpY_slope post (nI N, kd, px, yy, vc, ip, dr, y1, y2, yp, yf, ys, yb, yz) (nI n) (nI at') (nI e) := by
  have hN := h.1.1
  obtain ⟨t1, t2, t3, t4, t5⟩ := ht
  obtain ⟨z1, z2, hz1, hz2, wS⟩ := gy_seed (nc := nI N) (kd := kd) (px := px) (yy := yy) (vc := vc) (ip := ip) (dr := dr) (y1 := y1) (y2 := y2) (yp := yp) (yf := yf) (ys := ys) (yb := yb) (yz := yz) (nI at') (-1)
  obtain ⟨zp, zf, zs, zb, hat, wA⟩ := gy_workAll (ip := ip) (dr := dr) (y1 := z1) (y2 := z2) (yz := yz) (yp := yp) (yf := yf) (ys := ys) (yb := yb) h.2.1 (ge_dv dr e) he
  refine ⟨z1, z2, zp, zf, zs, zb, fun post hp => ?_⟩
  unfold wpY_slope
  have hpl : ∀ (v : SY) (post : Int32 → Prop), post 1 → wpY_isPlace post v (nI at') (nI e) := by
    intro v post hp
    unfold wpY_isPlace
    exact br_f (nI_pos (by omega)) (br_f (nI_nlt (a := 11) (by omega) (by decide)) (br_f (by decide) (br_f (nI_pos (by omega)) (br_f (nI_nlt (a := 2) (by omega) (by decide)) (br_f (by decide) hp)))))
  have hin : vp_in (4 * nI n) 48 := by rw [ge_n4]; exact vp_in_nI (by omega) (by omega)
  refine hnum _ _ _ _ _ _ _ _ _ _ _ _ _ (br_f (by decide) (hpl _ _ (br_f (by decide) (wS _ (wA _ (And.intro hin ?_))))))
  rw [ge_n4, nI_clamp (by omega)]
  have hI := t3 true (gy_iv ip z1 z2 e) (ge_dv dr e)
  rw [gz_I1 ha (gz_sd ha hz1), ← gz_x_eq ip dr z1 z2 t1.1 t2 ha e] at hI
  have hy := hat n 0 (Or.inl hn) (by omega) (Or.inr rfl)
  have ha2 : zf (4 * n) = gz_x ip dr M sm at' e := by
    rw [hI, ← gl_val_ext (gr_ext h) (show n < N from hn), ← hy]
    show zf (4 * n) = 1 * zf (4 * n + 0)
    rw [Int32.one_mul]
    rfl
  rw [ha2]
  exact hp
end
theorem i_vc_slope {k : Nat} {u : SX} {v : SY} (I : i_Rel k u v) (hk : k + 5 ≤ 2560) (v1 : Int32) (v2 : Int32) (v3 : Int32) : wpX_slope (fun r u' => wpY_slope (fun r' v' => r' = r ∧ i_Rel (k + 5) u' v') v v1 v2 v3) u v1 v2 v3 := by
  refine gr_el (P := fun u v => wpX_slope (fun r u' => wpY_slope (fun r' v' => r' = r ∧ i_Rel (k + 5) u' v') v v1 v2 v3) u v1 v2 v3) I ?_
  intro N lv le fc kd px py vc ip dr op fi se nu wi na re sl fs so la yy y1 y2 yp yf ys yb yz h
  have hN := h.1.1
  unfold wpX_slope
  rcases gr_num h v1 with ⟨n, hn, rfl, hv, hX, hY⟩ | ⟨hX, hY⟩
  · rcases gr_comp v2 v3 with ⟨a, e, ha, he, rfl, rfl, cX, cY⟩ | ⟨cX, cY⟩
    · have hin : vp_in (nI n) 12 := vp_in_nI (by omega) (by omega)
      have ec : (nI n).toNatClampNeg = n := nI_clamp (by omega)
      obtain ⟨L, nb, M, rf, sm, p, ht, ep, wT, wB⟩ := gz_back (nc := nI N) (lv := lv) (fc := fc) (ip := ip) (dr := dr) (fs := fs) (so := so) (la := la) h.1 hn hv le op fi se nu wi na re sl
      obtain ⟨z1, z2, zp, zf, zs, zb, wY⟩ := gz_slopeY (ip := ip) (dr := dr) (yz := yz) h hn hv ht hY ha he y1 y2 yp yf ys yb
      have ed : nI a / 4 = nI (a / 4) := pk_div (d := 4) (by omega) (by omega) (by omega)
      have em : nI a - nI a / 4 * 4 = nI (a % 4) := pk_rem (d := 4) (by omega) (by omega) (by omega)
      have hin3 : vp_in (nI a / 4) 3 := by rw [ed]; exact vp_in_nI (by omega) (by omega)
      refine hX _ _ _ _ _ _ _ _ _ _ _ _ _ _ _ _ _ _ _ _ (br_f (by decide) (cX _ _ (br_f (by decide) (wT _ (And.intro hin ?_)))))
      rw [ec, ep]
      refine wB _ (And.intro (by decide) (And.intro hin3 (And.intro (by decide) ?_)))
      rw [em, ed, nI_clamp (by omega)]
      rcases ht.2.1 (a / 4) (by omega) with ez | ⟨g, hg, ez, _⟩
      · rw [ez]
        refine br_f (by decide) (wY _ (And.intro ?_ (gr_mk h)))
        unfold gz_x
        rw [ez, gf_ac_m1]
      · obtain ⟨f', rf2, ft, sp, lb, hout, wW⟩ := gk_workOut (nc := nI N) (lv := lv) (fc := fc) (kd := kd) (px := px) (py := py) (vc := vc) (ip := ip) (dr := dr) (na := nb) (re := rf) (sl := sm) (fs := fs) (so := so) (la := la) ht.1 hg (by have := ht.2.2.2.2; omega)
        rw [ez]
        refine wW _ (a % 4) e (by omega) he (wY _ (And.intro ?_ (gr_mk h)))
        unfold gz_x
        rw [ez, gf_ac_n _ _ M (by have := ht.1.1; omega)]
        rfl
    · refine hX _ _ _ _ _ _ _ _ _ _ _ _ _ _ _ _ _ _ _ _ (br_f (by decide) (cX _ _ (br_t rfl ?_)))
      unfold wpY_slope
      exact hY _ _ _ _ _ _ _ _ _ _ _ _ _ (br_f (by decide) (cY _ _ (br_t rfl (And.intro rfl (gr_mk h)))))
  · refine hX _ _ _ _ _ _ _ _ _ _ _ _ _ _ _ _ _ _ _ _ (br_t rfl ?_)
    unfold wpY_slope
    exact hY _ _ _ _ _ _ _ _ _ _ _ _ _ (br_t rfl (And.intro rfl (gr_mk h)))
end
section
/-! slopeOfAll, step -/
/-- a slope that the reference refuses is 0 -/
theorem gz_slopeY0 {N : Nat} {kd px yy vc ip dr y1 y2 yp yf ys yb yz : Nat → Int32} {n a e : Int32} (h : (∀ (kd px yy ip dr y1 y2 yp yf ys yb yz : Nat → Int32) (post : Int32 → Prop), post 0 → wpY_isNumber post (nI N, kd, px, yy, vc, ip, dr, y1, y2, yp, yf, ys, yb, yz) n) ∨
    ((∀ (kd px yy ip dr y1 y2 yp yf ys yb yz : Nat → Int32) (post : Int32 → Prop), post 1 → wpY_isNumber post (nI N, kd, px, yy, vc, ip, dr, y1, y2, yp, yf, ys, yb, yz) n) ∧ (a < 0 ∨ (¬ a < 0 ∧ 11 < a)))) (post : Int32 → SY → Prop) (hp : post 0 (nI N, kd, px, yy, vc, ip, dr, y1, y2, yp, yf, ys, yb, yz)) : wpY_slope post (nI N, kd, px, yy, vc, ip, dr, y1, y2, yp, yf, ys, yb, yz) n a e := by
  unfold wpY_slope
  rcases h with h | ⟨h, ha⟩
  · exact h _ _ _ _ _ _ _ _ _ _ _ _ _ (br_t rfl hp)
  · refine h _ _ _ _ _ _ _ _ _ _ _ _ _ (br_f (by decide) ?_)
    unfold wpY_isPlace
    rcases ha with ha | ⟨ha, hb⟩
    · exact br_t ha (br_t rfl (br_t rfl hp))
    · exact br_f ha (br_t hb (br_t rfl (br_t rfl hp)))
theorem i_vc_slopeOfAll {k : Nat} {u : SX} {v : SY} (I : i_Rel k u v) (hk : k + 5 ≤ 2560) (v1 : Int32) (v2 : Int32) : wpX_slopeOfAll (fun r u' => wpY_slopeOfAll (fun r' v' => r' = r ∧ i_Rel (k + 5) u' v') v v1 v2) u v1 v2 := by
  refine gr_el (P := fun u v => wpX_slopeOfAll (fun r u' => wpY_slopeOfAll (fun r' v' => r' = r ∧ i_Rel (k + 5) u' v') v v1 v2) u v1 v2) I ?_
  intro N lv le fc kd px py vc ip dr op fi se nu wi na re sl fs so la yy y1 y2 yp yf ys yb yz h
  have hN := h.1.1
  unfold wpX_slopeOfAll wpY_slopeOfAll
  rcases gr_num h v1 with ⟨n, hn, rfl, hv, hX, hY⟩ | ⟨hX, hY⟩
  · by_cases a0 : v2 < 0
    · have hz : ∀ (e : Int32) (post : Int32 → SY → Prop), post 0 (nI N, kd, px, yy, vc, ip, dr, y1, y2, yp, yf, ys, yb, yz) → wpY_slope post (nI N, kd, px, yy, vc, ip, dr, y1, y2, yp, yf, ys, yb, yz) (nI n) v2 e := fun e post hp => gz_slopeY0 (Or.inr ⟨hY, Or.inl a0⟩) post hp
      exact hX _ _ _ _ _ _ _ _ _ _ _ _ _ _ _ _ _ _ _ _ (br_f (by decide) (br_t a0 (hz _ _ (hz _ _ (hz _ _ (And.intro (by decide) (gr_mk h)))))))
    · by_cases a11 : v2 ≤ 11
      · obtain ⟨a, ha, rfl⟩ := nI_of2 (M := 11) (n := 11) (by decide) a0 a11
        have hin : vp_in (nI n) 12 := vp_in_nI (by omega) (by omega)
        have ec : (nI n).toNatClampNeg = n := nI_clamp (by omega)
        obtain ⟨L, nb, M, rf, sm, p, ht, ep, wT, wB⟩ := gz_back (nc := nI N) (lv := lv) (fc := fc) (ip := ip) (dr := dr) (fs := fs) (so := so) (la := la) h.1 hn hv le op fi se nu wi na re sl
        obtain ⟨b1, b2, bp, bf, bs, bb, wY1⟩ := gz_slopeY (ip := ip) (dr := dr) (yz := yz) h hn hv ht hY (at' := a) (e := 0) (by omega) (by omega) y1 y2 yp yf ys yb
        obtain ⟨c1, c2, cp, cf, cs, cb, wY2⟩ := gz_slopeY (ip := ip) (dr := dr) (yz := yz) h hn hv ht hY (at' := a) (e := 1) (by omega) (by omega) b1 b2 bp bf bs bb
        obtain ⟨d1, d2, dp, df, ds, db, wY3⟩ := gz_slopeY (ip := ip) (dr := dr) (yz := yz) h hn hv ht hY (at' := a) (e := 2) (by omega) (by omega) c1 c2 cp cf cs cb
        have ed : nI a / 4 = nI (a / 4) := pk_div (d := 4) (by omega) (by omega) (by omega)
        have em : nI a - nI a / 4 * 4 = nI (a % 4) := pk_rem (d := 4) (by omega) (by omega) (by omega)
        have hin3 : vp_in (nI a / 4) 3 := by rw [ed]; exact vp_in_nI (by omega) (by omega)
        refine hX _ _ _ _ _ _ _ _ _ _ _ _ _ _ _ _ _ _ _ _ (br_f (by decide) (br_f a0 (br_t a11 (wT _ (And.intro hin ?_)))))
        rw [ec, ep]
        refine wB _ (And.intro (by decide) (And.intro hin3 (nm_r (e' := sm (a / 4)) (by rw [ed, nI_clamp (by omega)]) ?_)))
        rcases ht.2.1 (a / 4) (by omega) with ez | ⟨g, hg, ez, _⟩
        · have hx : ∀ e, gz_x ip dr M sm a e = 0 := fun e => by unfold gz_x; rw [ez, gf_ac_m1]
          rw [hx] at wY1 wY2 wY3
          rw [ez]
          exact br_f (by decide) (wY1 _ (wY2 _ (wY3 _ (And.intro (by decide) (gr_mk h)))))
        · obtain ⟨f', rf2, ft, sp, lb, ⟨s, hout⟩, wW⟩ := gk_workOut (nc := nI N) (lv := lv) (fc := fc) (kd := kd) (px := px) (py := py) (vc := vc) (ip := ip) (dr := dr) (na := nb) (re := rf) (sl := sm) (fs := fs) (so := so) (la := la) ht.1 hg (by have := ht.2.2.2.2; omega)
          have hM := ht.1.1
          have hx : ∀ e, gz_x ip dr M sm a e = ge_V ip dr M e g (a % 4) := fun e => by
            unfold gz_x
            rw [ez, gf_ac_n _ _ M (by omega)]
            rfl
          rw [hx] at wY1 wY2 wY3
          rw [ez]
          refine br_t (nI_pos' (by omega)) (wW _ 0 0 (by omega) (by omega) ⟨4, ?_⟩)
          refine br_f (by decide) (And.intro (by decide) ?_)
          rw [em]
          refine ge_laneOf hM (hout 0 (by omega)) (by omega) (show a % 4 < 4 by omega) _ (nm_r (Int32.zero_add _) (nm_r (e' := nI 1) (by decide) ?_))
          refine br_f (by decide) (And.intro (by decide) ?_)
          rw [em]
          refine ge_laneOf hM (hout 1 (by omega)) (by omega) (show a % 4 < 4 by omega) _ (nm_e (nm_r (e' := nI 2) (by decide) ?_))
          refine br_f (by decide) (And.intro (by decide) ?_)
          rw [em]
          refine ge_laneOf hM (hout 2 (by omega)) (by omega) (show a % 4 < 4 by omega) _ (nm_e (nm_r (e' := nI 3) (by decide) ?_))
          exact br_t (by decide) (wY1 _ (wY2 _ (wY3 _ (And.intro rfl (gr_mk h)))))
      · have hz : ∀ (e : Int32) (post : Int32 → SY → Prop), post 0 (nI N, kd, px, yy, vc, ip, dr, y1, y2, yp, yf, ys, yb, yz) → wpY_slope post (nI N, kd, px, yy, vc, ip, dr, y1, y2, yp, yf, ys, yb, yz) (nI n) v2 e := fun e post hp => gz_slopeY0 (Or.inr ⟨hY, Or.inr ⟨a0, Int32.not_le.mp a11⟩⟩) post hp
        exact hX _ _ _ _ _ _ _ _ _ _ _ _ _ _ _ _ _ _ _ _ (br_f (by decide) (br_f a0 (br_f a11 (hz _ _ (hz _ _ (hz _ _ (And.intro (by decide) (gr_mk h))))))))
  · have hz : ∀ (e : Int32) (post : Int32 → SY → Prop), post 0 (nI N, kd, px, yy, vc, ip, dr, y1, y2, yp, yf, ys, yb, yz) → wpY_slope post (nI N, kd, px, yy, vc, ip, dr, y1, y2, yp, yf, ys, yb, yz) v1 v2 e := fun e post hp => gz_slopeY0 (Or.inl hY) post hp
    exact hX _ _ _ _ _ _ _ _ _ _ _ _ _ _ _ _ _ _ _ _ (br_t rfl (hz _ _ (hz _ _ (hz _ _ (And.intro (by decide) (gr_mk h))))))
/-- the inputs behind c steps -/
def gz_st (ip : Nat → Int32) (b : Nat) (rt : Int32) (s : Nat → Int32) : Nat → Nat → Int32
  | 0 => ip
  | c + 1 => upd (gz_st ip b rt s c) (b + c) (gz_st ip b rt s c (b + c) - rt * s c)
theorem gz_st0 (ip : Nat → Int32) (b : Nat) (rt : Int32) (s : Nat → Int32) : ∀ c, (∀ j, j < c → s j = 0) → gz_st ip b rt s c = ip := by
  intro c
  induction c with
  | zero => intro _; rfl
  | succ c ih =>
    intro hs
    show upd (gz_st ip b rt s c) (b + c) (gz_st ip b rt s c (b + c) - rt * s c) = ip
    rw [ih (fun j hj => hs j (by omega)), hs c (by omega), Int32.mul_zero, Int32.sub_zero]
    funext j
    unfold upd
    split
    · rename_i e; rw [e]
    · rfl
theorem gz_st_congr {ip : Nat → Int32} {b : Nat} {rt : Int32} {s t : Nat → Int32} : ∀ c, (∀ j, j < c → s j = t j) → gz_st ip b rt s c = gz_st ip b rt t c := by
  intro c
  induction c with
  | zero => intro _; rfl
  | succ c ih =>
    intro hs
    show upd (gz_st ip b rt s c) (b + c) (gz_st ip b rt s c (b + c) - rt * s c) = upd (gz_st ip b rt t c) (b + c) (gz_st ip b rt t c (b + c) - rt * t c)
    rw [ih (fun j hj => hs j (by omega)), hs c (by omega)]
section
variable {nc lv fc : Int32} {kd px py vc ip dr na re sl fs so la : Nat → Int32}
theorem gz_step70 {M : gl_L} (hM : M.1 ≤ 450) {q e g s : Nat} {rt : Int32} {V : Nat → Int32} (hq : q < 3) (he : e < 3) (hln : ge_ln M so la g s e V) (post : Int32 → SX → Prop) (hp : post 1 (gx_S nc lv fc kd px py vc (gz_st ip (12 * e + 4 * q) rt V 4) dr na re sl fs so la M)) :
    ∀ d c, c + d = 4 → wX_step_70 post (nI q) (nI e) rt (nI g) nc lv (nI M.1) fc (d + 1) (nI c) kd px py vc (gz_st ip (12 * e + 4 * q) rt V c) dr (gl_op M) (gl_fi M) (gl_se M) (gl_nu M) (gl_wi M) na re sl fs so la := by
  intro d
  induction d with
  | zero =>
    intro c hc
    have e4 : c = 4 := by omega
    subst e4
    exact br_t (nI_le (a := 4) (b := 4) (by omega) (by decide)) hp
  | succ d ih =>
    intro c hc
    have hix : (12 * nI e + 4 * nI q) + nI c = nI (12 * e + 4 * q + c) := ge_ix e q c
    have hi : vp_in ((12 * nI e + 4 * nI q) + nI c) 36 := by rw [hix]; exact vp_in_nI (by omega) (by omega)
    exact br_f (nI_ge (b := 4) (by omega) (by decide)) (ge_laneOf hM hln he (by omega) _ (And.intro hi (And.intro hi (nm_r (e' := gz_st ip (12 * e + 4 * q) rt V (c + 1)) (by rw [hix, nI_clamp (by omega)]; rfl) (nm_r (nI_1 c) (ih (c + 1) (by omega)))))))
end
section
variable {nc : Int32} {kd px yy vc ip dr y1 y2 yp yf ys yb yz : Nat → Int32}
theorem gz_step67 {q e : Nat} {rt : Int32} (hq : q < 3) (he : e < 3) (post : Int32 → SY → Prop) (hp : post 1 (nc, kd, px, yy, vc, gz_st ip (12 * e + 4 * q) rt yz 4, dr, y1, y2, yp, yf, ys, yb, yz)) :
    ∀ d c, c + d = 4 → wY_step_67 post (nI q) (nI e) rt nc (d + 1) (nI c) kd px yy vc (gz_st ip (12 * e + 4 * q) rt yz c) dr y1 y2 yp yf ys yb yz := by
  intro d
  induction d with
  | zero =>
    intro c hc
    have e4 : c = 4 := by omega
    subst e4
    exact br_t (nI_le (a := 4) (b := 4) (by omega) (by decide)) hp
  | succ d ih =>
    intro c hc
    have hix : (12 * nI e + 4 * nI q) + nI c = nI (12 * e + 4 * q + c) := ge_ix e q c
    have hi : vp_in ((12 * nI e + 4 * nI q) + nI c) 36 := by rw [hix]; exact vp_in_nI (by omega) (by omega)
    have hj : vp_in (nI c) 4 := vp_in_nI (by omega) (by omega)
    exact br_f (nI_ge (b := 4) (by omega) (by decide)) (And.intro hi (And.intro hj (And.intro hi (nm_r (e' := gz_st ip (12 * e + 4 * q) rt yz (c + 1)) (by rw [hix, nI_clamp (by omega), nI_clamp (by omega)]; rfl) (nm_r (nI_1 c) (ih (c + 1) (by omega)))))))
end
section
variable {kd px py vc ip dr yy : Nat → Int32}
theorem gz_step33 {N : Nat} (h : gr_ok N kd px py yy vc) {n : Nat} (hn : n < N) (hv : vc n = 0) {L M : gl_L} {sm : Nat → Int32} {p : Nat} (ht : gz_tb (gn_L N kd px py vc) L M sm n p)
    (hnum : ∀ (kd px yy ip dr y1 y2 yp yf ys yb yz : Nat → Int32) (post : Int32 → Prop), post 1 → wpY_isNumber post (nI N, kd, px, yy, vc, ip, dr, y1, y2, yp, yf, ys, yb, yz) (nI n)) {q e : Nat} (hq : q < 3) (he : e < 3) : ∀ d c, c + d = 4 → ∀ y1 y2 yp yf ys yb yz : Nat → Int32, (∀ j, j < c → yz j = gz_x ip dr M sm (4 * q + j) e) →
    ∃ z1 z2 zp zf zs zb zz : Nat → Int32, (∀ j, j < 4 → zz j = gz_x ip dr M sm (4 * q + j) e) ∧
    ∀ (post : Int32 → SY → Prop) (rt : Int32), wY_step_33 post (nI n) (nI q) (nI e) rt 1 (nI 4) (nI N) kd px yy vc ip dr z1 z2 zp zf zs zb zz → wY_step_33 post (nI n) (nI q) (nI e) rt (d + 1) (nI c) (nI N) kd px yy vc ip dr y1 y2 yp yf ys yb yz := by
  intro d
  induction d with
  | zero =>
    intro c hc y1 y2 yp yf ys yb yz hz
    have e4 : c = 4 := by omega
    subst e4
    exact ⟨y1, y2, yp, yf, ys, yb, yz, hz, fun post rt hp => hp⟩
  | succ d ih =>
    intro c hc y1 y2 yp yf ys yb yz hz
    have hj : vp_in (nI c) 4 := vp_in_nI (by omega) (by omega)
    have ec : (nI c).toNatClampNeg = c := nI_clamp (by omega)
    obtain ⟨a1, a2, ap, af, as', ab, wY⟩ := gz_slopeY (ip := ip) (dr := dr) (yz := yz) h hn hv ht hnum (at' := 4 * q + c) (e := e) (by omega) he y1 y2 yp yf ys yb
    obtain ⟨z1, z2, zp, zf, zs, zb, zz, hzz, hw⟩ := ih (c + 1) (by omega) a1 a2 ap af as' ab (upd yz c (gz_x ip dr M sm (4 * q + c) e)) (fun j hj => by
      by_cases e' : j = c
      · subst e'; exact pk_us
      · rw [pk_un e']; exact hz j (by omega))
    refine ⟨z1, z2, zp, zf, zs, zb, zz, hzz, fun post rt hp => br_f (nI_ge (b := 4) (by omega) (by decide)) ?_⟩
    rw [ge_n4, nI_add]
    exact wY _ (And.intro hj (nm_r (e' := upd yz c (gz_x ip dr M sm (4 * q + c) e)) (by rw [ec]) (nm_r (nI_1 c) (hw post rt hp))))
end
theorem i_vc_step {k : Nat} {u : SX} {v : SY} (I : i_Rel k u v) (hk : k + 5 ≤ 2560) (v1 : Int32) (v2 : Int32) (v3 : Int32) (v4 : Int32) : wpX_step (fun r u' => wpY_step (fun r' v' => r' = r ∧ i_Rel (k + 5) u' v') v v1 v2 v3 v4) u v1 v2 v3 v4 := by
  refine gr_el (P := fun u v => wpX_step (fun r u' => wpY_step (fun r' v' => r' = r ∧ i_Rel (k + 5) u' v') v v1 v2 v3 v4) u v1 v2 v3 v4) I ?_
  intro N lv le fc kd px py vc ip dr op fi se nu wi na re sl fs so la yy y1 y2 yp yf ys yb yz h
  have hN := h.1.1
  unfold wpX_step wpY_step
  rcases gr_num h v1 with ⟨n, hn, rfl, hv, hX, hY⟩ | ⟨hX, hY⟩
  · by_cases q0 : v2 < 0
    · exact hX _ _ _ _ _ _ _ _ _ _ _ _ _ _ _ _ _ _ _ _ (br_f (by decide) (br_t q0 (hY _ _ _ _ _ _ _ _ _ _ _ _ _ (br_f (by decide) (br_t q0 (br_t rfl (And.intro rfl (gr_mk h))))))))
    · by_cases q2 : 2 < v2
      · exact hX _ _ _ _ _ _ _ _ _ _ _ _ _ _ _ _ _ _ _ _ (br_f (by decide) (br_f q0 (br_t q2 (hY _ _ _ _ _ _ _ _ _ _ _ _ _ (br_f (by decide) (br_f q0 (br_t q2 (br_t rfl (And.intro rfl (gr_mk h))))))))))
      · by_cases e0 : v3 < 0
        · exact hX _ _ _ _ _ _ _ _ _ _ _ _ _ _ _ _ _ _ _ _ (br_f (by decide) (br_f q0 (br_f q2 (br_t e0 (hY _ _ _ _ _ _ _ _ _ _ _ _ _ (br_f (by decide) (br_f q0 (br_f q2 (br_f (by decide) (br_t e0 (br_t rfl (And.intro rfl (gr_mk h)))))))))))))
        · by_cases e2 : v3 ≤ 2
          · obtain ⟨q, hq, rfl⟩ := nI_of2 (M := 2) (n := 2) (by decide) q0 (Int32.not_lt.mp q2)
            obtain ⟨e, he, rfl⟩ := nI_of2 (M := 2) (n := 2) (by decide) e0 e2
            have hin : vp_in (nI n) 12 := vp_in_nI (by omega) (by omega)
            have ec : (nI n).toNatClampNeg = n := nI_clamp (by omega)
            have hin3 : vp_in (nI q) 3 := vp_in_nI (by omega) (by omega)
            have ecq : (nI q).toNatClampNeg = q := nI_clamp (by omega)
            obtain ⟨L, nb, M, rf, sm, p, ht, ep, wT, wB⟩ := gz_back (nc := nI N) (lv := lv) (fc := fc) (ip := ip) (dr := dr) (fs := fs) (so := so) (la := la) h.1 hn hv le op fi se nu wi na re sl
            obtain ⟨z1, z2, zp, zf, zs, zb, zz, hzz, w33⟩ := gz_step33 (ip := ip) (dr := dr) h hn hv ht hY (q := q) (e := e) (by omega) (by omega) 4 0 rfl y1 y2 yp yf ys yb yz (fun j hj => by omega)
            have hq4 : ∀ j, j < 4 → (4 * q + j) / 4 = q ∧ (4 * q + j) % 4 = j := fun j hj => by omega
            have hM := ht.1.1
            refine hX _ _ _ _ _ _ _ _ _ _ _ _ _ _ _ _ _ _ _ _ (br_f (by decide) (br_f q0 (br_f q2 (br_f e0 (br_t e2 (wT _ (And.intro hin ?_)))))))
            rw [ec, ep]
            refine wB _ (And.intro hin3 (nm_r (e' := sm q) (by rw [ecq]) ?_))
            rcases ht.2.1 q (by omega) with ez | ⟨g, hg, ez, _⟩
            · have hs0 : ∀ j, j < 4 → zz j = 0 := fun j hj => by
                rw [hzz j hj]
                unfold gz_x
                rw [(hq4 j hj).1, ez, gf_ac_m1]
              have hp67 := gz_step67 (nc := nI N) (kd := kd) (px := px) (yy := yy) (vc := vc) (ip := ip) (dr := dr) (y1 := z1) (y2 := z2) (yp := zp) (yf := zf) (ys := zs) (yb := zb) (yz := zz) (q := q) (e := e) (rt := v4) (by omega) (by omega) (fun r' v' => r' = 1 ∧ i_Rel (k + 5) (gx_S (nI N) lv fc kd px py vc ip dr nb rf sm fs so la M) v') (by
                rw [gz_st0 ip _ v4 zz 4 hs0]
                exact And.intro rfl (gr_mk h)) 4 0 rfl
              rw [ez]
              exact br_f (by decide) (hY _ _ _ _ _ _ _ _ _ _ _ _ _ (br_f (by decide) (br_f q0 (br_f q2 (br_f (by decide) (br_f e0 (br_f (Int32.not_lt.mpr e2) (br_f (by decide) ⟨4 + 1, w33 _ v4 (br_t (nI_le (a := 4) (b := 4) (by omega) (by decide)) ⟨4 + 1, hp67⟩)⟩))))))))
            · obtain ⟨f', rf2, ft, sp, lb, ⟨s, hout⟩, wW⟩ := gk_workOut (nc := nI N) (lv := lv) (fc := fc) (kd := kd) (px := px) (py := py) (vc := vc) (ip := ip) (dr := dr) (na := nb) (re := rf) (sl := sm) (fs := fs) (so := so) (la := la) ht.1 hg (by have := ht.2.2.2.2; omega)
              have hs : ∀ j, j < 4 → zz j = ge_V ip dr M e g j := fun j hj => by
                rw [hzz j hj]
                unfold gz_x
                rw [(hq4 j hj).1, (hq4 j hj).2, ez, gf_ac_n _ _ M (by omega)]
                rfl
              rw [ez]
              refine br_t (nI_pos' (by omega)) (wW _ 0 0 (by omega) (by omega) ⟨4 + 1, ?_⟩)
              refine gz_step70 (ip := ip) hM (V := fun c => ge_V ip dr M e g c) (by omega) (by omega) (hout e (by omega)) _ ?_ 4 0 rfl
              refine hY _ _ _ _ _ _ _ _ _ _ _ _ _ (br_f (by decide) (br_f q0 (br_f q2 (br_f (by decide) (br_f e0 (br_f (Int32.not_lt.mpr e2) (br_f (by decide) ⟨4 + 1, w33 _ v4 (br_t (nI_le (a := 4) (b := 4) (by omega) (by decide)) ⟨4 + 1, ?_⟩)⟩)))))))
              refine gz_step67 (ip := ip) (q := q) (e := e) (rt := v4) (by omega) (by omega) _ ?_ 4 0 rfl
              rw [gz_st_congr 4 hs]
              exact And.intro rfl (gr_mk h)
          · exact hX _ _ _ _ _ _ _ _ _ _ _ _ _ _ _ _ _ _ _ _ (br_f (by decide) (br_f q0 (br_f q2 (br_f e0 (br_f e2 (hY _ _ _ _ _ _ _ _ _ _ _ _ _ (br_f (by decide) (br_f q0 (br_f q2 (br_f (by decide) (br_f e0 (br_t (Int32.not_le.mp e2) (br_t rfl (And.intro rfl (gr_mk h)))))))))))))))
  · exact hX _ _ _ _ _ _ _ _ _ _ _ _ _ _ _ _ _ _ _ _ (br_t rfl (hY _ _ _ _ _ _ _ _ _ _ _ _ _ (br_t rfl (And.intro rfl (gr_mk h)))))
end
section
/-! bend -/
theorem i_vc_bend {k : Nat} {u : SX} {v : SY} (I : i_Rel k u v) (hk : k + 5 ≤ 2560) (v1 : Int32) (v2 : Int32) (v3 : Int32) (v4 : Int32) : wpX_bend (fun r u' => wpY_bend (fun r' v' => r' = r ∧ i_Rel (k + 5) u' v') v v1 v2 v3 v4) u v1 v2 v3 v4 := by
  refine gr_el (P := fun u v => wpX_bend (fun r u' => wpY_bend (fun r' v' => r' = r ∧ i_Rel (k + 5) u' v') v v1 v2 v3 v4) u v1 v2 v3 v4) I ?_
  intro N lv le fc kd px py vc ip dr op fi se nu wi na re sl fs so la yy y1 y2 yp yf ys yb yz h
  have hN := h.1.1
  unfold wpX_bend
  rcases gr_num h v1 with ⟨n, hn, rfl, hv, hX, hY⟩ | ⟨hX, hY⟩
  · rcases gr_comp v2 v4 with ⟨a, e, ha, he, rfl, rfl, cX, cY⟩ | ⟨cX, cY⟩
    · rcases gr_comp v3 (nI e) with ⟨b, e', hb, he', rfl, ee, dX, dY⟩ | ⟨dX, dY⟩
      · have hin : vp_in (nI n) 12 := vp_in_nI (by omega) (by omega)
        have ec : (nI n).toNatClampNeg = n := nI_clamp (by omega)
        obtain ⟨L, nb, M, rf, sm, p, ht, ep, wT, wB⟩ := gz_back (nc := nI N) (lv := lv) (fc := fc) (ip := ip) (dr := dr) (fs := fs) (so := so) (la := la) h.1 hn hv le op fi se nu wi na re sl
        obtain ⟨t1, t2, t3, t4, t5⟩ := ht
        have hM := t1.1
        obtain ⟨z1, z2, hz1, hz2, wS⟩ := gy_seed (nc := nI N) (kd := kd) (px := px) (yy := yy) (vc := vc) (ip := ip) (dr := dr) (y1 := y1) (y2 := y2) (yp := yp) (yf := yf) (ys := ys) (yb := yb) (yz := yz) (nI a) (nI b)
        obtain ⟨zp, zf, zs, zb, hat, wA⟩ := gy_workAll (ip := ip) (dr := dr) (y1 := z1) (y2 := z2) (yz := yz) (yp := yp) (yf := yf) (ys := ys) (yb := yb) h.2.1 (ge_dv dr e) he
        have hin4 : vp_in (4 * nI n) 48 := by rw [ge_n4]; exact vp_in_nI (by omega) (by omega)
        have hI := t3 false (gy_iv ip z1 z2 e) (ge_dv dr e)
        rw [gz_I0 ha (gz_sd ha hz1) (fun _ _ => rfl)] at hI
        have hy := hat n 0 (Or.inl hn) (by omega) (Or.inr rfl)
        have hab : zb (4 * n) = (gb_ac (gy_iv ip z1 z2 e) (ge_dv dr e) M (sm (a / 4)) (a % 4)).2.2.1 := by
          rw [hI, ← gl_val_ext (gr_ext h) (show n < N from hn), ← hy]
          show zb (4 * n) = 1 * zb (4 * n + 0) + 0 * _
          rw [Int32.one_mul, Int32.zero_mul, Int32.add_zero]
          rfl
        have ed : nI a / 4 = nI (a / 4) := pk_div (d := 4) (by omega) (by omega) (by omega)
        have em : nI a - nI a / 4 * 4 = nI (a % 4) := pk_rem (d := 4) (by omega) (by omega) (by omega)
        have hin3 : vp_in (nI a / 4) 3 := by rw [ed]; exact vp_in_nI (by omega) (by omega)
        have fd : nI b / 4 = nI (b / 4) := pk_div (d := 4) (by omega) (by omega) (by omega)
        have fm : nI b - nI b / 4 * 4 = nI (b % 4) := pk_rem (d := 4) (by omega) (by omega) (by omega)
        have fin3 : vp_in (nI b / 4) 3 := by rw [fd]; exact vp_in_nI (by omega) (by omega)
        refine hX _ _ _ _ _ _ _ _ _ _ _ _ _ _ _ _ _ _ _ _ (br_f (by decide) (cX _ _ (br_f (by decide) (dX _ _ (br_f (by decide) (wT _ (And.intro hin ?_)))))))
        rw [ec, ep]
        refine wB _ (And.intro (by decide) (And.intro hin3 (nm_r (e' := sm (a / 4)) (by rw [ed, nI_clamp (by omega)]) ?_)))
        rcases t2 (a / 4) (by omega) with ez | ⟨g, hg, ez, hwg⟩
        · rw [ez, gb_ac_m1] at hab
          rw [ez]
          refine br_f (by decide) ?_
          show wpY_bend _ _ _ _ _ _
          unfold wpY_bend
          refine hY _ _ _ _ _ _ _ _ _ _ _ _ _ (br_f (by decide) (cY _ _ (br_f (by decide) (dY _ _ (br_f (by decide) (wS _ (wA _ (And.intro hin4 ?_))))))))
          refine And.intro ?_ (gr_mk h)
          rw [ge_n4, nI_clamp (by omega), hab]
          rfl
        · rw [ez, gb_ac_n _ _ M (by omega)] at hab
          obtain ⟨r, M2, hr, mk, wM⟩ := gx_make (nc := nI N) (lv := lv) (fc := fc) (kd := kd) (px := px) (py := py) (vc := vc) (ip := ip) (dr := dr) (na := nb) (re := rf) (sl := sm) (fs := fs) (so := so) (la := la) t1 (by omega) (gx_okU (w := 7) (n := nI (a % 4)) (d := 0) hg (Or.inr (Or.inr (Or.inl ⟨rfl, hwg, rfl, a % 4, by omega, rfl⟩))))
          obtain ⟨k1, k2, k3, k4, k5, k6, k7⟩ := mk
          have c2 := k7 (Or.inl rfl) gw_2 3 (by rw [gw_27]; decide) (by rw [gw_21]; decide)
          have h2 := gw_ws2 M2 (show r + 1 ≤ M2.1 by omega)
          obtain ⟨M3, rf3, sm3, ⟨b1, b2, b3, b4, b5⟩, wB3⟩ := gb_backwards (nc := nI N) (lv := lv) (fc := fc) (kd := kd) (px := px) (py := py) (vc := vc) (ip := ip) (dr := dr) (na := nb) (fs := fs) (so := so) (la := la) (re := rf) (sl := sm) k2 k3 k4 (by omega)
          have c3 := b5 (fun _ => 1)
          rw [gl_ws1, gl_ws1, gw_1A] at c3
          have hM3 := b2.1
          have hI2 := b4 true (gy_iv ip z2 z2 e) (ge_dv dr e)
          rw [gz_I1 hb (gz_sd hb hz2), ← gz_x_eq ip dr z2 z2 hM3 b3 hb e, k5 _ _ 0 (by omega), gh_ov7, nI_clamp (by omega), nI_clamp (by omega)] at hI2
          have hans : zb (4 * n) = gz_x ip dr M3 sm3 b e := by
            rw [hI2, hab, ← gv_swap ip z1 z2 z2]
            show _ = 1 * _
            rw [Int32.one_mul]
          rw [ez, em]
          refine br_t (nI_pos' (by omega)) (And.intro (by decide) (wM _ (wB3 _ (And.intro (by decide) (And.intro fin3 (And.intro (by decide) ?_))))))
          rw [fm, fd, nI_clamp (by omega)]
          have hYans : ∀ (post : Int32 → SY → Prop), post (gz_x ip dr M3 sm3 b e) (nI N, kd, px, yy, vc, ip, dr, z1, z2, zp, zf, zs, zb, yz) → wpY_bend post (nI N, kd, px, yy, vc, ip, dr, y1, y2, yp, yf, ys, yb, yz) (nI n) (nI a) (nI b) (nI e) := by
            intro post hp
            unfold wpY_bend
            refine hY _ _ _ _ _ _ _ _ _ _ _ _ _ (br_f (by decide) (cY _ _ (br_f (by decide) (dY _ _ (br_f (by decide) (wS _ (wA _ (And.intro hin4 ?_))))))))
            rw [ge_n4, nI_clamp (by omega), hans]
            exact hp
          rcases b3 (b / 4) (by omega) with ez3 | ⟨g3, hg3, ez3, _⟩
          · rw [ez3]
            refine br_f (by decide) (hYans _ (And.intro ?_ (gr_mk h)))
            unfold gz_x
            rw [ez3, gf_ac_m1]
          · obtain ⟨f', rf2, ft, sp, lb, hout, wW⟩ := gk_workOut (nc := nI N) (lv := lv) (fc := fc) (kd := kd) (px := px) (py := py) (vc := vc) (ip := ip) (dr := dr) (na := nb) (re := rf3) (sl := sm3) (fs := fs) (so := so) (la := la) b2 hg3 (by omega)
            rw [ez3]
            refine wW _ (b % 4) e (by omega) he (hYans _ (And.intro ?_ (gr_mk h)))
            unfold gz_x
            rw [ez3, gf_ac_n _ _ M3 (by omega)]
            rfl
      · refine hX _ _ _ _ _ _ _ _ _ _ _ _ _ _ _ _ _ _ _ _ (br_f (by decide) (cX _ _ (br_f (by decide) (dX _ _ (br_t rfl ?_)))))
        show wpY_bend _ _ _ _ _ _
        unfold wpY_bend
        exact hY _ _ _ _ _ _ _ _ _ _ _ _ _ (br_f (by decide) (cY _ _ (br_f (by decide) (dY _ _ (br_t rfl (And.intro rfl (gr_mk h)))))))
    · refine hX _ _ _ _ _ _ _ _ _ _ _ _ _ _ _ _ _ _ _ _ (br_f (by decide) (cX _ _ (br_t rfl ?_)))
      show wpY_bend _ _ _ _ _ _
      unfold wpY_bend
      exact hY _ _ _ _ _ _ _ _ _ _ _ _ _ (br_f (by decide) (cY _ _ (br_t rfl (And.intro rfl (gr_mk h)))))
  · refine hX _ _ _ _ _ _ _ _ _ _ _ _ _ _ _ _ _ _ _ _ (br_t rfl ?_)
    show wpY_bend _ _ _ _ _ _
    unfold wpY_bend
    exact hY _ _ _ _ _ _ _ _ _ _ _ _ _ (br_t rfl (And.intro rfl (gr_mk h)))
end
