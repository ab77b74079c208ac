section
/-! pure rows to paste: stores, nI and lN arithmetic, masks, shifts, narrowing, branches by naturals (pk_le, pk_lt, pk_eq), loops (lp1 .. lp16: the measure of the state; rp1 ..: recursion), negatives. Take what you need -/
theorem pk_us {f : Nat → Int32} {k : Nat} {x : Int32} : upd f k x k = x := if_pos rfl
theorem pk_un {f : Nat → Int32} {k j : Nat} {x : Int32} (h : j ≠ k) : upd f k x j = f j := if_neg h
theorem pk_uLs {f : Nat → Int64} {k : Nat} {x : Int64} : vp_updL f k x k = x := if_pos rfl
theorem pk_uLn {f : Nat → Int64} {k j : Nat} {x : Int64} (h : j ≠ k) : vp_updL f k x j = f j := if_neg h
theorem pk_sub {a b : Nat} (h : b ≤ a) : nI a - nI b = nI (a - b) := by
  obtain ⟨c, rfl⟩ : ∃ c, a = c + b := ⟨a - b, by omega⟩
  rw [← nI_add, Int32.add_sub_cancel, Nat.add_sub_cancel]
theorem pk_m1 (n : Nat) : nI (n + 1) + (-1) = nI n := by
  rw [← nI_1, Int32.add_assoc, show (1 : Int32) + (-1) = 0 from rfl, Int32.add_zero]
theorem pk_mul (a b : Nat) : nI a * nI b = nI (a * b) := (Int32.ofNat_mul a b).symm
theorem pk_div {a d : Nat} (ha : a < 2 ^ 31) (h0 : 0 < d) (hd : d < 2 ^ 31) : nI a / nI d = nI (a / d) := by
  apply Int32.toInt_inj.mp
  rw [lg_idiv_nonneg (by rw [nI_toInt ha]; omega) (by rw [nI_toInt hd]; omega), nI_toInt ha, nI_toInt hd, nI_toInt (Nat.lt_of_le_of_lt (Nat.div_le_self a d) ha)]
  first | rfl | exact (Int.natCast_ediv _ _).symm
theorem pk_rem {a d : Nat} (ha : a < 2 ^ 31) (h0 : 0 < d) (hd : d < 2 ^ 31) : nI a - nI a / nI d * nI d = nI (a % d) := by
  rw [pk_div ha h0 hd, pk_mul, pk_sub (Nat.div_mul_le_self a d)]
  exact congrArg nI (by have := Nat.div_add_mod' a d; omega)
theorem pk_sub_toInt {a b : Nat} (ha : a < 2 ^ 30) (hb : b < 2 ^ 30) : (nI a - nI b).toInt = (a : Int) - b := by
  rw [Int32.toInt_sub, nI_toInt (by omega), nI_toInt (by omega)]
  exact Int.bmod_eq_of_le (by omega) (by omega)
theorem pk_sneg {a b : Nat} (hb : b < 2 ^ 30) (h : a < b) : nI a - nI b < 0 := by
  rw [Int32.lt_iff_toInt_lt, pk_sub_toInt (by omega) hb, show (0 : Int32).toInt = 0 from by decide]
  omega
theorem pk_ix (x : Int32) {n : Nat} (hn : n < 2 ^ 31) : x < 0 ∨ nI n ≤ x ∨ ∃ j : Nat, j < n ∧ x = nI j := by
  by_cases h : x < 0
  · exact Or.inl h
  · obtain ⟨j, hj, rfl⟩ := nI_of h
    by_cases h2 : j < n
    · exact Or.inr (Or.inr ⟨j, h2, rfl⟩)
    · exact Or.inr (Or.inl (nI_le (by omega) hj))
theorem pk_le {x y : Int32} {A B : Prop} (a b : Nat) (f : a ≤ b → A) (g : b < a → B) (hx : x = nI a := by rfl) (hy : y = nI b := by rfl) (ha : a < 2 ^ 31 := by omega) (hb : b < 2 ^ 31 := by omega) : (x ≤ y → A) ∧ (¬ x ≤ y → B) := by
  subst hx hy
  rw [nI_leI ha hb]
  exact ⟨f, fun z => g (by omega)⟩
theorem pk_lt {x y : Int32} {A B : Prop} (a b : Nat) (f : a < b → A) (g : b ≤ a → B) (hx : x = nI a := by rfl) (hy : y = nI b := by rfl) (ha : a < 2 ^ 31 := by omega) (hb : b < 2 ^ 31 := by omega) : (x < y → A) ∧ (¬ x < y → B) := by
  subst hx hy
  rw [nI_ltI ha hb]
  exact ⟨f, fun z => g (by omega)⟩
theorem pk_eq {x y : Int32} {A B : Prop} (a b : Nat) (f : a = b → A) (g : a ≠ b → B) (hx : x = nI a := by rfl) (hy : y = nI b := by rfl) (ha : a < 2 ^ 31 := by omega) (hb : b < 2 ^ 31 := by omega) : (x = y → A) ∧ (¬ x = y → B) := by
  subst hx hy
  rw [nI_eq ha hb]
  exact ⟨f, g⟩
theorem pk_in {x : Int32} (n N : Nat) (h : n < N) (hx : x = nI n := by rfl) (hN : N < 2 ^ 31 := by omega) : vp_in x N := by
  subst hx
  exact vp_in_nI h hN
theorem pk_cl {x : Int32} (n : Nat) (hx : x = nI n := by rfl) (h : n < 2 ^ 31 := by omega) : x.toNatClampNeg = n := by
  subst hx
  exact nI_clamp h
theorem pk_tn {n : Nat} (h : n < 2 ^ 32) : (nI n).toBitVec.toNat = n := Nat.mod_eq_of_lt h
theorem pk_and (x : Int32) {m : Int32} (k : Nat) (hm : m.toBitVec.toNat = 2 ^ k - 1) : x &&& m = nI (x.toBitVec.toNat % 2 ^ k) := by
  apply Int32.toBitVec_inj.mp
  apply BitVec.eq_of_toNat_eq
  rw [Int32.toBitVec_and, BitVec.toNat_and, hm, Nat.and_two_pow_sub_one_eq_mod]
  show _ = (BitVec.ofNat 32 _).toNat
  rw [BitVec.toNat_ofNat]
  exact (Nat.mod_eq_of_lt (Nat.lt_of_le_of_lt (Nat.mod_le _ _) x.toBitVec.isLt)).symm
theorem pk_andN {n : Nat} (h : n < 2 ^ 32) {m : Int32} (k : Nat) (hm : m.toBitVec.toNat = 2 ^ k - 1) : nI n &&& m = nI (n % 2 ^ k) := by
  rw [pk_and _ k hm, pk_tn h]
theorem pk_andE (x : Int32) {m : Int32} (k : Nat) (hm : m.toBitVec.toNat = 2 ^ k - 1) : ∃ j : Nat, j < 2 ^ k ∧ x &&& m = nI j := ⟨_, Nat.mod_lt _ (Nat.two_pow_pos k), pk_and x k hm⟩
theorem pk_andIn (x : Int32) {m : Int32} (k : Nat) (hm : m.toBitVec.toNat = 2 ^ k - 1) (hk : k ≤ 30) : vp_in (x &&& m) (2 ^ k) := by
  obtain ⟨j, hj, e⟩ := pk_andE x k hm
  rw [e]
  exact vp_in_nI hj (Nat.lt_of_le_of_lt (Nat.pow_le_pow_right (by decide) hk) (by decide))
theorem pk_shl (a s : Int32) (k : Nat) (hs : (s.toBitVec.smod 32).toNat = k) : (a <<< s).toBitVec.toNat = a.toBitVec.toNat * 2 ^ k % 2 ^ 32 := by
  show (a.toBitVec <<< (s.toBitVec.smod 32).toNat).toNat = _
  rw [hs, BitVec.toNat_shiftLeft, Nat.shiftLeft_eq]
theorem pk_shlN {n : Nat} (s : Int32) (k : Nat) (hs : (s.toBitVec.smod 32).toNat = k) (h : n * 2 ^ k < 2 ^ 32) : nI n <<< s = nI (n * 2 ^ k) := by
  apply Int32.toBitVec_inj.mp
  apply BitVec.eq_of_toNat_eq
  have hn : n < 2 ^ 32 := Nat.lt_of_le_of_lt (Nat.le_mul_of_pos_right n (Nat.two_pow_pos k)) h
  rw [pk_shl _ _ k hs, pk_tn hn, pk_tn h, Nat.mod_eq_of_lt h]
theorem pk_shr (a s : Int32) (k : Nat) (hs : (s.toBitVec.smod 32).toNat = k) : (a >>> s).toInt = a.toInt >>> k := by
  show (a.toBitVec.sshiftRight (s.toBitVec.smod 32).toNat).toInt = _
  rw [hs, BitVec.toInt_sshiftRight]
  rfl
theorem pk_shrN {n : Nat} (h : n < 2 ^ 31) (s : Int32) (k : Nat) (hs : (s.toBitVec.smod 32).toNat = k) : nI n >>> s = nI (n / 2 ^ k) := by
  apply Int32.toInt_inj.mp
  have h2 : n / 2 ^ k ≤ n := Nat.div_le_self _ _
  rw [pk_shr _ _ k hs, nI_toInt h, nI_toInt (by omega), Int.shiftRight_eq_div_pow]
  rfl
theorem pk_ushr (x s : Int32) (k : Nat) (hs : ((s.toUInt32 &&& Int32.toUInt32 31).toBitVec % 32).toNat = k) : (x.toUInt32 >>> (s.toUInt32 &&& Int32.toUInt32 31)).toInt32.toBitVec.toNat = x.toBitVec.toNat / 2 ^ k := by
  have e : (x.toUInt32 >>> (s.toUInt32 &&& Int32.toUInt32 31)).toInt32.toBitVec = x.toBitVec >>> k := by
    rw [← hs]
    exact UInt32.toBitVec_shiftRight _ _
  rw [e, BitVec.toNat_ushiftRight, Nat.shiftRight_eq_div_pow]
theorem pk_ushrN {n : Nat} (hn : n < 2 ^ 32) (s : Int32) (k : Nat) (hs : ((s.toUInt32 &&& Int32.toUInt32 31).toBitVec % 32).toNat = k) : ((nI n).toUInt32 >>> (s.toUInt32 &&& Int32.toUInt32 31)).toInt32 = nI (n / 2 ^ k) := by
  apply Int32.toBitVec_inj.mp
  apply BitVec.eq_of_toNat_eq
  rw [pk_ushr _ s k hs, pk_tn hn, pk_tn (Nat.lt_of_le_of_lt (Nat.div_le_self _ _) hn)]
theorem pk_nb (z : Int32) : narrow .byte (.int z.toInt8.toInt32) = .int z.toInt8.toInt32 := congrArg Value.int (by simp)
theorem pk_ns (z : Int32) : narrow .short (.int z.toInt16.toInt32) = .int z.toInt16.toInt32 := congrArg Value.int (by simp)
theorem pk_fb (r : Int32) : fits .byte (.int r.toInt8.toInt32) = true := by
  have ⟨a, b⟩ := lg_i2b_range r
  have h1 : (-128 : Int32).toInt = -128 := by decide
  have h2 : (127 : Int32).toInt = 127 := by decide
  simp only [fits, Bool.and_eq_true, decide_eq_true_eq, Int32.le_iff_toInt_le, h1, h2]
  omega
theorem pk_fs (r : Int32) : fits .short (.int r.toInt16.toInt32) = true := by
  have ⟨a, b⟩ := lg_i2s_range r
  have h1 : (-32768 : Int32).toInt = -32768 := by decide
  have h2 : (32767 : Int32).toInt = 32767 := by decide
  simp only [fits, Bool.and_eq_true, decide_eq_true_eq, Int32.le_iff_toInt_le, h1, h2]
  omega
theorem pk_charN {q : Nat} (hq : q < 65536) : narrow .char (.int (nI q)) = .int (nI q) ∧ fits .char (.int (nI q)) = true := by
  constructor
  · have e : (nI q).toUInt32.toUInt16.toUInt32.toInt32 = nI q := by
      apply Int32.toBitVec_inj.mp
      apply BitVec.eq_of_toNat_eq
      show (nI q).toUInt32.toUInt16.toUInt32.toNat = q % 2 ^ 32
      rw [UInt16.toNat_toUInt32, UInt32.toNat_toUInt16, show (nI q).toUInt32.toNat = q % 2 ^ 32 from rfl]
      omega
    exact congrArg Value.int e
  · have a : (0 : Int32) ≤ nI q := nI_pos' (by omega)
    have b : nI q ≤ 65535 := nI_le (b := 65535) (by omega) (by decide)
    show (decide ((0 : Int32) ≤ nI q) && decide (nI q ≤ 65535)) = true
    rw [decide_eq_true a, decide_eq_true b]
    rfl
theorem pk_char (x : Int32) : (x.toUInt32 % 65536).toInt32 = nI (x.toBitVec.toNat % 65536) := by
  apply Int32.toBitVec_inj.mp
  apply BitVec.eq_of_toNat_eq
  rw [pk_tn (by omega)]
  show (x.toUInt32 % 65536).toNat = _
  rw [UInt32.toNat_mod]
  rfl
theorem pk_nc (x : Int32) : narrow .char (.int (x.toUInt32 % 65536).toInt32) = .int (x.toUInt32 % 65536).toInt32 := by
  rw [pk_char]
  exact (pk_charN (Nat.mod_lt _ (by decide))).1
theorem pk_fc (x : Int32) : fits .char (.int (x.toUInt32 % 65536).toInt32) = true := by
  rw [pk_char]
  exact (pk_charN (Nat.mod_lt _ (by decide))).2
theorem pk_vb (z : Int32) : vp_nar .byte z.toInt8.toInt32 = z.toInt8.toInt32 := by rw [vp_nar_byte]; simp
theorem pk_vs (z : Int32) : vp_nar .short z.toInt16.toInt32 = z.toInt16.toInt32 := by rw [vp_nar_short]; simp
theorem pk_vc (z : Int32) : vp_nar .char (z.toUInt32 % 65536).toInt32 = (z.toUInt32 % 65536).toInt32 := Value.int.inj (pk_nc z)
theorem pk_lT {n : Nat} (h : n < 2 ^ 63) : (lN n).toInt = (n : Int) := lg_ofNat_toInt h
theorem pk_lLT {a b : Nat} (ha : a < 2 ^ 63) (hb : b < 2 ^ 63) : lN a < lN b ↔ a < b := by
  rw [Int64.lt_iff_toInt_lt, pk_lT ha, pk_lT hb]; omega
theorem pk_lLE {a b : Nat} (ha : a < 2 ^ 63) (hb : b < 2 ^ 63) : lN a ≤ lN b ↔ a ≤ b := by
  rw [Int64.le_iff_toInt_le, pk_lT ha, pk_lT hb]; omega
theorem pk_lEQ {a b : Nat} (ha : a < 2 ^ 63) (hb : b < 2 ^ 63) : lN a = lN b ↔ a = b := by
  rw [← Int64.toInt_inj, pk_lT ha, pk_lT hb]; omega
theorem pk_lOf {x : Int64} (h : ¬ x < 0) : ∃ k : Nat, k < 2 ^ 63 ∧ x = lN k := by
  rw [Int64.lt_iff_toInt_lt] at h
  have h0 : (0 : Int64).toInt = 0 := by decide
  have hx := Int64.toInt_lt x
  refine ⟨x.toInt.toNat, by omega, Int64.toInt_inj.mp ?_⟩
  rw [pk_lT (by omega)]
  omega
theorem pk_lDiv {a b : Nat} (ha : a < 2 ^ 63) (h0 : 0 < b) (hb : b < 2 ^ 63) : lN a / lN b = lN (a / b) := by
  apply Int64.toInt_inj.mp
  rw [lg_ldiv_nonneg (by rw [pk_lT ha]; omega) (by rw [pk_lT hb]; omega), pk_lT ha, pk_lT hb, pk_lT (Nat.lt_of_le_of_lt (Nat.div_le_self a b) ha)]
  rfl
theorem pk_lRem {a b : Nat} (ha : a < 2 ^ 63) (h0 : 0 < b) (hb : b < 2 ^ 63) : lN a - lN a / lN b * lN b = lN (a % b) := by
  rw [pk_lDiv ha h0 hb, lN_mul, lN_sub (Nat.div_mul_le_self a b)]
  exact congrArg lN (by have := Nat.div_add_mod' a b; omega)
theorem pk_loop {σ : Type} (W : Nat → Nat → σ → Prop) (I : Nat → σ → Prop) (e i0 : Nat) (s : σ) (hi : i0 ≤ e) (h0 : I i0 s) (hx : ∀ n s, I e s → W (n + 1) e s)
    (hs : ∀ n i s, i < e → I i s → (∀ s', I (i + 1) s' → W n (i + 1) s') → W (n + 1) i s) : ∃ n, W n i0 s :=
  ⟨e + 1, loop_i W I e hx hs (e + 1) i0 s hi (by omega) h0⟩
theorem pk_loopD {σ : Type} (W : Nat → Nat → σ → Prop) (I : Nat → σ → Prop) (hx : ∀ n s, I 0 s → W (n + 1) 0 s)
    (hs : ∀ n i s, I (i + 1) s → (∀ s', I i s' → W n i s') → W (n + 1) (i + 1) s) : ∀ (e : Nat) (s : σ), I e s → W (e + 1) e s := by
  intro e
  induction e with
  | zero => exact fun s h => hx 0 s h
  | succ e ih => exact fun s h => hs (e + 1) e s h (fun s' h' => ih s' h')
theorem lp1 {A1 : Type} (W : Nat → A1 → Prop) (I : A1 → Prop) (μ : A1 → Nat) (hs : ∀ (n : Nat) (a1 : A1), I a1 → (∀ (b1 : A1), I b1 → μ b1 < μ a1 → W n b1) → W (n + 1) a1) (a1 : A1) (h : I a1) : ∃ n, W n a1 :=
  loop_m (σ := A1) (fun n s => W n s) (fun s => I s) (fun s => μ s) (fun n s hI hk => hs n s hI (fun b1 h9 hm => hk b1 h9 hm)) a1 h
theorem lp2 {A1 A2 : Type} (W : Nat → A1 → A2 → Prop) (I : A1 → A2 → Prop) (μ : A1 → A2 → Nat) (hs : ∀ (n : Nat) (a1 : A1) (a2 : A2), I a1 a2 → (∀ (b1 : A1) (b2 : A2), I b1 b2 → μ b1 b2 < μ a1 a2 → W n b1 b2) → W (n + 1) a1 a2) (a1 : A1) (a2 : A2) (h : I a1 a2) : ∃ n, W n a1 a2 :=
  loop_m (σ := A1 × A2) (fun n s => W n s.1 s.2) (fun s => I s.1 s.2) (fun s => μ s.1 s.2) (fun n s hI hk => hs n s.1 s.2 hI (fun b1 b2 h9 hm => hk (b1, b2) h9 hm)) (a1, a2) h
theorem lp3 {A1 A2 A3 : Type} (W : Nat → A1 → A2 → A3 → Prop) (I : A1 → A2 → A3 → Prop) (μ : A1 → A2 → A3 → Nat) (hs : ∀ (n : Nat) (a1 : A1) (a2 : A2) (a3 : A3), I a1 a2 a3 → (∀ (b1 : A1) (b2 : A2) (b3 : A3), I b1 b2 b3 → μ b1 b2 b3 < μ a1 a2 a3 → W n b1 b2 b3) → W (n + 1) a1 a2 a3) (a1 : A1) (a2 : A2) (a3 : A3) (h : I a1 a2 a3) : ∃ n, W n a1 a2 a3 :=
  loop_m (σ := A1 × A2 × A3) (fun n s => W n s.1 s.2.1 s.2.2) (fun s => I s.1 s.2.1 s.2.2) (fun s => μ s.1 s.2.1 s.2.2) (fun n s hI hk => hs n s.1 s.2.1 s.2.2 hI (fun b1 b2 b3 h9 hm => hk (b1, b2, b3) h9 hm)) (a1, a2, a3) h
theorem lp4 {A1 A2 A3 A4 : Type} (W : Nat → A1 → A2 → A3 → A4 → Prop) (I : A1 → A2 → A3 → A4 → Prop) (μ : A1 → A2 → A3 → A4 → Nat) (hs : ∀ (n : Nat) (a1 : A1) (a2 : A2) (a3 : A3) (a4 : A4), I a1 a2 a3 a4 → (∀ (b1 : A1) (b2 : A2) (b3 : A3) (b4 : A4), I b1 b2 b3 b4 → μ b1 b2 b3 b4 < μ a1 a2 a3 a4 → W n b1 b2 b3 b4) → W (n + 1) a1 a2 a3 a4) (a1 : A1) (a2 : A2) (a3 : A3) (a4 : A4) (h : I a1 a2 a3 a4) : ∃ n, W n a1 a2 a3 a4 :=
  loop_m (σ := A1 × A2 × A3 × A4) (fun n s => W n s.1 s.2.1 s.2.2.1 s.2.2.2) (fun s => I s.1 s.2.1 s.2.2.1 s.2.2.2) (fun s => μ s.1 s.2.1 s.2.2.1 s.2.2.2) (fun n s hI hk => hs n s.1 s.2.1 s.2.2.1 s.2.2.2 hI (fun b1 b2 b3 b4 h9 hm => hk (b1, b2, b3, b4) h9 hm)) (a1, a2, a3, a4) h
theorem lp5 {A1 A2 A3 A4 A5 : Type} (W : Nat → A1 → A2 → A3 → A4 → A5 → Prop) (I : A1 → A2 → A3 → A4 → A5 → Prop) (μ : A1 → A2 → A3 → A4 → A5 → Nat) (hs : ∀ (n : Nat) (a1 : A1) (a2 : A2) (a3 : A3) (a4 : A4) (a5 : A5), I a1 a2 a3 a4 a5 → (∀ (b1 : A1) (b2 : A2) (b3 : A3) (b4 : A4) (b5 : A5), I b1 b2 b3 b4 b5 → μ b1 b2 b3 b4 b5 < μ a1 a2 a3 a4 a5 → W n b1 b2 b3 b4 b5) → W (n + 1) a1 a2 a3 a4 a5) (a1 : A1) (a2 : A2) (a3 : A3) (a4 : A4) (a5 : A5) (h : I a1 a2 a3 a4 a5) : ∃ n, W n a1 a2 a3 a4 a5 :=
  loop_m (σ := A1 × A2 × A3 × A4 × A5) (fun n s => W n s.1 s.2.1 s.2.2.1 s.2.2.2.1 s.2.2.2.2) (fun s => I s.1 s.2.1 s.2.2.1 s.2.2.2.1 s.2.2.2.2) (fun s => μ s.1 s.2.1 s.2.2.1 s.2.2.2.1 s.2.2.2.2) (fun n s hI hk => hs n s.1 s.2.1 s.2.2.1 s.2.2.2.1 s.2.2.2.2 hI (fun b1 b2 b3 b4 b5 h9 hm => hk (b1, b2, b3, b4, b5) h9 hm)) (a1, a2, a3, a4, a5) h
theorem lp6 {A1 A2 A3 A4 A5 A6 : Type} (W : Nat → A1 → A2 → A3 → A4 → A5 → A6 → Prop) (I : A1 → A2 → A3 → A4 → A5 → A6 → Prop) (μ : A1 → A2 → A3 → A4 → A5 → A6 → Nat) (hs : ∀ (n : Nat) (a1 : A1) (a2 : A2) (a3 : A3) (a4 : A4) (a5 : A5) (a6 : A6), I a1 a2 a3 a4 a5 a6 → (∀ (b1 : A1) (b2 : A2) (b3 : A3) (b4 : A4) (b5 : A5) (b6 : A6), I b1 b2 b3 b4 b5 b6 → μ b1 b2 b3 b4 b5 b6 < μ a1 a2 a3 a4 a5 a6 → W n b1 b2 b3 b4 b5 b6) → W (n + 1) a1 a2 a3 a4 a5 a6) (a1 : A1) (a2 : A2) (a3 : A3) (a4 : A4) (a5 : A5) (a6 : A6) (h : I a1 a2 a3 a4 a5 a6) : ∃ n, W n a1 a2 a3 a4 a5 a6 :=
  loop_m (σ := A1 × A2 × A3 × A4 × A5 × A6) (fun n s => W n s.1 s.2.1 s.2.2.1 s.2.2.2.1 s.2.2.2.2.1 s.2.2.2.2.2) (fun s => I s.1 s.2.1 s.2.2.1 s.2.2.2.1 s.2.2.2.2.1 s.2.2.2.2.2) (fun s => μ s.1 s.2.1 s.2.2.1 s.2.2.2.1 s.2.2.2.2.1 s.2.2.2.2.2) (fun n s hI hk => hs n s.1 s.2.1 s.2.2.1 s.2.2.2.1 s.2.2.2.2.1 s.2.2.2.2.2 hI (fun b1 b2 b3 b4 b5 b6 h9 hm => hk (b1, b2, b3, b4, b5, b6) h9 hm)) (a1, a2, a3, a4, a5, a6) h
theorem lp7 {A1 A2 A3 A4 A5 A6 A7 : Type} (W : Nat → A1 → A2 → A3 → A4 → A5 → A6 → A7 → Prop) (I : A1 → A2 → A3 → A4 → A5 → A6 → A7 → Prop) (μ : A1 → A2 → A3 → A4 → A5 → A6 → A7 → Nat) (hs : ∀ (n : Nat) (a1 : A1) (a2 : A2) (a3 : A3) (a4 : A4) (a5 : A5) (a6 : A6) (a7 : A7), I a1 a2 a3 a4 a5 a6 a7 → (∀ (b1 : A1) (b2 : A2) (b3 : A3) (b4 : A4) (b5 : A5) (b6 : A6) (b7 : A7), I b1 b2 b3 b4 b5 b6 b7 → μ b1 b2 b3 b4 b5 b6 b7 < μ a1 a2 a3 a4 a5 a6 a7 → W n b1 b2 b3 b4 b5 b6 b7) → W (n + 1) a1 a2 a3 a4 a5 a6 a7) (a1 : A1) (a2 : A2) (a3 : A3) (a4 : A4) (a5 : A5) (a6 : A6) (a7 : A7) (h : I a1 a2 a3 a4 a5 a6 a7) : ∃ n, W n a1 a2 a3 a4 a5 a6 a7 :=
  loop_m (σ := A1 × A2 × A3 × A4 × A5 × A6 × A7) (fun n s => W n s.1 s.2.1 s.2.2.1 s.2.2.2.1 s.2.2.2.2.1 s.2.2.2.2.2.1 s.2.2.2.2.2.2) (fun s => I s.1 s.2.1 s.2.2.1 s.2.2.2.1 s.2.2.2.2.1 s.2.2.2.2.2.1 s.2.2.2.2.2.2) (fun s => μ s.1 s.2.1 s.2.2.1 s.2.2.2.1 s.2.2.2.2.1 s.2.2.2.2.2.1 s.2.2.2.2.2.2) (fun n s hI hk => hs n s.1 s.2.1 s.2.2.1 s.2.2.2.1 s.2.2.2.2.1 s.2.2.2.2.2.1 s.2.2.2.2.2.2 hI (fun b1 b2 b3 b4 b5 b6 b7 h9 hm => hk (b1, b2, b3, b4, b5, b6, b7) h9 hm)) (a1, a2, a3, a4, a5, a6, a7) h
theorem lp8 {A1 A2 A3 A4 A5 A6 A7 A8 : Type} (W : Nat → A1 → A2 → A3 → A4 → A5 → A6 → A7 → A8 → Prop) (I : A1 → A2 → A3 → A4 → A5 → A6 → A7 → A8 → Prop) (μ : A1 → A2 → A3 → A4 → A5 → A6 → A7 → A8 → Nat) (hs : ∀ (n : Nat) (a1 : A1) (a2 : A2) (a3 : A3) (a4 : A4) (a5 : A5) (a6 : A6) (a7 : A7) (a8 : A8), I a1 a2 a3 a4 a5 a6 a7 a8 → (∀ (b1 : A1) (b2 : A2) (b3 : A3) (b4 : A4) (b5 : A5) (b6 : A6) (b7 : A7) (b8 : A8), I b1 b2 b3 b4 b5 b6 b7 b8 → μ b1 b2 b3 b4 b5 b6 b7 b8 < μ a1 a2 a3 a4 a5 a6 a7 a8 → W n b1 b2 b3 b4 b5 b6 b7 b8) → W (n + 1) a1 a2 a3 a4 a5 a6 a7 a8) (a1 : A1) (a2 : A2) (a3 : A3) (a4 : A4) (a5 : A5) (a6 : A6) (a7 : A7) (a8 : A8) (h : I a1 a2 a3 a4 a5 a6 a7 a8) : ∃ n, W n a1 a2 a3 a4 a5 a6 a7 a8 :=
  loop_m (σ := A1 × A2 × A3 × A4 × A5 × A6 × A7 × A8) (fun n s => W n s.1 s.2.1 s.2.2.1 s.2.2.2.1 s.2.2.2.2.1 s.2.2.2.2.2.1 s.2.2.2.2.2.2.1 s.2.2.2.2.2.2.2) (fun s => I s.1 s.2.1 s.2.2.1 s.2.2.2.1 s.2.2.2.2.1 s.2.2.2.2.2.1 s.2.2.2.2.2.2.1 s.2.2.2.2.2.2.2) (fun s => μ s.1 s.2.1 s.2.2.1 s.2.2.2.1 s.2.2.2.2.1 s.2.2.2.2.2.1 s.2.2.2.2.2.2.1 s.2.2.2.2.2.2.2) (fun n s hI hk => hs n s.1 s.2.1 s.2.2.1 s.2.2.2.1 s.2.2.2.2.1 s.2.2.2.2.2.1 s.2.2.2.2.2.2.1 s.2.2.2.2.2.2.2 hI (fun b1 b2 b3 b4 b5 b6 b7 b8 h9 hm => hk (b1, b2, b3, b4, b5, b6, b7, b8) h9 hm)) (a1, a2, a3, a4, a5, a6, a7, a8) h
theorem lp9 {A1 A2 A3 A4 A5 A6 A7 A8 A9 : Type} (W : Nat → A1 → A2 → A3 → A4 → A5 → A6 → A7 → A8 → A9 → Prop) (I : A1 → A2 → A3 → A4 → A5 → A6 → A7 → A8 → A9 → Prop) (μ : A1 → A2 → A3 → A4 → A5 → A6 → A7 → A8 → A9 → Nat) (hs : ∀ (n : Nat) (a1 : A1) (a2 : A2) (a3 : A3) (a4 : A4) (a5 : A5) (a6 : A6) (a7 : A7) (a8 : A8) (a9 : A9), I a1 a2 a3 a4 a5 a6 a7 a8 a9 → (∀ (b1 : A1) (b2 : A2) (b3 : A3) (b4 : A4) (b5 : A5) (b6 : A6) (b7 : A7) (b8 : A8) (b9 : A9), I b1 b2 b3 b4 b5 b6 b7 b8 b9 → μ b1 b2 b3 b4 b5 b6 b7 b8 b9 < μ a1 a2 a3 a4 a5 a6 a7 a8 a9 → W n b1 b2 b3 b4 b5 b6 b7 b8 b9) → W (n + 1) a1 a2 a3 a4 a5 a6 a7 a8 a9) (a1 : A1) (a2 : A2) (a3 : A3) (a4 : A4) (a5 : A5) (a6 : A6) (a7 : A7) (a8 : A8) (a9 : A9) (h : I a1 a2 a3 a4 a5 a6 a7 a8 a9) : ∃ n, W n a1 a2 a3 a4 a5 a6 a7 a8 a9 :=
  loop_m (σ := A1 × A2 × A3 × A4 × A5 × A6 × A7 × A8 × A9) (fun n s => W n s.1 s.2.1 s.2.2.1 s.2.2.2.1 s.2.2.2.2.1 s.2.2.2.2.2.1 s.2.2.2.2.2.2.1 s.2.2.2.2.2.2.2.1 s.2.2.2.2.2.2.2.2) (fun s => I s.1 s.2.1 s.2.2.1 s.2.2.2.1 s.2.2.2.2.1 s.2.2.2.2.2.1 s.2.2.2.2.2.2.1 s.2.2.2.2.2.2.2.1 s.2.2.2.2.2.2.2.2) (fun s => μ s.1 s.2.1 s.2.2.1 s.2.2.2.1 s.2.2.2.2.1 s.2.2.2.2.2.1 s.2.2.2.2.2.2.1 s.2.2.2.2.2.2.2.1 s.2.2.2.2.2.2.2.2) (fun n s hI hk => hs n s.1 s.2.1 s.2.2.1 s.2.2.2.1 s.2.2.2.2.1 s.2.2.2.2.2.1 s.2.2.2.2.2.2.1 s.2.2.2.2.2.2.2.1 s.2.2.2.2.2.2.2.2 hI (fun b1 b2 b3 b4 b5 b6 b7 b8 b9 h9 hm => hk (b1, b2, b3, b4, b5, b6, b7, b8, b9) h9 hm)) (a1, a2, a3, a4, a5, a6, a7, a8, a9) h
theorem lp10 {A1 A2 A3 A4 A5 A6 A7 A8 A9 A10 : Type} (W : Nat → A1 → A2 → A3 → A4 → A5 → A6 → A7 → A8 → A9 → A10 → Prop) (I : A1 → A2 → A3 → A4 → A5 → A6 → A7 → A8 → A9 → A10 → Prop) (μ : A1 → A2 → A3 → A4 → A5 → A6 → A7 → A8 → A9 → A10 → Nat) (hs : ∀ (n : Nat) (a1 : A1) (a2 : A2) (a3 : A3) (a4 : A4) (a5 : A5) (a6 : A6) (a7 : A7) (a8 : A8) (a9 : A9) (a10 : A10), I a1 a2 a3 a4 a5 a6 a7 a8 a9 a10 → (∀ (b1 : A1) (b2 : A2) (b3 : A3) (b4 : A4) (b5 : A5) (b6 : A6) (b7 : A7) (b8 : A8) (b9 : A9) (b10 : A10), I b1 b2 b3 b4 b5 b6 b7 b8 b9 b10 → μ b1 b2 b3 b4 b5 b6 b7 b8 b9 b10 < μ a1 a2 a3 a4 a5 a6 a7 a8 a9 a10 → W n b1 b2 b3 b4 b5 b6 b7 b8 b9 b10) → W (n + 1) a1 a2 a3 a4 a5 a6 a7 a8 a9 a10) (a1 : A1) (a2 : A2) (a3 : A3) (a4 : A4) (a5 : A5) (a6 : A6) (a7 : A7) (a8 : A8) (a9 : A9) (a10 : A10) (h : I a1 a2 a3 a4 a5 a6 a7 a8 a9 a10) : ∃ n, W n a1 a2 a3 a4 a5 a6 a7 a8 a9 a10 :=
  loop_m (σ := A1 × A2 × A3 × A4 × A5 × A6 × A7 × A8 × A9 × A10) (fun n s => W n s.1 s.2.1 s.2.2.1 s.2.2.2.1 s.2.2.2.2.1 s.2.2.2.2.2.1 s.2.2.2.2.2.2.1 s.2.2.2.2.2.2.2.1 s.2.2.2.2.2.2.2.2.1 s.2.2.2.2.2.2.2.2.2) (fun s => I s.1 s.2.1 s.2.2.1 s.2.2.2.1 s.2.2.2.2.1 s.2.2.2.2.2.1 s.2.2.2.2.2.2.1 s.2.2.2.2.2.2.2.1 s.2.2.2.2.2.2.2.2.1 s.2.2.2.2.2.2.2.2.2) (fun s => μ s.1 s.2.1 s.2.2.1 s.2.2.2.1 s.2.2.2.2.1 s.2.2.2.2.2.1 s.2.2.2.2.2.2.1 s.2.2.2.2.2.2.2.1 s.2.2.2.2.2.2.2.2.1 s.2.2.2.2.2.2.2.2.2) (fun n s hI hk => hs n s.1 s.2.1 s.2.2.1 s.2.2.2.1 s.2.2.2.2.1 s.2.2.2.2.2.1 s.2.2.2.2.2.2.1 s.2.2.2.2.2.2.2.1 s.2.2.2.2.2.2.2.2.1 s.2.2.2.2.2.2.2.2.2 hI (fun b1 b2 b3 b4 b5 b6 b7 b8 b9 b10 h9 hm => hk (b1, b2, b3, b4, b5, b6, b7, b8, b9, b10) h9 hm)) (a1, a2, a3, a4, a5, a6, a7, a8, a9, a10) h
theorem lp11 {A1 A2 A3 A4 A5 A6 A7 A8 A9 A10 A11 : Type} (W : Nat → A1 → A2 → A3 → A4 → A5 → A6 → A7 → A8 → A9 → A10 → A11 → Prop) (I : A1 → A2 → A3 → A4 → A5 → A6 → A7 → A8 → A9 → A10 → A11 → Prop) (μ : A1 → A2 → A3 → A4 → A5 → A6 → A7 → A8 → A9 → A10 → A11 → Nat) (hs : ∀ (n : Nat) (a1 : A1) (a2 : A2) (a3 : A3) (a4 : A4) (a5 : A5) (a6 : A6) (a7 : A7) (a8 : A8) (a9 : A9) (a10 : A10) (a11 : A11), I a1 a2 a3 a4 a5 a6 a7 a8 a9 a10 a11 → (∀ (b1 : A1) (b2 : A2) (b3 : A3) (b4 : A4) (b5 : A5) (b6 : A6) (b7 : A7) (b8 : A8) (b9 : A9) (b10 : A10) (b11 : A11), I b1 b2 b3 b4 b5 b6 b7 b8 b9 b10 b11 → μ b1 b2 b3 b4 b5 b6 b7 b8 b9 b10 b11 < μ a1 a2 a3 a4 a5 a6 a7 a8 a9 a10 a11 → W n b1 b2 b3 b4 b5 b6 b7 b8 b9 b10 b11) → W (n + 1) a1 a2 a3 a4 a5 a6 a7 a8 a9 a10 a11) (a1 : A1) (a2 : A2) (a3 : A3) (a4 : A4) (a5 : A5) (a6 : A6) (a7 : A7) (a8 : A8) (a9 : A9) (a10 : A10) (a11 : A11) (h : I a1 a2 a3 a4 a5 a6 a7 a8 a9 a10 a11) : ∃ n, W n a1 a2 a3 a4 a5 a6 a7 a8 a9 a10 a11 :=
  loop_m (σ := A1 × A2 × A3 × A4 × A5 × A6 × A7 × A8 × A9 × A10 × A11) (fun n s => W n s.1 s.2.1 s.2.2.1 s.2.2.2.1 s.2.2.2.2.1 s.2.2.2.2.2.1 s.2.2.2.2.2.2.1 s.2.2.2.2.2.2.2.1 s.2.2.2.2.2.2.2.2.1 s.2.2.2.2.2.2.2.2.2.1 s.2.2.2.2.2.2.2.2.2.2) (fun s => I s.1 s.2.1 s.2.2.1 s.2.2.2.1 s.2.2.2.2.1 s.2.2.2.2.2.1 s.2.2.2.2.2.2.1 s.2.2.2.2.2.2.2.1 s.2.2.2.2.2.2.2.2.1 s.2.2.2.2.2.2.2.2.2.1 s.2.2.2.2.2.2.2.2.2.2) (fun s => μ s.1 s.2.1 s.2.2.1 s.2.2.2.1 s.2.2.2.2.1 s.2.2.2.2.2.1 s.2.2.2.2.2.2.1 s.2.2.2.2.2.2.2.1 s.2.2.2.2.2.2.2.2.1 s.2.2.2.2.2.2.2.2.2.1 s.2.2.2.2.2.2.2.2.2.2) (fun n s hI hk => hs n s.1 s.2.1 s.2.2.1 s.2.2.2.1 s.2.2.2.2.1 s.2.2.2.2.2.1 s.2.2.2.2.2.2.1 s.2.2.2.2.2.2.2.1 s.2.2.2.2.2.2.2.2.1 s.2.2.2.2.2.2.2.2.2.1 s.2.2.2.2.2.2.2.2.2.2 hI (fun b1 b2 b3 b4 b5 b6 b7 b8 b9 b10 b11 h9 hm => hk (b1, b2, b3, b4, b5, b6, b7, b8, b9, b10, b11) h9 hm)) (a1, a2, a3, a4, a5, a6, a7, a8, a9, a10, a11) h
theorem lp12 {A1 A2 A3 A4 A5 A6 A7 A8 A9 A10 A11 A12 : Type} (W : Nat → A1 → A2 → A3 → A4 → A5 → A6 → A7 → A8 → A9 → A10 → A11 → A12 → Prop) (I : A1 → A2 → A3 → A4 → A5 → A6 → A7 → A8 → A9 → A10 → A11 → A12 → Prop) (μ : A1 → A2 → A3 → A4 → A5 → A6 → A7 → A8 → A9 → A10 → A11 → A12 → Nat) (hs : ∀ (n : Nat) (a1 : A1) (a2 : A2) (a3 : A3) (a4 : A4) (a5 : A5) (a6 : A6) (a7 : A7) (a8 : A8) (a9 : A9) (a10 : A10) (a11 : A11) (a12 : A12), I a1 a2 a3 a4 a5 a6 a7 a8 a9 a10 a11 a12 → (∀ (b1 : A1) (b2 : A2) (b3 : A3) (b4 : A4) (b5 : A5) (b6 : A6) (b7 : A7) (b8 : A8) (b9 : A9) (b10 : A10) (b11 : A11) (b12 : A12), I b1 b2 b3 b4 b5 b6 b7 b8 b9 b10 b11 b12 → μ b1 b2 b3 b4 b5 b6 b7 b8 b9 b10 b11 b12 < μ a1 a2 a3 a4 a5 a6 a7 a8 a9 a10 a11 a12 → W n b1 b2 b3 b4 b5 b6 b7 b8 b9 b10 b11 b12) → W (n + 1) a1 a2 a3 a4 a5 a6 a7 a8 a9 a10 a11 a12) (a1 : A1) (a2 : A2) (a3 : A3) (a4 : A4) (a5 : A5) (a6 : A6) (a7 : A7) (a8 : A8) (a9 : A9) (a10 : A10) (a11 : A11) (a12 : A12) (h : I a1 a2 a3 a4 a5 a6 a7 a8 a9 a10 a11 a12) : ∃ n, W n a1 a2 a3 a4 a5 a6 a7 a8 a9 a10 a11 a12 :=
  loop_m (σ := A1 × A2 × A3 × A4 × A5 × A6 × A7 × A8 × A9 × A10 × A11 × A12) (fun n s => W n s.1 s.2.1 s.2.2.1 s.2.2.2.1 s.2.2.2.2.1 s.2.2.2.2.2.1 s.2.2.2.2.2.2.1 s.2.2.2.2.2.2.2.1 s.2.2.2.2.2.2.2.2.1 s.2.2.2.2.2.2.2.2.2.1 s.2.2.2.2.2.2.2.2.2.2.1 s.2.2.2.2.2.2.2.2.2.2.2) (fun s => I s.1 s.2.1 s.2.2.1 s.2.2.2.1 s.2.2.2.2.1 s.2.2.2.2.2.1 s.2.2.2.2.2.2.1 s.2.2.2.2.2.2.2.1 s.2.2.2.2.2.2.2.2.1 s.2.2.2.2.2.2.2.2.2.1 s.2.2.2.2.2.2.2.2.2.2.1 s.2.2.2.2.2.2.2.2.2.2.2) (fun s => μ s.1 s.2.1 s.2.2.1 s.2.2.2.1 s.2.2.2.2.1 s.2.2.2.2.2.1 s.2.2.2.2.2.2.1 s.2.2.2.2.2.2.2.1 s.2.2.2.2.2.2.2.2.1 s.2.2.2.2.2.2.2.2.2.1 s.2.2.2.2.2.2.2.2.2.2.1 s.2.2.2.2.2.2.2.2.2.2.2) (fun n s hI hk => hs n s.1 s.2.1 s.2.2.1 s.2.2.2.1 s.2.2.2.2.1 s.2.2.2.2.2.1 s.2.2.2.2.2.2.1 s.2.2.2.2.2.2.2.1 s.2.2.2.2.2.2.2.2.1 s.2.2.2.2.2.2.2.2.2.1 s.2.2.2.2.2.2.2.2.2.2.1 s.2.2.2.2.2.2.2.2.2.2.2 hI (fun b1 b2 b3 b4 b5 b6 b7 b8 b9 b10 b11 b12 h9 hm => hk (b1, b2, b3, b4, b5, b6, b7, b8, b9, b10, b11, b12) h9 hm)) (a1, a2, a3, a4, a5, a6, a7, a8, a9, a10, a11, a12) h
theorem lp13 {A1 A2 A3 A4 A5 A6 A7 A8 A9 A10 A11 A12 A13 : Type} (W : Nat → A1 → A2 → A3 → A4 → A5 → A6 → A7 → A8 → A9 → A10 → A11 → A12 → A13 → Prop) (I : A1 → A2 → A3 → A4 → A5 → A6 → A7 → A8 → A9 → A10 → A11 → A12 → A13 → Prop) (μ : A1 → A2 → A3 → A4 → A5 → A6 → A7 → A8 → A9 → A10 → A11 → A12 → A13 → Nat) (hs : ∀ (n : Nat) (a1 : A1) (a2 : A2) (a3 : A3) (a4 : A4) (a5 : A5) (a6 : A6) (a7 : A7) (a8 : A8) (a9 : A9) (a10 : A10) (a11 : A11) (a12 : A12) (a13 : A13), I a1 a2 a3 a4 a5 a6 a7 a8 a9 a10 a11 a12 a13 → (∀ (b1 : A1) (b2 : A2) (b3 : A3) (b4 : A4) (b5 : A5) (b6 : A6) (b7 : A7) (b8 : A8) (b9 : A9) (b10 : A10) (b11 : A11) (b12 : A12) (b13 : A13), I b1 b2 b3 b4 b5 b6 b7 b8 b9 b10 b11 b12 b13 → μ b1 b2 b3 b4 b5 b6 b7 b8 b9 b10 b11 b12 b13 < μ a1 a2 a3 a4 a5 a6 a7 a8 a9 a10 a11 a12 a13 → W n b1 b2 b3 b4 b5 b6 b7 b8 b9 b10 b11 b12 b13) → W (n + 1) a1 a2 a3 a4 a5 a6 a7 a8 a9 a10 a11 a12 a13) (a1 : A1) (a2 : A2) (a3 : A3) (a4 : A4) (a5 : A5) (a6 : A6) (a7 : A7) (a8 : A8) (a9 : A9) (a10 : A10) (a11 : A11) (a12 : A12) (a13 : A13) (h : I a1 a2 a3 a4 a5 a6 a7 a8 a9 a10 a11 a12 a13) : ∃ n, W n a1 a2 a3 a4 a5 a6 a7 a8 a9 a10 a11 a12 a13 :=
  loop_m (σ := A1 × A2 × A3 × A4 × A5 × A6 × A7 × A8 × A9 × A10 × A11 × A12 × A13) (fun n s => W n s.1 s.2.1 s.2.2.1 s.2.2.2.1 s.2.2.2.2.1 s.2.2.2.2.2.1 s.2.2.2.2.2.2.1 s.2.2.2.2.2.2.2.1 s.2.2.2.2.2.2.2.2.1 s.2.2.2.2.2.2.2.2.2.1 s.2.2.2.2.2.2.2.2.2.2.1 s.2.2.2.2.2.2.2.2.2.2.2.1 s.2.2.2.2.2.2.2.2.2.2.2.2) (fun s => I s.1 s.2.1 s.2.2.1 s.2.2.2.1 s.2.2.2.2.1 s.2.2.2.2.2.1 s.2.2.2.2.2.2.1 s.2.2.2.2.2.2.2.1 s.2.2.2.2.2.2.2.2.1 s.2.2.2.2.2.2.2.2.2.1 s.2.2.2.2.2.2.2.2.2.2.1 s.2.2.2.2.2.2.2.2.2.2.2.1 s.2.2.2.2.2.2.2.2.2.2.2.2) (fun s => μ s.1 s.2.1 s.2.2.1 s.2.2.2.1 s.2.2.2.2.1 s.2.2.2.2.2.1 s.2.2.2.2.2.2.1 s.2.2.2.2.2.2.2.1 s.2.2.2.2.2.2.2.2.1 s.2.2.2.2.2.2.2.2.2.1 s.2.2.2.2.2.2.2.2.2.2.1 s.2.2.2.2.2.2.2.2.2.2.2.1 s.2.2.2.2.2.2.2.2.2.2.2.2) (fun n s hI hk => hs n s.1 s.2.1 s.2.2.1 s.2.2.2.1 s.2.2.2.2.1 s.2.2.2.2.2.1 s.2.2.2.2.2.2.1 s.2.2.2.2.2.2.2.1 s.2.2.2.2.2.2.2.2.1 s.2.2.2.2.2.2.2.2.2.1 s.2.2.2.2.2.2.2.2.2.2.1 s.2.2.2.2.2.2.2.2.2.2.2.1 s.2.2.2.2.2.2.2.2.2.2.2.2 hI (fun b1 b2 b3 b4 b5 b6 b7 b8 b9 b10 b11 b12 b13 h9 hm => hk (b1, b2, b3, b4, b5, b6, b7, b8, b9, b10, b11, b12, b13) h9 hm)) (a1, a2, a3, a4, a5, a6, a7, a8, a9, a10, a11, a12, a13) h
theorem lp14 {A1 A2 A3 A4 A5 A6 A7 A8 A9 A10 A11 A12 A13 A14 : Type} (W : Nat → A1 → A2 → A3 → A4 → A5 → A6 → A7 → A8 → A9 → A10 → A11 → A12 → A13 → A14 → Prop) (I : A1 → A2 → A3 → A4 → A5 → A6 → A7 → A8 → A9 → A10 → A11 → A12 → A13 → A14 → Prop) (μ : A1 → A2 → A3 → A4 → A5 → A6 → A7 → A8 → A9 → A10 → A11 → A12 → A13 → A14 → Nat) (hs : ∀ (n : Nat) (a1 : A1) (a2 : A2) (a3 : A3) (a4 : A4) (a5 : A5) (a6 : A6) (a7 : A7) (a8 : A8) (a9 : A9) (a10 : A10) (a11 : A11) (a12 : A12) (a13 : A13) (a14 : A14), I a1 a2 a3 a4 a5 a6 a7 a8 a9 a10 a11 a12 a13 a14 → (∀ (b1 : A1) (b2 : A2) (b3 : A3) (b4 : A4) (b5 : A5) (b6 : A6) (b7 : A7) (b8 : A8) (b9 : A9) (b10 : A10) (b11 : A11) (b12 : A12) (b13 : A13) (b14 : A14), I b1 b2 b3 b4 b5 b6 b7 b8 b9 b10 b11 b12 b13 b14 → μ b1 b2 b3 b4 b5 b6 b7 b8 b9 b10 b11 b12 b13 b14 < μ a1 a2 a3 a4 a5 a6 a7 a8 a9 a10 a11 a12 a13 a14 → W n b1 b2 b3 b4 b5 b6 b7 b8 b9 b10 b11 b12 b13 b14) → W (n + 1) a1 a2 a3 a4 a5 a6 a7 a8 a9 a10 a11 a12 a13 a14) (a1 : A1) (a2 : A2) (a3 : A3) (a4 : A4) (a5 : A5) (a6 : A6) (a7 : A7) (a8 : A8) (a9 : A9) (a10 : A10) (a11 : A11) (a12 : A12) (a13 : A13) (a14 : A14) (h : I a1 a2 a3 a4 a5 a6 a7 a8 a9 a10 a11 a12 a13 a14) : ∃ n, W n a1 a2 a3 a4 a5 a6 a7 a8 a9 a10 a11 a12 a13 a14 :=
  loop_m (σ := A1 × A2 × A3 × A4 × A5 × A6 × A7 × A8 × A9 × A10 × A11 × A12 × A13 × A14) (fun n s => W n s.1 s.2.1 s.2.2.1 s.2.2.2.1 s.2.2.2.2.1 s.2.2.2.2.2.1 s.2.2.2.2.2.2.1 s.2.2.2.2.2.2.2.1 s.2.2.2.2.2.2.2.2.1 s.2.2.2.2.2.2.2.2.2.1 s.2.2.2.2.2.2.2.2.2.2.1 s.2.2.2.2.2.2.2.2.2.2.2.1 s.2.2.2.2.2.2.2.2.2.2.2.2.1 s.2.2.2.2.2.2.2.2.2.2.2.2.2) (fun s => I s.1 s.2.1 s.2.2.1 s.2.2.2.1 s.2.2.2.2.1 s.2.2.2.2.2.1 s.2.2.2.2.2.2.1 s.2.2.2.2.2.2.2.1 s.2.2.2.2.2.2.2.2.1 s.2.2.2.2.2.2.2.2.2.1 s.2.2.2.2.2.2.2.2.2.2.1 s.2.2.2.2.2.2.2.2.2.2.2.1 s.2.2.2.2.2.2.2.2.2.2.2.2.1 s.2.2.2.2.2.2.2.2.2.2.2.2.2) (fun s => μ s.1 s.2.1 s.2.2.1 s.2.2.2.1 s.2.2.2.2.1 s.2.2.2.2.2.1 s.2.2.2.2.2.2.1 s.2.2.2.2.2.2.2.1 s.2.2.2.2.2.2.2.2.1 s.2.2.2.2.2.2.2.2.2.1 s.2.2.2.2.2.2.2.2.2.2.1 s.2.2.2.2.2.2.2.2.2.2.2.1 s.2.2.2.2.2.2.2.2.2.2.2.2.1 s.2.2.2.2.2.2.2.2.2.2.2.2.2) (fun n s hI hk => hs n s.1 s.2.1 s.2.2.1 s.2.2.2.1 s.2.2.2.2.1 s.2.2.2.2.2.1 s.2.2.2.2.2.2.1 s.2.2.2.2.2.2.2.1 s.2.2.2.2.2.2.2.2.1 s.2.2.2.2.2.2.2.2.2.1 s.2.2.2.2.2.2.2.2.2.2.1 s.2.2.2.2.2.2.2.2.2.2.2.1 s.2.2.2.2.2.2.2.2.2.2.2.2.1 s.2.2.2.2.2.2.2.2.2.2.2.2.2 hI (fun b1 b2 b3 b4 b5 b6 b7 b8 b9 b10 b11 b12 b13 b14 h9 hm => hk (b1, b2, b3, b4, b5, b6, b7, b8, b9, b10, b11, b12, b13, b14) h9 hm)) (a1, a2, a3, a4, a5, a6, a7, a8, a9, a10, a11, a12, a13, a14) h
theorem lp15 {A1 A2 A3 A4 A5 A6 A7 A8 A9 A10 A11 A12 A13 A14 A15 : Type} (W : Nat → A1 → A2 → A3 → A4 → A5 → A6 → A7 → A8 → A9 → A10 → A11 → A12 → A13 → A14 → A15 → Prop) (I : A1 → A2 → A3 → A4 → A5 → A6 → A7 → A8 → A9 → A10 → A11 → A12 → A13 → A14 → A15 → Prop) (μ : A1 → A2 → A3 → A4 → A5 → A6 → A7 → A8 → A9 → A10 → A11 → A12 → A13 → A14 → A15 → Nat) (hs : ∀ (n : Nat) (a1 : A1) (a2 : A2) (a3 : A3) (a4 : A4) (a5 : A5) (a6 : A6) (a7 : A7) (a8 : A8) (a9 : A9) (a10 : A10) (a11 : A11) (a12 : A12) (a13 : A13) (a14 : A14) (a15 : A15), I a1 a2 a3 a4 a5 a6 a7 a8 a9 a10 a11 a12 a13 a14 a15 → (∀ (b1 : A1) (b2 : A2) (b3 : A3) (b4 : A4) (b5 : A5) (b6 : A6) (b7 : A7) (b8 : A8) (b9 : A9) (b10 : A10) (b11 : A11) (b12 : A12) (b13 : A13) (b14 : A14) (b15 : A15), I b1 b2 b3 b4 b5 b6 b7 b8 b9 b10 b11 b12 b13 b14 b15 → μ b1 b2 b3 b4 b5 b6 b7 b8 b9 b10 b11 b12 b13 b14 b15 < μ a1 a2 a3 a4 a5 a6 a7 a8 a9 a10 a11 a12 a13 a14 a15 → W n b1 b2 b3 b4 b5 b6 b7 b8 b9 b10 b11 b12 b13 b14 b15) → W (n + 1) a1 a2 a3 a4 a5 a6 a7 a8 a9 a10 a11 a12 a13 a14 a15) (a1 : A1) (a2 : A2) (a3 : A3) (a4 : A4) (a5 : A5) (a6 : A6) (a7 : A7) (a8 : A8) (a9 : A9) (a10 : A10) (a11 : A11) (a12 : A12) (a13 : A13) (a14 : A14) (a15 : A15) (h : I a1 a2 a3 a4 a5 a6 a7 a8 a9 a10 a11 a12 a13 a14 a15) : ∃ n, W n a1 a2 a3 a4 a5 a6 a7 a8 a9 a10 a11 a12 a13 a14 a15 :=
  loop_m (σ := A1 × A2 × A3 × A4 × A5 × A6 × A7 × A8 × A9 × A10 × A11 × A12 × A13 × A14 × A15) (fun n s => W n s.1 s.2.1 s.2.2.1 s.2.2.2.1 s.2.2.2.2.1 s.2.2.2.2.2.1 s.2.2.2.2.2.2.1 s.2.2.2.2.2.2.2.1 s.2.2.2.2.2.2.2.2.1 s.2.2.2.2.2.2.2.2.2.1 s.2.2.2.2.2.2.2.2.2.2.1 s.2.2.2.2.2.2.2.2.2.2.2.1 s.2.2.2.2.2.2.2.2.2.2.2.2.1 s.2.2.2.2.2.2.2.2.2.2.2.2.2.1 s.2.2.2.2.2.2.2.2.2.2.2.2.2.2) (fun s => I s.1 s.2.1 s.2.2.1 s.2.2.2.1 s.2.2.2.2.1 s.2.2.2.2.2.1 s.2.2.2.2.2.2.1 s.2.2.2.2.2.2.2.1 s.2.2.2.2.2.2.2.2.1 s.2.2.2.2.2.2.2.2.2.1 s.2.2.2.2.2.2.2.2.2.2.1 s.2.2.2.2.2.2.2.2.2.2.2.1 s.2.2.2.2.2.2.2.2.2.2.2.2.1 s.2.2.2.2.2.2.2.2.2.2.2.2.2.1 s.2.2.2.2.2.2.2.2.2.2.2.2.2.2) (fun s => μ s.1 s.2.1 s.2.2.1 s.2.2.2.1 s.2.2.2.2.1 s.2.2.2.2.2.1 s.2.2.2.2.2.2.1 s.2.2.2.2.2.2.2.1 s.2.2.2.2.2.2.2.2.1 s.2.2.2.2.2.2.2.2.2.1 s.2.2.2.2.2.2.2.2.2.2.1 s.2.2.2.2.2.2.2.2.2.2.2.1 s.2.2.2.2.2.2.2.2.2.2.2.2.1 s.2.2.2.2.2.2.2.2.2.2.2.2.2.1 s.2.2.2.2.2.2.2.2.2.2.2.2.2.2) (fun n s hI hk => hs n s.1 s.2.1 s.2.2.1 s.2.2.2.1 s.2.2.2.2.1 s.2.2.2.2.2.1 s.2.2.2.2.2.2.1 s.2.2.2.2.2.2.2.1 s.2.2.2.2.2.2.2.2.1 s.2.2.2.2.2.2.2.2.2.1 s.2.2.2.2.2.2.2.2.2.2.1 s.2.2.2.2.2.2.2.2.2.2.2.1 s.2.2.2.2.2.2.2.2.2.2.2.2.1 s.2.2.2.2.2.2.2.2.2.2.2.2.2.1 s.2.2.2.2.2.2.2.2.2.2.2.2.2.2 hI (fun b1 b2 b3 b4 b5 b6 b7 b8 b9 b10 b11 b12 b13 b14 b15 h9 hm => hk (b1, b2, b3, b4, b5, b6, b7, b8, b9, b10, b11, b12, b13, b14, b15) h9 hm)) (a1, a2, a3, a4, a5, a6, a7, a8, a9, a10, a11, a12, a13, a14, a15) h
theorem lp16 {A1 A2 A3 A4 A5 A6 A7 A8 A9 A10 A11 A12 A13 A14 A15 A16 : Type} (W : Nat → A1 → A2 → A3 → A4 → A5 → A6 → A7 → A8 → A9 → A10 → A11 → A12 → A13 → A14 → A15 → A16 → Prop) (I : A1 → A2 → A3 → A4 → A5 → A6 → A7 → A8 → A9 → A10 → A11 → A12 → A13 → A14 → A15 → A16 → Prop) (μ : A1 → A2 → A3 → A4 → A5 → A6 → A7 → A8 → A9 → A10 → A11 → A12 → A13 → A14 → A15 → A16 → Nat) (hs : ∀ (n : Nat) (a1 : A1) (a2 : A2) (a3 : A3) (a4 : A4) (a5 : A5) (a6 : A6) (a7 : A7) (a8 : A8) (a9 : A9) (a10 : A10) (a11 : A11) (a12 : A12) (a13 : A13) (a14 : A14) (a15 : A15) (a16 : A16), I a1 a2 a3 a4 a5 a6 a7 a8 a9 a10 a11 a12 a13 a14 a15 a16 → (∀ (b1 : A1) (b2 : A2) (b3 : A3) (b4 : A4) (b5 : A5) (b6 : A6) (b7 : A7) (b8 : A8) (b9 : A9) (b10 : A10) (b11 : A11) (b12 : A12) (b13 : A13) (b14 : A14) (b15 : A15) (b16 : A16), I b1 b2 b3 b4 b5 b6 b7 b8 b9 b10 b11 b12 b13 b14 b15 b16 → μ b1 b2 b3 b4 b5 b6 b7 b8 b9 b10 b11 b12 b13 b14 b15 b16 < μ a1 a2 a3 a4 a5 a6 a7 a8 a9 a10 a11 a12 a13 a14 a15 a16 → W n b1 b2 b3 b4 b5 b6 b7 b8 b9 b10 b11 b12 b13 b14 b15 b16) → W (n + 1) a1 a2 a3 a4 a5 a6 a7 a8 a9 a10 a11 a12 a13 a14 a15 a16) (a1 : A1) (a2 : A2) (a3 : A3) (a4 : A4) (a5 : A5) (a6 : A6) (a7 : A7) (a8 : A8) (a9 : A9) (a10 : A10) (a11 : A11) (a12 : A12) (a13 : A13) (a14 : A14) (a15 : A15) (a16 : A16) (h : I a1 a2 a3 a4 a5 a6 a7 a8 a9 a10 a11 a12 a13 a14 a15 a16) : ∃ n, W n a1 a2 a3 a4 a5 a6 a7 a8 a9 a10 a11 a12 a13 a14 a15 a16 :=
  loop_m (σ := A1 × A2 × A3 × A4 × A5 × A6 × A7 × A8 × A9 × A10 × A11 × A12 × A13 × A14 × A15 × A16) (fun n s => W n s.1 s.2.1 s.2.2.1 s.2.2.2.1 s.2.2.2.2.1 s.2.2.2.2.2.1 s.2.2.2.2.2.2.1 s.2.2.2.2.2.2.2.1 s.2.2.2.2.2.2.2.2.1 s.2.2.2.2.2.2.2.2.2.1 s.2.2.2.2.2.2.2.2.2.2.1 s.2.2.2.2.2.2.2.2.2.2.2.1 s.2.2.2.2.2.2.2.2.2.2.2.2.1 s.2.2.2.2.2.2.2.2.2.2.2.2.2.1 s.2.2.2.2.2.2.2.2.2.2.2.2.2.2.1 s.2.2.2.2.2.2.2.2.2.2.2.2.2.2.2) (fun s => I s.1 s.2.1 s.2.2.1 s.2.2.2.1 s.2.2.2.2.1 s.2.2.2.2.2.1 s.2.2.2.2.2.2.1 s.2.2.2.2.2.2.2.1 s.2.2.2.2.2.2.2.2.1 s.2.2.2.2.2.2.2.2.2.1 s.2.2.2.2.2.2.2.2.2.2.1 s.2.2.2.2.2.2.2.2.2.2.2.1 s.2.2.2.2.2.2.2.2.2.2.2.2.1 s.2.2.2.2.2.2.2.2.2.2.2.2.2.1 s.2.2.2.2.2.2.2.2.2.2.2.2.2.2.1 s.2.2.2.2.2.2.2.2.2.2.2.2.2.2.2) (fun s => μ s.1 s.2.1 s.2.2.1 s.2.2.2.1 s.2.2.2.2.1 s.2.2.2.2.2.1 s.2.2.2.2.2.2.1 s.2.2.2.2.2.2.2.1 s.2.2.2.2.2.2.2.2.1 s.2.2.2.2.2.2.2.2.2.1 s.2.2.2.2.2.2.2.2.2.2.1 s.2.2.2.2.2.2.2.2.2.2.2.1 s.2.2.2.2.2.2.2.2.2.2.2.2.1 s.2.2.2.2.2.2.2.2.2.2.2.2.2.1 s.2.2.2.2.2.2.2.2.2.2.2.2.2.2.1 s.2.2.2.2.2.2.2.2.2.2.2.2.2.2.2) (fun n s hI hk => hs n s.1 s.2.1 s.2.2.1 s.2.2.2.1 s.2.2.2.2.1 s.2.2.2.2.2.1 s.2.2.2.2.2.2.1 s.2.2.2.2.2.2.2.1 s.2.2.2.2.2.2.2.2.1 s.2.2.2.2.2.2.2.2.2.1 s.2.2.2.2.2.2.2.2.2.2.1 s.2.2.2.2.2.2.2.2.2.2.2.1 s.2.2.2.2.2.2.2.2.2.2.2.2.1 s.2.2.2.2.2.2.2.2.2.2.2.2.2.1 s.2.2.2.2.2.2.2.2.2.2.2.2.2.2.1 s.2.2.2.2.2.2.2.2.2.2.2.2.2.2.2 hI (fun b1 b2 b3 b4 b5 b6 b7 b8 b9 b10 b11 b12 b13 b14 b15 b16 h9 hm => hk (b1, b2, b3, b4, b5, b6, b7, b8, b9, b10, b11, b12, b13, b14, b15, b16) h9 hm)) (a1, a2, a3, a4, a5, a6, a7, a8, a9, a10, a11, a12, a13, a14, a15, a16) h
theorem pk_least (P : Nat → Prop) (h : ∃ k, P k) : ∃ k, P k ∧ ∀ j, j < k → ¬ P j := by
  obtain ⟨k, hk⟩ := h
  induction k using Nat.strongRecOn with
  | ind k ih =>
    by_cases e : ∃ j, j < k ∧ P j
    · obtain ⟨j, hj, pj⟩ := e
      exact ih j hj pj
    · exact ⟨k, hk, fun j hj pj => e ⟨j, hj, pj⟩⟩
theorem rp1 {ρ A1 : Type} (W : Nat → (ρ → Prop) → A1 → Prop) (ok : A1 → Prop) (μ : A1 → Nat) (val : A1 → ρ)
    (hs : ∀ (d : Nat) (post : ρ → Prop) (a1 : A1), ok a1 → post (val a1) → (∀ (post' : ρ → Prop) (b1 : A1), ok b1 → μ b1 < μ a1 → post' (val b1) → W d post' b1) → W (d + 1) post a1) :
    ∀ (d : Nat) (post : ρ → Prop) (a1 : A1), ok a1 → μ a1 < d → post (val a1) → W d post a1 := by
  intro d
  induction d with
  | zero => intro post a1 _ h; omega
  | succ d ih =>
    intro post a1 ho hm hp
    exact hs d post a1 ho hp (fun post' b1 ho' hm' hp' => ih post' b1 ho' (by omega) hp')
theorem rp2 {ρ A1 A2 : Type} (W : Nat → (ρ → Prop) → A1 → A2 → Prop) (ok : A1 → A2 → Prop) (μ : A1 → A2 → Nat) (val : A1 → A2 → ρ)
    (hs : ∀ (d : Nat) (post : ρ → Prop) (a1 : A1) (a2 : A2), ok a1 a2 → post (val a1 a2) → (∀ (post' : ρ → Prop) (b1 : A1) (b2 : A2), ok b1 b2 → μ b1 b2 < μ a1 a2 → post' (val b1 b2) → W d post' b1 b2) → W (d + 1) post a1 a2) :
    ∀ (d : Nat) (post : ρ → Prop) (a1 : A1) (a2 : A2), ok a1 a2 → μ a1 a2 < d → post (val a1 a2) → W d post a1 a2 := by
  intro d
  induction d with
  | zero => intro post a1 a2 _ h; omega
  | succ d ih =>
    intro post a1 a2 ho hm hp
    exact hs d post a1 a2 ho hp (fun post' b1 b2 ho' hm' hp' => ih post' b1 b2 ho' (by omega) hp')
theorem rp3 {ρ A1 A2 A3 : Type} (W : Nat → (ρ → Prop) → A1 → A2 → A3 → Prop) (ok : A1 → A2 → A3 → Prop) (μ : A1 → A2 → A3 → Nat) (val : A1 → A2 → A3 → ρ)
    (hs : ∀ (d : Nat) (post : ρ → Prop) (a1 : A1) (a2 : A2) (a3 : A3), ok a1 a2 a3 → post (val a1 a2 a3) → (∀ (post' : ρ → Prop) (b1 : A1) (b2 : A2) (b3 : A3), ok b1 b2 b3 → μ b1 b2 b3 < μ a1 a2 a3 → post' (val b1 b2 b3) → W d post' b1 b2 b3) → W (d + 1) post a1 a2 a3) :
    ∀ (d : Nat) (post : ρ → Prop) (a1 : A1) (a2 : A2) (a3 : A3), ok a1 a2 a3 → μ a1 a2 a3 < d → post (val a1 a2 a3) → W d post a1 a2 a3 := by
  intro d
  induction d with
  | zero => intro post a1 a2 a3 _ h; omega
  | succ d ih =>
    intro post a1 a2 a3 ho hm hp
    exact hs d post a1 a2 a3 ho hp (fun post' b1 b2 b3 ho' hm' hp' => ih post' b1 b2 b3 ho' (by omega) hp')
theorem rp4 {ρ A1 A2 A3 A4 : Type} (W : Nat → (ρ → Prop) → A1 → A2 → A3 → A4 → Prop) (ok : A1 → A2 → A3 → A4 → Prop) (μ : A1 → A2 → A3 → A4 → Nat) (val : A1 → A2 → A3 → A4 → ρ)
    (hs : ∀ (d : Nat) (post : ρ → Prop) (a1 : A1) (a2 : A2) (a3 : A3) (a4 : A4), ok a1 a2 a3 a4 → post (val a1 a2 a3 a4) → (∀ (post' : ρ → Prop) (b1 : A1) (b2 : A2) (b3 : A3) (b4 : A4), ok b1 b2 b3 b4 → μ b1 b2 b3 b4 < μ a1 a2 a3 a4 → post' (val b1 b2 b3 b4) → W d post' b1 b2 b3 b4) → W (d + 1) post a1 a2 a3 a4) :
    ∀ (d : Nat) (post : ρ → Prop) (a1 : A1) (a2 : A2) (a3 : A3) (a4 : A4), ok a1 a2 a3 a4 → μ a1 a2 a3 a4 < d → post (val a1 a2 a3 a4) → W d post a1 a2 a3 a4 := by
  intro d
  induction d with
  | zero => intro post a1 a2 a3 a4 _ h; omega
  | succ d ih =>
    intro post a1 a2 a3 a4 ho hm hp
    exact hs d post a1 a2 a3 a4 ho hp (fun post' b1 b2 b3 b4 ho' hm' hp' => ih post' b1 b2 b3 b4 ho' (by omega) hp')
theorem rp5 {ρ A1 A2 A3 A4 A5 : Type} (W : Nat → (ρ → Prop) → A1 → A2 → A3 → A4 → A5 → Prop) (ok : A1 → A2 → A3 → A4 → A5 → Prop) (μ : A1 → A2 → A3 → A4 → A5 → Nat) (val : A1 → A2 → A3 → A4 → A5 → ρ)
    (hs : ∀ (d : Nat) (post : ρ → Prop) (a1 : A1) (a2 : A2) (a3 : A3) (a4 : A4) (a5 : A5), ok a1 a2 a3 a4 a5 → post (val a1 a2 a3 a4 a5) → (∀ (post' : ρ → Prop) (b1 : A1) (b2 : A2) (b3 : A3) (b4 : A4) (b5 : A5), ok b1 b2 b3 b4 b5 → μ b1 b2 b3 b4 b5 < μ a1 a2 a3 a4 a5 → post' (val b1 b2 b3 b4 b5) → W d post' b1 b2 b3 b4 b5) → W (d + 1) post a1 a2 a3 a4 a5) :
    ∀ (d : Nat) (post : ρ → Prop) (a1 : A1) (a2 : A2) (a3 : A3) (a4 : A4) (a5 : A5), ok a1 a2 a3 a4 a5 → μ a1 a2 a3 a4 a5 < d → post (val a1 a2 a3 a4 a5) → W d post a1 a2 a3 a4 a5 := by
  intro d
  induction d with
  | zero => intro post a1 a2 a3 a4 a5 _ h; omega
  | succ d ih =>
    intro post a1 a2 a3 a4 a5 ho hm hp
    exact hs d post a1 a2 a3 a4 a5 ho hp (fun post' b1 b2 b3 b4 b5 ho' hm' hp' => ih post' b1 b2 b3 b4 b5 ho' (by omega) hp')
theorem rp6 {ρ A1 A2 A3 A4 A5 A6 : Type} (W : Nat → (ρ → Prop) → A1 → A2 → A3 → A4 → A5 → A6 → Prop) (ok : A1 → A2 → A3 → A4 → A5 → A6 → Prop) (μ : A1 → A2 → A3 → A4 → A5 → A6 → Nat) (val : A1 → A2 → A3 → A4 → A5 → A6 → ρ)
    (hs : ∀ (d : Nat) (post : ρ → Prop) (a1 : A1) (a2 : A2) (a3 : A3) (a4 : A4) (a5 : A5) (a6 : A6), ok a1 a2 a3 a4 a5 a6 → post (val a1 a2 a3 a4 a5 a6) → (∀ (post' : ρ → Prop) (b1 : A1) (b2 : A2) (b3 : A3) (b4 : A4) (b5 : A5) (b6 : A6), ok b1 b2 b3 b4 b5 b6 → μ b1 b2 b3 b4 b5 b6 < μ a1 a2 a3 a4 a5 a6 → post' (val b1 b2 b3 b4 b5 b6) → W d post' b1 b2 b3 b4 b5 b6) → W (d + 1) post a1 a2 a3 a4 a5 a6) :
    ∀ (d : Nat) (post : ρ → Prop) (a1 : A1) (a2 : A2) (a3 : A3) (a4 : A4) (a5 : A5) (a6 : A6), ok a1 a2 a3 a4 a5 a6 → μ a1 a2 a3 a4 a5 a6 < d → post (val a1 a2 a3 a4 a5 a6) → W d post a1 a2 a3 a4 a5 a6 := by
  intro d
  induction d with
  | zero => intro post a1 a2 a3 a4 a5 a6 _ h; omega
  | succ d ih =>
    intro post a1 a2 a3 a4 a5 a6 ho hm hp
    exact hs d post a1 a2 a3 a4 a5 a6 ho hp (fun post' b1 b2 b3 b4 b5 b6 ho' hm' hp' => ih post' b1 b2 b3 b4 b5 b6 ho' (by omega) hp')
theorem rec_p {σ ρ : Type} (W : Nat → (ρ → Prop) → σ → Prop) (ok : σ → Prop) (μ : σ → Nat) (val : σ → ρ)
    (hs : ∀ d s post, ok s → post (val s) → (∀ s' post', ok s' → μ s' < μ s → post' (val s') → W d post' s') → W (d + 1) post s) :
    ∀ d s post, ok s → μ s < d → post (val s) → W d post s := by
  intro d
  induction d with
  | zero => intro s post _ h; omega
  | succ d ih =>
    intro s post ho hm hp
    exact hs d s post ho hp (fun s' post' ho' hm' hp' => ih s' post' ho' (by omega) hp')
theorem rec_q {σ ρ : Type} (W : Nat → (ρ → Prop) → σ → Prop) (ok : σ → Prop) (μ : σ → Nat) (Q : σ → ρ → Prop)
    (hs : ∀ d s post, ok s → (∀ r, Q s r → post r) → (∀ s' post', ok s' → μ s' < μ s → (∀ r, Q s' r → post' r) → W d post' s') → W (d + 1) post s) :
    ∀ d s post, ok s → μ s < d → (∀ r, Q s r → post r) → W d post s := by
  intro d
  induction d with
  | zero => intro s post _ h; omega
  | succ d ih =>
    intro s post ho hm hp
    exact hs d s post ho hp (fun s' post' ho' hm' hp' => ih s' post' ho' (by omega) hp')
def bx_sum (f : Nat → Int32) : Nat → Int32
  | 0 => 0
  | n + 1 => bx_sum f n + f n
theorem ek_u {A : Prop} {B : Nat → Prop} {k N : Nat} (hk : k < N) (h : B k) : (some k = none → A) ∧ (∀ y : Nat, some k = some y → (y < N ∧ B y)) :=
  ⟨fun z => absurd z (Option.some_ne_none k), fun _ e => (by cases e; exact ⟨hk, h⟩)⟩
theorem ek_nu {A : Prop} {B : Nat → Prop} (h : A) : ((none : Option Nat) = none → A) ∧ (∀ y : Nat, (none : Option Nat) = some y → B y) :=
  ⟨fun _ => h, fun _ e => (by cases e)⟩
theorem ek_if {c d A B : Prop} (e : c ↔ d) (f : d → A) (g : ¬ d → B) : (c → A) ∧ (¬ c → B) :=
  ⟨fun z => f (e.mp z), fun z => g (fun y => z (e.mpr y))⟩
theorem ek_v {α : Sort _} {P : α → Prop} {a b : α} (e : a = b) (h : P b) : P a := e ▸ h
theorem co_some {x : Option Nat} {A : Prop} {B : Nat → Prop} (i : Nat) (h : B i) (hx : x = some i := by rfl) : (x = none → A) ∧ (∀ y : Nat, x = some y → B y) := by
  subst hx
  exact ⟨fun e => (nomatch e), fun y e => Option.some.inj e ▸ h⟩
theorem co_none {x : Option Nat} {A : Prop} {B : Nat → Prop} (h : A) (hx : x = none := by rfl) : (x = none → A) ∧ (∀ y : Nat, x = some y → B y) := by
  subst hx
  exact ⟨fun _ => h, fun y e => (nomatch e)⟩
theorem co_any {x : Option Nat} {A : Prop} {B : Nat → Prop} (hn : x = none → A) (hs : ∀ i : Nat, x = some i → B i) : (x = none → A) ∧ (∀ y : Nat, x = some y → B y) := ⟨hn, hs⟩
theorem co_2 {P : Nat → Prop} (h0 : P 0) (h1 : P 1) {i : Nat} (hi : i < 2) : P i :=
  match i, hi with
  | 0, _ => h0
  | 1, _ => h1
theorem co_3 {P : Nat → Prop} (h0 : P 0) (h1 : P 1) (h2 : P 2) {i : Nat} (hi : i < 3) : P i :=
  match i, hi with
  | 0, _ => h0
  | 1, _ => h1
  | 2, _ => h2
theorem co_4 {P : Nat → Prop} (h0 : P 0) (h1 : P 1) (h2 : P 2) (h3 : P 3) {i : Nat} (hi : i < 4) : P i :=
  match i, hi with
  | 0, _ => h0
  | 1, _ => h1
  | 2, _ => h2
  | 3, _ => h3
theorem co_dec {N : Nat} {P : Nat → Prop} [DecidablePred P] (h : (List.range N).all (fun i => decide (P i)) = true) {i : Nat} (hi : i < N) : P i := by
  have := List.all_eq_true.mp h i (List.mem_range.mpr hi)
  exact of_decide_eq_true this
theorem co_tab {α : Type} {l : List α} {d : α} {P : α → Prop} (h : ∀ a, a ∈ l → P a) {i : Nat} (hi : i < l.length) : P (l.getD i d) := by
  rw [List.getD_eq_getElem?_getD, List.getElem?_eq_getElem hi]
  exact h _ (List.getElem_mem hi)
theorem pk_mu {x : Int32} {L : Nat} (h0 : ¬ x < 0) (h : ¬ nI L ≤ x) (hL : L < 2 ^ 31) : ∃ j : Nat, j < L ∧ x = nI j ∧ x + 1 = nI (j + 1) ∧ x.toNatClampNeg = j ∧ L - (x + 1).toNatClampNeg < L - x.toNatClampNeg := by
  obtain ⟨j, hj, rfl⟩ := nI_of h0
  have hl : j < L := Nat.not_le.mp fun q => h (nI_le q hj)
  refine ⟨j, hl, rfl, nI_1 j, nI_clamp hj, ?_⟩
  rw [nI_1, nI_clamp (by omega), nI_clamp hj]
  omega
theorem op_s {α : Type} {r : Option α} {A : Prop} {B : α → Prop} {y : α} (h : r = some y) (b : B y) : (r = none → A) ∧ ∀ z, r = some z → B z :=
  ⟨fun e => (by rw [h] at e; cases e), fun z e => (by rw [h] at e; cases e; exact b)⟩
def l_holds {α : Type} (a : Nat → Option Nat) (LP : List Nat) (p : Nat → α) (c : Nat) (b : Nat → α) : Prop :=
  ∀ j, j < c → ∃ y, a j = some y ∧ y ∈ LP ∧ p y = b j
theorem l_holds_0 {α : Type} {a : Nat → Option Nat} {LP : List Nat} {p b : Nat → α} : l_holds a LP p 0 b := fun j h => absurd h (Nat.not_lt_zero j)
theorem l_in_new (LP : List Nat) (q : Nat) : q ∈ LP ++ [q] := List.mem_append.mpr (Or.inr (List.mem_singleton.mpr rfl))
def l_sum (b : Nat → Int32) : Nat → Int32
  | 0 => 0
  | k + 1 => l_sum b k + b k
theorem sb_shr0 (x : Int32) : x >>> ((0 : Int32) &&& 31) = x := by
  rw [show ((0 : Int32) &&& 31) = 0 by decide]
  simp
theorem sb_shl0 (x : Int32) : x <<< ((0 : Int32) &&& 31) = x := by
  rw [show ((0 : Int32) &&& 31) = 0 by decide]
  simp
theorem sb_cl0 : (0 : Int32).toNatClampNeg = 0 := by decide
theorem sb_m1 {p : Nat} (h : 0 < p) : nI p + (-1) = nI (p - 1) := by
  obtain ⟨q, rfl⟩ : ∃ q, p = q + 1 := ⟨p - 1, by omega⟩
  exact pk_m1 q
def sb_b (c : Nat) : Int32 := (nI c).toInt8.toInt32
theorem sb_byte : ∀ c, c < 256 → sb_b c &&& 255 = nI c ∧ ((nI c).toUInt32 % 65536).toInt32 = nI c ∧ nI c ≤ 255 := by decide +kernel
def sb_Fit (a : Nat → Int32) : Prop := ∀ j, fits .byte (.int (a j)) = true
def sb_Lat (t : Nat → Nat) (n : Nat) (a : Nat → Int32) : Prop := ∀ j, j < n → t j < 256 ∧ a j = sb_b (t j)
theorem sb_fitB (c : Nat) : fits .byte (.int (sb_b c)) = true := pk_fb _
theorem sb_fit0 : sb_Fit (fun _ => 0) := fun _ => by
  show fits .byte (.int 0) = true
  decide
theorem sb_fitU {a : Nat → Int32} {k : Nat} {x : Int32} (h : sb_Fit a) (hx : fits .byte (.int x) = true) : sb_Fit (upd a k x) := by
  intro j
  by_cases e : j = k
  · subst e
    rw [pk_us]
    exact hx
  · rw [pk_un e]
    exact h j
def sb_cat (t : Nat → Nat) (n : Nat) (s : Nat → Nat) : Nat → Nat := fun j => if j < n then t j else s (j - n)
theorem sb_cat_lo {t s : Nat → Nat} {n j : Nat} (h : j < n) : sb_cat t n s j = t j := if_pos h
theorem sb_cat_hi {t s : Nat → Nat} {n j : Nat} : sb_cat t n s (n + j) = s j := by
  show (if n + j < n then t (n + j) else s (n + j - n)) = s j
  rw [if_neg (by omega), Nat.add_sub_cancel_left]
theorem sb_latPut {t s : Nat → Nat} {n w : Nat} {a a' : Nat → Int32} (h : sb_Lat t n a) (hk : ∀ j, j < n → a' j = a j) (hs : ∀ i, i < w → s i < 256 ∧ a' (n + i) = sb_b (s i)) : sb_Lat (sb_cat t n s) (n + w) a' := by
  intro j hj
  by_cases e : j < n
  · rw [sb_cat_lo e, hk j e]
    exact h j e
  · obtain ⟨i, rfl⟩ : ∃ i, j = n + i := ⟨j - n, by omega⟩
    rw [sb_cat_hi]
    exact hs i (by omega)
theorem sb_latKeep {t : Nat → Nat} {n : Nat} {a a' : Nat → Int32} (h : sb_Lat t n a) (hk : ∀ j, j < n → a' j = a j) : sb_Lat t n a' := fun j hj => by
  rw [hk j hj]
  exact h j hj
def sb_cap (q m : Nat) : Nat := if q ≤ m then m else if 2 * m + 2 < q then q else 2 * m + 2
def sb_Room (q m mc ms : Nat) : Prop := q ≤ m ∨ (1 ≤ mc ∧ sb_cap q m ≤ ms ∧ sb_cap q m ≤ 65536)
theorem sb_cap_ge (q m : Nat) : q ≤ sb_cap q m := by
  unfold sb_cap
  split
  · omega
  · split <;> omega
theorem sb_cap_gem (q m : Nat) : m ≤ sb_cap q m := by
  unfold sb_cap
  split
  · omega
  · split <;> omega
theorem sb_cap_le {q m mc ms : Nat} (hm : m ≤ 65536) (hr : sb_Room q m mc ms) : sb_cap q m ≤ 65536 := by
  rcases hr with h | h
  · rw [sb_cap, if_pos h]
    exact hm
  · exact h.2.2
theorem sb_at {P : Int32 → Prop} {x y : Int32} (e : x = y) (h : P y) : P x := e ▸ h
def sb_dg (w : Nat) : Nat := if w < 10 then 1 else if w < 100 then 2 else if w < 1000 then 3 else if w < 10000 then 4 else if w < 100000 then 5 else if w < 1000000 then 6 else if w < 10000000 then 7 else if w < 100000000 then 8 else if w < 1000000000 then 9 else 10
def sb_dec (v : Nat) : Nat → Nat := fun i => 48 + v / 10 ^ (sb_dg v - 1 - i) % 10
theorem sb_dg_in (w : Nat) : 1 ≤ sb_dg w ∧ sb_dg w ≤ 10 := by
  unfold sb_dg
  constructor <;> (repeat' split) <;> omega
theorem sb_dg100 {w : Nat} (h : 100 ≤ w) (hw : w < 2 ^ 31) : sb_dg w = sb_dg (w / 100) + 2 := by
  rw [sb_dg, sb_dg, if_neg (show ¬ w < 10 by omega), if_neg (show ¬ w < 100 by omega)]
  by_cases h3 : w < 1000
  · rw [if_pos h3, if_pos (show w / 100 < 10 by omega)]
  rw [if_neg h3, if_neg (show ¬ w / 100 < 10 by omega)]
  by_cases h4 : w < 10000
  · rw [if_pos h4, if_pos (show w / 100 < 100 by omega)]
  rw [if_neg h4, if_neg (show ¬ w / 100 < 100 by omega)]
  by_cases h5 : w < 100000
  · rw [if_pos h5, if_pos (show w / 100 < 1000 by omega)]
  rw [if_neg h5, if_neg (show ¬ w / 100 < 1000 by omega)]
  by_cases h6 : w < 1000000
  · rw [if_pos h6, if_pos (show w / 100 < 10000 by omega)]
  rw [if_neg h6, if_neg (show ¬ w / 100 < 10000 by omega)]
  by_cases h7 : w < 10000000
  · rw [if_pos h7, if_pos (show w / 100 < 100000 by omega)]
  rw [if_neg h7, if_neg (show ¬ w / 100 < 100000 by omega)]
  by_cases h8 : w < 100000000
  · rw [if_pos h8, if_pos (show w / 100 < 1000000 by omega)]
  rw [if_neg h8, if_neg (show ¬ w / 100 < 1000000 by omega)]
  by_cases h9 : w < 1000000000
  · rw [if_pos h9, if_pos (show w / 100 < 10000000 by omega)]
  rw [if_neg h9, if_neg (show ¬ w / 100 < 10000000 by omega)]
  rw [if_pos (show w / 100 < 100000000 by omega)]
theorem sb_negT {w : Nat} (h : w < 2 ^ 31) : (-nI w).toInt = -(w : Int) := by
  rw [Int32.toInt_neg, nI_toInt h]
  exact Int.bmod_eq_of_le (by omega) (by omega)
theorem sb_nle {a b : Nat} (ha : a < 2 ^ 31) (hb : b < 2 ^ 31) : -nI a ≤ -nI b ↔ b ≤ a := by
  rw [Int32.le_iff_toInt_le, sb_negT ha, sb_negT hb]
  omega
theorem sb_nlt {a b : Nat} (ha : a < 2 ^ 31) (hb : b < 2 ^ 31) : -nI a < -nI b ↔ b < a := by
  rw [Int32.lt_iff_toInt_lt, sb_negT ha, sb_negT hb]
  omega
theorem sb_cmp {A B : Prop} {x : Int32} (v c : Nat) (f : c ≤ v → A) (g : v < c → B) (hv : v < 2 ^ 31) (hx : x = -nI c := by rfl) (hc : c < 2 ^ 31 := by omega) : (-nI v ≤ x → A) ∧ (¬ -nI v ≤ x → B) := by
  subst hx
  rw [sb_nle hv hc]
  exact ⟨f, fun z => g (by omega)⟩
theorem sb_ndiv {w : Nat} (hw : w < 2 ^ 31) : (-nI w) / 100 = -nI (w / 100) := by
  apply Int32.toInt_inj.mp
  have h100 : (100 : Int32).toInt = 100 := by decide
  rw [Int32.toInt_div, sb_negT hw, h100, sb_negT (by omega), Int.neg_tdiv, Int.tdiv_eq_ediv_of_nonneg (by omega), Int.bmod_eq_of_le (by omega) (by omega)]
  omega
theorem sb_nrem {w : Nat} (hw : w < 2 ^ 31) : (-nI (w / 100)) * 100 - (-nI w) = nI (w % 100) := by
  have h := pk_rem (a := w) (d := 100) hw (by decide) (by decide)
  rw [pk_div hw (by decide) (by decide)] at h
  rw [← h]
  show (-nI (w / 100)) * nI 100 - (-nI w) = nI w - nI (w / 100) * nI 100
  rw [Int32.neg_mul, Int32.sub_neg, Int32.add_comm, ← Int32.sub_eq_add_neg]
end
section
/-! words as lists of digits 0 .. 3 -/
def wd_U : Nat → List (List Nat)
  | 0 => [[]]
  | k + 1 => [] :: ([0, 1, 2, 3] : List Nat).flatMap (fun d => (wd_U k).map (fun t => d :: t))
def wd_dig (l : List Nat) : Prop := ∀ d, d ∈ l → d < 4
def wd_ok (L K : Nat) (l : List Nat) : Prop := l.length ≤ K ∧ ∀ d, d ∈ l → d < L
def wd_enc (l : List Nat) : Nat := l.foldl (fun a d => a * 10 + (d + 1)) 0
def wd_pk : Nat → List Nat → Nat
  | 0, _ => 0
  | _ + 1, [] => 0
  | k + 1, d :: l => (d + 1) * 10 ^ k + wd_pk k l
theorem wd_dig_nil : wd_dig [] := fun _ h => absurd h List.not_mem_nil
theorem wd_dig_cons {d : Nat} {l : List Nat} : wd_dig (d :: l) ↔ d < 4 ∧ wd_dig l := by
  simp [wd_dig]
theorem wd_dig_app {p v : List Nat} : wd_dig (p ++ v) ↔ wd_dig p ∧ wd_dig v := by
  simp only [wd_dig, List.mem_append]
  exact ⟨fun h => ⟨fun d hd => h d (Or.inl hd), fun d hd => h d (Or.inr hd)⟩, fun h d hd => hd.elim (h.1 d) (h.2 d)⟩
theorem wd_dig_one {d : Nat} (h : d < 4) : wd_dig [d] := by
  intro e he; simp at he; omega
theorem wd_ok_dig {L K : Nat} {l : List Nat} (hL : L ≤ 4) (h : wd_ok L K l) : wd_dig l := fun d hd => Nat.lt_of_lt_of_le (h.2 d hd) hL
theorem wd_d4 {d : Nat} : d ∈ ([0, 1, 2, 3] : List Nat) ↔ d < 4 := by
  simp only [List.mem_cons, List.not_mem_nil, or_false]; omega
theorem wd_mem : ∀ (k : Nat) (l : List Nat), l ∈ wd_U k ↔ l.length ≤ k ∧ wd_dig l := by
  intro k
  induction k with
  | zero =>
    intro l
    cases l with
    | nil => simp [wd_U, wd_dig]
    | cons d l => simp [wd_U]
  | succ k ih =>
    intro l
    cases l with
    | nil => simp [wd_U, wd_dig]
    | cons d l =>
      rw [wd_dig_cons]
      simp only [wd_U, List.mem_cons, List.mem_flatMap, List.mem_map, List.length_cons]
      constructor
      · rintro (h | ⟨e, he, t, ht, hl⟩)
        · cases h
        · cases hl
          have h1 := (ih l).mp ht
          have h2 : d < 4 := wd_d4.mp (by simpa using he)
          exact ⟨by omega, h2, h1.2⟩
      · rintro ⟨h1, h2, h3⟩
        exact Or.inr ⟨d, by have := wd_d4.mpr h2; simpa using this, l, (ih l).mpr ⟨by omega, h3⟩, rfl⟩
theorem wd_pk_lt : ∀ (k : Nat) (l : List Nat), wd_dig l → wd_pk k l < 10 ^ k := by
  intro k
  induction k with
  | zero => intro l _; simp [wd_pk]
  | succ k ih =>
    intro l hl
    have hp : 0 < 10 ^ k := Nat.pow_pos (by decide)
    cases l with
    | nil => simp only [wd_pk]; exact Nat.pow_pos (by decide)
    | cons d l =>
      have h := wd_dig_cons.mp hl
      have h1 := ih l h.2
      have h2 : (d + 1) * 10 ^ k ≤ 4 * 10 ^ k := Nat.mul_le_mul_right _ (by omega)
      simp only [wd_pk, Nat.pow_succ]
      omega
theorem wd_pk_cons {k d e : Nat} {a b : List Nat} (ha : wd_dig a) (hb : wd_dig b) : wd_pk (k + 1) (d :: a) < wd_pk (k + 1) (e :: b) ↔ d < e ∨ (d = e ∧ wd_pk k a < wd_pk k b) := by
  have h1 := wd_pk_lt k a ha
  have h2 := wd_pk_lt k b hb
  simp only [wd_pk]
  rcases Nat.lt_trichotomy d e with h | h | h
  · have h3 : (d + 1 + 1) * 10 ^ k ≤ (e + 1) * 10 ^ k := Nat.mul_le_mul_right _ (by omega)
    rw [Nat.add_mul (d + 1) 1] at h3
    constructor
    · intro _; exact Or.inl h
    · intro _; omega
  · subst h
    constructor
    · intro h4; exact Or.inr ⟨rfl, by omega⟩
    · rintro (h4 | ⟨_, h4⟩) <;> omega
  · have h3 : (e + 1 + 1) * 10 ^ k ≤ (d + 1) * 10 ^ k := Nat.mul_le_mul_right _ (by omega)
    rw [Nat.add_mul (e + 1) 1] at h3
    constructor
    · intro h4; omega
    · rintro (h4 | ⟨h4, _⟩) <;> omega
theorem wd_sorted : ∀ k : Nat, (wd_U k).Pairwise (fun a b => wd_pk k a < wd_pk k b) := by
  intro k
  induction k with
  | zero => simp [wd_U]
  | succ k ih =>
    simp only [wd_U]
    rw [List.pairwise_cons]
    refine ⟨?_, ?_⟩
    · intro t ht
      obtain ⟨d, _, x, _, rfl⟩ : ∃ d, d ∈ ([0, 1, 2, 3] : List Nat) ∧ ∃ x, x ∈ wd_U k ∧ d :: x = t := by
        simpa only [List.mem_flatMap, List.mem_map] using ht
      have : 0 < (d + 1) * 10 ^ k := Nat.mul_pos (by omega) (Nat.pow_pos (by decide))
      simp only [wd_pk]; omega
    · rw [List.pairwise_flatMap]
      refine ⟨?_, ?_⟩
      · intro d _
        rw [List.pairwise_map]
        refine List.Pairwise.imp_of_mem ?_ ih
        intro a b ha hb hab
        exact (wd_pk_cons ((wd_mem k a).mp ha).2 ((wd_mem k b).mp hb).2).mpr (Or.inr ⟨rfl, hab⟩)
      · have hs : List.Pairwise (fun a b : Nat => a < b) ([0, 1, 2, 3] : List Nat) := by decide
        refine hs.imp ?_
        intro d e hde x hx y hy
        obtain ⟨a, ha, rfl⟩ := List.mem_map.mp hx
        obtain ⟨b, hb, rfl⟩ := List.mem_map.mp hy
        exact (wd_pk_cons ((wd_mem k a).mp ha).2 ((wd_mem k b).mp hb).2).mpr (Or.inl hde)
theorem wd_nodup (k : Nat) : (wd_U k).Nodup := (wd_sorted k).imp (fun h e => by rw [e] at h; omega)
theorem wd_rind {P : List Nat → Prop} (h0 : P []) (hs : ∀ l d, P l → P (l ++ [d])) : ∀ l, P l := by
  intro l
  have h : ∀ m : List Nat, P m.reverse := by
    intro m
    induction m with
    | nil => exact h0
    | cons d m ih => rw [List.reverse_cons]; exact hs _ _ ih
  have := h l.reverse
  rwa [List.reverse_reverse] at this
theorem wd_rc (l : List Nat) : l = [] ∨ ∃ m d, l = m ++ [d] := by
  refine wd_rind (P := fun l => l = [] ∨ ∃ m d, l = m ++ [d]) (Or.inl rfl) (fun l d _ => Or.inr ⟨l, d, rfl⟩) l
theorem wd_enc_nil : wd_enc [] = 0 := rfl
theorem wd_enc_snoc (l : List Nat) (d : Nat) : wd_enc (l ++ [d]) = wd_enc l * 10 + (d + 1) := by
  simp [wd_enc, List.foldl_append]
theorem wd_foldl : ∀ (v : List Nat) (a : Nat), v.foldl (fun a d => a * 10 + (d + 1)) a = a * 10 ^ v.length + wd_enc v := by
  intro v
  induction v with
  | nil => intro a; simp [wd_enc]
  | cons d v ih =>
    intro a
    have h1 : wd_enc (d :: v) = (d + 1) * 10 ^ v.length + wd_enc v := by
      have := ih (0 * 10 + (d + 1))
      simpa [wd_enc] using this
    rw [List.foldl_cons, ih, h1, List.length_cons, Nat.pow_succ]
    rw [Nat.add_mul, Nat.mul_assoc, Nat.mul_comm 10 (10 ^ v.length)]
    omega
theorem wd_enc_app (p v : List Nat) : wd_enc (p ++ v) = wd_enc p * 10 ^ v.length + wd_enc v := by
  rw [wd_enc, List.foldl_append, wd_foldl]; rfl
theorem wd_enc_lt (l : List Nat) (h : wd_dig l) : wd_enc l < 5 * 10 ^ (l.length - 1) ∧ wd_enc l < 10 ^ l.length := by
  have key : wd_enc l * 9 ≤ 4 * (10 ^ l.length - 1) := by
    revert h
    refine wd_rind (P := fun l => wd_dig l → wd_enc l * 9 ≤ 4 * (10 ^ l.length - 1)) ?_ ?_ l
    · intro _; simp [wd_enc]
    · intro l d ih h
      have h1 := wd_dig_app.mp h
      have h2 := ih h1.1
      have h3 := h1.2 d (by simp)
      have hp : 0 < 10 ^ l.length := Nat.pow_pos (by decide)
      rw [wd_enc_snoc, List.length_append, List.length_singleton, Nat.pow_succ]
      omega
  cases l with
  | nil => simp [wd_enc]
  | cons d v =>
    have hp : 0 < 10 ^ v.length := Nat.pow_pos (by decide)
    simp only [List.length_cons, Nat.add_sub_cancel, Nat.pow_succ] at key ⊢
    omega
theorem wd_enc_lt5 {l : List Nat} (h : wd_dig l) (h5 : l.length ≤ 5) : wd_enc l ≤ 44444 := by
  have h1 : ∀ x, x ∈ wd_U 5 → wd_enc x ≤ 44444 := by
    have : ((wd_U 5).all (fun x => decide (wd_enc x ≤ 44444))) = true := by decide +kernel
    intro x hx
    have := List.all_eq_true.mp this x hx
    simpa using this
  exact h1 l ((wd_mem 5 l).mpr ⟨h5, h⟩)
theorem wd_enc_inj {l m : List Nat} (hl : wd_dig l) (hm : wd_dig m) (h : wd_enc l = wd_enc m) : l = m := by
  revert m
  revert hl
  refine wd_rind (P := fun l => wd_dig l → ∀ {m : List Nat}, wd_dig m → wd_enc l = wd_enc m → l = m) ?_ ?_ l
  · intro _ m hm h
    rcases wd_rc m with rfl | ⟨m', e, rfl⟩
    · rfl
    · rw [wd_enc_snoc, wd_enc_nil] at h; omega
  · intro l d ih hl m hm h
    rcases wd_rc m with rfl | ⟨m', e, rfl⟩
    · rw [wd_enc_snoc, wd_enc_nil] at h; omega
    · rw [wd_enc_snoc, wd_enc_snoc] at h
      have h1 := wd_dig_app.mp hl
      have h2 := wd_dig_app.mp hm
      have h3 := h1.2 d (by simp)
      have h4 := h2.2 e (by simp)
      have h5 : wd_enc l = wd_enc m' := by omega
      have h6 : d = e := by omega
      rw [ih h1.1 h2.1 h5, h6]
theorem wd_enc_pos {l : List Nat} (h : l ≠ []) : 0 < wd_enc l := by
  rcases wd_rc l with rfl | ⟨m, d, rfl⟩
  · exact absurd rfl h
  · rw [wd_enc_snoc]; omega
def wd_okb (L : Nat) : Nat → Nat → Bool
  | 0, w => decide (w = 0)
  | k + 1, w => if w = 0 then true else (decide (1 ≤ w % 10) && decide (w % 10 ≤ L) && wd_okb L k (w / 10))
theorem wd_okb_iff {L : Nat} (hL : L ≤ 4) : ∀ (k w : Nat), wd_okb L k w = true ↔ ∃ l, wd_ok L k l ∧ wd_enc l = w := by
  intro k
  induction k with
  | zero =>
    intro w
    simp only [wd_okb, decide_eq_true_eq]
    constructor
    · intro h; exact ⟨[], ⟨Nat.le_refl _, fun d hd => absurd hd List.not_mem_nil⟩, h.symm⟩
    · rintro ⟨l, ⟨h1, _⟩, h2⟩
      have : l = [] := List.eq_nil_of_length_eq_zero (by omega)
      rw [← h2, this]; rfl
  | succ k ih =>
    intro w
    simp only [wd_okb]
    by_cases h0 : w = 0
    · rw [if_pos h0]
      exact ⟨fun _ => ⟨[], ⟨Nat.zero_le _, fun d hd => absurd hd List.not_mem_nil⟩, h0.symm⟩, fun _ => rfl⟩
    · rw [if_neg h0]
      simp only [Bool.and_eq_true, decide_eq_true_eq, ih]
      constructor
      · rintro ⟨⟨h1, h2⟩, l, ⟨h3, h4⟩, h5⟩
        refine ⟨l ++ [w % 10 - 1], ⟨by simp; omega, ?_⟩, by rw [wd_enc_snoc, h5]; omega⟩
        intro d hd
        rcases List.mem_append.mp hd with hd | hd
        · exact h4 d hd
        · simp at hd; omega
      · rintro ⟨l, ⟨h3, h4⟩, h5⟩
        rcases wd_rc l with rfl | ⟨m, d, rfl⟩
        · rw [wd_enc_nil] at h5; omega
        · rw [wd_enc_snoc] at h5
          have h6 := h4 d (by simp)
          refine ⟨⟨by omega, by omega⟩, m, ⟨by simp at h3; omega, fun e he => h4 e (List.mem_append_left _ he)⟩, by omega⟩
def wd_pad1 (w : Nat) : Nat := if 10000 ≤ w then w else w * 10
def wd_pad (w : Nat) : Nat := wd_pad1 (wd_pad1 (wd_pad1 (wd_pad1 w)))
theorem wd_pad_enc {l : List Nat} (h : l ∈ wd_U 5) : wd_pad (wd_enc l) = wd_pk 5 l := by
  have : ((wd_U 5).all (fun x => decide (wd_pad (wd_enc x) = wd_pk 5 x))) = true := by decide +kernel
  have := List.all_eq_true.mp this l h
  simpa using this
/-! the futures of a word, the live words -/
def wd_fu (c : List Nat → Bool) (p : List Nat) : List (List Nat) := (wd_U 5).filter (fun v => c (p ++ v))
def wd_lv (c : List Nat → Bool) (p : List Nat) : Bool := p.isEmpty || !(wd_fu c p).isEmpty
def wd_P (c : List Nat → Bool) : List (List Nat) := (wd_U 5).filter (wd_lv c)
def wd_sup (c : List Nat → Bool) : Prop := ∀ l, wd_dig l → c l = true → l.length ≤ 5
theorem wd_fu_mem {c : List Nat → Bool} (hc : wd_sup c) {p v : List Nat} (hp : wd_dig p) : v ∈ wd_fu c p ↔ wd_dig v ∧ c (p ++ v) = true := by
  rw [wd_fu, List.mem_filter, wd_mem]
  constructor
  · rintro ⟨⟨_, h⟩, h2⟩; exact ⟨h, h2⟩
  · rintro ⟨h, h2⟩
    have := hc _ (wd_dig_app.mpr ⟨hp, h⟩) h2
    rw [List.length_append] at this
    exact ⟨⟨by omega, h⟩, h2⟩
theorem wd_ne {α : Type} {l : List α} : l.isEmpty = false ↔ ∃ x, x ∈ l := by
  cases l with
  | nil => simp
  | cons a l => simp only [List.isEmpty_cons, true_iff]; exact ⟨a, List.mem_cons_self⟩
theorem wd_lv_iff {c : List Nat → Bool} (hc : wd_sup c) {p : List Nat} (hp : wd_dig p) : wd_lv c p = true ↔ p = [] ∨ ∃ v, wd_dig v ∧ c (p ++ v) = true := by
  rw [wd_lv, Bool.or_eq_true, Bool.not_eq_true', wd_ne, List.isEmpty_iff]
  constructor
  · rintro (h | ⟨v, hv⟩)
    · exact Or.inl h
    · exact Or.inr ⟨v, (wd_fu_mem hc hp).mp hv⟩
  · rintro (h | ⟨v, hv⟩)
    · exact Or.inl h
    · exact Or.inr ⟨v, (wd_fu_mem hc hp).mpr hv⟩
theorem wd_P_mem {c : List Nat → Bool} (hc : wd_sup c) {p : List Nat} : p ∈ wd_P c ↔ wd_dig p ∧ (p = [] ∨ ∃ v, wd_dig v ∧ c (p ++ v) = true) := by
  rw [wd_P, List.mem_filter, wd_mem]
  constructor
  · rintro ⟨⟨_, h⟩, h2⟩; exact ⟨h, (wd_lv_iff hc h).mp h2⟩
  · rintro ⟨h, h2⟩
    refine ⟨⟨?_, h⟩, (wd_lv_iff hc h).mpr h2⟩
    rcases h2 with rfl | ⟨v, hv, h3⟩
    · simp
    · have := hc _ (wd_dig_app.mpr ⟨h, hv⟩) h3
      rw [List.length_append] at this; omega
theorem wd_P_sorted (c : List Nat → Bool) : (wd_P c).Pairwise (fun a b => wd_pk 5 a < wd_pk 5 b) := (wd_sorted 5).filter _
theorem wd_P_nodup (c : List Nat → Bool) : (wd_P c).Nodup := (wd_nodup 5).filter _
theorem wd_P_head (c : List Nat → Bool) : ∃ t, wd_P c = [] :: t := by
  exact ⟨_, by rw [wd_P, wd_U, List.filter_cons_of_pos (by simp [wd_lv])]⟩
/-- at most five live words a word, and the empty one -/
theorem wd_P_len {c : List Nat → Bool} (hc : wd_sup c) : (wd_P c).length ≤ 1 + 5 * ((wd_U 5).filter c).length := by
  have h : wd_P c ⊆ [] :: ((wd_U 5).filter c).flatMap (fun w => [w.take 1, w.take 2, w.take 3, w.take 4, w.take 5]) := by
    intro p hp
    obtain ⟨h1, h2⟩ := (wd_P_mem hc).mp hp
    rcases h2 with rfl | ⟨v, hv, h3⟩
    · exact List.mem_cons_self
    · by_cases h0 : p = []
      · subst h0; exact List.mem_cons_self
      · refine List.mem_cons_of_mem _ (List.mem_flatMap.mpr ⟨p ++ v, ?_, ?_⟩)
        · have hd := wd_dig_app.mpr ⟨h1, hv⟩
          exact List.mem_filter.mpr ⟨(wd_mem 5 _).mpr ⟨hc _ hd h3, hd⟩, h3⟩
        · have hl := hc _ (wd_dig_app.mpr ⟨h1, hv⟩) h3
          rw [List.length_append] at hl
          have hq : p = (p ++ v).take p.length := by simp
          have h9 : p.length ≠ 0 := fun h => h0 (List.eq_nil_of_length_eq_zero h)
          have : p.length = 1 ∨ p.length = 2 ∨ p.length = 3 ∨ p.length = 4 ∨ p.length = 5 := by omega
          rcases this with h | h | h | h | h <;> rw [h] at hq <;> rw [← hq] <;> simp
  have h2 := (wd_P_nodup c).length_le_of_subset h
  have h3 : ∀ m : List (List Nat), (m.flatMap (fun w => [w.take 1, w.take 2, w.take 3, w.take 4, w.take 5])).length = 5 * m.length := by
    intro m
    induction m with
    | nil => rfl
    | cons a m ih => rw [List.flatMap_cons, List.length_append, ih, List.length_cons]; simp; omega
  rw [List.length_cons, h3] at h2
  omega
end
section
/-! lists without repeats, in the order of the first visits -/
def dd_in {α : Type} [DecidableEq α] (a : List α) (x : α) : List α := if x ∈ a then a else a ++ [x]
def dd_up {α : Type} [DecidableEq α] (a l : List α) : List α := l.foldl dd_in a
def dd_ix {α : Type} [DecidableEq α] (x : α) : List α → Nat
  | [] => 0
  | y :: l => if x = y then 0 else dd_ix x l + 1
theorem dd_nil {α : Type} [DecidableEq α] (a : List α) : dd_up a [] = a := rfl
theorem dd_cons {α : Type} [DecidableEq α] (a : List α) (x : α) (l : List α) : dd_up a (x :: l) = dd_up (dd_in a x) l := rfl
theorem dd_app {α : Type} [DecidableEq α] (a l m : List α) : dd_up a (l ++ m) = dd_up (dd_up a l) m := List.foldl_append ..
theorem dd_in_mem {α : Type} [DecidableEq α] {a : List α} {x y : α} : y ∈ dd_in a x ↔ y ∈ a ∨ y = x := by
  unfold dd_in
  split
  · rename_i h
    exact ⟨Or.inl, fun z => z.elim id (fun e => e ▸ h)⟩
  · simp
theorem dd_mem {α : Type} [DecidableEq α] : ∀ (l a : List α) (y : α), y ∈ dd_up a l ↔ y ∈ a ∨ y ∈ l := by
  intro l
  induction l with
  | nil => intro a y; simp [dd_nil]
  | cons x l ih => intro a y; rw [dd_cons, ih, dd_in_mem, List.mem_cons, or_assoc]
theorem dd_in_nodup {α : Type} [DecidableEq α] {a : List α} {x : α} (h : a.Nodup) : (dd_in a x).Nodup := by
  unfold dd_in
  split
  · exact h
  · rename_i hx
    rw [List.nodup_append]
    refine ⟨h, by simp, ?_⟩
    intro y hy z hz e
    simp at hz
    rw [e, hz] at hy
    exact hx hy
theorem dd_nodup {α : Type} [DecidableEq α] : ∀ (l a : List α), a.Nodup → (dd_up a l).Nodup := by
  intro l
  induction l with
  | nil => intro a h; exact h
  | cons x l ih => intro a h; rw [dd_cons]; exact ih _ (dd_in_nodup h)
theorem dd_sub {α : Type} [DecidableEq α] : ∀ (l a : List α), (∀ x, x ∈ l → x ∈ a) → dd_up a l = a := by
  intro l
  induction l with
  | nil => intro a _; rfl
  | cons x l ih =>
    intro a h
    rw [dd_cons, dd_in, if_pos (h x List.mem_cons_self)]
    exact ih a (fun y hy => h y (List.mem_cons_of_mem _ hy))
theorem dd_pre {α : Type} [DecidableEq α] : ∀ (l a : List α), ∃ t, dd_up a l = a ++ t := by
  intro l
  induction l with
  | nil => intro a; exact ⟨[], by simp [dd_nil]⟩
  | cons x l ih =>
    intro a
    obtain ⟨t, ht⟩ := ih (dd_in a x)
    rw [dd_cons, ht]
    unfold dd_in
    split
    · exact ⟨t, rfl⟩
    · exact ⟨[x] ++ t, by simp⟩
theorem dd_len {α : Type} [DecidableEq α] : ∀ (l a : List α), (dd_up a l).length ≤ a.length + l.length := by
  intro l
  induction l with
  | nil => intro a; simp [dd_nil]
  | cons x l ih =>
    intro a
    rw [dd_cons]
    have := ih (dd_in a x)
    have h2 : (dd_in a x).length ≤ a.length + 1 := by
      unfold dd_in; split
      · omega
      · simp
    rw [List.length_cons]; omega
theorem dd_sum {α : Type} [DecidableEq α] (g : α → Nat) : ∀ (l a : List α), ((dd_up a l).map g).sum ≤ (a.map g).sum + (l.map g).sum := by
  intro l
  induction l with
  | nil => intro a; simp [dd_nil]
  | cons x l ih =>
    intro a
    rw [dd_cons]
    have := ih (dd_in a x)
    have h2 : ((dd_in a x).map g).sum ≤ (a.map g).sum + g x := by
      unfold dd_in; split
      · omega
      · simp
    rw [List.map_cons, List.sum_cons]; omega
theorem dd_ix_lt {α : Type} [DecidableEq α] {x : α} : ∀ {a : List α}, x ∈ a → dd_ix x a < a.length := by
  intro a
  induction a with
  | nil => intro h; exact absurd h List.not_mem_nil
  | cons y a ih =>
    intro h
    rw [dd_ix]
    split
    · simp
    · rename_i hn
      have := ih ((List.mem_cons.mp h).resolve_left hn)
      simp; omega
theorem dd_ix_app {α : Type} [DecidableEq α] {x : α} {t : List α} : ∀ {a : List α}, x ∈ a → dd_ix x (a ++ t) = dd_ix x a := by
  intro a
  induction a with
  | nil => intro h; exact absurd h List.not_mem_nil
  | cons y a ih =>
    intro h
    rw [List.cons_append, dd_ix, dd_ix]
    split
    · rfl
    · rename_i hn
      rw [ih ((List.mem_cons.mp h).resolve_left hn)]
theorem dd_ix_new {α : Type} [DecidableEq α] {x : α} {t : List α} : ∀ {a : List α}, x ∉ a → dd_ix x (a ++ x :: t) = a.length := by
  intro a
  induction a with
  | nil => intro _; simp [dd_ix]
  | cons y a ih =>
    intro h
    rw [List.cons_append, dd_ix, if_neg (fun e => h (by rw [e]; exact List.mem_cons_self)), ih (fun z => h (List.mem_cons_of_mem _ z)), List.length_cons]
theorem dd_ix_at {α : Type} [DecidableEq α] {x : α} : ∀ {a : List α}, x ∈ a → a[dd_ix x a]? = some x := by
  intro a
  induction a with
  | nil => intro h; exact absurd h List.not_mem_nil
  | cons y a ih =>
    intro h
    rw [dd_ix]
    split
    · rename_i e; simp [e]
    · rename_i hn
      rw [List.getElem?_cons_succ]
      exact ih ((List.mem_cons.mp h).resolve_left hn)
theorem dd_ix_get {α : Type} [DecidableEq α] {x : α} : ∀ {a : List α} {i : Nat}, a.Nodup → a[i]? = some x → dd_ix x a = i := by
  intro a
  induction a with
  | nil => intro i _ h; simp at h
  | cons y a ih =>
    intro i hn h
    rw [List.nodup_cons] at hn
    cases i with
    | zero =>
      rw [List.getElem?_cons_zero] at h
      cases h
      rw [dd_ix, if_pos rfl]
    | succ i =>
      rw [List.getElem?_cons_succ] at h
      have hm : x ∈ a := List.mem_of_getElem? h
      have hne : x ≠ y := fun e => hn.1 (by rw [← e]; exact hm)
      rw [dd_ix, if_neg hne, ih hn.2 h]
theorem dd_ix_inj {α : Type} [DecidableEq α] {x y : α} {a : List α} (hx : x ∈ a) (hy : y ∈ a) (h : dd_ix x a = dd_ix y a) : x = y := by
  have h1 := dd_ix_at hx
  have h2 := dd_ix_at hy
  rw [h] at h1
  rw [h1] at h2
  exact Option.some.inj h2
theorem dd_map {α β : Type} [DecidableEq α] [DecidableEq β] (f : α → β) : ∀ (l a : List α), (∀ x y, (x ∈ a ∨ x ∈ l) → (y ∈ a ∨ y ∈ l) → f x = f y → x = y) → (dd_up a l).map f = dd_up (a.map f) (l.map f) := by
  intro l
  induction l with
  | nil => intro a _; rfl
  | cons x l ih =>
    intro a h
    rw [dd_cons, List.map_cons, dd_cons]
    have e : (dd_in a x).map f = dd_in (a.map f) (f x) := by
      unfold dd_in
      by_cases hx : x ∈ a
      · rw [if_pos hx, if_pos (List.mem_map_of_mem hx)]
      · rw [if_neg hx, if_neg, List.map_append]
        · rfl
        · intro hm
          obtain ⟨y, hy, e⟩ := List.mem_map.mp hm
          have := h y x (Or.inl hy) (Or.inr List.mem_cons_self) e
          exact hx (this ▸ hy)
    rw [← e]
    apply ih
    intro y z hy hz
    have t : ∀ y, (y ∈ dd_in a x ∨ y ∈ l) → (y ∈ a ∨ y ∈ x :: l) := by
      intro y hy
      rcases hy with hy | hy
      · rcases dd_in_mem.mp hy with hy | hy
        · exact Or.inl hy
        · exact Or.inr (by rw [hy]; exact List.mem_cons_self)
      · exact Or.inr (List.mem_cons_of_mem _ hy)
    exact h y z (t y hy) (t z hz)
theorem dd_ix_map {α β : Type} [DecidableEq α] [DecidableEq β] (f : α → β) {x : α} : ∀ {a : List α}, (∀ y, y ∈ a → f x = f y → x = y) → dd_ix (f x) (a.map f) = dd_ix x a := by
  intro a
  induction a with
  | nil => intro _; rfl
  | cons y a ih =>
    intro h
    rw [List.map_cons, dd_ix, dd_ix]
    by_cases e : x = y
    · rw [if_pos e, if_pos (by rw [e])]
    · rw [if_neg e, if_neg (fun z => e (h y List.mem_cons_self z)), ih (fun z hz => h z (List.mem_cons_of_mem _ hz))]
/-! the canonical form of a language -/
def fo_dv (d : Nat) (k : List (List Nat)) : List (List Nat) := (wd_U 5).filter (fun t => decide (d :: t ∈ k))
def fo_b (k : List (List Nat)) (d : Nat) : Bool := !(fo_dv d k).isEmpty
def fo_h (a : Nat) (b : Nat → Bool) : Nat := a + (if b 0 = true then 2 else 0) + (if b 1 = true then 4 else 0) + (if b 2 = true then 8 else 0) + (if b 3 = true then 16 else 0)
def fo_ts (b : Nat → Bool) (t : Nat → Nat) : List Nat := (([0, 1, 2, 3] : List Nat).filter b).map t
def fo_ac (k : List (List Nat)) : Nat := if [] ∈ k then 1 else 0
def fo_bl (D : List (List (List Nat))) (k : List (List Nat)) : List Nat := fo_h (fo_ac k) (fo_b k) :: fo_ts (fo_b k) (fun d => dd_ix (fo_dv d k) D)
def fo_D (c : List Nat → Bool) : List (List (List Nat)) := dd_up [] ((wd_P c).map (wd_fu c))
def fo_F (c : List Nat → Bool) : List Nat := (fo_D c).flatMap (fo_bl (fo_D c))
theorem fo_dv_fu {c : List Nat → Bool} (hc : wd_sup c) {p : List Nat} (hp : wd_dig p) {d : Nat} (hd : d < 4) : fo_dv d (wd_fu c p) = wd_fu c (p ++ [d]) := by
  rw [fo_dv, wd_fu]
  apply List.filter_congr
  intro t ht
  have h1 := ((wd_mem 5 t).mp ht).2
  have h2 : wd_dig (d :: t) := wd_dig_cons.mpr ⟨hd, h1⟩
  have e : p ++ [d] ++ t = p ++ d :: t := by simp
  rw [e, Bool.eq_iff_iff, decide_eq_true_eq]
  rw [show List.filter (fun v => c (p ++ v)) (wd_U 5) = wd_fu c p from rfl, wd_fu_mem hc hp]
  exact ⟨fun h => h.2, fun h => ⟨h2, h⟩⟩
theorem fo_b_fu {c : List Nat → Bool} (hc : wd_sup c) {p : List Nat} (hp : wd_dig p) {d : Nat} (hd : d < 4) : fo_b (wd_fu c p) d = wd_lv c (p ++ [d]) := by
  rw [fo_b, fo_dv_fu hc hp hd, wd_lv]
  simp
theorem fo_ac_fu {c : List Nat → Bool} (hc : wd_sup c) {p : List Nat} (hp : wd_dig p) : fo_ac (wd_fu c p) = if c p = true then 1 else 0 := by
  rw [fo_ac]
  have : ([] ∈ wd_fu c p) ↔ c p = true := by
    rw [wd_fu_mem hc hp, List.append_nil]
    exact ⟨fun h => h.2, fun h => ⟨wd_dig_nil, h⟩⟩
  by_cases h : c p = true
  · rw [if_pos h, if_pos (this.mpr h)]
  · rw [if_neg h, if_neg (fun z => h (this.mp z))]
theorem fo_fu_congr {c c' : List Nat → Bool} (h : ∀ l, wd_dig l → c l = c' l) {p : List Nat} (hp : wd_dig p) : wd_fu c p = wd_fu c' p := by
  rw [wd_fu, wd_fu]
  apply List.filter_congr
  intro t ht
  exact h _ (wd_dig_app.mpr ⟨hp, ((wd_mem 5 t).mp ht).2⟩)
theorem fo_P_congr {c c' : List Nat → Bool} (h : ∀ l, wd_dig l → c l = c' l) : wd_P c = wd_P c' := by
  rw [wd_P, wd_P]
  apply List.filter_congr
  intro t ht
  rw [wd_lv, wd_lv, fo_fu_congr h ((wd_mem 5 t).mp ht).2]
theorem fo_D_congr {c c' : List Nat → Bool} (h : ∀ l, wd_dig l → c l = c' l) : fo_D c = fo_D c' := by
  rw [fo_D, fo_D, fo_P_congr h]
  congr 1
  apply List.map_congr_left
  intro p hp
  exact fo_fu_congr h ((wd_mem 5 p).mp (List.mem_filter.mp hp).1).2
theorem fo_F_congr {c c' : List Nat → Bool} (h : ∀ l, wd_dig l → c l = c' l) : fo_F c = fo_F c' := by
  rw [fo_F, fo_F, fo_D_congr h]
end
section
/-! graphs of nodes: 0 is dead -/
def gr_go (ch : Nat → Nat) (n : Nat) (l : List Nat) : Nat := l.foldl (fun n d => ch (n * 4 + d)) n
def gr_M (ac ch : Nat → Nat) (n : Nat) (l : List Nat) : Bool := decide (ac (gr_go ch n l) = 1)
def gr_key (ac ch : Nat → Nat) (n : Nat) : List (List Nat) := (wd_U 5).filter (gr_M ac ch n)
def gr_G (D : Nat → Prop) (ac ch wd : Nat → Nat) : Prop :=
  (ac 0 = 0 ∧ wd 0 = 0 ∧ ∀ d, d < 4 → ch d = 0) ∧
  ∀ n, D n → n ≠ 0 ∧ ac n ≤ 1 ∧ (∀ d, d < 4 → ch (n * 4 + d) = 0 ∨ D (ch (n * 4 + d))) ∧ (ac n = 1 ∨ ∃ d, d < 4 ∧ ch (n * 4 + d) ≠ 0) ∧ wd n = ac n + wd (ch (n * 4 + 0)) + wd (ch (n * 4 + 1)) + wd (ch (n * 4 + 2)) + wd (ch (n * 4 + 3))
def gr_dep (ch : Nat → Nat) (n k : Nat) : Prop := ∀ l, wd_dig l → k < l.length → gr_go ch n l = 0
def gr_un (D : Nat → Prop) (ac ch : Nat → Nat) : Prop := ∀ n m, D n → D m → ac n = ac m → (∀ d, d < 4 → ch (n * 4 + d) = ch (m * 4 + d)) → n = m
theorem gr_go_nil (ch : Nat → Nat) (n : Nat) : gr_go ch n [] = n := rfl
theorem gr_go_cons (ch : Nat → Nat) (n d : Nat) (l : List Nat) : gr_go ch n (d :: l) = gr_go ch (ch (n * 4 + d)) l := rfl
theorem gr_go_app (ch : Nat → Nat) (n : Nat) (p v : List Nat) : gr_go ch n (p ++ v) = gr_go ch (gr_go ch n p) v := List.foldl_append ..
theorem gr_go_snoc (ch : Nat → Nat) (n : Nat) (p : List Nat) (d : Nat) : gr_go ch n (p ++ [d]) = ch (gr_go ch n p * 4 + d) := gr_go_app ch n p [d]
theorem gr_M_app (ac ch : Nat → Nat) (n : Nat) (p v : List Nat) : gr_M ac ch n (p ++ v) = gr_M ac ch (gr_go ch n p) v := by
  rw [gr_M, gr_M, gr_go_app]
theorem gr_fu (ac ch : Nat → Nat) (n : Nat) (p : List Nat) : wd_fu (gr_M ac ch n) p = gr_key ac ch (gr_go ch n p) := by
  rw [wd_fu, gr_key]
  apply List.filter_congr
  intro v _
  exact gr_M_app ac ch n p v
section GR
variable {D : Nat → Prop} {ac ch wd : Nat → Nat}
theorem gr_z (G : gr_G D ac ch wd) : ∀ (l : List Nat), wd_dig l → gr_go ch 0 l = 0 := by
  intro l
  induction l with
  | nil => intro _; rfl
  | cons d l ih =>
    intro h
    have h1 := wd_dig_cons.mp h
    rw [gr_go_cons, Nat.zero_mul, Nat.zero_add, G.1.2.2 d h1.1]
    exact ih h1.2
theorem gr_ch (G : gr_G D ac ch wd) {n d : Nat} (hn : n = 0 ∨ D n) (hd : d < 4) : ch (n * 4 + d) = 0 ∨ D (ch (n * 4 + d)) := by
  rcases hn with rfl | hn
  · rw [Nat.zero_mul, Nat.zero_add]; exact Or.inl (G.1.2.2 d hd)
  · exact (G.2 n hn).2.2.1 d hd
theorem gr_dom (G : gr_G D ac ch wd) : ∀ (l : List Nat) (n : Nat), (n = 0 ∨ D n) → wd_dig l → gr_go ch n l = 0 ∨ D (gr_go ch n l) := by
  intro l
  induction l with
  | nil => intro n hn _; exact hn
  | cons d l ih =>
    intro n hn h
    have h1 := wd_dig_cons.mp h
    exact ih _ (gr_ch G hn h1.1) h1.2
theorem gr_dep_ch {n k d : Nat} (h : gr_dep ch n (k + 1)) (hd : d < 4) : gr_dep ch (ch (n * 4 + d)) k := by
  intro l hl hk
  exact h (d :: l) (wd_dig_cons.mpr ⟨hd, hl⟩) (by simp; omega)
theorem gr_dep_0 {n d : Nat} (h : gr_dep ch n 0) (hd : d < 4) : ch (n * 4 + d) = 0 :=
  h [d] (wd_dig_one hd) (by simp)
theorem gr_dep_m {n k k' : Nat} (h : gr_dep ch n k) (hk : k ≤ k') : gr_dep ch n k' := fun l hl h2 => h l hl (by omega)
theorem gr_dep_z (G : gr_G D ac ch wd) (k : Nat) : gr_dep ch 0 k := fun l hl _ => gr_z G l hl
theorem gr_dep_mk {n k : Nat} (h : ∀ d, d < 4 → gr_dep ch (ch (n * 4 + d)) k) : gr_dep ch n (k + 1) := by
  intro l hl hk
  cases l with
  | nil => simp at hk
  | cons d l =>
    have h1 := wd_dig_cons.mp hl
    exact h d h1.1 l h1.2 (by simp at hk; omega)
theorem gr_dep_go (G : gr_G D ac ch wd) {n k : Nat} (h : gr_dep ch n k) {p : List Nat} (hp : wd_dig p) : gr_dep ch (gr_go ch n p) (k - p.length) := by
  intro l hl hk
  rw [← gr_go_app]
  exact h _ (wd_dig_app.mpr ⟨hp, hl⟩) (by rw [List.length_append]; omega)
theorem gr_M0 (G : gr_G D ac ch wd) {l : List Nat} (hl : wd_dig l) : gr_M ac ch 0 l = false := by
  rw [gr_M, gr_z G l hl, G.1.1]; rfl
theorem gr_some (G : gr_G D ac ch wd) : ∀ (k n : Nat), D n → gr_dep ch n k → ∃ v, wd_dig v ∧ v.length ≤ k ∧ gr_M ac ch n v = true := by
  intro k
  induction k with
  | zero =>
    intro n hn hk
    obtain ⟨_, _, _, h, _⟩ := G.2 n hn
    rcases h with h | ⟨d, hd, h⟩
    · exact ⟨[], wd_dig_nil, Nat.le_refl _, by rw [gr_M, gr_go_nil, h]; rfl⟩
    · exact absurd (gr_dep_0 hk hd) h
  | succ k ih =>
    intro n hn hk
    obtain ⟨_, _, hc, h, _⟩ := G.2 n hn
    rcases h with h | ⟨d, hd, h⟩
    · exact ⟨[], wd_dig_nil, Nat.zero_le _, by rw [gr_M, gr_go_nil, h]; rfl⟩
    · obtain ⟨v, h1, h2, h3⟩ := ih _ ((hc d hd).resolve_left h) (gr_dep_ch hk hd)
      exact ⟨d :: v, wd_dig_cons.mpr ⟨hd, h1⟩, by simp; omega, h3⟩
theorem gr_wpos (G : gr_G D ac ch wd) : ∀ (k n : Nat), D n → gr_dep ch n k → 1 ≤ wd n := by
  intro k
  induction k with
  | zero =>
    intro n hn hk
    obtain ⟨_, _, _, h, e⟩ := G.2 n hn
    rcases h with h | ⟨d, hd, h⟩
    · omega
    · exact absurd (gr_dep_0 hk hd) h
  | succ k ih =>
    intro n hn hk
    obtain ⟨_, _, hc, h, e⟩ := G.2 n hn
    rcases h with h | ⟨d, hd, h⟩
    · omega
    · have h1 := ih _ ((hc d hd).resolve_left h) (gr_dep_ch hk hd)
      have : d = 0 ∨ d = 1 ∨ d = 2 ∨ d = 3 := by omega
      rcases this with rfl | rfl | rfl | rfl <;> omega
theorem gr_flen {α : Type} (f : Nat → List α) : (([0, 1, 2, 3] : List Nat).flatMap f).length = (f 0).length + (f 1).length + (f 2).length + (f 3).length := by
  simp [List.flatMap_cons]; omega
theorem gr_Ff (k n : Nat) : (wd_U (k + 1)).filter (gr_M ac ch n) = (if ac n = 1 then [[]] else []) ++ ([0, 1, 2, 3] : List Nat).flatMap (fun d => ((wd_U k).filter (gr_M ac ch (ch (n * 4 + d)))).map (fun t => d :: t)) := by
  rw [wd_U, List.filter_cons]
  have e : gr_M ac ch n [] = decide (ac n = 1) := rfl
  rw [e, List.filter_flatMap]
  have e2 : (fun d => ((wd_U k).map (fun t => d :: t)).filter (gr_M ac ch n)) = (fun d => ((wd_U k).filter (gr_M ac ch (ch (n * 4 + d)))).map (fun t => d :: t)) := by
    funext d
    rw [List.filter_map]
    rfl
  rw [e2]
  by_cases h : ac n = 1
  · rw [if_pos (by rw [h]; rfl), if_pos h]; rfl
  · rw [if_neg (by simpa using h), if_neg h]; rfl
theorem gr_cnt (G : gr_G D ac ch wd) : ∀ (k n : Nat), (n = 0 ∨ D n) → gr_dep ch n k → wd n = ((wd_U k).filter (gr_M ac ch n)).length := by
  have z : ∀ k, wd 0 = ((wd_U k).filter (gr_M ac ch 0)).length := by
    intro k
    rw [G.1.2.1, List.filter_eq_nil_iff.mpr]
    · rfl
    · intro l hl
      rw [gr_M0 G ((wd_mem k l).mp hl).2]; simp
  intro k
  induction k with
  | zero =>
    intro n hn hk
    rcases hn with rfl | hn
    · exact z 0
    · obtain ⟨_, h1, _, h, e⟩ := G.2 n hn
      rw [gr_dep_0 hk (d := 0) (by omega), gr_dep_0 hk (d := 1) (by omega), gr_dep_0 hk (d := 2) (by omega), gr_dep_0 hk (d := 3) (by omega), G.1.2.1] at e
      have e1 : gr_M ac ch n [] = decide (ac n = 1) := rfl
      rw [wd_U, List.filter_cons, e1, List.filter_nil]
      by_cases h9 : ac n = 1
      · rw [if_pos (by rw [h9]; rfl)]; simp; omega
      · rw [if_neg (by simpa using h9)]; simp; omega
  | succ k ih =>
    intro n hn hk
    rcases hn with rfl | hn
    · exact z (k + 1)
    · obtain ⟨_, h1, hc, h, e⟩ := G.2 n hn
      rw [gr_Ff, List.length_append, gr_flen]
      simp only [List.length_map]
      rw [← ih _ (hc 0 (by omega)) (gr_dep_ch hk (by omega)), ← ih _ (hc 1 (by omega)) (gr_dep_ch hk (by omega)), ← ih _ (hc 2 (by omega)) (gr_dep_ch hk (by omega)), ← ih _ (hc 3 (by omega)) (gr_dep_ch hk (by omega))]
      by_cases h9 : ac n = 1
      · rw [if_pos h9]; simp only [List.length_singleton]; omega
      · rw [if_neg h9]; simp only [List.length_nil]; omega
theorem gr_inj (G : gr_G D ac ch wd) (Un : gr_un D ac ch) : ∀ (k n m : Nat), (n = 0 ∨ D n) → (m = 0 ∨ D m) → gr_dep ch n k → gr_dep ch m k → (∀ v, wd_dig v → gr_M ac ch n v = gr_M ac ch m v) → n = m := by
  have z : ∀ k m, D m → gr_dep ch m k → (∀ v, wd_dig v → gr_M ac ch 0 v = gr_M ac ch m v) → False := by
    intro k m hm hk h
    obtain ⟨v, h1, _, h3⟩ := gr_some G k m hm hk
    have := h v h1
    rw [gr_M0 G h1, h3] at this
    cases this
  have a : ∀ n m, D n → D m → (∀ v, wd_dig v → gr_M ac ch n v = gr_M ac ch m v) → ac n = ac m := by
    intro n m hn hm h
    have e := h [] wd_dig_nil
    have e1 : decide (ac n = 1) = decide (ac m = 1) := e
    rw [decide_eq_decide] at e1
    have h1 := (G.2 n hn).2.1
    have h2 := (G.2 m hm).2.1
    omega
  intro k
  induction k with
  | zero =>
    intro n m hn hm kn km h
    rcases hn with rfl | hn
    · rcases hm with rfl | hm
      · rfl
      · exact (z 0 m hm km h).elim
    · rcases hm with rfl | hm
      · exact (z 0 n hn kn (fun v hv => (h v hv).symm)).elim
      · exact Un n m hn hm (a n m hn hm h) (fun d hd => by rw [gr_dep_0 kn hd, gr_dep_0 km hd])
  | succ k ih =>
    intro n m hn hm kn km h
    rcases hn with rfl | hn
    · rcases hm with rfl | hm
      · rfl
      · exact (z _ m hm km h).elim
    · rcases hm with rfl | hm
      · exact (z _ n hn kn (fun v hv => (h v hv).symm)).elim
      · refine Un n m hn hm (a n m hn hm h) (fun d hd => ?_)
        exact ih _ _ (gr_ch G (Or.inr hn) hd) (gr_ch G (Or.inr hm) hd) (gr_dep_ch kn hd) (gr_dep_ch km hd) (fun v hv => h (d :: v) (wd_dig_cons.mpr ⟨hd, hv⟩))
theorem gr_key_M {n m : Nat} (kn : gr_dep ch n 5) (km : gr_dep ch m 5) (G : gr_G D ac ch wd) (h : gr_key ac ch n = gr_key ac ch m) : ∀ v, wd_dig v → gr_M ac ch n v = gr_M ac ch m v := by
  have b : ∀ n, gr_dep ch n 5 → ∀ v, wd_dig v → gr_M ac ch n v = true → v ∈ gr_key ac ch n := by
    intro n kn v hv h
    rw [gr_key, List.mem_filter, wd_mem]
    refine ⟨⟨?_, hv⟩, h⟩
    rcases Nat.lt_or_ge 5 v.length with h5 | h5
    · rw [gr_M, kn v hv h5, G.1.1] at h; cases h
    · exact h5
  intro v hv
  rw [Bool.eq_iff_iff]
  constructor
  · intro h1
    have := b n kn v hv h1
    rw [h] at this
    exact (List.mem_filter.mp this).2
  · intro h1
    have := b m km v hv h1
    rw [← h] at this
    exact (List.mem_filter.mp this).2
theorem gr_sup (G : gr_G D ac ch wd) {n : Nat} (kn : gr_dep ch n 5) : wd_sup (gr_M ac ch n) := by
  intro l hl h
  rcases Nat.lt_or_ge 5 l.length with h5 | h5
  · rw [gr_M, kn l hl h5, G.1.1] at h; cases h
  · exact h5
theorem gr_lv (G : gr_G D ac ch wd) {n : Nat} (hn : n = 0 ∨ D n) (kn : gr_dep ch n 5) {p : List Nat} (hp : wd_dig p) : wd_lv (gr_M ac ch n) p = true ↔ p = [] ∨ gr_go ch n p ≠ 0 := by
  rw [wd_lv_iff (gr_sup G kn) hp]
  constructor
  · rintro (h | ⟨v, hv, h⟩)
    · exact Or.inl h
    · refine Or.inr (fun z => ?_)
      rw [gr_M_app, z, gr_M0 G hv] at h; cases h
  · rintro (h | h)
    · exact Or.inl h
    · obtain ⟨v, h1, _, h3⟩ := gr_some G _ _ ((gr_dom G p n hn hp).resolve_left h) (gr_dep_go G kn hp)
      exact Or.inr ⟨v, h1, by rw [gr_M_app]; exact h3⟩
/-- the other graph agrees on the nodes at hand -/
theorem gr_frame (G : gr_G D ac ch wd) {ch' : Nat → Nat} (h : ∀ n, (n = 0 ∨ D n) → ∀ d, d < 4 → ch' (n * 4 + d) = ch (n * 4 + d)) : ∀ (l : List Nat) (n : Nat), (n = 0 ∨ D n) → wd_dig l → gr_go ch' n l = gr_go ch n l := by
  intro l
  induction l with
  | nil => intro n _ _; rfl
  | cons d l ih =>
    intro n hn hl
    have h1 := wd_dig_cons.mp hl
    rw [gr_go_cons, gr_go_cons, h n hn d h1.1]
    exact ih _ (gr_ch G hn h1.1) h1.2
theorem gr_frameM (G : gr_G D ac ch wd) {ac' ch' : Nat → Nat} (h : ∀ n, (n = 0 ∨ D n) → ∀ d, d < 4 → ch' (n * 4 + d) = ch (n * 4 + d)) (ha : ∀ n, (n = 0 ∨ D n) → ac' n = ac n) {l : List Nat} {n : Nat} (hn : n = 0 ∨ D n) (hl : wd_dig l) : gr_M ac' ch' n l = gr_M ac ch n l := by
  rw [gr_M, gr_M, gr_frame G h l n hn hl, ha _ (gr_dom G l n hn hl)]
theorem gr_frameD (G : gr_G D ac ch wd) {ch' : Nat → Nat} (h : ∀ n, (n = 0 ∨ D n) → ∀ d, d < 4 → ch' (n * 4 + d) = ch (n * 4 + d)) {n k : Nat} (hn : n = 0 ∨ D n) (kn : gr_dep ch n k) : gr_dep ch' n k := by
  intro l hl hk
  rw [gr_frame G h l n hn hl]
  exact kn l hl hk
/-! the nodes in the order of the words that lead to them -/
def gr_seq (ch : Nat → Nat) (k n : Nat) : List Nat := ((wd_U k).filter (fun p => decide (gr_go ch n p ≠ 0))).map (gr_go ch n)
theorem gr_seq_z (G : gr_G D ac ch wd) (k : Nat) : gr_seq ch k 0 = [] := by
  rw [gr_seq, List.filter_eq_nil_iff.mpr]
  · rfl
  · intro l hl
    rw [gr_z G l ((wd_mem k l).mp hl).2]; simp
theorem gr_seq_s {n : Nat} (k : Nat) (hn : n ≠ 0) : gr_seq ch (k + 1) n = n :: ([0, 1, 2, 3] : List Nat).flatMap (fun d => gr_seq ch k (ch (n * 4 + d))) := by
  rw [gr_seq, wd_U, List.filter_cons_of_pos (p := fun p => decide (gr_go ch n p ≠ 0)) (a := []) (decide_eq_true (show gr_go ch n [] ≠ 0 from hn)), List.map_cons, List.filter_flatMap, List.map_flatMap]
  congr 1
  congr 1
  funext d
  rw [List.filter_map, List.map_map]
  rfl
theorem gr_seq_0 {n : Nat} (hn : n ≠ 0) : gr_seq ch 0 n = [n] := by
  rw [gr_seq, wd_U, List.filter_cons_of_pos (p := fun p => decide (gr_go ch n p ≠ 0)) (a := []) (decide_eq_true (show gr_go ch n [] ≠ 0 from hn))]
  rfl
theorem gr_seq_mem {k n m : Nat} : m ∈ gr_seq ch k n ↔ m ≠ 0 ∧ ∃ p, p.length ≤ k ∧ wd_dig p ∧ gr_go ch n p = m := by
  rw [gr_seq, List.mem_map]
  constructor
  · rintro ⟨p, h, rfl⟩
    rw [List.mem_filter, wd_mem, decide_eq_true_eq] at h
    exact ⟨h.2, p, h.1.1, h.1.2, rfl⟩
  · rintro ⟨h, p, h1, h2, rfl⟩
    exact ⟨p, List.mem_filter.mpr ⟨(wd_mem k p).mpr ⟨h1, h2⟩, by simpa using h⟩, rfl⟩
def gr_b (ch : Nat → Nat) (n d : Nat) : Bool := decide (ch (n * 4 + d) ≠ 0)
def gr_dg (ch : Nat → Nat) (n : Nat) : Nat := (([0, 1, 2, 3] : List Nat).filter (gr_b ch n)).length
def gr_b1 (ch : Nat → Nat) (n d : Nat) : Nat := if ch (n * 4 + d) = 0 then 0 else 1
theorem gr_dg_e (ch : Nat → Nat) (n : Nat) : gr_dg ch n = gr_b1 ch n 0 + gr_b1 ch n 1 + gr_b1 ch n 2 + gr_b1 ch n 3 := by
  have a : ∀ (d : Nat) (l : List Nat), ((d :: l).filter (gr_b ch n)).length = gr_b1 ch n d + (l.filter (gr_b ch n)).length := by
    intro d l
    rw [List.filter_cons, gr_b, gr_b1]
    by_cases h : ch (n * 4 + d) = 0
    · rw [if_neg (by simpa using h), if_pos h]; omega
    · rw [if_pos (by simpa using h), if_neg h, List.length_cons]; omega
  rw [gr_dg, a, a, a, a, List.filter_nil, List.length_nil]; omega
theorem gr_fsum (f : Nat → List Nat) (g : Nat → Nat) : ((([0, 1, 2, 3] : List Nat).flatMap f).map g).sum = ((f 0).map g).sum + ((f 1).map g).sum + ((f 2).map g).sum + ((f 3).map g).sum := by
  simp [List.flatMap_cons, List.sum_append]; omega
theorem gr_cost (G : gr_G D ac ch wd) : ∀ (k n : Nat), D n → gr_dep ch n k → ((gr_seq ch k n).map (fun m => 1 + gr_dg ch m)).sum ≤ 1 + 2 * (k * wd n) := by
  intro k
  induction k with
  | zero =>
    intro n hn hk
    rw [gr_seq_0 (G.2 n hn).1]
    have e : gr_dg ch n = 0 := by
      rw [gr_dg_e, gr_b1, gr_b1, gr_b1, gr_b1, if_pos (gr_dep_0 hk (by omega)), if_pos (gr_dep_0 hk (by omega)), if_pos (gr_dep_0 hk (by omega)), if_pos (gr_dep_0 hk (by omega))]
    simp [e]
  | succ k ih =>
    intro n hn hk
    obtain ⟨h0, _, hc, _, e⟩ := G.2 n hn
    rw [gr_seq_s k h0, List.map_cons, List.sum_cons, gr_fsum, gr_dg_e]
    have key : ∀ d, d < 4 → gr_b1 ch n d + ((gr_seq ch k (ch (n * 4 + d))).map (fun m => 1 + gr_dg ch m)).sum ≤ 2 * (k * wd (ch (n * 4 + d))) + 2 * wd (ch (n * 4 + d)) := by
      intro d hd
      rw [gr_b1]
      by_cases h : ch (n * 4 + d) = 0
      · rw [if_pos h, h, gr_seq_z G]; simp
      · rw [if_neg h]
        have h1 := (hc d hd).resolve_left h
        have h2 := ih _ h1 (gr_dep_ch hk hd)
        have h3 := gr_wpos G _ _ h1 (gr_dep_ch hk hd)
        omega
    have k0 := key 0 (by omega)
    have k1 := key 1 (by omega)
    have k2 := key 2 (by omega)
    have k3 := key 3 (by omega)
    rw [e, Nat.add_mul k 1]
    simp only [Nat.mul_add, Nat.one_mul] at *
    omega
/-! rank and number of a word -/
def gr_sm (ch wd : Nat → Nat) (n : Nat) : Nat → Nat
  | 0 => 0
  | d + 1 => gr_sm ch wd n d + wd (ch (n * 4 + d))
def gr_rk (ac ch wd : Nat → Nat) : Nat → List Nat → Nat
  | _, [] => 0
  | n, d :: l => ac n + gr_sm ch wd n d + gr_rk ac ch wd (ch (n * 4 + d)) l
theorem gr_fcnt {α : Type} (p : α → Bool) (f : Nat → List α) : List.countP p (([0, 1, 2, 3] : List Nat).flatMap f) = List.countP p (f 0) + List.countP p (f 1) + List.countP p (f 2) + List.countP p (f 3) := by
  simp [List.flatMap_cons, List.countP_append]; omega
theorem gr_rank (G : gr_G D ac ch wd) : ∀ (k n : Nat) (l : List Nat), (n = 0 ∨ D n) → gr_dep ch n k → wd_dig l → l.length ≤ k → gr_rk ac ch wd n l = List.countP (fun v => decide (wd_pk k v < wd_pk k l)) ((wd_U k).filter (gr_M ac ch n)) := by
  intro k
  induction k with
  | zero =>
    intro n l _ _ _ hl
    have : l = [] := List.eq_nil_of_length_eq_zero (by omega)
    subst this
    rw [gr_rk, List.countP_eq_zero.mpr]
    intro v _; simp [wd_pk]
  | succ k ih =>
    intro n l hn hk hd hl
    cases l with
    | nil =>
      rw [gr_rk, List.countP_eq_zero.mpr]
      intro v _; simp [wd_pk]
    | cons d t =>
      have h1 := wd_dig_cons.mp hd
      have ht : t.length ≤ k := by simp at hl; omega
      rw [gr_Ff, List.countP_append, gr_fcnt, gr_rk]
      have a0 : List.countP (fun v => decide (wd_pk (k + 1) v < wd_pk (k + 1) (d :: t))) (if ac n = 1 then [[]] else []) = ac n := by
        have hp : 0 < (d + 1) * 10 ^ k := Nat.mul_pos (by omega) (Nat.pow_pos (by decide))
        have hle : ac n ≤ 1 := by
          rcases hn with rfl | hn
          · rw [G.1.1]; omega
          · exact (G.2 n hn).2.1
        by_cases h : ac n = 1
        · have hq : wd_pk (k + 1) [] < wd_pk (k + 1) (d :: t) := by simp only [wd_pk]; omega
          rw [if_pos h, List.countP_cons_of_pos (p := fun v => decide (wd_pk (k + 1) v < wd_pk (k + 1) (d :: t))) (a := []) (decide_eq_true hq), List.countP_nil]; omega
        · rw [if_neg h, List.countP_nil]; omega
      have ae : ∀ e, e < 4 → List.countP (fun v => decide (wd_pk (k + 1) v < wd_pk (k + 1) (d :: t))) (((wd_U k).filter (gr_M ac ch (ch (n * 4 + e)))).map (fun t => e :: t)) = if e < d then wd (ch (n * 4 + e)) else if e = d then gr_rk ac ch wd (ch (n * 4 + d)) t else 0 := by
        intro e he
        rw [List.countP_map]
        have hm : ∀ x, x ∈ (wd_U k).filter (gr_M ac ch (ch (n * 4 + e))) → wd_dig x := fun x hx => ((wd_mem k x).mp (List.mem_filter.mp hx).1).2
        by_cases c1 : e < d
        · rw [if_pos c1, gr_cnt G k _ (gr_ch G hn he) (gr_dep_ch hk he), List.countP_eq_length]
          intro x hx
          simp only [Function.comp, decide_eq_true_eq]
          exact (wd_pk_cons (hm x hx) h1.2).mpr (Or.inl c1)
        · rw [if_neg c1]
          by_cases c2 : e = d
          · subst c2
            rw [if_pos rfl, ih _ t (gr_ch G hn he) (gr_dep_ch hk he) h1.2 ht]
            apply List.countP_congr
            intro x hx
            simp only [Function.comp, decide_eq_true_eq]
            rw [wd_pk_cons (hm x hx) h1.2]
            constructor
            · rintro (h | ⟨_, h⟩)
              · omega
              · exact h
            · intro h; exact Or.inr ⟨rfl, h⟩
          · rw [if_neg c2, List.countP_eq_zero]
            intro x hx
            simp only [Function.comp, decide_eq_true_eq]
            rw [wd_pk_cons (hm x hx) h1.2]
            omega
      rw [a0, ae 0 (by omega), ae 1 (by omega), ae 2 (by omega), ae 3 (by omega)]
      have : d = 0 ∨ d = 1 ∨ d = 2 ∨ d = 3 := by omega
      rcases this with rfl | rfl | rfl | rfl <;> simp [gr_sm] <;> omega
theorem gr_sm4 (G : gr_G D ac ch wd) {n : Nat} (hn : D n) : wd n = ac n + gr_sm ch wd n 4 := by
  have := (G.2 n hn).2.2.2.2
  simp only [gr_sm]; omega
/-- one step down: what the word of number r does at a node -/
def gr_st (ac ch wd : Nat → Nat) (n r d : Nat) : Prop := d < 4 ∧ ac n + gr_sm ch wd n d ≤ r ∧ r < ac n + gr_sm ch wd n (d + 1)
theorem gr_rk_st {n r d : Nat} (h : gr_st ac ch wd n r d) {v : List Nat} (hv : gr_rk ac ch wd (ch (n * 4 + d)) v = r - ac n - gr_sm ch wd n d) : gr_rk ac ch wd n (d :: v) = r := by
  have := h.2.1
  rw [gr_rk, hv]; omega
theorem gr_st_lt {n r d : Nat} (h : gr_st ac ch wd n r d) : r - ac n - gr_sm ch wd n d < wd (ch (n * 4 + d)) := by
  have h1 := h.2.1
  have h2 := h.2.2
  simp only [gr_sm] at h2; omega
end GR
/-- the number of lesser ones tells the word -/
theorem gr_cl {F : List (List Nat)} {f : List Nat → Nat} {a b : List Nat} (ha : a ∈ F) (h : f a < f b) : List.countP (fun v => decide (f v < f a)) F < List.countP (fun v => decide (f v < f b)) F := by
  induction F with
  | nil => exact absurd ha List.not_mem_nil
  | cons x F ih =>
    have m : List.countP (fun v => decide (f v < f a)) F ≤ List.countP (fun v => decide (f v < f b)) F := by
      apply List.countP_mono_left
      intro y _ hy
      simp only [decide_eq_true_eq] at hy ⊢
      omega
    rw [List.countP_cons, List.countP_cons]
    simp only [decide_eq_true_eq]
    rcases List.mem_cons.mp ha with rfl | ha
    · rw [if_neg (by omega), if_pos h]; omega
    · have := ih ha
      by_cases c : f x < f a
      · rw [if_pos c, if_pos (by omega)]; omega
      · rw [if_neg c]; split <;> omega
end
section
/-! arrays of naturals -/
def nN (f : Nat → Nat) : Nat → Int32 := fun j => nI (f j)
def po_up (f : Nat → Nat) (k x : Nat) : Nat → Nat := fun j => if j = k then x else f j
theorem po_us {f : Nat → Nat} {k x : Nat} : po_up f k x k = x := if_pos rfl
theorem po_un {f : Nat → Nat} {k j x : Nat} (h : j ≠ k) : po_up f k x j = f j := if_neg h
theorem po_upd {f : Nat → Nat} {k x : Nat} : upd (nN f) k (nI x) = nN (po_up f k x) := by
  funext j
  simp only [upd, nN, po_up]
  split <;> rfl
/-! the pool -/
def po_hI (x : Int32) : Int32 := (x ^^^ ((x.toUInt32 >>> ((6 : Int32).toUInt32 &&& Int32.toUInt32 31)).toInt32)) &&& 63
def po_hN (x : Int32) : Nat := (po_hI x).toNatClampNeg
theorem po_hN_lt (x : Int32) : po_hN x < 64 ∧ po_hI x = nI (po_hN x) := by
  obtain ⟨j, hj, e⟩ := pk_andE (x ^^^ ((x.toUInt32 >>> ((6 : Int32).toUInt32 &&& Int32.toUInt32 31)).toInt32)) (m := 63) 6 (by decide)
  have e2 : po_hI x = nI j := e
  have e3 : po_hN x = j := by rw [po_hN, e2, nI_clamp (by omega)]
  rw [e3]
  exact ⟨hj, e2⟩
def po_h (a : Nat) (c : Nat → Nat) : Nat := po_hN (nI ((((a * 31 + c 0) * 31 + c 1) * 31 + c 2) * 31 + c 3))
def po_ch (nx : Nat → Nat) : Nat → List Nat → Prop
  | a, [] => a = 0
  | a, b :: l => a = b ∧ b ≠ 0 ∧ po_ch nx (nx b) l
def po_c4 (c : Nat → Nat) (n : Nat) : Nat := (if c 0 = n then 1 else 0) + (if c 1 = n then 1 else 0) + (if c 2 = n then 1 else 0) + (if c 3 = n then 1 else 0)
def po_rc (ch : Nat → Nat) (al : List Nat) (n : Nat) : Nat := (al.map (fun m => po_c4 (fun d => ch (m * 4 + d)) n)).sum
def po_I (fh us : Nat) (ac ch rf wd sl nx bk : Nat → Nat) (al fl : List Nat) (ex : Nat → Nat) : Prop :=
  (al ++ fl).Nodup ∧ (∀ n, n ∈ al ++ fl → n ≠ 0 ∧ n < 128) ∧ al.length + fl.length = 127 ∧ us = al.length ∧ po_ch nx fh fl ∧
  (∀ h, h < 64 → po_ch nx (bk h) (al.filter (fun m => decide (sl m = h)))) ∧
  (∀ n, n ∈ al → sl n = po_h (ac n) (fun d => ch (n * 4 + d))) ∧
  gr_G (fun n => n ∈ al) ac ch wd ∧ gr_un (fun n => n ∈ al) ac ch ∧
  (∀ n, n ∈ al → rf n = po_rc ch al n + ex n) ∧ (∀ n, ex n ≠ 0 → n = 0 ∨ n ∈ al)
theorem po_h_lt (a : Nat) (c : Nat → Nat) : po_h a c < 64 := (po_hN_lt _).1
theorem po_h_congr {a : Nat} {c c' : Nat → Nat} (h : ∀ d, d < 4 → c d = c' d) : po_h a c = po_h a c' := by
  rw [po_h, po_h, h 0 (by omega), h 1 (by omega), h 2 (by omega), h 3 (by omega)]
theorem po_ch_frame {nx nx' : Nat → Nat} : ∀ (l : List Nat) (a : Nat), (∀ m, m ∈ l → nx' m = nx m) → po_ch nx a l → po_ch nx' a l := by
  intro l
  induction l with
  | nil => intro a _ h; exact h
  | cons b l ih =>
    intro a h c
    refine ⟨c.1, c.2.1, ?_⟩
    rw [h b List.mem_cons_self]
    exact ih _ (fun m hm => h m (List.mem_cons_of_mem _ hm)) c.2.2
theorem po_c4_congr {c c' : Nat → Nat} (h : ∀ d, d < 4 → c d = c' d) (n : Nat) : po_c4 c n = po_c4 c' n := by
  rw [po_c4, po_c4, h 0 (by omega), h 1 (by omega), h 2 (by omega), h 3 (by omega)]
theorem po_c4_0 {c : Nat → Nat} {n : Nat} : po_c4 c n = 0 ↔ ∀ d, d < 4 → c d ≠ n := by
  rw [po_c4]
  constructor
  · intro h d hd e
    have : d = 0 ∨ d = 1 ∨ d = 2 ∨ d = 3 := by omega
    rcases this with rfl | rfl | rfl | rfl <;> rw [if_pos e] at h <;> omega
  · intro h
    rw [if_neg (h 0 (by omega)), if_neg (h 1 (by omega)), if_neg (h 2 (by omega)), if_neg (h 3 (by omega))]
theorem po_c4_le (c : Nat → Nat) (n : Nat) : po_c4 c n ≤ 4 := by
  rw [po_c4]
  repeat' split
  all_goals omega
theorem po_rc_cons (ch : Nat → Nat) (m : Nat) (al : List Nat) (n : Nat) : po_rc ch (m :: al) n = po_c4 (fun d => ch (m * 4 + d)) n + po_rc ch al n := by
  rw [po_rc, List.map_cons, List.sum_cons]; rfl
theorem po_rc_app (ch : Nat → Nat) (a b : List Nat) (n : Nat) : po_rc ch (a ++ b) n = po_rc ch a n + po_rc ch b n := by
  rw [po_rc, List.map_append, List.sum_append]; rfl
theorem po_rc_congr {ch ch' : Nat → Nat} {al : List Nat} (h : ∀ m, m ∈ al → ∀ d, d < 4 → ch' (m * 4 + d) = ch (m * 4 + d)) (n : Nat) : po_rc ch' al n = po_rc ch al n := by
  rw [po_rc, po_rc]
  congr 1
  apply List.map_congr_left
  intro m hm
  exact po_c4_congr (h m hm) n
theorem po_rc_0 {ch : Nat → Nat} {n : Nat} : ∀ {al : List Nat}, po_rc ch al n = 0 ↔ ∀ m, m ∈ al → ∀ d, d < 4 → ch (m * 4 + d) ≠ n := by
  intro al
  induction al with
  | nil => exact ⟨fun _ m hm => absurd hm List.not_mem_nil, fun _ => rfl⟩
  | cons b al ih =>
    rw [po_rc_cons]
    constructor
    · intro h m hm
      rcases List.mem_cons.mp hm with rfl | hm
      · exact po_c4_0.mp (by omega)
      · exact ih.mp (by omega) m hm
    · intro h
      have h1 := po_c4_0.mpr (h b List.mem_cons_self)
      have h2 := ih.mpr (fun m hm => h m (List.mem_cons_of_mem _ hm))
      omega
theorem po_rc_le (ch : Nat → Nat) (n : Nat) : ∀ al : List Nat, po_rc ch al n ≤ 4 * al.length := by
  intro al
  induction al with
  | nil => exact Nat.le_refl _
  | cons b al ih =>
    rw [po_rc_cons, List.length_cons]
    have := po_c4_le (fun d => ch (b * 4 + d)) n
    omega
theorem po_fil {n : Nat} {a b : List Nat} (h : (a ++ n :: b).Nodup) : (a ++ n :: b).filter (fun m => decide (m ≠ n)) = a ++ b ∧ n ∉ a ∧ n ∉ b := by
  rw [List.nodup_append] at h
  obtain ⟨_, h2, h3⟩ := h
  rw [List.nodup_cons] at h2
  have na : n ∉ a := fun hn => h3 n hn n List.mem_cons_self rfl
  refine ⟨?_, na, h2.1⟩
  rw [List.filter_append, List.filter_cons_of_neg (by simp)]
  rw [List.filter_eq_self.mpr, List.filter_eq_self.mpr]
  · intro x hx; exact decide_eq_true (fun e => h2.1 (e ▸ hx))
  · intro x hx; exact decide_eq_true (fun e => na (e ▸ hx))
section PO
variable {fh us : Nat} {ac ch rf wd sl nx bk : Nat → Nat} {al fl : List Nat} {ex : Nat → Nat}
theorem po_create {n a : Nat} {c : Nat → Nat} {ac' ch' rf' wd' sl' nx' bk' : Nat → Nat} (I : po_I fh us ac ch rf wd sl nx bk al (n :: fl) ex) (ha : a ≤ 1) (hc : ∀ d, d < 4 → c d = 0 ∨ c d ∈ al) (hz : a = 1 ∨ ∃ d, d < 4 ∧ c d ≠ 0)
    (hu : ∀ m, m ∈ al → ac m = a → (∀ d, d < 4 → ch (m * 4 + d) = c d) → False)
    (eac : ac' n = a ∧ ∀ m, m ≠ n → ac' m = ac m) (ech : (∀ d, d < 4 → ch' (n * 4 + d) = c d) ∧ ∀ m, m ≠ n → ∀ d, d < 4 → ch' (m * 4 + d) = ch (m * 4 + d))
    (erf : rf' n = 0 ∧ ∀ m, m ≠ n → m ≠ 0 → rf' m = rf m + po_c4 c m) (ewd : wd' n = a + wd (c 0) + wd (c 1) + wd (c 2) + wd (c 3) ∧ ∀ m, m ≠ n → wd' m = wd m)
    (esl : sl' n = po_h a c ∧ ∀ m, m ≠ n → sl' m = sl m) (enx : nx' n = bk (po_h a c) ∧ ∀ m, m ≠ n → nx' m = nx m) (ebk : bk' (po_h a c) = n ∧ ∀ h, h ≠ po_h a c → bk' h = bk h) :
    po_I (nx n) (us + 1) ac' ch' rf' wd' sl' nx' bk' (n :: al) fl ex := by
  obtain ⟨i1, i2, i3, i4, i5, i6, i7, i8, i9, i10, i11⟩ := I
  have pm : (al ++ n :: fl).Perm (n :: (al ++ fl)) := List.perm_middle
  have nd : (n :: (al ++ fl)).Nodup := pm.nodup_iff.mp i1
  have nd2 := List.nodup_cons.mp nd
  have nal : n ∉ al := fun h => nd2.1 (List.mem_append_left _ h)
  have nfl : n ∉ fl := fun h => nd2.1 (List.mem_append_right _ h)
  have mne : ∀ m, m ∈ al → m ≠ n := fun m hm e => nal (e ▸ hm)
  have n0 : n ≠ 0 := (i2 n (by simp)).1
  have cne : ∀ d, d < 4 → c d ≠ n := fun d hd e => by
    rcases hc d hd with h | h
    · exact n0 (by rw [← e, h])
    · exact nal (e ▸ h)
  have chne : ∀ m, m ∈ al → ∀ d, d < 4 → ch (m * 4 + d) ≠ n := fun m hm d hd e => by
    rcases (i8.2 m hm).2.2.1 d hd with h | h
    · exact n0 (by rw [← e, h])
    · exact nal (by rw [← e]; exact h)
  refine ⟨nd, ?_, ?_, ?_, ?_, ?_, ?_, ?_, ?_, ?_, ?_⟩
  · intro m hm
    exact i2 m (pm.mem_iff.mpr hm)
  · simp only [List.length_cons] at i3 ⊢; omega
  · simp only [List.length_cons]; omega
  · exact po_ch_frame fl _ (fun m hm => enx.2 m (fun e => nfl (e ▸ hm))) i5.2.2
  · intro h hh
    have ef : al.filter (fun m => decide (sl' m = h)) = al.filter (fun m => decide (sl m = h)) := by
      apply List.filter_congr
      intro m hm
      rw [esl.2 m (mne m hm)]
    have fr : po_ch nx' (bk h) (al.filter (fun m => decide (sl m = h))) := po_ch_frame _ _ (fun m hm => enx.2 m (mne m (List.mem_filter.mp hm).1)) (i6 h hh)
    rw [List.filter_cons, ef]
    by_cases e : h = po_h a c
    · rw [if_pos (decide_eq_true (by rw [esl.1, e]))]
      refine ⟨by rw [e, ebk.1], n0, ?_⟩
      rw [enx.1, ← e]; exact fr
    · rw [if_neg (by rw [esl.1]; intro z; exact e (of_decide_eq_true z).symm), ebk.2 h e]
      exact fr
  · intro m hm
    rcases List.mem_cons.mp hm with rfl | hm
    · rw [esl.1, eac.1]; exact po_h_congr (fun d hd => (ech.1 d hd).symm)
    · rw [esl.2 m (mne m hm), eac.2 m (mne m hm), i7 m hm]
      exact po_h_congr (fun d hd => (ech.2 m (mne m hm) d hd).symm)
  · refine ⟨⟨by rw [eac.2 0 n0.symm]; exact i8.1.1, by rw [ewd.2 0 n0.symm]; exact i8.1.2.1, ?_⟩, ?_⟩
    · intro d hd
      have := ech.2 0 n0.symm d hd
      rw [Nat.zero_mul, Nat.zero_add] at this
      rw [this]; exact i8.1.2.2 d hd
    · intro m hm
      rcases List.mem_cons.mp hm with rfl | hm
      · refine ⟨n0, by rw [eac.1]; exact ha, ?_, ?_, ?_⟩
        · intro d hd
          rw [ech.1 d hd]
          rcases hc d hd with h | h
          · exact Or.inl h
          · exact Or.inr (List.mem_cons_of_mem _ h)
        · rw [eac.1]
          rcases hz with h | ⟨d, hd, h⟩
          · exact Or.inl h
          · exact Or.inr ⟨d, hd, by rw [ech.1 d hd]; exact h⟩
        · rw [ewd.1, eac.1, ech.1 0 (by omega), ech.1 1 (by omega), ech.1 2 (by omega), ech.1 3 (by omega), ewd.2 _ (cne 0 (by omega)), ewd.2 _ (cne 1 (by omega)), ewd.2 _ (cne 2 (by omega)), ewd.2 _ (cne 3 (by omega))]
      · obtain ⟨g1, g2, g3, g4, g5⟩ := i8.2 m hm
        have e := mne m hm
        refine ⟨g1, by rw [eac.2 m e]; exact g2, ?_, ?_, ?_⟩
        · intro d hd
          rw [ech.2 m e d hd]
          rcases g3 d hd with h | h
          · exact Or.inl h
          · exact Or.inr (List.mem_cons_of_mem _ h)
        · rw [eac.2 m e]
          rcases g4 with h | ⟨d, hd, h⟩
          · exact Or.inl h
          · exact Or.inr ⟨d, hd, by rw [ech.2 m e d hd]; exact h⟩
        · rw [ewd.2 m e, eac.2 m e, ech.2 m e 0 (by omega), ech.2 m e 1 (by omega), ech.2 m e 2 (by omega), ech.2 m e 3 (by omega), ewd.2 _ (chne m hm 0 (by omega)), ewd.2 _ (chne m hm 1 (by omega)), ewd.2 _ (chne m hm 2 (by omega)), ewd.2 _ (chne m hm 3 (by omega))]
          exact g5
  · intro x y hx hy e1 e2
    rcases List.mem_cons.mp hx with xn | hx1
    · rcases List.mem_cons.mp hy with yn | hy1
      · rw [xn, yn]
      · refine (hu y hy1 ?_ ?_).elim
        · rw [← eac.2 y (mne y hy1), ← e1, xn, eac.1]
        · intro d hd
          rw [← ech.2 y (mne y hy1) d hd, ← e2 d hd, xn, ech.1 d hd]
    · rcases List.mem_cons.mp hy with yn | hy1
      · refine (hu x hx1 ?_ ?_).elim
        · rw [← eac.2 x (mne x hx1), e1, yn, eac.1]
        · intro d hd
          rw [← ech.2 x (mne x hx1) d hd, e2 d hd, yn, ech.1 d hd]
      · refine i9 x y hx1 hy1 ?_ ?_
        · rw [← eac.2 x (mne x hx1), ← eac.2 y (mne y hy1), e1]
        · intro d hd
          rw [← ech.2 x (mne x hx1) d hd, ← ech.2 y (mne y hy1) d hd, e2 d hd]
  · intro m hm
    have rca : ∀ m, po_rc ch' (n :: al) m = po_c4 c m + po_rc ch al m := by
      intro m
      rw [po_rc_cons, po_c4_congr (c' := c) (fun d hd => ech.1 d hd), po_rc_congr (fun x hx d hd => ech.2 x (mne x hx) d hd)]
    rw [rca]
    rcases List.mem_cons.mp hm with rfl | hm
    · have exn : ex m = 0 := by
        rcases Nat.eq_zero_or_pos (ex m) with h | h
        · exact h
        · exact ((i11 m (by omega)).elim n0 nal).elim
      rw [erf.1, exn, po_c4_0.mpr cne, po_rc_0.mpr chne]
    · rw [erf.2 m (mne m hm) (i8.2 m hm).1, i10 m hm]; omega
  · intro m hm
    rcases i11 m hm with h | h
    · exact Or.inl h
    · exact Or.inr (List.mem_cons_of_mem _ h)
theorem po_drop {n : Nat} {rf' nx1 bk1 nx' : Nat → Nat} (I : po_I fh us ac ch rf wd sl nx bk al fl ex) (hn : n ∈ al) (h0 : rf n = 0)
    (e1 : po_ch nx1 (bk1 (sl n)) ((al.filter (fun m => decide (sl m = sl n))).filter (fun m => decide (m ≠ n)))) (e2 : ∀ m, m ∉ al.filter (fun m => decide (sl m = sl n)) → nx1 m = nx m) (e3 : ∀ h, h ≠ sl n → bk1 h = bk h)
    (erf : ∀ m, m ≠ 0 → rf' m = rf m - po_c4 (fun d => ch (n * 4 + d)) m) (enx : nx' n = fh ∧ ∀ m, m ≠ n → nx' m = nx1 m) :
    po_I n (us - 1) ac ch rf' wd sl nx' bk1 (al.filter (fun m => decide (m ≠ n))) (n :: fl) ex := by
  obtain ⟨i1, i2, i3, i4, i5, i6, i7, i8, i9, i10, i11⟩ := I
  have rn := i10 n hn
  have rc0 : po_rc ch al n = 0 := by omega
  have ex0 : ex n = 0 := by omega
  have noc := po_rc_0.mp rc0
  have ndal : al.Nodup := (List.nodup_append.mp i1).1
  have ndfl : fl.Nodup := (List.nodup_append.mp i1).2.1
  have dis := (List.nodup_append.mp i1).2.2
  have n0 : n ≠ 0 := (i8.2 n hn).1
  have nfl : n ∉ fl := fun h => dis n hn n h rfl
  have mf : ∀ m, m ∈ al.filter (fun m => decide (m ≠ n)) ↔ m ∈ al ∧ m ≠ n := by
    intro m; rw [List.mem_filter, decide_eq_true_eq]
  obtain ⟨a, b, e⟩ := List.append_of_mem hn
  have fe : al.filter (fun m => decide (m ≠ n)) = a ++ b := by
    rw [e] at ndal ⊢; exact (po_fil ndal).1
  have len : (al.filter (fun m => decide (m ≠ n))).length + 1 = al.length := by
    rw [fe, e]; simp only [List.length_append, List.length_cons]; omega
  have rca : ∀ m, po_rc ch al m = po_rc ch (al.filter (fun m => decide (m ≠ n))) m + po_c4 (fun d => ch (n * 4 + d)) m := by
    intro m
    rw [fe]
    conv => lhs; rw [e]
    rw [po_rc_app, po_rc_app, po_rc_cons]; omega
  refine ⟨?_, ?_, ?_, ?_, ?_, ?_, ?_, ?_, ?_, ?_, ?_⟩
  · rw [List.nodup_append]
    refine ⟨ndal.filter _, List.nodup_cons.mpr ⟨nfl, ndfl⟩, ?_⟩
    intro x hx y hy exy
    have hx2 := (mf x).mp hx
    rcases List.mem_cons.mp hy with h | h
    · exact hx2.2 (exy.trans h)
    · exact dis x hx2.1 y h exy
  · intro m hm
    rcases List.mem_append.mp hm with h | h
    · exact i2 m (List.mem_append_left _ ((mf m).mp h).1)
    · rcases List.mem_cons.mp h with h | h
      · rw [h]; exact i2 n (List.mem_append_left _ hn)
      · exact i2 m (List.mem_append_right _ h)
  · rw [List.length_cons]; omega
  · omega
  · refine ⟨rfl, n0, ?_⟩
    rw [enx.1]
    refine po_ch_frame fl _ (fun m hm => ?_) i5
    rw [enx.2 m (fun z => nfl (z ▸ hm)), e2 m (fun z => dis m (List.mem_filter.mp z).1 m hm rfl)]
  · intro h hh
    have fc : (al.filter (fun m => decide (m ≠ n))).filter (fun m => decide (sl m = h)) = (al.filter (fun m => decide (sl m = h))).filter (fun m => decide (m ≠ n)) := by
      rw [List.filter_filter, List.filter_filter]
      apply List.filter_congr
      intro x _
      exact Bool.and_comm _ _
    rw [fc]
    have fr : ∀ m, m ∈ (al.filter (fun m => decide (sl m = h))).filter (fun m => decide (m ≠ n)) → nx' m = nx1 m := by
      intro m hm
      exact enx.2 m (of_decide_eq_true (List.mem_filter.mp hm).2)
    by_cases eh : h = sl n
    · subst eh
      exact po_ch_frame _ _ fr e1
    · rw [e3 h eh]
      refine po_ch_frame (nx := nx1) _ _ fr ?_
      have self : (al.filter (fun m => decide (sl m = h))).filter (fun m => decide (m ≠ n)) = al.filter (fun m => decide (sl m = h)) := by
        rw [List.filter_eq_self]
        intro x hx
        exact decide_eq_true (fun z => eh (by rw [← z]; exact (of_decide_eq_true (List.mem_filter.mp hx).2).symm))
      rw [self]
      refine po_ch_frame _ _ (fun m hm => e2 m (fun z => ?_)) (i6 h hh)
      have z1 := of_decide_eq_true (List.mem_filter.mp hm).2
      have z2 := of_decide_eq_true (List.mem_filter.mp z).2
      exact eh (z1.symm.trans z2)
  · intro m hm
    exact i7 m ((mf m).mp hm).1
  · refine ⟨i8.1, ?_⟩
    intro m hm
    have hm2 := (mf m).mp hm
    obtain ⟨g1, g2, g3, g4, g5⟩ := i8.2 m hm2.1
    refine ⟨g1, g2, ?_, g4, g5⟩
    intro d hd
    rcases g3 d hd with z | z
    · exact Or.inl z
    · exact Or.inr ((mf _).mpr ⟨z, noc m hm2.1 d hd⟩)
  · intro x y hx hy
    exact i9 x y ((mf x).mp hx).1 ((mf y).mp hy).1
  · intro m hm
    have hm2 := (mf m).mp hm
    have := i10 m hm2.1
    have := rca m
    rw [erf m (i8.2 m hm2.1).1]; omega
  · intro m hm
    rcases i11 m hm with h | h
    · exact Or.inl h
    · exact Or.inr ((mf m).mpr ⟨h, fun z => hm (z ▸ ex0)⟩)
theorem po_rfge {n m : Nat} (I : po_I fh us ac ch rf wd sl nx bk al fl ex) (hn : n ∈ al) (hm : m ∈ al) : po_c4 (fun d => ch (n * 4 + d)) m ≤ rf m := by
  obtain ⟨i1, i2, i3, i4, i5, i6, i7, i8, i9, i10, i11⟩ := I
  rw [i10 m hm]
  obtain ⟨a, b, e⟩ := List.append_of_mem hn
  rw [e, po_rc_app, po_rc_cons]; omega
theorem po_retain {n : Nat} {rf' ex' : Nat → Nat} (I : po_I fh us ac ch rf wd sl nx bk al fl ex) (hn : n = 0 ∨ n ∈ al) (e1 : ∀ m, m ≠ 0 → rf' m = rf m + if m = n then 1 else 0) (e2 : ∀ m, ex' m = ex m + if m = n then 1 else 0) : po_I fh us ac ch rf' wd sl nx bk al fl ex' := by
  obtain ⟨i1, i2, i3, i4, i5, i6, i7, i8, i9, i10, i11⟩ := I
  refine ⟨i1, i2, i3, i4, i5, i6, i7, i8, i9, ?_, ?_⟩
  · intro m hm
    rw [e1 m (i8.2 m hm).1, e2 m, i10 m hm]; omega
  · intro m hm
    rw [e2 m] at hm
    by_cases z : m = n
    · rw [z]; exact hn
    · rw [if_neg z] at hm; exact i11 m hm
theorem po_unret {n : Nat} {rf' ex' : Nat → Nat} (I : po_I fh us ac ch rf wd sl nx bk al fl ex) (hn : n ∈ al) (h1 : 1 ≤ ex n) (e1 : ∀ m, m ≠ 0 → rf' m = rf m - if m = n then 1 else 0) (e2 : ∀ m, ex' m = ex m - if m = n then 1 else 0) : po_I fh us ac ch rf' wd sl nx bk al fl ex' := by
  obtain ⟨i1, i2, i3, i4, i5, i6, i7, i8, i9, i10, i11⟩ := I
  refine ⟨i1, i2, i3, i4, i5, i6, i7, i8, i9, ?_, ?_⟩
  · intro m hm
    rw [e1 m (i8.2 m hm).1, e2 m, i10 m hm]
    by_cases z : m = n
    · rw [if_pos z, z]; omega
    · rw [if_neg z]; omega
  · intro m hm
    rw [e2 m] at hm
    exact i11 m (fun z => hm (by rw [z]; simp))
end PO
end
section
/-! X: retain, create, equalsDraft, intern -/
theorem xw_i4 (n d : Nat) : nI n * 4 + nI d = nI (n * 4 + d) := by
  rw [show (4 : Int32) = nI 4 from rfl, pk_mul, nI_add]
theorem xw_c4 {n d : Nat} (hn : n < 128) (hd : d < 4) : (nI n * 4 + nI d).toNatClampNeg = n * 4 + d := by
  rw [xw_i4, nI_clamp (by omega)]
theorem xw_in4 {n d : Nat} (hn : n < 128) (hd : d < 4) : vp_in (nI n * 4 + nI d) 512 := by
  rw [xw_i4]; exact vp_in_nI (by omega) (by omega)
def po_rt (rf : Nat → Nat) (n : Nat) : Nat → Nat := if n = 0 then rf else po_up rf n (rf n + 1)
theorem po_rt_at {rf : Nat → Nat} {n m : Nat} (hm : m ≠ 0) : po_rt rf n m = rf m + if m = n then 1 else 0 := by
  rw [po_rt]
  by_cases h : n = 0
  · rw [if_pos h, if_neg (by omega)]; rfl
  · rw [if_neg h]
    by_cases e : m = n
    · rw [if_pos e, e, po_us]
    · rw [if_neg e, po_un e]; rfl
section XC
variable {f_letters f_maxLength f_maxWords f_freeHead f_used f_root f_draftAccept f_imageSize f_formLength f_planned : Int32} {a_accept a_child a_refs a_words a_slot a_next a_bucket a_draft a_symbol a_path a_stack a_number a_order a_image a_form a_headOf a_edge a_level a_imageWords a_entered a_plan a_built : Nat → Int32}
variable {fh us : Nat} {ac ch rf wd sl nx bk : Nat → Nat} {al fl : List Nat} {ex : Nat → Nat}
theorem xw_retain {post : SX → Prop} {x : Int32} {n : Nat} (hx : x = nI n) (hn : n < 128) (h : post (f_letters, f_maxLength, f_maxWords, f_freeHead, f_used, f_root, f_draftAccept, f_imageSize, f_formLength, f_planned, a_accept, a_child, nN (po_rt rf n), a_words, a_slot, a_next, a_bucket, a_draft, a_symbol, a_path, a_stack, a_number, a_order, a_image, a_form, a_headOf, a_edge, a_level, a_imageWords, a_entered, a_plan, a_built)) : wpX_retain post (f_letters, f_maxLength, f_maxWords, f_freeHead, f_used, f_root, f_draftAccept, f_imageSize, f_formLength, f_planned, a_accept, a_child, nN rf, a_words, a_slot, a_next, a_bucket, a_draft, a_symbol, a_path, a_stack, a_number, a_order, a_image, a_form, a_headOf, a_edge, a_level, a_imageWords, a_entered, a_plan, a_built) x := by
  subst hx
  refine pk_eq n 0 (fun h0 => ?_) (fun h0 => ?_)
  · rw [po_rt, if_pos h0] at h; exact h
  · refine And.intro (vp_in_nI hn (by omega)) (And.intro (vp_in_nI hn (by omega)) (nm_r (e' := nN (po_rt rf n)) ?_ h))
    rw [nI_clamp (by omega), po_rt, if_neg h0, ← po_upd, ← nI_1]; rfl
theorem xc_step {post : Int32 → SX → Prop} {k h n d c : Nat} (hn : n < 128) (hd : d < 4) (hc : c < 128) (hdr : a_draft d = nI c)
    (K : wX_create_50 post (nI h) (nI n) k (nI (d + 1)) f_letters f_maxLength f_maxWords f_freeHead f_used f_root f_draftAccept f_imageSize f_formLength f_planned a_accept (nN (po_up ch (n * 4 + d) c)) (nN (po_rt rf c)) (nN (po_up wd n (wd n + wd c))) a_slot a_next a_bucket a_draft a_symbol a_path a_stack a_number a_order a_image a_form a_headOf a_edge a_level a_imageWords a_entered a_plan a_built) :
    wX_create_50 post (nI h) (nI n) (k + 1) (nI d) f_letters f_maxLength f_maxWords f_freeHead f_used f_root f_draftAccept f_imageSize f_formLength f_planned a_accept (nN ch) (nN rf) (nN wd) a_slot a_next a_bucket a_draft a_symbol a_path a_stack a_number a_order a_image a_form a_headOf a_edge a_level a_imageWords a_entered a_plan a_built := by
  have e1 : (nI d).toNatClampNeg = d := nI_clamp (by omega)
  have e2 : (nI n).toNatClampNeg = n := nI_clamp (by omega)
  have i1 : vp_in (nI d) 4 := vp_in_nI hd (by omega)
  have i2 : vp_in (nI n) 128 := vp_in_nI hn (by omega)
  have e3 : a_draft (nI d).toNatClampNeg = nI c := by rw [e1, hdr]
  refine pk_le 4 d (fun z => absurd z (by omega)) (fun _ => ?_)
  refine And.intro i1 (And.intro (xw_in4 hn hd) (nm_r (e' := nN (po_up ch (n * 4 + d) c)) ?_ ?_))
  · rw [xw_c4 hn hd, e3, po_upd]
  · refine And.intro i2 (And.intro i1 (And.intro (by rw [e3]; exact vp_in_nI hc (by omega)) (And.intro i2 (nm_r (e' := nN (po_up wd n (wd n + wd c))) ?_ (And.intro i1 ?_)))))
    · rw [e2, e3, ← po_upd, ← nI_add, nN, nI_clamp (by omega)]; rfl
    · exact xw_retain e3 hc (nm_r (nI_1 d) K)
theorem xc_exit {post : Int32 → SX → Prop} {k h n : Nat} (hn : n < 128) (hh : h < 64)
    (K : post (nI n) (f_letters, f_maxLength, f_maxWords, f_freeHead, nI (us + 1), f_root, f_draftAccept, f_imageSize, f_formLength, f_planned, a_accept, a_child, a_refs, a_words, nN (po_up sl n h), nN (po_up nx n (bk h)), nN (po_up bk h n), a_draft, a_symbol, a_path, a_stack, a_number, a_order, a_image, a_form, a_headOf, a_edge, a_level, a_imageWords, a_entered, a_plan, a_built)) :
    wX_create_50 post (nI h) (nI n) (k + 1) (nI 4) f_letters f_maxLength f_maxWords f_freeHead (nI us) f_root f_draftAccept f_imageSize f_formLength f_planned a_accept a_child a_refs a_words (nN sl) (nN nx) (nN bk) a_draft a_symbol a_path a_stack a_number a_order a_image a_form a_headOf a_edge a_level a_imageWords a_entered a_plan a_built := by
  have e1 : (nI h).toNatClampNeg = h := nI_clamp (by omega)
  have e2 : (nI n).toNatClampNeg = n := nI_clamp (by omega)
  have i1 : vp_in (nI h) 64 := vp_in_nI hh (by omega)
  have i2 : vp_in (nI n) 128 := vp_in_nI hn (by omega)
  refine pk_le 4 4 (fun _ => ?_) (fun z => absurd z (by omega))
  refine And.intro i2 (nm_r (e' := nN (po_up sl n h)) ?_ (And.intro i1 (And.intro i2 (nm_r (e' := nN (po_up nx n (bk h))) ?_ (And.intro i1 (nm_r (e' := nN (po_up bk h n)) ?_ (nm_r (e' := nI (us + 1)) ?_ K)))))))
  · rw [e2, po_upd]
  · rw [e1, e2, ← po_upd]; rfl
  · rw [e1, po_upd]
  · exact nI_1 us
theorem xc_create {post : Int32 → SX → Prop} {hI : Int32} {n a : Nat} {c : Nat → Nat} (I : po_I fh us ac ch rf wd sl nx bk al (n :: fl) ex) (ha : a ≤ 1) (hc : ∀ d, d < 4 → c d = 0 ∨ c d ∈ al) (hz : a = 1 ∨ ∃ d, d < 4 ∧ c d ≠ 0)
    (hu : ∀ m, m ∈ al → ac m = a → (∀ d, d < 4 → ch (m * 4 + d) = c d) → False) (hh : hI = nI (po_h a c)) (hdr : ∀ d, d < 4 → a_draft d = nI (c d))
    (K : ∀ fh' us' ac' ch' rf' wd' sl' nx' bk', po_I fh' us' ac' ch' rf' wd' sl' nx' bk' (n :: al) fl ex → ac' n = a → (∀ m, m ≠ n → ac' m = ac m) → (∀ d, d < 4 → ch' (n * 4 + d) = c d) → (∀ m, m ≠ n → ∀ d, d < 4 → ch' (m * 4 + d) = ch (m * 4 + d)) → rf' n = 0 → (∀ m, m ≠ n → m ≠ 0 → rf' m = rf m + po_c4 c m) → post (nI n) (f_letters, f_maxLength, f_maxWords, (nI fh'), (nI us'), f_root, nI a, f_imageSize, f_formLength, f_planned, (nN ac'), (nN ch'), (nN rf'), (nN wd'), (nN sl'), (nN nx'), (nN bk'), a_draft, a_symbol, a_path, a_stack, a_number, a_order, a_image, a_form, a_headOf, a_edge, a_level, a_imageWords, a_entered, a_plan, a_built)) :
    wpX_create post (f_letters, f_maxLength, f_maxWords, (nI fh), (nI us), f_root, nI a, f_imageSize, f_formLength, f_planned, (nN ac), (nN ch), (nN rf), (nN wd), (nN sl), (nN nx), (nN bk), a_draft, a_symbol, a_path, a_stack, a_number, a_order, a_image, a_form, a_headOf, a_edge, a_level, a_imageWords, a_entered, a_plan, a_built) hI := by
  subst hh
  obtain ⟨i1, i2, i3, i4, i5, i6, i7, i8, i9, i10, i11⟩ := id I
  have efh : fh = n := i5.1
  subst efh
  have hn := i2 fh (by simp)
  have hcl : ∀ d, d < 4 → c d < 128 := by
    intro d hd
    rcases hc d hd with h | h
    · omega
    · exact (i2 _ (List.mem_append_left _ h)).2
  have hcn : ∀ d, d < 4 → c d ≠ fh := by
    intro d hd e
    rcases hc d hd with h | h
    · omega
    · exact (List.nodup_append.mp i1).2.2 _ h fh List.mem_cons_self e
  have e2 : (nI fh).toNatClampNeg = fh := nI_clamp (by omega)
  have in1 : vp_in (nI fh) 128 := vp_in_nI hn.2 (by omega)
  have hh := po_h_lt a c
  refine pk_eq fh 0 (fun z => absurd z hn.1) (fun _ => ?_)
  refine And.intro in1 (nm_r (e' := nI (nx fh)) (by rw [e2]; rfl) (And.intro in1 (nm_r (e' := nN (po_up ac fh a)) (by rw [e2, po_upd]) (And.intro in1 (nm_r (e' := nN (po_up rf fh 0)) (by rw [e2]; exact po_upd (x := 0)) (And.intro in1 (nm_r (e' := nN (po_up wd fh a)) (by rw [e2, po_upd]) ⟨5, ?_⟩)))))))
  refine xc_step (d := 0) hn.2 (by omega) (hcl 0 (by omega)) (hdr 0 (by omega)) ?_
  refine xc_step (d := 1) hn.2 (by omega) (hcl 1 (by omega)) (hdr 1 (by omega)) ?_
  refine xc_step (d := 2) hn.2 (by omega) (hcl 2 (by omega)) (hdr 2 (by omega)) ?_
  refine xc_step (d := 3) hn.2 (by omega) (hcl 3 (by omega)) (hdr 3 (by omega)) ?_
  refine xc_exit hn.2 hh ?_
  have eac : ∀ m, m ≠ fh → po_up ac fh a m = ac m := fun m hm => po_un hm
  have ech1 : ∀ d, d < 4 → po_up (po_up (po_up (po_up ch (fh * 4 + 0) (c 0)) (fh * 4 + 1) (c 1)) (fh * 4 + 2) (c 2)) (fh * 4 + 3) (c 3) (fh * 4 + d) = c d := by
    intro d hd
    have : d = 0 ∨ d = 1 ∨ d = 2 ∨ d = 3 := by omega
    rcases this with rfl | rfl | rfl | rfl
    · rw [po_un (by omega), po_un (by omega), po_un (by omega), po_us]
    · rw [po_un (by omega), po_un (by omega), po_us]
    · rw [po_un (by omega), po_us]
    · rw [po_us]
  have ech2 : ∀ m, m ≠ fh → ∀ d, d < 4 → po_up (po_up (po_up (po_up ch (fh * 4 + 0) (c 0)) (fh * 4 + 1) (c 1)) (fh * 4 + 2) (c 2)) (fh * 4 + 3) (c 3) (m * 4 + d) = ch (m * 4 + d) := by
    intro m hm d hd
    rw [po_un (by omega), po_un (by omega), po_un (by omega), po_un (by omega)]
  have erf1 : po_rt (po_rt (po_rt (po_rt (po_up rf fh 0) (c 0)) (c 1)) (c 2)) (c 3) fh = 0 := by
    rw [po_rt_at hn.1, po_rt_at hn.1, po_rt_at hn.1, po_rt_at hn.1, po_us, if_neg (hcn 0 (by omega)).symm, if_neg (hcn 1 (by omega)).symm, if_neg (hcn 2 (by omega)).symm, if_neg (hcn 3 (by omega)).symm]
  have erf2 : ∀ m, m ≠ fh → m ≠ 0 → po_rt (po_rt (po_rt (po_rt (po_up rf fh 0) (c 0)) (c 1)) (c 2)) (c 3) m = rf m + po_c4 c m := by
    intro m hm h0
    rw [po_rt_at h0, po_rt_at h0, po_rt_at h0, po_rt_at h0, po_un hm, po_c4]
    have sw : ∀ x : Nat, (if m = x then 1 else 0) = (if x = m then 1 else 0) := fun x => by
      by_cases z : m = x
      · rw [if_pos z, if_pos z.symm]
      · rw [if_neg z, if_neg (fun y => z y.symm)]
    rw [sw, sw, sw, sw]; omega
  refine K _ _ _ _ _ _ _ _ _ ?_ po_us eac ech1 ech2 erf1 erf2
  refine po_create I ha hc hz hu ⟨po_us, eac⟩ ⟨ech1, ech2⟩ ⟨erf1, erf2⟩ ⟨?_, ?_⟩ ⟨po_us, fun m hm => po_un hm⟩ ⟨po_us, fun m hm => po_un hm⟩ ⟨po_us, fun m hm => po_un hm⟩
  · simp only [po_us, po_un (hcn 0 (by omega)), po_un (hcn 1 (by omega)), po_un (hcn 2 (by omega)), po_un (hcn 3 (by omega))]
  · intro m hm
    rw [po_un hm, po_un hm, po_un hm, po_un hm, po_un hm]
/-- the node equals the draft -/
def xe_m (ac ch : Nat → Nat) (a : Nat) (c : Nat → Nat) (n : Nat) : Prop := ac n = a ∧ ∀ d, d < 4 → ch (n * 4 + d) = c d
theorem xe_0 {post : Int32 → Prop} {x1 : Int32} (K : post 0) : ∀ (j d : Nat), d + j = 4 → wX_equalsDraft_21 post x1 f_letters f_maxLength f_maxWords f_freeHead f_used f_root f_draftAccept f_imageSize f_formLength f_planned a_accept a_child a_refs a_words a_slot a_next a_bucket a_draft a_symbol a_path a_stack a_number a_order a_image a_form a_headOf a_edge a_level a_imageWords a_entered a_plan a_built (j + 1) 0 (nI d) := by
  intro j
  induction j with
  | zero =>
    intro d hd
    exact pk_le 4 d (fun _ => And.intro narrow_b0 K) (fun z => absurd z (by omega))
  | succ j ih =>
    intro d hd
    refine pk_le 4 d (fun z => absurd z (by omega)) (fun _ => br_t rfl (nm_r (nI_1 d) (ih (d + 1) (by omega))))
theorem xe_1 {post : Int32 → Prop} {n : Nat} {c : Nat → Nat} (hn : n < 128) (hch : ∀ d, d < 4 → ch (n * 4 + d) < 128) (hc : ∀ d, d < 4 → c d < 128) (hdr : ∀ d, d < 4 → a_draft d = nI (c d)) : ∀ (j d : Nat), d + j = 4 → ((∀ e, d ≤ e → e < 4 → ch (n * 4 + e) = c e) → post 1) → (∀ e, d ≤ e → e < 4 → ch (n * 4 + e) ≠ c e → post 0) → wX_equalsDraft_21 post (nI n) f_letters f_maxLength f_maxWords f_freeHead f_used f_root f_draftAccept f_imageSize f_formLength f_planned a_accept (nN ch) a_refs a_words a_slot a_next a_bucket a_draft a_symbol a_path a_stack a_number a_order a_image a_form a_headOf a_edge a_level a_imageWords a_entered a_plan a_built (j + 1) 1 (nI d) := by
  intro j
  induction j with
  | zero =>
    intro d hd K _
    exact pk_le 4 d (fun _ => And.intro narrow_b1 (K (fun e h1 h2 => by omega))) (fun z => absurd z (by omega))
  | succ j ih =>
    intro d hd K K0
    refine pk_le 4 d (fun z => absurd z (by omega)) (fun _ => br_f (by decide) (And.intro (xw_in4 hn (by omega)) (And.intro (vp_in_nI (by omega) (by omega)) ?_)))
    refine pk_eq (ch (n * 4 + d)) (c d) (fun h => nm_r (nI_1 d) ?_) (fun h => nm_r (nI_1 d) ?_) (by rw [xw_c4 hn (by omega)]; rfl) (by rw [nI_clamp (by omega), hdr d (by omega)]) (by have := hch d (by omega); omega) (by have := hc d (by omega); omega)
    · refine ih (d + 1) (by omega) (fun z => K (fun e h1 h2 => ?_)) (fun e h1 h2 => K0 e (by omega) h2)
      rcases Nat.lt_or_ge d e with h3 | h3
      · exact z e h3 h2
      · have : e = d := by omega
        rw [this]; exact h
    · exact xe_0 (K0 d (Nat.le_refl _) (by omega) h) j (d + 1) (by omega)
theorem xe_eq {post : Int32 → Prop} {n a : Nat} {c : Nat → Nat} (hn : n < 128) (ha : a ≤ 1) (hac : ac n ≤ 1) (hch : ∀ d, d < 4 → ch (n * 4 + d) < 128) (hc : ∀ d, d < 4 → c d < 128) (hdr : ∀ d, d < 4 → a_draft d = nI (c d)) (K1 : xe_m ac ch a c n → post 1) (K0 : ¬ xe_m ac ch a c n → post 0) : wpX_equalsDraft post (f_letters, f_maxLength, f_maxWords, f_freeHead, f_used, f_root, nI a, f_imageSize, f_formLength, f_planned, nN ac, nN ch, a_refs, a_words, a_slot, a_next, a_bucket, a_draft, a_symbol, a_path, a_stack, a_number, a_order, a_image, a_form, a_headOf, a_edge, a_level, a_imageWords, a_entered, a_plan, a_built) (nI n) := by
  refine And.intro (vp_in_nI hn (by omega)) ?_
  refine pk_eq (ac n) a (fun h => ⟨5, ?_⟩) (fun h => ⟨5, ?_⟩) (by rw [nI_clamp (by omega)]; rfl) rfl (by omega) (by omega)
  · exact xe_1 hn hch hc hdr 4 0 rfl (fun z => K1 ⟨h, fun d hd => z d (Nat.zero_le _) hd⟩) (fun e _ h2 h3 => K0 (fun z => h3 (z.2 e h2)))
  · exact xe_0 (K0 (fun z => h z.1)) 4 0 rfl
theorem xi_70 {post : Int32 → SX → Prop} {x2 : Int32} {a : Nat} {c : Nat → Nat} (ha : a ≤ 1) (hc : ∀ d, d < 4 → c d < 128) (hdr : ∀ d, d < 4 → a_draft d = nI (c d)) : ∀ (l : List Nat) (b s : Nat), po_ch nx b l → (∀ m, m ∈ l → m < 128 ∧ ac m ≤ 1 ∧ nx m < 2 ^ 31 ∧ ∀ d, d < 4 → ch (m * 4 + d) < 128) → s + l.length ≤ 128 → (∀ m, m ∈ l → xe_m ac ch a c m → post (nI m) (f_letters, f_maxLength, f_maxWords, f_freeHead, f_used, f_root, nI a, f_imageSize, f_formLength, f_planned, nN ac, nN ch, a_refs, a_words, a_slot, nN nx, a_bucket, a_draft, a_symbol, a_path, a_stack, a_number, a_order, a_image, a_form, a_headOf, a_edge, a_level, a_imageWords, a_entered, a_plan, a_built)) → ((∀ m, m ∈ l → ¬ xe_m ac ch a c m) → wX_intern_105 post x2 f_letters f_maxLength f_maxWords f_freeHead f_used f_root (nI a) f_imageSize f_formLength f_planned (nN ac) (nN ch) a_refs a_words a_slot (nN nx) a_bucket a_draft a_symbol a_path a_stack a_number a_order a_image a_form a_headOf a_edge a_level a_imageWords a_entered a_plan a_built) → wX_intern_70 post x2 f_letters f_maxLength f_maxWords f_freeHead f_used f_root (nI a) f_imageSize f_formLength f_planned (nN ac) (nN ch) a_refs a_words a_slot (nN nx) a_bucket a_draft a_symbol a_path a_stack a_number a_order a_image a_form a_headOf a_edge a_level a_imageWords a_entered a_plan a_built (l.length + 1) (nI b) (nI s) := by
  intro l
  induction l with
  | nil =>
    intro b s hb _ _ _ K0
    have : b = 0 := hb
    subst this
    exact br_t rfl (K0 (fun m hm => absurd hm List.not_mem_nil))
  | cons b l ih =>
    intro b' s hb hl hs K1 K0
    have e : b' = b := hb.1
    subst e
    obtain ⟨h1, h2, h3, h4⟩ := hl b' List.mem_cons_self
    have hs2 : s + (l.length + 1) ≤ 128 := hs
    refine pk_eq b' 0 (fun z => absurd z hb.2.1) (fun _ => pk_le 128 s (fun z => absurd z (by omega)) (fun _ => ?_))
    refine xe_eq h1 ha h2 h4 hc hdr (fun z => ?_) (fun z => ?_)
    · exact br_f (by decide) (K1 b' List.mem_cons_self z)
    · refine br_t rfl (And.intro (vp_in_nI h1 (by omega)) (nm_r (e' := nI (nx b')) (by rw [nI_clamp (by omega)]; rfl) (nm_r (nI_1 s) ?_)))
      refine ih (nx b') (s + 1) hb.2.2 (fun m hm => hl m (List.mem_cons_of_mem _ hm)) (by omega) (fun m hm => K1 m (List.mem_cons_of_mem _ hm)) (fun w => K0 ?_)
      intro m hm
      rcases List.mem_cons.mp hm with rfl | hm
      · exact z
      · exact w m hm
end XC
end
section
/-! X: intern, unregister, dropChildren, release -/
def po_T (ac ch rf : Nat → Nat) (al : List Nat) (ac' ch' rf' : Nat → Nat) (al' : List Nat) (r a : Nat) (c : Nat → Nat) : Prop :=
  (∀ m, (m = 0 ∨ m ∈ al) → ac' m = ac m ∧ ∀ d, d < 4 → ch' (m * 4 + d) = ch (m * 4 + d)) ∧ (r = 0 ∨ r ∈ al') ∧ ac' r = a ∧ (∀ d, d < 4 → ch' (r * 4 + d) = c d) ∧
  (∀ m, m ∈ al → m ∈ al') ∧ (∀ m, m ∈ al' → m ∈ al ∨ m = r) ∧ al'.length ≤ al.length + 1 ∧
  (∀ m, m ∈ al' → rf' m = 0 → (m = r ∨ (m ∈ al ∧ rf m = 0)) ∧ ∀ d, d < 4 → c d ≠ m)
def xs_h (a : Nat → Int32) (l : List Nat) : Prop := ∀ i, i < l.length → a i = nI (l.getD i 0)
theorem xs_push {a : Nat → Int32} {l : List Nat} (h : xs_h a l) (x : Nat) : xs_h (upd a l.length (nI x)) (l ++ [x]) := by
  intro i hi
  rw [List.length_append, List.length_singleton] at hi
  by_cases e : i = l.length
  · rw [e, pk_us, List.getD_eq_getElem?_getD, List.getElem?_append_right (Nat.le_refl _)]; simp
  · rw [pk_un e, h i (by omega), List.getD_eq_getElem?_getD, List.getD_eq_getElem?_getD, List.getElem?_append_left (by omega)]
theorem xs_pop {a : Nat → Int32} {l : List Nat} {x : Nat} (h : xs_h a (l ++ [x])) : xs_h a l ∧ a l.length = nI x := by
  constructor
  · intro i hi
    rw [h i (by rw [List.length_append]; omega), List.getD_eq_getElem?_getD, List.getD_eq_getElem?_getD, List.getElem?_append_left hi]
  · rw [h l.length (by simp), List.getD_eq_getElem?_getD, List.getElem?_append_right (Nat.le_refl _)]; simp
theorem po_unlink {nx : Nat → Nat} {x n : Nat} {l2 : List Nat} : ∀ (l1 : List Nat) (a : Nat), (l1 ++ x :: n :: l2).Nodup → po_ch nx a (l1 ++ x :: n :: l2) → po_ch (po_up nx x (nx n)) a (l1 ++ x :: l2) := by
  intro l1
  induction l1 with
  | nil =>
    intro a hd h
    have h2 : (x :: n :: l2).Nodup := hd
    have hx := (List.nodup_cons.mp h2).1
    refine ⟨h.1, h.2.1, ?_⟩
    rw [po_us]
    exact po_ch_frame l2 _ (fun m hm => po_un (fun e => hx (e ▸ List.mem_cons_of_mem _ hm))) h.2.2.2.2
  | cons y l1 ih =>
    intro a hd h
    rw [List.cons_append, List.nodup_cons] at hd
    refine ⟨h.1, h.2.1, ?_⟩
    rw [po_un (fun e => hd.1 (by rw [e]; simp))]
    exact ih _ hd.2 h.2.2
theorem po_ex {fh us : Nat} {ac ch rf wd sl nx bk : Nat → Nat} {al fl : List Nat} {ex ex' : Nat → Nat} (I : po_I fh us ac ch rf wd sl nx bk al fl ex) (h1 : ∀ m, m ∈ al → ex' m = ex m) (h2 : ∀ m, ex' m ≠ 0 → m = 0 ∨ m ∈ al) : po_I fh us ac ch rf wd sl nx bk al fl ex' := by
  obtain ⟨i1, i2, i3, i4, i5, i6, i7, i8, i9, i10, i11⟩ := I
  exact ⟨i1, i2, i3, i4, i5, i6, i7, i8, i9, fun m hm => by rw [h1 m hm]; exact i10 m hm, h2⟩
theorem po_lt {fh us : Nat} {ac ch rf wd sl nx bk : Nat → Nat} {al fl : List Nat} {ex : Nat → Nat} (I : po_I fh us ac ch rf wd sl nx bk al fl ex) {m : Nat} (hm : m = 0 ∨ m ∈ al) : m < 128 ∧ ac m ≤ 1 ∧ ∀ d, d < 4 → ch (m * 4 + d) < 128 := by
  obtain ⟨i1, i2, i3, i4, i5, i6, i7, i8, i9, i10, i11⟩ := I
  rcases hm with rfl | hm
  · refine ⟨by omega, by rw [i8.1.1]; omega, fun d hd => ?_⟩
    rw [Nat.zero_mul, Nat.zero_add, i8.1.2.2 d hd]; omega
  · refine ⟨(i2 m (List.mem_append_left _ hm)).2, (i8.2 m hm).2.1, fun d hd => ?_⟩
    rcases (i8.2 m hm).2.2.1 d hd with h | h
    · rw [h]; omega
    · exact (i2 _ (List.mem_append_left _ h)).2
section XR
variable {f_letters f_maxLength f_maxWords f_freeHead f_used f_root f_draftAccept f_imageSize f_formLength f_planned : Int32} {a_accept a_child a_refs a_words a_slot a_next a_bucket a_draft a_symbol a_path a_stack a_number a_order a_image a_form a_headOf a_edge a_level a_imageWords a_entered a_plan a_built : Nat → Int32}
variable {fh us : Nat} {ac ch rf wd sl nx bk : Nat → Nat} {al fl : List Nat} {ex : Nat → Nat}
theorem xi_12s {post : Int32 → SX → Prop} {k d c : Nat} {x1 x2 : Int32} (hd : d < 4) (hdr : a_draft d = nI c) (K : wX_intern_12 post f_letters f_maxLength f_maxWords f_freeHead f_used f_root f_draftAccept f_imageSize f_formLength f_planned a_accept a_child a_refs a_words a_slot a_next a_bucket a_draft a_symbol a_path a_stack a_number a_order a_image a_form a_headOf a_edge a_level a_imageWords a_entered a_plan a_built k (x1 ||| nI c) (x2 * 31 + nI c) (nI (d + 1))) : wX_intern_12 post f_letters f_maxLength f_maxWords f_freeHead f_used f_root f_draftAccept f_imageSize f_formLength f_planned a_accept a_child a_refs a_words a_slot a_next a_bucket a_draft a_symbol a_path a_stack a_number a_order a_image a_form a_headOf a_edge a_level a_imageWords a_entered a_plan a_built (k + 1) x1 x2 (nI d) := by
  have e1 : a_draft (nI d).toNatClampNeg = nI c := by rw [nI_clamp (by omega), hdr]
  refine pk_le 4 d (fun z => absurd z (by omega)) (fun _ => ?_)
  exact And.intro (vp_in_nI hd (by omega)) (nm_r (by rw [e1]) (And.intro (vp_in_nI hd (by omega)) (nm_r (by rw [e1]) (nm_r (nI_1 d) K))))
theorem po_chl {l : List Nat} : ∀ (a : Nat), po_ch nx a l → (∀ m, m ∈ l → m < 128) → a < 128 := by
  intro a h h2
  cases l with
  | nil => have : a = 0 := h; omega
  | cons b l => rw [h.1]; exact h2 b List.mem_cons_self
theorem po_chn {l : List Nat} : ∀ (a : Nat), po_ch nx a l → (∀ m, m ∈ l → m < 128) → ∀ m, m ∈ l → nx m < 128 := by
  induction l with
  | nil => intro _ _ _ m hm; exact absurd hm List.not_mem_nil
  | cons b l ih =>
    intro a h h2 m hm
    rcases List.mem_cons.mp hm with rfl | hm
    · exact po_chl _ h.2.2 (fun x hx => h2 x (List.mem_cons_of_mem _ hx))
    · exact ih _ h.2.2 (fun x hx => h2 x (List.mem_cons_of_mem _ hx)) m hm
theorem xi_intern {post : Int32 → SX → Prop} {a : Nat} {c : Nat → Nat} (I : po_I fh us ac ch rf wd sl nx bk al fl ex) (ha : a ≤ 1) (hc : ∀ d, d < 4 → c d = 0 ∨ c d ∈ al) (hfl : al.length < 127) (hdr : ∀ d, d < 4 → a_draft d = nI (c d))
    (K : ∀ r fh' us' ac' ch' rf' wd' sl' nx' bk' al' fl', po_I fh' us' ac' ch' rf' wd' sl' nx' bk' al' fl' ex → po_T ac ch rf al ac' ch' rf' al' r a c → post (nI r) (f_letters, f_maxLength, f_maxWords, (nI fh'), (nI us'), f_root, nI a, f_imageSize, f_formLength, f_planned, (nN ac'), (nN ch'), (nN rf'), (nN wd'), (nN sl'), (nN nx'), (nN bk'), a_draft, a_symbol, a_path, a_stack, a_number, a_order, a_image, a_form, a_headOf, a_edge, a_level, a_imageWords, a_entered, a_plan, a_built)) :
    wpX_intern post (f_letters, f_maxLength, f_maxWords, (nI fh), (nI us), f_root, nI a, f_imageSize, f_formLength, f_planned, (nN ac), (nN ch), (nN rf), (nN wd), (nN sl), (nN nx), (nN bk), a_draft, a_symbol, a_path, a_stack, a_number, a_order, a_image, a_form, a_headOf, a_edge, a_level, a_imageWords, a_entered, a_plan, a_built) := by
  obtain ⟨i1, i2, i3, i4, i5, i6, i7, i8, i9, i10, i11⟩ := id I
  have hcl : ∀ d, d < 4 → c d < 128 := fun d hd => (po_lt I (hc d hd)).1
  refine ⟨5, ?_⟩
  refine xi_12s (d := 0) (by omega) (hdr 0 (by omega)) ?_
  refine xi_12s (d := 1) (by omega) (hdr 1 (by omega)) ?_
  refine xi_12s (d := 2) (by omega) (hdr 2 (by omega)) ?_
  refine xi_12s (d := 3) (by omega) (hdr 3 (by omega)) ?_
  refine pk_le 4 4 (fun _ => ?_) (fun z => absurd z (by omega))
  have nz : ∀ x : Nat, x < 128 → (nI x = 0 ↔ x = 0) := fun x hx => nI_eq (b := 0) (by omega) (by omega)
  refine br_c (fun h => ?_) (fun h => ?_)
  · rw [Int32.or_eq_zero_iff, Int32.or_eq_zero_iff, Int32.or_eq_zero_iff, Int32.or_eq_zero_iff, nz _ (by omega), nz _ (hcl 0 (by omega)), nz _ (hcl 1 (by omega)), nz _ (hcl 2 (by omega)), nz _ (hcl 3 (by omega))] at h
    have hall : ∀ d, d < 4 → c d = 0 := by
      intro d hd
      have : d = 0 ∨ d = 1 ∨ d = 2 ∨ d = 3 := by omega
      rcases this with rfl | rfl | rfl | rfl
      · exact h.1.1.1.2
      · exact h.1.1.2
      · exact h.1.2
      · exact h.2
    refine K 0 _ _ _ _ _ _ _ _ _ al fl I ⟨fun m _ => ⟨rfl, fun _ _ => rfl⟩, Or.inl rfl, ?_, ?_, fun m hm => hm, fun m hm => Or.inl hm, Nat.le_succ _, ?_⟩
    · rw [i8.1.1, h.1.1.1.1]
    · intro d hd; rw [Nat.zero_mul, Nat.zero_add, i8.1.2.2 d hd, hall d hd]
    · intro m hm h0
      exact ⟨Or.inr ⟨hm, h0⟩, fun d hd e => (i8.2 m hm).1 (by rw [← e, hall d hd])⟩
  · have hz : a = 1 ∨ ∃ d, d < 4 ∧ c d ≠ 0 := by
      by_cases z : a = 1
      · exact Or.inl z
      · right
        by_cases z0 : c 0 = 0
        · by_cases z1 : c 1 = 0
          · by_cases z2 : c 2 = 0
            · by_cases z3 : c 3 = 0
              · refine absurd ?_ h
                have : a = 0 := by omega
                rw [this, z0, z1, z2, z3]; decide
              · exact ⟨3, by omega, z3⟩
            · exact ⟨2, by omega, z2⟩
          · exact ⟨1, by omega, z1⟩
        · exact ⟨0, by omega, z0⟩
    have hx : (((nI a * 31 + nI (c 0)) * 31 + nI (c 1)) * 31 + nI (c 2)) * 31 + nI (c 3) = nI ((((a * 31 + c 0) * 31 + c 1) * 31 + c 2) * 31 + c 3) := by
      rw [show (31 : Int32) = nI 31 from rfl, pk_mul, nI_add, pk_mul, nI_add, pk_mul, nI_add, pk_mul, nI_add]
    have hh := po_h_lt a c
    refine nm_r (e' := nI (po_h a c)) ?_ (And.intro (vp_in_nI hh (by omega)) (nm_r (e' := nI (bk (po_h a c))) (by rw [nI_clamp (by omega)]; rfl) ⟨(al.filter (fun m => decide (sl m = po_h a c))).length + 1, ?_⟩))
    · rw [hx]; exact (po_hN_lt _).2
    · have hlt : ∀ m, m ∈ al.filter (fun m => decide (sl m = po_h a c)) → m < 128 := fun m hm => (po_lt I (Or.inr (List.mem_filter.mp hm).1)).1
      refine xi_70 ha hcl hdr _ _ 0 (i6 _ hh) (fun m hm => ?_) ?_ (fun m hm e => ?_) (fun hno => ?_)
      · have := po_lt I (Or.inr (List.mem_filter.mp hm).1)
        have h2 := po_chn _ (i6 _ hh) hlt m hm
        exact ⟨this.1, this.2.1, by omega, this.2.2⟩
      · have := List.length_filter_le (fun m => decide (sl m = po_h a c)) al
        omega
      · have hm2 := (List.mem_filter.mp hm).1
        refine K m _ _ _ _ _ _ _ _ _ al fl I ⟨fun m _ => ⟨rfl, fun _ _ => rfl⟩, Or.inr hm2, e.1, e.2, fun m hm => hm, fun m hm => Or.inl hm, Nat.le_succ _, ?_⟩
        intro x hx h0
        refine ⟨Or.inr ⟨hx, h0⟩, fun d hd z => ?_⟩
        have := i10 x hx
        exact po_rc_0.mp (show po_rc ch al x = 0 by omega) m hm2 d hd (by rw [e.2 d hd, z])
      · cases fl with
        | nil => simp at i3; omega
        | cons n fl =>
          refine xc_create I ha hc hz (fun m hm e1 e2 => ?_) rfl hdr (fun fh' us' ac' ch' rf' wd' sl' nx' bk' I' f1 f2 f3 f4 f5 f6 => ?_)
          · refine hno m (List.mem_filter.mpr ⟨hm, decide_eq_true ?_⟩) ⟨e1, e2⟩
            rw [i7 m hm, e1]; exact po_h_congr e2
          · have nal : n ∉ al := fun z => (List.nodup_append.mp i1).2.2 n z n List.mem_cons_self rfl
            have n0 : n ≠ 0 := (i2 n (by simp)).1
            have mne : ∀ m, (m = 0 ∨ m ∈ al) → m ≠ n := by
              rintro m (rfl | hm) e
              · exact n0 e.symm
              · exact nal (e ▸ hm)
            refine K n _ _ _ _ _ _ _ _ _ (n :: al) fl I' ⟨fun m hm => ⟨f2 m (mne m hm), f4 m (mne m hm)⟩, Or.inr List.mem_cons_self, f1, f3, fun m hm => List.mem_cons_of_mem _ hm, fun m hm => ?_, Nat.le_refl _, ?_⟩
            · rcases List.mem_cons.mp hm with h | h
              · exact Or.inr h
              · exact Or.inl h
            · intro m hm h0
              rcases List.mem_cons.mp hm with h | h
              · exact ⟨Or.inl h, fun d hd e => mne (c d) (hc d hd) (by rw [e, h])⟩
              · have := f6 m (mne m (Or.inr h)) (i8.2 m h).1
                exact ⟨Or.inr ⟨h, by omega⟩, po_c4_0.mp (by omega)⟩
theorem xu_35 {post : SX → Prop} {n : Nat} (hn : n < 128) : ∀ (l : List Nat) (b s : Nat), b ≠ 0 → b < 128 → po_ch nx (nx b) l → n ∈ l → (∀ m, m ∈ l → m < 128) → s + l.length ≤ 128 → (∀ l1 x l2, b :: l = l1 ++ x :: n :: l2 → post (f_letters, f_maxLength, f_maxWords, f_freeHead, f_used, f_root, f_draftAccept, f_imageSize, f_formLength, f_planned, a_accept, a_child, a_refs, a_words, a_slot, nN (po_up nx x (nx n)), a_bucket, a_draft, a_symbol, a_path, a_stack, a_number, a_order, a_image, a_form, a_headOf, a_edge, a_level, a_imageWords, a_entered, a_plan, a_built)) → wX_unregister_35 post (nI n) f_letters f_maxLength f_maxWords f_freeHead f_used f_root f_draftAccept f_imageSize f_formLength f_planned a_accept a_child a_refs a_words a_slot (nN nx) a_bucket a_draft a_symbol a_path a_stack a_number a_order a_image a_form a_headOf a_edge a_level a_imageWords a_entered a_plan a_built (l.length + 1) (nI b) (nI s) := by
  intro l
  induction l with
  | nil => intro b s _ _ _ h; exact absurd h List.not_mem_nil
  | cons y l ih =>
    intro b s b0 hb hc hm hl hs K
    have hs2 : s + (l.length + 1) ≤ 128 := hs
    have hy := hl y List.mem_cons_self
    have ey : nx b = y := hc.1
    have e1 : (nI b).toNatClampNeg = b := nI_clamp (by omega)
    refine pk_eq b 0 (fun z => absurd z b0) (fun _ => And.intro (vp_in_nI hb (by omega)) ?_)
    refine pk_eq y n (fun z => ?_) (fun z => ?_) (by rw [e1, ← ey]; rfl)
    · refine pk_eq b 0 (fun z => absurd z b0) (fun _ => And.intro (vp_in_nI hn (by omega)) (And.intro (vp_in_nI hb (by omega)) (nm_r (e' := nN (po_up nx b (nx n))) ?_ (K [] b l (by rw [z]; rfl)))))
      rw [e1, nI_clamp (by omega)]; exact po_upd
    · refine pk_le 128 s (fun z => absurd z (by omega)) (fun _ => And.intro (vp_in_nI hb (by omega)) (nm_r (e' := nI y) (by rw [e1, ← ey]; rfl) (nm_r (nI_1 s) ?_)))
      refine ih y (s + 1) hc.2.1 hy hc.2.2 ((List.mem_cons.mp hm).resolve_left (fun e => z e.symm)) (fun m h => hl m (List.mem_cons_of_mem _ h)) (by omega) (fun l1 x l2 e => K (b :: l1) x l2 (by rw [e]; rfl))
theorem xu_unreg {post : SX → Prop} {n : Nat} {l : List Nat} (hn : n < 128) (hs : sl n < 64) (hc : po_ch nx (bk (sl n)) l) (hm : n ∈ l) (hd : l.Nodup) (hl : ∀ m, m ∈ l → m < 128) (hlen : l.length ≤ 127)
    (K : ∀ nx1 bk1, po_ch nx1 (bk1 (sl n)) (l.filter (fun m => decide (m ≠ n))) → (∀ m, m ∉ l → nx1 m = nx m) → (∀ h, h ≠ sl n → bk1 h = bk h) → post (f_letters, f_maxLength, f_maxWords, f_freeHead, f_used, f_root, f_draftAccept, f_imageSize, f_formLength, f_planned, a_accept, a_child, a_refs, a_words, nN sl, nN nx1, nN bk1, a_draft, a_symbol, a_path, a_stack, a_number, a_order, a_image, a_form, a_headOf, a_edge, a_level, a_imageWords, a_entered, a_plan, a_built)) : wpX_unregister post (f_letters, f_maxLength, f_maxWords, f_freeHead, f_used, f_root, f_draftAccept, f_imageSize, f_formLength, f_planned, a_accept, a_child, a_refs, a_words, nN sl, nN nx, nN bk, a_draft, a_symbol, a_path, a_stack, a_number, a_order, a_image, a_form, a_headOf, a_edge, a_level, a_imageWords, a_entered, a_plan, a_built) (nI n) := by
  have e1 : (nI n).toNatClampNeg = n := nI_clamp (by omega)
  have e2 : (nI (sl n)).toNatClampNeg = sl n := nI_clamp (by omega)
  cases l with
  | nil => exact absurd hm List.not_mem_nil
  | cons y l =>
    have hb : bk (sl n) = y := hc.1
    have hy := hl y List.mem_cons_self
    refine And.intro (vp_in_nI hn (by omega)) (nm_r (e' := nI (sl n)) (by rw [e1]; rfl) (And.intro (vp_in_nI hs (by omega)) (nm_r (e' := nI y) (by rw [e2, ← hb]; rfl) ?_)))
    refine pk_eq y n (fun z => ?_) (fun z => ⟨l.length + 1, ?_⟩)
    · refine And.intro (vp_in_nI hn (by omega)) (And.intro (vp_in_nI hs (by omega)) (nm_r (e' := nN (po_up bk (sl n) (nx n))) (by rw [e1, e2]; exact po_upd) ?_))
      subst z
      have hy2 := (List.nodup_cons.mp hd).1
      refine K nx _ ?_ (fun m _ => rfl) (fun h hh => po_un hh)
      have fs : l.filter (fun m => decide (m ≠ y)) = l := List.filter_eq_self.mpr (fun x hx => decide_eq_true (fun e : x = y => hy2 (by rw [← e]; exact hx)))
      rw [po_us, List.filter_cons_of_neg (by simp), fs]
      exact hc.2.2
    · refine xu_35 hn l y 0 hc.2.1 hy hc.2.2 ((List.mem_cons.mp hm).resolve_left (fun e => z e.symm)) (fun m h => hl m (List.mem_cons_of_mem _ h)) (by simp at hlen; omega) (fun l1 x l2 e => ?_)
      have hd2 := hd
      rw [e] at hd2
      have hc2 := hc
      rw [e] at hc2
      refine K _ bk ?_ (fun m hm => po_un (fun h => hm (by rw [e, h]; simp))) (fun h hh => rfl)
      have f := (po_fil (n := n) (a := l1 ++ [x]) (b := l2) (by simpa using hd2)).1
      rw [e, show l1 ++ x :: n :: l2 = l1 ++ [x] ++ n :: l2 by simp, f, show l1 ++ [x] ++ l2 = l1 ++ x :: l2 by simp]
      exact po_unlink l1 _ hd2 hc2
def po_cd (c : Nat → Nat) : Nat → Nat → Nat
  | 0, _ => 0
  | d + 1, m => po_cd c d m + if c d = m then 1 else 0
theorem po_cd_4 (c : Nat → Nat) (m : Nat) : po_cd c 4 m = po_c4 c m := by
  simp [po_cd, po_c4]
theorem po_cd_le (c : Nat → Nat) (m : Nat) : ∀ (d e : Nat), d ≤ e → po_cd c d m ≤ po_cd c e m := by
  intro d e h
  induction h with
  | refl => exact Nat.le_refl _
  | step _ ih => rw [po_cd]; omega
def xd_Q (rf : Nat → Nat) (A : List Nat) (c : Nat → Nat) (d : Nat) (rfd : Nat → Nat) (sb : List Nat) : Prop := (∀ m, m ≠ 0 → rfd m + po_cd c d m = rf m) ∧ sb.Nodup ∧ ∀ m, m ∈ sb ↔ m ∈ A ∧ rfd m = 0
theorem xd_5 {post : Int32 → SX → Prop} {n : Nat} {A : List Nat} {c : Nat → Nat} (hn : n < 128) (hA : A.length ≤ 127) (hA2 : ∀ m, m ∈ A → m ≠ 0 ∧ m < 128) (hcc : ∀ d, d < 4 → ch (n * 4 + d) = c d) (hc : ∀ d, d < 4 → c d = 0 ∨ c d ∈ A) (hge : ∀ m, m ∈ A → po_c4 c m ≤ rf m) (hrf : ∀ m, m ∈ A → rf m < 2 ^ 30)
    (K : ∀ rf' sb' st', xs_h st' sb' → xd_Q rf A c 4 rf' sb' → post (nI sb'.length) (f_letters, f_maxLength, f_maxWords, f_freeHead, f_used, f_root, f_draftAccept, f_imageSize, f_formLength, f_planned, a_accept, nN ch, nN rf', a_words, a_slot, a_next, a_bucket, a_draft, a_symbol, a_path, st', a_number, a_order, a_image, a_form, a_headOf, a_edge, a_level, a_imageWords, a_entered, a_plan, a_built)) : ∀ (j d : Nat), d + j = 4 → ∀ (rfd : Nat → Nat) (sb : List Nat) (st : Nat → Int32), xs_h st sb → xd_Q rf A c d rfd sb → wX_dropChildren_5 post (nI n) f_letters f_maxLength f_maxWords f_freeHead f_used f_root f_draftAccept f_imageSize f_formLength f_planned (j + 1) (nI sb.length) (nI d) a_accept (nN ch) (nN rfd) a_words a_slot a_next a_bucket a_draft a_symbol a_path st a_number a_order a_image a_form a_headOf a_edge a_level a_imageWords a_entered a_plan a_built := by
  intro j
  induction j with
  | zero =>
    intro d hd rfd sb st hs Q
    have : d = 4 := by omega
    subst this
    exact pk_le 4 4 (fun _ => K rfd sb st hs Q) (fun z => absurd z (by omega))
  | succ j ih =>
    intro d hd rfd sb st hs Q
    have hd4 : d < 4 := by omega
    have hsl : sb.length ≤ 127 := Nat.le_trans (Q.2.1.length_le_of_subset (fun m hm => ((Q.2.2 m).mp hm).1)) hA
    refine pk_le 4 d (fun z => absurd z (by omega)) (fun _ => And.intro (xw_in4 hn hd4) (nm_r (e' := nI (c d)) (by rw [xw_c4 hn hd4, ← hcc d hd4]; rfl) ?_))
    have hcl : c d < 128 := by
      rcases hc d hd4 with h | h
      · omega
      · exact (hA2 _ h).2
    have e1 : (nI (c d)).toNatClampNeg = c d := nI_clamp (by omega)
    refine pk_eq (c d) 0 (fun z => nm_r (nI_1 d) ?_) (fun z => ?_)
    · refine ih (d + 1) (by omega) rfd sb st hs ⟨fun m hm => ?_, Q.2⟩
      rw [po_cd, if_neg (by omega)]; exact Q.1 m hm
    · have hm := (hc d hd4).resolve_left z
      have q := Q.1 (c d) z
      have g1 := hge _ hm
      rw [← po_cd_4] at g1
      have g2 := po_cd_le c (c d) (d + 1) 4 (by omega)
      rw [po_cd, if_pos rfl] at g2
      have g3 : 1 ≤ rfd (c d) := by omega
      have g4 := hrf _ hm
      have inc : vp_in (nI (c d)) 128 := vp_in_nI hcl (by omega)
      refine And.intro inc (And.intro inc (nm_r (e' := nN (po_up rfd (c d) (rfd (c d) - 1))) ?_ (And.intro inc ?_)))
      · rw [e1, ← po_upd, ← pk_sub g3]; rfl
      have q1 : ∀ m, m ≠ 0 → po_up rfd (c d) (rfd (c d) - 1) m + po_cd c (d + 1) m = rf m := by
        intro m hm0
        have := Q.1 m hm0
        rw [po_cd]
        by_cases e : m = c d
        · rw [e, po_us, if_pos rfl]; omega
        · rw [po_un e, if_neg (fun y => e y.symm)]; exact this
      refine pk_eq (rfd (c d) - 1) 0 (fun y => ?_) (fun y => nm_r (nI_1 d) ?_) (by rw [e1]; show nI (po_up rfd (c d) (rfd (c d) - 1) (c d)) = _; rw [po_us])
      · refine pk_le 512 sb.length (fun y => absurd y (by omega)) (fun _ => And.intro (vp_in_nI (by omega) (by omega)) (nm_r (e' := upd st sb.length (nI (c d))) (by rw [nI_clamp (by omega)]) (nm_r (nI_1 sb.length) (nm_r (nI_1 d) ?_))))
        have := ih (d + 1) (by omega) (po_up rfd (c d) (rfd (c d) - 1)) (sb ++ [c d]) _ (xs_push hs (c d)) ⟨q1, ?_, ?_⟩
        · rw [List.length_append, List.length_singleton] at this; exact this
        · rw [List.nodup_append]
          refine ⟨Q.2.1, by simp, ?_⟩
          intro x hx w hw e
          have h1 : w = c d := by simpa using hw
          have := ((Q.2.2 x).mp hx).2
          rw [e, h1] at this; omega
        · intro m
          rw [List.mem_append, List.mem_singleton, Q.2.2 m]
          by_cases e : m = c d
          · rw [e, po_us]; exact ⟨fun _ => ⟨hm, y⟩, fun _ => Or.inr rfl⟩
          · rw [po_un e]; exact ⟨fun h => h.resolve_right e, fun h => Or.inl h⟩
      · refine ih (d + 1) (by omega) (po_up rfd (c d) (rfd (c d) - 1)) sb st hs ⟨q1, Q.2.1, ?_⟩
        intro m
        rw [Q.2.2 m]
        by_cases e : m = c d
        · rw [e, po_us]; exact ⟨fun h => by omega, fun h => by omega⟩
        · rw [po_un e]
theorem xr_36 {post : SX → Prop} {al0 : List Nat} (hex : ∀ m, ex m ≤ 4)
    (K : ∀ fh' us' rf' nx' bk' al' fl' st', po_I fh' us' ac ch rf' wd sl nx' bk' al' fl' ex → (∀ m, m ∈ al' → rf' m ≠ 0) → (∀ m, m ∈ al' → m ∈ al0) → post (f_letters, f_maxLength, f_maxWords, nI fh', nI us', f_root, f_draftAccept, f_imageSize, f_formLength, f_planned, nN ac, nN ch, nN rf', nN wd, nN sl, nN nx', nN bk', a_draft, a_symbol, a_path, st', a_number, a_order, a_image, a_form, a_headOf, a_edge, a_level, a_imageWords, a_entered, a_plan, a_built)) :
    ∀ (N : Nat) (al fl : List Nat) (fh us : Nat) (rf nx bk : Nat → Nat) (sb : List Nat) (st : Nat → Int32) (s : Nat), al.length = N → po_I fh us ac ch rf wd sl nx bk al fl ex → (∀ m, m ∈ al → m ∈ al0) → sb.Nodup → (∀ m, m ∈ sb ↔ m ∈ al ∧ rf m = 0) → xs_h st sb → s + N ≤ 127 → wX_release_36 post (N + 1) (nI sb.length) (nI s) f_letters f_maxLength f_maxWords (nI fh) (nI us) f_root f_draftAccept f_imageSize f_formLength f_planned (nN ac) (nN ch) (nN rf) (nN wd) (nN sl) (nN nx) (nN bk) a_draft a_symbol a_path st a_number a_order a_image a_form a_headOf a_edge a_level a_imageWords a_entered a_plan a_built := by
  intro N
  induction N with
  | zero =>
    intro al fl fh us rf nx bk sb st s hN I hal hnd hsb hst hs
    have ea : al = [] := List.eq_nil_of_length_eq_zero hN
    have : sb = [] := by
      cases sb with
      | nil => rfl
      | cons x sb => have := ((hsb x).mp List.mem_cons_self).1; rw [ea] at this; exact absurd this List.not_mem_nil
    subst this
    refine br_t (by decide) (K _ _ _ _ _ al fl st I (fun m hm => ?_) hal)
    rw [ea] at hm; exact absurd hm List.not_mem_nil
  | succ N ih =>
    intro al fl fh us rf nx bk sb st s hN I hal hnd hsb hst hs
    rcases wd_rc sb with e | ⟨sb', x, e⟩
    · subst e
      refine br_t (by decide) (K _ _ _ _ _ al fl st I (fun m hm h0 => ?_) hal)
      exact absurd ((hsb m).mpr ⟨hm, h0⟩) List.not_mem_nil
    · subst e
      obtain ⟨i1, i2, i3, i4, i5, i6, i7, i8, i9, i10, i11⟩ := id I
      have hx := (hsb x).mp (by simp)
      have hxl := (po_lt I (Or.inr hx.1)).1
      have hle : (sb' ++ [x]).length ≤ al.length := hnd.length_le_of_subset (fun m hm => ((hsb m).mp hm).1)
      rw [List.length_append, List.length_singleton] at hle ⊢
      have hp := xs_pop hst
      have e1 : (nI sb'.length).toNatClampNeg = sb'.length := nI_clamp (by omega)
      have e2 : (nI x).toNatClampNeg = x := nI_clamp (by omega)
      have nds := List.nodup_append.mp hnd
      have hxn : x ∉ sb' := fun h => nds.2.2 x h x (by simp) rfl
      refine pk_le (sb'.length + 1) 0 (fun z => absurd z (by omega)) (fun _ => pk_le 128 s (fun z => absurd z (by omega)) (fun _ => ?_))
      refine nm_r (pk_m1 sb'.length) (And.intro (vp_in_nI (by omega) (by omega)) (nm_r (e' := nI x) (by rw [e1, hp.2]) ?_))
      have hsl : sl x < 64 := by rw [i7 x hx.1]; exact po_h_lt _ _
      have ndal := (List.nodup_append.mp i1).1
      refine xu_unreg (l := al.filter (fun m => decide (sl m = sl x))) hxl hsl (i6 _ hsl) (List.mem_filter.mpr ⟨hx.1, decide_eq_true rfl⟩) (ndal.filter _) (fun m hm => (po_lt I (Or.inr (List.mem_filter.mp hm).1)).1) (Nat.le_trans (List.length_filter_le _ _) (by omega)) (fun nx1 bk1 u1 u2 u3 => ?_)
      have mf : ∀ m, m ∈ al.filter (fun m => decide (m ≠ x)) ↔ m ∈ al ∧ m ≠ x := by
        intro m; rw [List.mem_filter, decide_eq_true_eq]
      have noc : ∀ m, m ∈ al → ∀ d, d < 4 → ch (m * 4 + d) ≠ x := po_rc_0.mp (by have := i10 x hx.1; omega)
      have hN2 : (al.filter (fun m => decide (m ≠ x))).length = N := by
        obtain ⟨a, b, e⟩ := List.append_of_mem hx.1
        rw [e] at ndal hN ⊢
        rw [(po_fil ndal).1]
        simp only [List.length_append, List.length_cons] at hN ⊢; omega
      refine ⟨5, ?_⟩
      refine xd_5 (rf := rf) (A := al.filter (fun m => decide (m ≠ x))) (c := fun d => ch (x * 4 + d)) hxl (by omega) (fun m hm => ⟨(i8.2 m ((mf m).mp hm).1).1, (po_lt I (Or.inr ((mf m).mp hm).1)).1⟩) (fun d hd => rfl) (fun d hd => ?_) (fun m hm => po_rfge I hx.1 ((mf m).mp hm).1) (fun m hm => ?_) (fun rf' sb2 st2 hs2 Q => ?_) 4 0 rfl rf sb' st hp.1 ⟨fun m _ => rfl, nds.1, fun m => ?_⟩
      · rcases (i8.2 x hx.1).2.2.1 d hd with h | h
        · exact Or.inl h
        · exact Or.inr ((mf _).mpr ⟨h, noc x hx.1 d hd⟩)
      · rw [i10 m ((mf m).mp hm).1]
        have := po_rc_le ch m al
        have := hex m
        omega
      · refine And.intro (vp_in_nI hxl (by omega)) (nm_r (e' := nN (po_up nx1 x fh)) (by rw [e2, po_upd]) (nm_r (e' := nI (us - 1)) (pk_sub (b := 1) (by omega)) (nm_r (nI_1 s) ?_)))
        refine ih _ (x :: fl) x (us - 1) rf' (po_up nx1 x fh) bk1 sb2 st2 (s + 1) hN2 ?_ (fun m hm => hal m ((mf m).mp hm).1) Q.2.1 Q.2.2 hs2 (by omega)
        refine po_drop I hx.1 hx.2 u1 u2 u3 (fun m hm => ?_) ⟨po_us, fun m hm => po_un hm⟩
        have := Q.1 m hm
        rw [po_cd_4] at this
        omega
      · rw [mf m]
        constructor
        · intro hm
          have := (hsb m).mp (List.mem_append_left _ hm)
          exact ⟨⟨this.1, fun e => hxn (e ▸ hm)⟩, this.2⟩
        · rintro ⟨⟨h1, h2⟩, h3⟩
          rcases List.mem_append.mp ((hsb m).mpr ⟨h1, h3⟩) with h | h
          · exact h
          · exact absurd (by simpa using h) h2
theorem xr_rel {post : SX → Prop} {y : Int32} {n : Nat} (hy : y = nI n) (I : po_I fh us ac ch rf wd sl nx bk al fl ex) (hall : ∀ m, m ∈ al → rf m ≠ 0) (hn : n = 0 ∨ (n ∈ al ∧ 1 ≤ ex n)) (hex : ∀ m, ex m ≤ 4)
    (K : ∀ fh' us' rf' nx' bk' al' fl' st', po_I fh' us' ac ch rf' wd sl nx' bk' al' fl' (fun m => ex m - if m = n then 1 else 0) → (∀ m, m ∈ al' → rf' m ≠ 0) → (∀ m, m ∈ al' → m ∈ al) → post (f_letters, f_maxLength, f_maxWords, nI fh', nI us', f_root, f_draftAccept, f_imageSize, f_formLength, f_planned, nN ac, nN ch, nN rf', nN wd, nN sl, nN nx', nN bk', a_draft, a_symbol, a_path, st', a_number, a_order, a_image, a_form, a_headOf, a_edge, a_level, a_imageWords, a_entered, a_plan, a_built)) :
    wpX_release post (f_letters, f_maxLength, f_maxWords, (nI fh), (nI us), f_root, f_draftAccept, f_imageSize, f_formLength, f_planned, (nN ac), (nN ch), (nN rf), (nN wd), (nN sl), (nN nx), (nN bk), a_draft, a_symbol, a_path, a_stack, a_number, a_order, a_image, a_form, a_headOf, a_edge, a_level, a_imageWords, a_entered, a_plan, a_built) y := by
  subst hy
  have hnl : n < 128 := (po_lt I (hn.imp id (fun h => h.1))).1
  refine pk_eq n 0 (fun z => ?_) (fun z => ?_)
  · refine K _ _ _ _ _ al fl a_stack (po_ex I (fun m hm => ?_) (fun m hm => ?_)) hall (fun m hm => hm)
    · rw [if_neg (fun e => (I.2.2.2.2.2.2.2.1.2 m hm).1 (e.trans z))]; rfl
    · exact I.2.2.2.2.2.2.2.2.2.2 m (fun e => hm (by rw [e]; simp))
  · obtain ⟨hm, h1⟩ := hn.resolve_left z
    have hr := hall n hm
    have hrl : rf n < 2 ^ 30 := by
      rw [I.2.2.2.2.2.2.2.2.2.1 n hm]
      have := po_rc_le ch n al
      have := hex n
      have := I.2.2.1
      omega
    have e1 : (nI n).toNatClampNeg = n := nI_clamp (by omega)
    have inn : vp_in (nI n) 128 := vp_in_nI hnl (by omega)
    have I2 := po_unret (rf' := po_up rf n (rf n - 1)) (ex' := fun m => ex m - if m = n then 1 else 0) I hm h1 (fun m _ => by
      by_cases e : m = n
      · rw [e, po_us, if_pos rfl]
      · rw [po_un e, if_neg e]; rfl) (fun m => rfl)
    have hex2 : ∀ m, (fun m => ex m - if m = n then 1 else 0) m ≤ 4 := fun m => by
      have := hex m
      show ex m - (if m = n then 1 else 0) ≤ 4
      omega
    refine And.intro inn (And.intro inn (nm_r (e' := nN (po_up rf n (rf n - 1))) ?_ (And.intro inn ?_)))
    · rw [e1, ← po_upd, ← pk_sub (b := 1) (by omega)]; rfl
    · refine pk_le (rf n - 1) 0 (fun h0 => ?_) (fun h0 => ?_) (by rw [e1]; show nI (po_up rf n (rf n - 1) n) = _; rw [po_us])
      · refine nm_e ⟨al.length + 1, ?_⟩
        refine xr_36 hex2 K al.length al fl fh us _ nx bk [n] (upd a_stack 0 (nI n)) 0 rfl I2 (fun m h => h) (by simp) (fun m => ?_) ?_ (by have := I.2.2.1; omega)
        · rw [List.mem_singleton]
          by_cases e : m = n
          · rw [e, po_us]; exact ⟨fun _ => ⟨hm, by omega⟩, fun _ => rfl⟩
          · rw [po_un e]; exact ⟨fun h => absurd h e, fun h => absurd h.2 (hall m h.1)⟩
        · intro i hi
          have : i = 0 := by simpa using hi
          rw [this, pk_us]; rfl
      · refine K _ _ _ _ _ al fl a_stack I2 (fun m h => ?_) (fun m h => h)
        by_cases e : m = n
        · rw [e, po_us]; omega
        · rw [po_un e]; exact hall m h
end XR
end
section
/-! the words that a node leads along; all nodes are reached at rest -/
def gr_ok (ch : Nat → Nat) (n L k : Nat) : Prop := ∀ v, wd_dig v → gr_go ch n v ≠ 0 → wd_ok L k v
theorem gr_ok_dep {ch : Nat → Nat} {n L k : Nat} (h : gr_ok ch n L k) : gr_dep ch n k := by
  intro v hv hk
  by_cases z : gr_go ch n v = 0
  · exact z
  · have := (h v hv z).1; omega
theorem gr_ok_mk {D : Nat → Prop} {ac ch wd : Nat → Nat} (G : gr_G D ac ch wd) {n L k : Nat} (h : ∀ d, d < 4 → ch (n * 4 + d) ≠ 0 → d < L ∧ 1 ≤ k ∧ gr_ok ch (ch (n * 4 + d)) L (k - 1)) : gr_ok ch n L k := by
  intro v hv hz
  cases v with
  | nil => exact ⟨Nat.zero_le _, fun d hd => absurd hd List.not_mem_nil⟩
  | cons d v =>
    have h1 := wd_dig_cons.mp hv
    have hc : ch (n * 4 + d) ≠ 0 := by
      intro e
      rw [gr_go_cons, e, gr_z G v h1.2] at hz
      exact hz rfl
    obtain ⟨a, b, c⟩ := h d h1.1 hc
    have := c v h1.2 hz
    refine ⟨by have := this.1; simp; omega, fun e he => ?_⟩
    rcases List.mem_cons.mp he with rfl | he
    · exact a
    · exact this.2 e he
theorem gr_ok_ch {ch : Nat → Nat} {n L k d : Nat} (h : gr_ok ch n L k) (hd : d < 4) (hc : ch (n * 4 + d) ≠ 0) : d < L ∧ 1 ≤ k ∧ gr_ok ch (ch (n * 4 + d)) L (k - 1) := by
  have h1 := h [d] (wd_dig_one hd) hc
  have hk : 1 ≤ k := h1.1
  refine ⟨h1.2 d (by simp), hk, ?_⟩
  intro v hv hz
  have := h (d :: v) (wd_dig_cons.mpr ⟨hd, hv⟩) hz
  refine ⟨by have := this.1; simp at this; omega, fun e he => this.2 e (List.mem_cons_of_mem _ he)⟩
theorem gr_ok_go {ch : Nat → Nat} {n L k : Nat} (h : gr_ok ch n L k) {p : List Nat} (hp : wd_dig p) : gr_ok ch (gr_go ch n p) L (k - p.length) := by
  intro v hv hz
  rw [← gr_go_app] at hz
  have := h _ (wd_dig_app.mpr ⟨hp, hv⟩) hz
  refine ⟨by have := this.1; rw [List.length_append] at this; omega, fun e he => this.2 e (List.mem_append_right _ he)⟩
theorem gr_ok_z {D : Nat → Prop} {ac ch wd : Nat → Nat} (G : gr_G D ac ch wd) (L k : Nat) : gr_ok ch 0 L k := by
  intro v hv hz
  exact absurd (gr_z G v hv) hz
theorem gr_ok_frame {D : Nat → Prop} {ac ch wd : Nat → Nat} (G : gr_G D ac ch wd) {ch' : Nat → Nat} (h : ∀ n, (n = 0 ∨ D n) → ∀ d, d < 4 → ch' (n * 4 + d) = ch (n * 4 + d)) {n L k : Nat} (hn : n = 0 ∨ D n) (kn : gr_ok ch n L k) : gr_ok ch' n L k := by
  intro v hv hz
  rw [gr_frame G h v n hn hv] at hz
  exact kn v hv hz
def xs_R (L K : Nat) (fh us : Nat) (ac ch rf wd sl nx bk : Nat → Nat) (al fl : List Nat) (rt : Nat) : Prop :=
  po_I fh us ac ch rf wd sl nx bk al fl (fun m => if m = rt then 1 else 0) ∧ (∀ m, m ∈ al → rf m ≠ 0) ∧ (∀ m, m ∈ al → gr_dep ch m 5) ∧ (rt = 0 ∨ rt ∈ al) ∧ gr_ok ch rt L K
section RE
variable {L K fh us rt : Nat} {ac ch rf wd sl nx bk : Nat → Nat} {al fl : List Nat}
theorem xs_reach (R : xs_R L K fh us ac ch rf wd sl nx bk al fl rt) {m : Nat} (hm : m ∈ al) : ∃ p, wd_dig p ∧ gr_go ch rt p = m := by
  obtain ⟨I, h1, h2, h3, h4⟩ := R
  obtain ⟨i1, i2, i3, i4, i5, i6, i7, i8, i9, i10, i11⟩ := I
  have step : ∀ j, (∃ p, wd_dig p ∧ gr_go ch rt p = m) ∨ ∃ x v, x ∈ al ∧ wd_dig v ∧ v.length = j ∧ gr_go ch x v = m := by
    intro j
    induction j with
    | zero => exact Or.inr ⟨m, [], hm, wd_dig_nil, rfl, rfl⟩
    | succ j ih =>
      rcases ih with h | ⟨x, v, hx, hv, hl, hg⟩
      · exact Or.inl h
      · have hr := h1 x hx
        rw [i10 x hx] at hr
        by_cases e : x = rt
        · exact Or.inl ⟨v, hv, by rw [← e]; exact hg⟩
        · have hrc : po_rc ch al x ≠ 0 := by
            have hr2 : po_rc ch al x + (if x = rt then 1 else 0) ≠ 0 := hr
            rw [if_neg e] at hr2; exact hr2
          have : ¬ ∀ y, y ∈ al → ∀ d, d < 4 → ch (y * 4 + d) ≠ x := fun z => hrc (po_rc_0.mpr z)
          have : ∃ y, y ∈ al ∧ ∃ d, d < 4 ∧ ch (y * 4 + d) = x := by
            apply Classical.byContradiction
            intro hn
            exact this (fun y hy d hd e => hn ⟨y, hy, d, hd, e⟩)
          obtain ⟨y, hy, d, hd, e2⟩ := this
          exact Or.inr ⟨y, d :: v, hy, wd_dig_cons.mpr ⟨hd, hv⟩, by simp [hl], by rw [gr_go_cons, e2]; exact hg⟩
  rcases step 6 with h | ⟨x, v, hx, hv, hl, hg⟩
  · exact h
  · have := h2 x hx v hv (by omega)
    rw [this] at hg
    exact absurd hg.symm (i8.2 m hm).1
theorem xs_G (R : xs_R L K fh us ac ch rf wd sl nx bk al fl rt) : gr_G (fun n => n ∈ al) ac ch wd := R.1.2.2.2.2.2.2.2.1
theorem xs_un (R : xs_R L K fh us ac ch rf wd sl nx bk al fl rt) : gr_un (fun n => n ∈ al) ac ch := R.1.2.2.2.2.2.2.2.2.1
theorem xs_dep (R : xs_R L K fh us ac ch rf wd sl nx bk al fl rt) {m : Nat} (hm : m = 0 ∨ m ∈ al) : gr_dep ch m 5 := by
  rcases hm with rfl | hm
  · exact gr_dep_z (xs_G R) 5
  · exact R.2.2.1 m hm
theorem xs_cnt (R : xs_R L K fh us ac ch rf wd sl nx bk al fl rt) : wd rt = ((wd_U 5).filter (gr_M ac ch rt)).length := gr_cnt (xs_G R) 5 rt R.2.2.2.1 (xs_dep R R.2.2.2.1)
theorem xs_len (R : xs_R L K fh us ac ch rf wd sl nx bk al fl rt) : al.length ≤ 1 + 5 * wd rt := by
  have hnd : al.Nodup := (List.nodup_append.mp R.1.1).1
  have hsub : al ⊆ (wd_P (gr_M ac ch rt)).map (gr_go ch rt) := by
    intro m hm
    obtain ⟨p, hp, e⟩ := xs_reach R hm
    have hd := xs_dep R R.2.2.2.1
    refine List.mem_map.mpr ⟨p, List.mem_filter.mpr ⟨(wd_mem 5 p).mpr ⟨?_, hp⟩, (gr_lv (xs_G R) R.2.2.2.1 hd hp).mpr (Or.inr ?_)⟩, e⟩
    · rcases Nat.lt_or_ge 5 p.length with h | h
      · have := hd p hp h
        rw [e] at this
        exact absurd this ((xs_G R).2 m hm).1
      · exact h
    · rw [e]; exact ((xs_G R).2 m hm).1
  have h1 := hnd.length_le_of_subset hsub
  rw [List.length_map] at h1
  have h2 := wd_P_len (gr_sup (xs_G R) (xs_dep R R.2.2.2.1))
  rw [← xs_cnt R] at h2
  omega
theorem xs_nd (R : xs_R L K fh us ac ch rf wd sl nx bk al fl rt) {p : List Nat} (hp : wd_dig p) : gr_go ch rt p = 0 ∨ gr_go ch rt p ∈ al := gr_dom (xs_G R) p rt R.2.2.2.1 hp
theorem xs_lt (R : xs_R L K fh us ac ch rf wd sl nx bk al fl rt) {p : List Nat} (hp : wd_dig p) : gr_go ch rt p < 128 := (po_lt R.1 (xs_nd R hp)).1
end RE
/-! X: decode, locate, loadDraft -/
def xk_m (i : Nat) : Int32 := if i = 0 then -1 else nI (i - 1)
theorem xk_m1 (i : Nat) : nI i + (-1) = xk_m i := by
  cases i with
  | zero => rfl
  | succ i => rw [pk_m1]; rfl
theorem xk_s1 (i : Nat) : nI i - 1 = xk_m i := by
  cases i with
  | zero => rfl
  | succ i => rw [nI_pred]; rfl
section XK
variable {f_letters f_maxLength f_maxWords f_freeHead f_used f_root f_draftAccept f_imageSize f_formLength f_planned : Int32} {a_accept a_child a_refs a_words a_slot a_next a_bucket a_draft a_symbol a_path a_stack a_number a_order a_image a_form a_headOf a_edge a_level a_imageWords a_entered a_plan a_built : Nat → Int32}
theorem xk_44 {post : Int32 → SX → Prop} {x3 : Int32} {L : Nat} (hL : L ≤ 4) : ∀ (i r : Nat) (sy : Nat → Int32), i ≤ 5 → r < 10 ^ i → (0 < i → 10 ^ (i - 1) ≤ r) →
    (∀ l sy', l.length = i → (∀ d, d ∈ l → d < L) → wd_enc l = r → (∀ j, j < i → sy' j = nI (l.getD j 0 + 1)) → (∀ j, i ≤ j → sy' j = sy j) → post x3 (nI L, f_maxLength, f_maxWords, f_freeHead, f_used, f_root, f_draftAccept, f_imageSize, f_formLength, f_planned, a_accept, a_child, a_refs, a_words, a_slot, a_next, a_bucket, a_draft, sy', a_path, a_stack, a_number, a_order, a_image, a_form, a_headOf, a_edge, a_level, a_imageWords, a_entered, a_plan, a_built)) →
    ((¬ ∃ l : List Nat, l.length = i ∧ (∀ d, d ∈ l → d < L) ∧ wd_enc l = r) → ∀ sy', post (-1) (nI L, f_maxLength, f_maxWords, f_freeHead, f_used, f_root, f_draftAccept, f_imageSize, f_formLength, f_planned, a_accept, a_child, a_refs, a_words, a_slot, a_next, a_bucket, a_draft, sy', a_path, a_stack, a_number, a_order, a_image, a_form, a_headOf, a_edge, a_level, a_imageWords, a_entered, a_plan, a_built)) →
    wX_decode_44 post x3 (nI L) f_maxLength f_maxWords f_freeHead f_used f_root f_draftAccept f_imageSize f_formLength f_planned (i + 1) (nI r) (xk_m i) a_accept a_child a_refs a_words a_slot a_next a_bucket a_draft sy a_path a_stack a_number a_order a_image a_form a_headOf a_edge a_level a_imageWords a_entered a_plan a_built := by
  intro i
  induction i with
  | zero =>
    intro r sy _ hr _ K1 _
    have hr0 : r = 0 := by simpa using hr
    subst hr0
    exact br_t (by decide) (K1 [] sy rfl (fun d hd => absurd hd List.not_mem_nil) rfl (fun j hj => by omega) (fun j _ => rfl))
  | succ i ih =>
    intro r sy hi hr hr2 K1 K0
    have p10 : (10 : Nat) ^ (i + 1) ≤ 100000 := by
      have : (10 : Nat) ^ (i + 1) ≤ 10 ^ 5 := Nat.pow_le_pow_right (by decide) hi
      simpa using this
    have hr3 := hr2 (by omega)
    rw [Nat.add_sub_cancel] at hr3
    have rem : nI r - nI r / 10 * 10 = nI (r % 10) := pk_rem (d := 10) (by omega) (by omega) (by omega)
    have hx4 : xk_m (i + 1) = nI i := rfl
    have no : ∀ l : List Nat, l.length = i + 1 → (∀ d, d ∈ l → d < L) → wd_enc l = r → ∃ l' d, l = l' ++ [d] ∧ l'.length = i ∧ (∀ d, d ∈ l' → d < L) ∧ d < L ∧ wd_enc l' = r / 10 ∧ r % 10 = d + 1 := by
      intro l h1 h2 h3
      rcases wd_rc l with rfl | ⟨l', d, rfl⟩
      · simp at h1
      · rw [wd_enc_snoc] at h3
        have hd := h2 d (by simp)
        refine ⟨l', d, rfl, by simpa using h1, fun e he => h2 e (List.mem_append_left _ he), hd, by omega, by omega⟩
    rw [hx4]
    refine br_f (nI_pos (by omega)) (And.intro (by decide) (nm_r (e' := nI (r % 10)) rem ?_))
    refine pk_lt (r % 10) 1 (fun z => ?_) (fun z => ?_)
    · refine K0 (fun ⟨l, h1, h2, h3⟩ => ?_) sy
      obtain ⟨_, d, _, _, _, _, _, h9⟩ := no l h1 h2 h3
      omega
    · refine pk_le (r % 10) L (fun z2 => ?_) (fun z2 => ?_)
      · refine And.intro (vp_in_nI (by omega) (by omega)) (nm_r (e' := upd sy i (nI (r % 10))) (by rw [nI_clamp (by omega)]) (And.intro (by decide) (nm_r (e' := nI (r / 10)) (pk_div (d := 10) (by omega) (by omega) (by omega)) (nm_r (xk_m1 i) ?_))))
        refine ih (r / 10) _ (by omega) ?_ ?_ (fun l sy' h1 h2 h3 h4 h5 => ?_) (fun hno sy' => ?_)
        · rw [Nat.pow_succ] at hr; omega
        · intro hp
          have : (10 : Nat) ^ i = 10 ^ (i - 1) * 10 := by rw [← Nat.pow_succ]; congr 1; omega
          omega
        · refine K1 (l ++ [r % 10 - 1]) sy' (by simp [h1]) (fun d hd => ?_) (by rw [wd_enc_snoc, h3]; omega) (fun j hj => ?_) (fun j hj => ?_)
          · rcases List.mem_append.mp hd with h | h
            · exact h2 d h
            · have : d = r % 10 - 1 := by simpa using h
              omega
          · rw [List.getD_eq_getElem?_getD]
            by_cases e : j = i
            · rw [e, h5 i (Nat.le_refl _), pk_us, ← h1, List.getElem?_append_right (Nat.le_refl _)]
              simp only [Nat.sub_self, List.getElem?_cons_zero, Option.getD_some]
              congr 1; omega
            · rw [h4 j (by omega), List.getElem?_append_left (by omega), List.getD_eq_getElem?_getD]
          · rw [h5 j (by omega), pk_un (by omega)]
        · refine K0 (fun ⟨l, h1, h2, h3⟩ => hno ?_) sy'
          obtain ⟨l', d, _, g1, g2, _, g4, _⟩ := no l h1 h2 h3
          exact ⟨l', g1, g2, g4⟩
      · refine K0 (fun ⟨l, h1, h2, h3⟩ => ?_) sy
        obtain ⟨_, d, _, _, _, h8, _, h9⟩ := no l h1 h2 h3
        omega
theorem xk_4 {post : Int32 → SX → Prop} {w L K : Nat} (hL : L ≤ 4) (hK : K ≤ 5) (hw : w < 2 ^ 31)
    (K1 : ∀ l sy, wd_ok L K l → wd_enc l = w → (∀ i, i < l.length → sy i = nI (l.getD i 0 + 1)) → post (nI l.length) (nI L, nI K, f_maxWords, f_freeHead, f_used, f_root, f_draftAccept, f_imageSize, f_formLength, f_planned, a_accept, a_child, a_refs, a_words, a_slot, a_next, a_bucket, a_draft, sy, a_path, a_stack, a_number, a_order, a_image, a_form, a_headOf, a_edge, a_level, a_imageWords, a_entered, a_plan, a_built))
    (K0 : (¬ ∃ l, wd_ok L K l ∧ wd_enc l = w) → ∀ sy, post (-1) (nI L, nI K, f_maxWords, f_freeHead, f_used, f_root, f_draftAccept, f_imageSize, f_formLength, f_planned, a_accept, a_child, a_refs, a_words, a_slot, a_next, a_bucket, a_draft, sy, a_path, a_stack, a_number, a_order, a_image, a_form, a_headOf, a_edge, a_level, a_imageWords, a_entered, a_plan, a_built)) : ∀ (f j : Nat), j + f = K → (0 < j → 10 ^ (j - 1) ≤ w) → wX_decode_4 post (nI w) (nI L) (nI K) f_maxWords f_freeHead f_used f_root f_draftAccept f_imageSize f_formLength f_planned a_accept a_child a_refs a_words a_slot a_next a_bucket a_draft a_symbol a_path a_stack a_number a_order a_image a_form a_headOf a_edge a_level a_imageWords a_entered a_plan a_built (f + 1) (nI (w / 10 ^ j)) (nI j) := by
  have dgl : ∀ l, wd_ok L K l → wd_enc l = w → w < 10 ^ l.length ∧ (0 < l.length → 10 ^ (l.length - 1) ≤ w) := by
    intro l hl e
    have h1 := (wd_enc_lt l (wd_ok_dig hL hl)).2
    refine ⟨by omega, fun hp => ?_⟩
    cases l with
    | nil => simp at hp
    | cons d v =>
      have h2 : wd_enc (d :: v) = wd_enc ([d] ++ v) := rfl
      rw [wd_enc_app] at h2
      have h3 : wd_enc [d] = d + 1 := by simp [wd_enc]
      rw [h3, Nat.add_mul, Nat.one_mul] at h2
      simp only [List.length_cons, Nat.add_sub_cancel]; omega
  have ex27 : ∀ j, j ≤ K → (0 < j → 10 ^ (j - 1) ≤ w) → (w / 10 ^ j = 0 ∨ j = K) → wX_decode_27 post (nI w) (nI (w / 10 ^ j)) (nI j) (nI L) (nI K) f_maxWords f_freeHead f_used f_root f_draftAccept f_imageSize f_formLength f_planned a_accept a_child a_refs a_words a_slot a_next a_bucket a_draft a_symbol a_path a_stack a_number a_order a_image a_form a_headOf a_edge a_level a_imageWords a_entered a_plan a_built := by
    intro j hj h1 h2
    have hq : w / 10 ^ j < 2 ^ 31 := Nat.lt_of_le_of_lt (Nat.div_le_self _ _) hw
    have p10 : 0 < 10 ^ j := Nat.pow_pos (by decide)
    refine br_f (nI_pos hw) (pk_le (w / 10 ^ j) 0 (fun z => nm_r (xk_s1 j) ⟨j + 1, ?_⟩) (fun z => ?_))
    · have hz : w / 10 ^ j = 0 := Nat.eq_zero_of_le_zero z
      have hlt : w < 10 ^ j := by
        rcases Nat.lt_or_ge w (10 ^ j) with h | h
        · exact h
        · have := Nat.div_pos h p10; omega
      refine xk_44 hL j w a_symbol (by omega) hlt h1 (fun l sy' g1 g2 g3 g4 g5 => ?_) (fun hno sy' => ?_)
      · have := K1 l sy' ⟨by omega, g2⟩ g3 (fun i hi => g4 i (by omega))
        rw [g1] at this; exact this
      · refine K0 (fun ⟨l, hl, e⟩ => hno ⟨l, ?_, hl.2, e⟩) sy'
        obtain ⟨d1, d2⟩ := dgl l hl e
        rcases Nat.lt_trichotomy l.length j with h | h | h
        · have h3 := h1 (by omega)
          have h4 : 10 ^ l.length ≤ 10 ^ (j - 1) := Nat.pow_le_pow_right (by decide) (by omega)
          omega
        · exact h
        · have h3 := d2 (by omega)
          have h4 : 10 ^ j ≤ 10 ^ (l.length - 1) := Nat.pow_le_pow_right (by decide) (by omega)
          omega
    · refine K0 (fun ⟨l, hl, e⟩ => ?_) a_symbol
      have hjK : j = K := h2.resolve_left (Nat.pos_iff_ne_zero.mp z)
      have d1 := (dgl l hl e).1
      have h4 : 10 ^ l.length ≤ 10 ^ K := Nat.pow_le_pow_right (by decide) hl.1
      rw [hjK, Nat.div_eq_of_lt (by omega)] at z
      omega
  intro f
  induction f with
  | zero =>
    intro j hj h1
    have hq : w / 10 ^ j < 2 ^ 31 := Nat.lt_of_le_of_lt (Nat.div_le_self _ _) hw
    refine pk_le (w / 10 ^ j) 0 (fun z => ex27 j (by omega) h1 (Or.inl (Nat.eq_zero_of_le_zero z))) (fun z => pk_le K j (fun _ => ex27 j (by omega) h1 (Or.inr (by omega))) (fun z2 => absurd z2 (by omega)))
  | succ f ih =>
    intro j hj h1
    have hq : w / 10 ^ j < 2 ^ 31 := Nat.lt_of_le_of_lt (Nat.div_le_self _ _) hw
    refine pk_le (w / 10 ^ j) 0 (fun z => ex27 j (by omega) h1 (Or.inl (Nat.eq_zero_of_le_zero z))) (fun z => pk_le K j (fun z2 => absurd z2 (by omega)) (fun z2 => And.intro (by decide) (nm_r (e' := nI (w / 10 ^ (j + 1))) ?_ (nm_r (nI_1 j) (ih (j + 1) (by omega) (fun _ => ?_))))))
    · rw [Nat.pow_succ, ← Nat.div_div_eq_div_mul]; exact pk_div (d := 10) hq (by omega) (by omega)
    · rw [Nat.add_sub_cancel]
      rcases Nat.lt_or_ge w (10 ^ j) with h | h
      · rw [Nat.div_eq_of_lt h] at z; omega
      · exact h
theorem xk_decode {post : Int32 → SX → Prop} {x : Int32} {L K : Nat} (hL : L ≤ 4) (hK : K ≤ 5)
    (K1 : ∀ w l sy, x = nI w → w < 2 ^ 31 → wd_ok L K l → wd_enc l = w → (∀ i, i < l.length → sy i = nI (l.getD i 0 + 1)) → post (nI l.length) (nI L, nI K, f_maxWords, f_freeHead, f_used, f_root, f_draftAccept, f_imageSize, f_formLength, f_planned, a_accept, a_child, a_refs, a_words, a_slot, a_next, a_bucket, a_draft, sy, a_path, a_stack, a_number, a_order, a_image, a_form, a_headOf, a_edge, a_level, a_imageWords, a_entered, a_plan, a_built))
    (K0 : (¬ ∃ l, wd_ok L K l ∧ x = nI (wd_enc l)) → ∀ sy, post (-1) (nI L, nI K, f_maxWords, f_freeHead, f_used, f_root, f_draftAccept, f_imageSize, f_formLength, f_planned, a_accept, a_child, a_refs, a_words, a_slot, a_next, a_bucket, a_draft, sy, a_path, a_stack, a_number, a_order, a_image, a_form, a_headOf, a_edge, a_level, a_imageWords, a_entered, a_plan, a_built)) : wpX_decode post (nI L, nI K, f_maxWords, f_freeHead, f_used, f_root, f_draftAccept, f_imageSize, f_formLength, f_planned, a_accept, a_child, a_refs, a_words, a_slot, a_next, a_bucket, a_draft, a_symbol, a_path, a_stack, a_number, a_order, a_image, a_form, a_headOf, a_edge, a_level, a_imageWords, a_entered, a_plan, a_built) x := by
  by_cases h : x < 0
  · refine ⟨1, br_t (Int32.le_of_lt h) (br_t h (K0 (fun ⟨l, hl, e⟩ => ?_) a_symbol))⟩
    have := wd_enc_lt5 (wd_ok_dig hL hl) (Nat.le_trans hl.1 hK)
    rw [e] at h
    exact nI_pos (by omega) h
  · obtain ⟨w, hw, e⟩ := nI_of h
    subst e
    refine ⟨K + 1, ?_⟩
    have := xk_4 (post := post) (a_symbol := a_symbol) hL hK hw (fun l sy h1 h2 h3 => K1 w l sy rfl hw h1 h2 h3) (fun hno sy => K0 (fun ⟨l, hl, e⟩ => hno ⟨l, hl, ?_⟩) sy) K 0 (by omega) (fun z => absurd z (by omega))
    · rw [Nat.pow_zero, Nat.div_one] at this; exact this
    · have := wd_enc_lt5 (wd_ok_dig hL hl) (Nat.le_trans hl.1 hK)
      exact ((nI_eq hw (by omega)).mp e).symm
end XK
end
section
/-! X: locate, loadDraft, rebuild -/
theorem xl_app {p q r : List Nat} {d : Nat} (h : p ++ [d] = q ++ r) : (r = [] ∧ q = p ++ [d]) ∨ ∃ r', p = q ++ r' := by
  rcases wd_rc r with rfl | ⟨r', e, rfl⟩
  · exact Or.inl ⟨rfl, by simpa using h.symm⟩
  · rw [← List.append_assoc] at h
    exact Or.inr ⟨r', (List.append_inj' h rfl).1⟩
theorem xl_get {p s : List Nat} {d : Nat} : (p ++ d :: s).getD p.length 0 = d := by
  rw [List.getD_eq_getElem?_getD, List.getElem?_append_right (Nat.le_refl _)]; simp
section XL
variable {f_letters f_maxLength f_maxWords f_freeHead f_used f_root f_draftAccept f_imageSize f_formLength f_planned : Int32} {a_accept a_child a_refs a_words a_slot a_next a_bucket a_draft a_symbol a_path a_stack a_number a_order a_image a_form a_headOf a_edge a_level a_imageWords a_entered a_plan a_built : Nat → Int32}
variable {L K fh us rt : Nat} {ac ch rf wd sl nx bk : Nat → Nat} {al fl : List Nat}
theorem xl_14 {post : Int32 → SX → Prop} {l : List Nat} (R : xs_R L K fh us ac ch rf wd sl nx bk al fl rt) (hl : wd_dig l) (hlen : l.length ≤ 5) (hsy : ∀ i, i < l.length → a_symbol i = nI (l.getD i 0 + 1))
    (Kp : ∀ pa, (∀ p s, l = p ++ s → pa p.length = nI (gr_go ch rt p)) → post (nI (gr_go ch rt l)) (f_letters, f_maxLength, f_maxWords, f_freeHead, f_used, f_root, f_draftAccept, f_imageSize, f_formLength, f_planned, a_accept, nN ch, a_refs, a_words, a_slot, a_next, a_bucket, a_draft, a_symbol, pa, a_stack, a_number, a_order, a_image, a_form, a_headOf, a_edge, a_level, a_imageWords, a_entered, a_plan, a_built)) :
    ∀ (s p : List Nat) (pa : Nat → Int32), l = p ++ s → (∀ q r, p = q ++ r → pa q.length = nI (gr_go ch rt q)) → wX_locate_14 post (nI l.length) f_letters f_maxLength f_maxWords f_freeHead f_used f_root f_draftAccept f_imageSize f_formLength f_planned (s.length + 1) (nI (gr_go ch rt p)) (nI p.length) a_accept (nN ch) a_refs a_words a_slot a_next a_bucket a_draft a_symbol pa a_stack a_number a_order a_image a_form a_headOf a_edge a_level a_imageWords a_entered a_plan a_built := by
  intro s
  induction s with
  | nil =>
    intro p pa e hp
    rw [List.append_nil] at e
    subst e
    exact pk_le l.length l.length (fun _ => Kp pa hp) (fun z => absurd z (by omega))
  | cons d s ih =>
    intro p pa e hp
    have hdig := hl
    rw [e] at hdig
    have h1 := wd_dig_app.mp hdig
    have h2 := wd_dig_cons.mp h1.2
    have hlen2 := hlen
    rw [e, List.length_append, List.length_cons] at hlen2
    have hn := xs_lt R h1.1
    have hn2 := xs_lt R (wd_dig_app.mpr ⟨h1.1, wd_dig_one h2.1⟩)
    have esy : a_symbol (nI p.length).toNatClampNeg = nI (d + 1) := by
      rw [nI_clamp (by omega), hsy p.length (by rw [e, List.length_append, List.length_cons]; omega)]
      conv => lhs; rw [e]
      rw [xl_get]
    have eix : nI (gr_go ch rt p) * 4 + a_symbol (nI p.length).toNatClampNeg - 1 = nI (gr_go ch rt p * 4 + d) := by
      rw [esy, xw_i4, ← Nat.add_assoc, nI_pred]
    have hll : l.length = p.length + (s.length + 1) := by rw [e, List.length_append, List.length_cons]
    refine pk_le l.length p.length (fun z => absurd z (by omega)) (fun _ => And.intro (vp_in_nI (by omega) (by omega)) (And.intro ?_ (nm_r (e' := nI (gr_go ch rt (p ++ [d]))) ?_ (And.intro ?_ (nm_r (e' := upd pa (p.length + 1) (nI (gr_go ch rt (p ++ [d])))) ?_ (nm_r (nI_1 _) ?_))))))
    · rw [eix]; exact vp_in_nI (by omega) (by omega)
    · rw [eix, nI_clamp (by omega), gr_go_snoc]; rfl
    · rw [nI_1]; exact vp_in_nI (by omega) (by omega)
    · rw [nI_1, nI_clamp (by omega)]
    · have := ih (p ++ [d]) (upd pa (p.length + 1) (nI (gr_go ch rt (p ++ [d])))) (by rw [e]; simp) (fun q r h => ?_)
      · rw [List.length_append, List.length_singleton] at this; exact this
      · rcases xl_app h with ⟨_, rfl⟩ | ⟨r', e2⟩
        · rw [List.length_append, List.length_singleton, pk_us]
        · rw [pk_un, hp q r' e2]
          rw [e2, List.length_append]; omega
theorem xl_loc {post : Int32 → SX → Prop} {l : List Nat} (R : xs_R L K fh us ac ch rf wd sl nx bk al fl rt) (hl : wd_dig l) (hlen : l.length ≤ 5) (hsy : ∀ i, i < l.length → a_symbol i = nI (l.getD i 0 + 1))
    (Kp : ∀ pa, (∀ p s, l = p ++ s → pa p.length = nI (gr_go ch rt p)) → post (nI (gr_go ch rt l)) (f_letters, f_maxLength, f_maxWords, f_freeHead, f_used, nI rt, f_draftAccept, f_imageSize, f_formLength, f_planned, a_accept, nN ch, a_refs, a_words, a_slot, a_next, a_bucket, a_draft, a_symbol, pa, a_stack, a_number, a_order, a_image, a_form, a_headOf, a_edge, a_level, a_imageWords, a_entered, a_plan, a_built)) : wpX_locate post (f_letters, f_maxLength, f_maxWords, f_freeHead, f_used, nI rt, f_draftAccept, f_imageSize, f_formLength, f_planned, a_accept, nN ch, a_refs, a_words, a_slot, a_next, a_bucket, a_draft, a_symbol, a_path, a_stack, a_number, a_order, a_image, a_form, a_headOf, a_edge, a_level, a_imageWords, a_entered, a_plan, a_built) (nI l.length) := by
  refine nm_e ⟨l.length + 1, ?_⟩
  refine xl_14 R hl hlen hsy Kp l [] (upd a_path 0 (nI rt)) rfl (fun q r h => ?_)
  have : q = [] := by
    cases q with
    | nil => rfl
    | cons x q => cases h
  rw [this]; exact pk_us
theorem xo_s {post : SX → Prop} {k n d : Nat} (hn : n < 128) (hd : d < 4) (Kp : wX_loadDraft_12 post (nI n) f_letters f_maxLength f_maxWords f_freeHead f_used f_root f_draftAccept f_imageSize f_formLength f_planned k (nI (d + 1)) a_accept (nN ch) a_refs a_words a_slot a_next a_bucket (upd a_draft d (nI (ch (n * 4 + d)))) a_symbol a_path a_stack a_number a_order a_image a_form a_headOf a_edge a_level a_imageWords a_entered a_plan a_built) : wX_loadDraft_12 post (nI n) f_letters f_maxLength f_maxWords f_freeHead f_used f_root f_draftAccept f_imageSize f_formLength f_planned (k + 1) (nI d) a_accept (nN ch) a_refs a_words a_slot a_next a_bucket a_draft a_symbol a_path a_stack a_number a_order a_image a_form a_headOf a_edge a_level a_imageWords a_entered a_plan a_built := by
  refine pk_le 4 d (fun z => absurd z (by omega)) (fun _ => And.intro (xw_in4 hn hd) (And.intro (vp_in_nI hd (by omega)) (nm_r (e' := upd a_draft d (nI (ch (n * 4 + d)))) ?_ (nm_r (nI_1 d) Kp))))
  rw [nI_clamp (by omega), xw_c4 hn hd]; rfl
theorem xo_ld {post : SX → Prop} {x : Int32} {n : Nat} (hx : x = nI n) (hn : n < 128) (Kp : ∀ dr : Nat → Int32, (∀ d, d < 4 → dr d = nI (ch (n * 4 + d))) → post (f_letters, f_maxLength, f_maxWords, f_freeHead, f_used, f_root, nI (ac n), f_imageSize, f_formLength, f_planned, nN ac, nN ch, a_refs, a_words, a_slot, a_next, a_bucket, dr, a_symbol, a_path, a_stack, a_number, a_order, a_image, a_form, a_headOf, a_edge, a_level, a_imageWords, a_entered, a_plan, a_built)) : wpX_loadDraft post (f_letters, f_maxLength, f_maxWords, f_freeHead, f_used, f_root, f_draftAccept, f_imageSize, f_formLength, f_planned, nN ac, nN ch, a_refs, a_words, a_slot, a_next, a_bucket, a_draft, a_symbol, a_path, a_stack, a_number, a_order, a_image, a_form, a_headOf, a_edge, a_level, a_imageWords, a_entered, a_plan, a_built) x := by
  subst hx
  refine And.intro (vp_in_nI hn (by omega)) (nm_r (e' := nI (ac n)) (by rw [nI_clamp (by omega)]; rfl) ⟨5, ?_⟩)
  refine xo_s (d := 0) hn (by omega) ?_
  refine xo_s (d := 1) hn (by omega) ?_
  refine xo_s (d := 2) hn (by omega) ?_
  refine xo_s (d := 3) hn (by omega) ?_
  refine pk_le 4 4 (fun _ => Kp _ (fun d hd => ?_)) (fun z => absurd z (by omega))
  have : d = 0 ∨ d = 1 ∨ d = 2 ∨ d = 3 := by omega
  rcases this with rfl | rfl | rfl | rfl
  · rw [pk_un (by omega), pk_un (by omega), pk_un (by omega), pk_us]
  · rw [pk_un (by omega), pk_un (by omega), pk_us]
  · rw [pk_un (by omega), pk_us]
  · rw [pk_us]
end XL
section XB
variable {fh us fh' us' : Nat} {ac ch rf wd sl nx bk ac' ch' rf' wd' sl' nx' bk' : Nat → Nat} {al fl al' fl' : List Nat} {ex : Nat → Nat}
theorem xb_step {r a : Nat} {c : Nat → Nat} (I : po_I fh us ac ch rf wd sl nx bk al fl ex) (I' : po_I fh' us' ac' ch' rf' wd' sl' nx' bk' al' fl' ex) (T : po_T ac ch rf al ac' ch' rf' al' r a c) (hc : ∀ d, d < 4 → c d = 0 ∨ c d ∈ al) :
    (∀ d, d < 4 → ∀ v, wd_dig v → gr_M ac' ch' r (d :: v) = gr_M ac ch (c d) v) ∧ gr_M ac' ch' r [] = decide (a = 1) ∧
    (∀ L k, (∀ d, d < 4 → c d ≠ 0 → d < L ∧ 1 ≤ k ∧ gr_ok ch (c d) L (k - 1)) → gr_ok ch' r L k) ∧
    (∀ m, (m = 0 ∨ m ∈ al) → ∀ v, wd_dig v → gr_M ac' ch' m v = gr_M ac ch m v) ∧ (∀ m, (m = 0 ∨ m ∈ al) → ∀ k, gr_dep ch m k → gr_dep ch' m k) ∧ (∀ m L k, (m = 0 ∨ m ∈ al) → gr_ok ch m L k → gr_ok ch' m L k) := by
  have G : gr_G (fun n => n ∈ al) ac ch wd := I.2.2.2.2.2.2.2.1
  have G' : gr_G (fun n => n ∈ al') ac' ch' wd' := I'.2.2.2.2.2.2.2.1
  obtain ⟨t1, t2, t3, t4, t5, t6, t7, t8⟩ := T
  have fc : ∀ n, (n = 0 ∨ n ∈ al) → ∀ d, d < 4 → ch' (n * 4 + d) = ch (n * 4 + d) := fun n hn => (t1 n hn).2
  have fa : ∀ n, (n = 0 ∨ n ∈ al) → ac' n = ac n := fun n hn => (t1 n hn).1
  have e4 : ∀ m, (m = 0 ∨ m ∈ al) → ∀ v, wd_dig v → gr_M ac' ch' m v = gr_M ac ch m v := fun m hm v hv => gr_frameM G fc fa hm hv
  have e6 : ∀ m L k, (m = 0 ∨ m ∈ al) → gr_ok ch m L k → gr_ok ch' m L k := fun m L k hm h => gr_ok_frame G fc hm h
  refine ⟨?_, ?_, ?_, e4, fun m hm k h => gr_frameD G fc hm h, e6⟩
  · intro d hd v hv
    have : gr_M ac' ch' r (d :: v) = gr_M ac' ch' (ch' (r * 4 + d)) v := rfl
    rw [this, t4 d hd]
    exact e4 _ (hc d hd) v hv
  · rw [gr_M, gr_go_nil, t3]
  · intro L k h
    apply gr_ok_mk G'
    intro d hd hz
    rw [t4 d hd] at hz ⊢
    obtain ⟨h1, h2, h3⟩ := h d hd hz
    exact ⟨h1, h2, e6 _ _ _ (hc d hd) h3⟩
end XB
section XB2
variable {f_letters f_maxLength f_maxWords f_freeHead f_used f_root f_draftAccept f_imageSize f_formLength f_planned : Int32} {a_accept a_child a_refs a_words a_slot a_next a_bucket a_draft a_symbol a_path a_stack a_number a_order a_image a_form a_headOf a_edge a_level a_imageWords a_entered a_plan a_built : Nat → Int32}
variable {L K fh0 us0 rt : Nat} {ac0 ch0 rf0 wd0 sl0 nx0 bk0 : Nat → Nat} {al0 fl0 : List Nat}
/-- while the path is built anew: p is the word's part above, s the part below -/
def xb_V (L K rt acc len : Nat) (ac0 ch0 : Nat → Nat) (al0 : List Nat) (fh us : Nat) (ac ch rf wd sl nx bk : Nat → Nat) (al fl p s : List Nat) (r : Nat) : Prop :=
  po_I fh us ac ch rf wd sl nx bk al fl (fun m => if m = rt then 1 else 0) ∧ (∀ m, (m = 0 ∨ m ∈ al0) → ac m = ac0 m ∧ ∀ d, d < 4 → ch (m * 4 + d) = ch0 (m * 4 + d)) ∧ (∀ m, m ∈ al0 → m ∈ al) ∧ (r = 0 ∨ r ∈ al) ∧
  (∀ m, m ∈ al → rf m = 0 → m = r) ∧ al.length + p.length ≤ al0.length + len + 1 ∧ (∀ m, m ∈ al → gr_dep ch m 5) ∧ gr_ok ch r L (K - p.length) ∧
  ∀ v, wd_dig v → gr_M ac ch r v = if v = s then decide (acc = 1) else gr_M ac0 ch0 (gr_go ch0 rt p) v
theorem xb_loop {post : SX → Prop} {l : List Nat} {acc : Nat} (R : xs_R L K fh0 us0 ac0 ch0 rf0 wd0 sl0 nx0 bk0 al0 fl0 rt) (hlen0 : al0.length ≤ 61) (hl : wd_ok L K l) (hL : L ≤ 4) (hK : K ≤ 5) (hacc : acc ≤ 1) (hsy : ∀ i, i < l.length → a_symbol i = nI (l.getD i 0 + 1)) (hpa : ∀ p s, l = p ++ s → a_path p.length = nI (gr_go ch0 rt p))
    (Kp : ∀ fh us ac ch rf wd sl nx bk al fl r st dr da, xs_R L K fh us ac ch rf wd sl nx bk al fl r → (∀ v, wd_dig v → gr_M ac ch r v = if v = l then decide (acc = 1) else gr_M ac0 ch0 rt v) → post (f_letters, f_maxLength, f_maxWords, (nI fh), (nI us), nI r, da, f_imageSize, f_formLength, f_planned, (nN ac), (nN ch), (nN rf), (nN wd), (nN sl), (nN nx), (nN bk), dr, a_symbol, a_path, st, a_number, a_order, a_image, a_form, a_headOf, a_edge, a_level, a_imageWords, a_entered, a_plan, a_built)) :
    ∀ (p s : List Nat), l = p ++ s → ∀ (fh us : Nat) (ac ch rf wd sl nx bk : Nat → Nat) (al fl : List Nat) (r : Nat) (dr : Nat → Int32) (da : Int32), xb_V L K rt acc l.length ac0 ch0 al0 fh us ac ch rf wd sl nx bk al fl p s r → wX_rebuild_5 post (nI l.length) (nI acc) (p.length + 1) (nI r) (xk_m p.length) f_letters f_maxLength f_maxWords (nI fh) (nI us) (nI rt) da f_imageSize f_formLength f_planned (nN ac) (nN ch) (nN rf) (nN wd) (nN sl) (nN nx) (nN bk) dr a_symbol a_path a_stack a_number a_order a_image a_form a_headOf a_edge a_level a_imageWords a_entered a_plan a_built := by
  have hdl : wd_dig l := wd_ok_dig hL hl
  have G0 := xs_G R
  refine wd_rind (P := fun p => ∀ s, l = p ++ s → ∀ (fh us : Nat) (ac ch rf wd sl nx bk : Nat → Nat) (al fl : List Nat) (r : Nat) (dr : Nat → Int32) (da : Int32), xb_V L K rt acc l.length ac0 ch0 al0 fh us ac ch rf wd sl nx bk al fl p s r → wX_rebuild_5 post (nI l.length) (nI acc) (p.length + 1) (nI r) (xk_m p.length) f_letters f_maxLength f_maxWords (nI fh) (nI us) (nI rt) da f_imageSize f_formLength f_planned (nN ac) (nN ch) (nN rf) (nN wd) (nN sl) (nN nx) (nN bk) dr a_symbol a_path a_stack a_number a_order a_image a_form a_headOf a_edge a_level a_imageWords a_entered a_plan a_built) ?_ ?_
  · intro s e fh us ac ch rf wd sl nx bk al fl r dr da V
    obtain ⟨I, v2, v3, v4, v5, v6, v7, v8, v9⟩ := V
    have es : l = s := e
    have hr := (po_lt I v4).1
    have G := I.2.2.2.2.2.2.2.1
    have I2 := po_retain (rf' := po_rt rf r) (ex' := fun m => (if m = rt then 1 else 0) + if m = r then 1 else 0) I v4 (fun m hm => po_rt_at hm) (fun m => rfl)
    refine br_t (by decide) (xw_retain rfl hr ?_)
    refine xr_rel rfl I2 (fun m hm z => ?_) ?_ (fun m => ?_) (fun fh' us' rf' nx' bk' al' fl' st' I3 h3 h4 => ?_)
    · rw [po_rt_at (G.2 m hm).1] at z
      have := v5 m hm (by omega)
      rw [if_pos this] at z; omega
    · rcases R.2.2.2.1 with h | h
      · exact Or.inl h
      · refine Or.inr ⟨v3 _ h, ?_⟩
        show 1 ≤ (if rt = rt then 1 else 0) + (if rt = r then 1 else 0)
        rw [if_pos rfl]; omega
    · show (if m = rt then 1 else 0) + (if m = r then 1 else 0) ≤ 4
      repeat' split
      all_goals omega
    · have I4 : po_I fh' us' ac ch rf' wd sl nx' bk' al' fl' (fun m => if m = r then 1 else 0) := po_ex I3 (fun m hm => by
        show (if m = r then 1 else 0) = (if m = rt then 1 else 0) + (if m = r then 1 else 0) - if m = rt then 1 else 0
        omega) (fun m hm => by
        refine I3.2.2.2.2.2.2.2.2.2.2 m (fun z => hm ?_)
        have z2 : (if m = rt then 1 else 0) + (if m = r then 1 else 0) - (if m = rt then 1 else 0) = 0 := z
        show (if m = r then 1 else 0) = 0
        omega)
      have hr2 : r = 0 ∨ r ∈ al' := I4.2.2.2.2.2.2.2.2.2.2 r (by simp)
      refine Kp _ _ _ _ _ _ _ _ _ al' fl' r _ _ _ ⟨I4, h3, fun m hm => v7 m (h4 m hm), hr2, ?_⟩ (fun v hv => ?_)
      · exact v8
      · rw [es]; exact v9 v hv
  · intro p d ih s e fh us ac ch rf wd sl nx bk al fl r dr da V
    obtain ⟨I, v2, v3, v4, v5, v6, v7, v8, v9⟩ := V
    have e' : l = p ++ d :: s := by rw [e]; simp
    rw [List.length_append, List.length_singleton] at v6 v8 ⊢
    have hll : l.length = p.length + (s.length + 1) := by rw [e', List.length_append, List.length_cons]
    have hl5 := hl.1
    have hdig := hdl
    rw [e'] at hdig
    have h1 := wd_dig_app.mp hdig
    have h2 := wd_dig_cons.mp h1.2
    have hdL : d < L := hl.2 d (by rw [e']; simp)
    have hn := xs_lt R h1.1
    have hnd := xs_nd R h1.1
    have ein : (nI p.length).toNatClampNeg = p.length := nI_clamp (by omega)
    rw [show xk_m (p.length + 1) = nI p.length from rfl]
    refine br_f (nI_pos (by omega)) (And.intro (vp_in_nI (by omega) (by omega)) (xo_ld (n := gr_go ch0 rt p) (by rw [ein]; exact hpa p (d :: s) e') hn (fun dr2 hdr2 => ?_)))
    refine pk_eq p.length l.length (fun z => absurd z (by omega)) (fun _ => ?_)
    have esy : a_symbol (nI p.length).toNatClampNeg - 1 = nI d := by
      rw [ein, hsy p.length (by omega)]
      conv => lhs; rw [e']
      rw [xl_get, nI_pred]
    refine And.intro (vp_in_nI (by omega) (by omega)) (And.intro (by rw [esy]; exact vp_in_nI h2.1 (by omega)) (nm_r (e' := upd dr2 d (nI r)) (by rw [esy, nI_clamp (by omega)]) ?_))
    have eac : ac (gr_go ch0 rt p) = ac0 (gr_go ch0 rt p) := (v2 _ hnd).1
    have ech : ∀ x, x < 4 → ch (gr_go ch0 rt p * 4 + x) = ch0 (gr_go ch0 rt p * 4 + x) := (v2 _ hnd).2
    have hndal : gr_go ch0 rt p = 0 ∨ gr_go ch0 rt p ∈ al := hnd.imp id (fun h => v3 _ h)
    have hc : ∀ x, x < 4 → (fun x => if x = d then r else ch (gr_go ch0 rt p * 4 + x)) x = 0 ∨ (fun x => if x = d then r else ch (gr_go ch0 rt p * 4 + x)) x ∈ al := by
      intro x hx
      show (if x = d then r else ch (gr_go ch0 rt p * 4 + x)) = 0 ∨ (if x = d then r else ch (gr_go ch0 rt p * 4 + x)) ∈ al
      by_cases z : x = d
      · rw [if_pos z]; exact v4
      · rw [if_neg z]; exact gr_ch I.2.2.2.2.2.2.2.1 hndal hx
    refine xi_intern (c := fun x => if x = d then r else ch (gr_go ch0 rt p * 4 + x)) I (po_lt I hndal).2.1 hc (by omega) (fun x hx => ?_) (fun r' fh' us' ac' ch' rf' wd' sl' nx' bk' al' fl' I' T => ?_)
    · show upd dr2 d (nI r) x = nI (if x = d then r else ch (gr_go ch0 rt p * 4 + x))
      by_cases z : x = d
      · rw [if_pos z, z, pk_us]
      · rw [if_neg z, pk_un z]; exact hdr2 x hx
    · refine nm_r (xk_m1 p.length) ?_
      obtain ⟨b1, b2, b3, b4, b5, b6⟩ := xb_step I I' T hc
      obtain ⟨t1, t2, t3, t4, t5, t6, t7, t8⟩ := T
      have hok0 : gr_ok ch0 (gr_go ch0 rt p) L (K - p.length) := gr_ok_go R.2.2.2.2 h1.1
      have okr : gr_ok ch' r' L (K - p.length) := by
        refine b3 L _ (fun x hx hz => ?_)
        have hz2 : (if x = d then r else ch (gr_go ch0 rt p * 4 + x)) ≠ 0 := hz
        show x < L ∧ 1 ≤ K - p.length ∧ gr_ok ch (if x = d then r else ch (gr_go ch0 rt p * 4 + x)) L (K - p.length - 1)
        by_cases z : x = d
        · rw [if_pos z, z]
          exact ⟨hdL, by omega, by rw [Nat.sub_sub]; exact v8⟩
        · rw [if_neg z] at hz2 ⊢
          rw [ech x hx] at hz2 ⊢
          obtain ⟨o1, o2, o3⟩ := gr_ok_ch hok0 hx hz2
          exact ⟨o1, o2, gr_ok_frame G0 (fun n hn => (v2 n hn).2) (gr_ch G0 hnd hx) o3⟩
      refine ih (d :: s) e' fh' us' ac' ch' rf' wd' sl' nx' bk' al' fl' r' _ _ ⟨I', fun m hm => ?_, fun m hm => t5 m (v3 m hm), t2, fun m hm hz => ?_, by omega, fun m hm => ?_, okr, fun v hv => ?_⟩
      · have hm2 : m = 0 ∨ m ∈ al := hm.imp id (fun h => v3 m h)
        exact ⟨((t1 m hm2).1).trans (v2 m hm).1, fun x hx => ((t1 m hm2).2 x hx).trans ((v2 m hm).2 x hx)⟩
      · obtain ⟨q1, q2⟩ := t8 m hm hz
        rcases q1 with q | ⟨q3, q4⟩
        · exact q
        · exfalso
          have := v5 m q3 q4
          refine q2 d h2.1 ?_
          show (if d = d then r else ch (gr_go ch0 rt p * 4 + d)) = m
          rw [if_pos rfl, this]
      · rcases t6 m hm with h | h
        · exact b5 m (Or.inr h) 5 (v7 m h)
        · rw [h]; exact gr_dep_m (gr_ok_dep okr) (by omega)
      · cases v with
        | nil =>
          rw [b2, if_neg (by simp), eac]
          rfl
        | cons x v =>
          have hx := wd_dig_cons.mp hv
          rw [b1 x hx.1 v hx.2]
          show gr_M ac ch (if x = d then r else ch (gr_go ch0 rt p * 4 + x)) v = _
          by_cases z : x = d
          · rw [if_pos z, z, v9 v hx.2, gr_go_snoc]
            by_cases y : v = s
            · rw [if_pos y, if_pos (by rw [y])]
            · rw [if_neg y, if_neg (fun w => y (List.cons.inj w).2)]; rfl
          · rw [if_neg z, if_neg (fun w => z (List.cons.inj w).1), ech x hx.1]
            exact gr_frameM G0 (fun n hn => (v2 n hn).2) (fun n hn => (v2 n hn).1) (gr_ch G0 hnd hx.1) hx.2
theorem xb_reb {post : SX → Prop} {l : List Nat} {acc : Nat} {y : Int32} (hy : y = nI acc) (R : xs_R L K fh0 us0 ac0 ch0 rf0 wd0 sl0 nx0 bk0 al0 fl0 rt) (hlen0 : al0.length ≤ 61) (hl : wd_ok L K l) (hL : L ≤ 4) (hK : K ≤ 5) (hacc : acc ≤ 1) (hsy : ∀ i, i < l.length → a_symbol i = nI (l.getD i 0 + 1)) (hpa : ∀ p s, l = p ++ s → a_path p.length = nI (gr_go ch0 rt p))
    (Kp : ∀ fh us ac ch rf wd sl nx bk al fl r st dr da, xs_R L K fh us ac ch rf wd sl nx bk al fl r → (∀ v, wd_dig v → gr_M ac ch r v = if v = l then decide (acc = 1) else gr_M ac0 ch0 rt v) → post (f_letters, f_maxLength, f_maxWords, (nI fh), (nI us), nI r, da, f_imageSize, f_formLength, f_planned, (nN ac), (nN ch), (nN rf), (nN wd), (nN sl), (nN nx), (nN bk), dr, a_symbol, a_path, st, a_number, a_order, a_image, a_form, a_headOf, a_edge, a_level, a_imageWords, a_entered, a_plan, a_built)) :
    wpX_rebuild post (f_letters, f_maxLength, f_maxWords, (nI fh0), (nI us0), nI rt, f_draftAccept, f_imageSize, f_formLength, f_planned, (nN ac0), (nN ch0), (nN rf0), (nN wd0), (nN sl0), (nN nx0), (nN bk0), a_draft, a_symbol, a_path, a_stack, a_number, a_order, a_image, a_form, a_headOf, a_edge, a_level, a_imageWords, a_entered, a_plan, a_built) (nI l.length) y := by
  subst hy
  refine ⟨l.length + 2, ?_⟩
  have hdl : wd_dig l := wd_ok_dig hL hl
  have G0 := xs_G R
  have I := R.1
  have hl5 := hl.1
  have hn := xs_lt R hdl
  have hnd := xs_nd R hdl
  have ein : (nI l.length).toNatClampNeg = l.length := nI_clamp (by omega)
  refine br_f (nI_pos (by omega)) (And.intro (vp_in_nI (by omega) (by omega)) (xo_ld (n := gr_go ch0 rt l) (by rw [ein]; exact hpa l [] (by simp)) hn (fun dr2 hdr2 => ?_)))
  refine br_t rfl ?_
  have hc : ∀ x, x < 4 → (fun x => ch0 (gr_go ch0 rt l * 4 + x)) x = 0 ∨ (fun x => ch0 (gr_go ch0 rt l * 4 + x)) x ∈ al0 := fun x hx => gr_ch G0 hnd hx
  refine xi_intern (c := fun x => ch0 (gr_go ch0 rt l * 4 + x)) I hacc hc (by omega) (fun x hx => hdr2 x hx) (fun r' fh' us' ac' ch' rf' wd' sl' nx' bk' al' fl' I' T => ?_)
  refine nm_r (xk_m1 l.length) ?_
  obtain ⟨b1, b2, b3, b4, b5, b6⟩ := xb_step I I' T hc
  obtain ⟨t1, t2, t3, t4, t5, t6, t7, t8⟩ := T
  have hok0 : gr_ok ch0 (gr_go ch0 rt l) L (K - l.length) := gr_ok_go R.2.2.2.2 hdl
  have okr : gr_ok ch' r' L (K - l.length) := b3 L _ (fun x hx hz => gr_ok_ch hok0 hx hz)
  refine xb_loop R hlen0 hl hL hK hacc hsy hpa Kp l [] (by simp) fh' us' ac' ch' rf' wd' sl' nx' bk' al' fl' r' _ _ ⟨I', t1, t5, t2, fun m hm hz => ?_, by omega, fun m hm => ?_, okr, fun v hv => ?_⟩
  · obtain ⟨q1, q2⟩ := t8 m hm hz
    rcases q1 with q | ⟨q3, q4⟩
    · exact q
    · exact absurd q4 (R.2.1 m q3)
  · rcases t6 m hm with h | h
    · exact b5 m (Or.inr h) 5 (R.2.2.1 m h)
    · rw [h]; exact gr_dep_m (gr_ok_dep okr) (by omega)
  · cases v with
    | nil => rw [b2, if_pos rfl]
    | cons x v =>
      have hx := wd_dig_cons.mp hv
      rw [b1 x hx.1 v hx.2, if_neg (by simp)]
      rfl
end XB2
end
section
/-! X: rank, wordAt -/
section XQ
variable {f_letters f_maxLength f_maxWords f_freeHead f_used f_root f_draftAccept f_imageSize f_formLength f_planned : Int32} {a_accept a_child a_refs a_words a_slot a_next a_bucket a_draft a_symbol a_path a_stack a_number a_order a_image a_form a_headOf a_edge a_level a_imageWords a_entered a_plan a_built : Nat → Int32}
variable {D : Nat → Prop} {ac ch wd : Nat → Nat}
theorem xq_53 {post : Int32 → SX → Prop} {J : Int32 → Int32 → Int32 → Prop} {x2 : Int32} {n d b i : Nat} (hn : n < 128) (hd : d < 4) (hch : ∀ e, e < 4 → ch (n * 4 + e) < 128) (Kp : J (nI (b + gr_sm ch wd n d)) (nI (ch (n * 4 + d))) (nI (i + 1))) :
    ∀ (j e : Nat), e + j = d → wX_rank_53 post J x2 (nI n) (nI i) (nI d) f_letters f_maxLength f_maxWords f_freeHead f_used f_root f_draftAccept f_imageSize f_formLength f_planned a_accept (nN ch) a_refs (nN wd) a_slot a_next a_bucket a_draft a_symbol a_path a_stack a_number a_order a_image a_form a_headOf a_edge a_level a_imageWords a_entered a_plan a_built (j + 1) (nI (b + gr_sm ch wd n e)) (nI e) := by
  intro j
  induction j with
  | zero =>
    intro e he
    have : e = d := by omega
    subst this
    exact pk_le e e (fun _ => And.intro (xw_in4 hn hd) (nm_r (e' := nI (ch (n * 4 + e))) (by rw [xw_c4 hn hd]; rfl) (nm_r (nI_1 i) Kp))) (fun z => absurd z (by omega))
  | succ j ih =>
    intro e he
    have he4 : e < 4 := by omega
    have h1 := hch e he4
    have e1 : (nN ch) (nI n * 4 + nI e).toNatClampNeg = nI (ch (n * 4 + e)) := by rw [xw_c4 hn he4]; rfl
    refine pk_le d e (fun z => absurd z (by omega)) (fun _ => And.intro (xw_in4 hn he4) (And.intro (by rw [e1]; exact vp_in_nI h1 (by omega)) (nm_r (e' := nI (b + gr_sm ch wd n (e + 1))) ?_ (nm_r (nI_1 e) (ih (e + 1) (by omega))))))
    rw [e1, nI_clamp (by omega), gr_sm, ← Nat.add_assoc]; exact nI_add _ _
theorem xq_23 {post : Int32 → SX → Prop} {len : Nat} (G : gr_G D ac ch wd) (hD : ∀ n, D n → n < 128) (hlen : len ≤ 5) : ∀ (s : List Nat) (n i b : Nat), (n = 0 ∨ D n) → wd_dig s → i + s.length = len → (∀ j, j < s.length → a_symbol (i + j) = nI (s.getD j 0 + 1)) → post (nI (b + gr_rk ac ch wd n s)) (f_letters, f_maxLength, f_maxWords, f_freeHead, f_used, f_root, f_draftAccept, f_imageSize, f_formLength, f_planned, nN ac, nN ch, a_refs, nN wd, a_slot, a_next, a_bucket, a_draft, a_symbol, a_path, a_stack, a_number, a_order, a_image, a_form, a_headOf, a_edge, a_level, a_imageWords, a_entered, a_plan, a_built) → wX_rank_23 post (nI len) f_letters f_maxLength f_maxWords f_freeHead f_used f_root f_draftAccept f_imageSize f_formLength f_planned (nN ac) (nN ch) a_refs (nN wd) a_slot a_next a_bucket a_draft a_symbol a_path a_stack a_number a_order a_image a_form a_headOf a_edge a_level a_imageWords a_entered a_plan a_built (s.length + 1) (nI b) (nI n) (nI i) := by
  have lt : ∀ n, (n = 0 ∨ D n) → n < 128 := by
    rintro n (rfl | h)
    · omega
    · exact hD n h
  intro s
  induction s with
  | nil =>
    intro n i b hn _ hi _ Kp
    rw [List.length_nil] at hi
    exact pk_le len i (fun _ => Kp) (fun z => absurd z (by omega))
  | cons d s ih =>
    intro n i b hn hs hi hsy Kp
    rw [List.length_cons] at hi
    have h1 := wd_dig_cons.mp hs
    have hnl := lt n hn
    have hsy0 : a_symbol i = nI (d + 1) := by
      have := hsy 0 (by simp)
      simpa using this
    refine pk_le len i (fun z => absurd z (by omega)) (fun _ => And.intro (vp_in_nI hnl (by omega)) (nm_r (e' := nI (b + ac n)) (by rw [nI_clamp (by omega), ← nI_add]; rfl) (And.intro (vp_in_nI (by omega) (by omega)) (nm_r (e' := nI d) (by rw [nI_clamp (by omega), hsy0, nI_pred]) ⟨d + 1, ?_⟩))))
    refine xq_53 (b := b + ac n) hnl h1.1 (fun e he => lt _ (gr_ch G hn he)) ?_ d 0 (by omega)
    refine ih _ (i + 1) _ (gr_ch G hn h1.1) h1.2 (by omega) (fun j hj => ?_) ?_
    · have := hsy (j + 1) (by simp; omega)
      rw [show i + 1 + j = i + (j + 1) by omega]
      simpa using this
    · rw [gr_rk, ← Nat.add_assoc, ← Nat.add_assoc] at Kp; exact Kp
theorem xq_67 {post : Int32 → Prop} {J : Int32 → Int32 → Int32 → Int32 → Prop} {n r cd i : Nat} (G : gr_G D ac ch wd) (hD : ∀ n, D n → n < 128) (hn : D n) (hr : r < wd n) (hw : wd n < 2 ^ 30)
    (Kp : ∀ d, gr_st ac ch wd n r d → J (nI (ch (n * 4 + d))) (nI (r - ac n - gr_sm ch wd n d)) (nI (cd * 10 + d + 1)) (nI (i + 1))) :
    ∀ (j e : Nat), e + j = 3 → ac n + gr_sm ch wd n e ≤ r → wX_wordAt_67 post J (nI n) (nI cd) (nI i) f_letters f_maxLength f_maxWords f_freeHead f_used f_root f_draftAccept f_imageSize f_formLength f_planned a_accept (nN ch) a_refs (nN wd) a_slot a_next a_bucket a_draft a_symbol a_path a_stack a_number a_order a_image a_form a_headOf a_edge a_level a_imageWords a_entered a_plan a_built (j + 1) (nI (r - ac n - gr_sm ch wd n e)) (nI e) := by
  have hnl := hD n hn
  have hgs := gr_sm4 G hn
  have e0 : gr_sm ch wd n 4 = wd (ch (n * 4 + 0)) + wd (ch (n * 4 + 1)) + wd (ch (n * 4 + 2)) + wd (ch (n * 4 + 3)) := by
    simp only [gr_sm]; omega
  have hwe : ∀ e, e < 4 → wd (ch (n * 4 + e)) ≤ wd n ∧ ch (n * 4 + e) < 128 := by
    intro e he
    refine ⟨?_, ?_⟩
    · have : e = 0 ∨ e = 1 ∨ e = 2 ∨ e = 3 := by omega
      rcases this with rfl | rfl | rfl | rfl <;> omega
    · rcases gr_ch G (Or.inr hn) he with h | h
      · omega
      · exact hD _ h
  have ex : ∀ e, gr_st ac ch wd n r e → wX_wordAt_118 post J (nI n) (nI (r - ac n - gr_sm ch wd n e)) (nI cd) (nI i) (nI e) f_letters f_maxLength f_maxWords f_freeHead f_used f_root f_draftAccept f_imageSize f_formLength f_planned a_accept (nN ch) a_refs (nN wd) a_slot a_next a_bucket a_draft a_symbol a_path a_stack a_number a_order a_image a_form a_headOf a_edge a_level a_imageWords a_entered a_plan a_built := by
    intro e he
    refine And.intro (xw_in4 hnl he.1) (nm_r (e' := nI (ch (n * 4 + e))) (by rw [xw_c4 hnl he.1]; rfl) (nm_r (e' := nI (cd * 10 + e + 1)) ?_ (nm_r (nI_1 i) (Kp e he))))
    rw [show (10 : Int32) = nI 10 from rfl, pk_mul, nI_add, nI_1]
  intro j
  induction j with
  | zero =>
    intro e he hle
    have : e = 3 := by omega
    subst this
    exact pk_le 3 3 (fun _ => ex 3 ⟨by omega, hle, show r < ac n + gr_sm ch wd n 4 by omega⟩) (fun z => absurd z (by omega))
  | succ j ih =>
    intro e he hle
    have he4 : e < 4 := by omega
    obtain ⟨h1, h2⟩ := hwe e he4
    have e1 : (nN ch) (nI n * 4 + nI e).toNatClampNeg = nI (ch (n * 4 + e)) := by rw [xw_c4 hnl he4]; rfl
    have e2 : (nN wd) ((nN ch) (nI n * 4 + nI e).toNatClampNeg).toNatClampNeg = nI (wd (ch (n * 4 + e))) := by rw [e1, nI_clamp (by omega)]; rfl
    have i2 : vp_in ((nN ch) (nI n * 4 + nI e).toNatClampNeg) 128 := by rw [e1]; exact vp_in_nI h2 (by omega)
    refine pk_le 3 e (fun z => absurd z (by omega)) (fun _ => And.intro (xw_in4 hnl he4) (And.intro i2 ?_))
    refine pk_lt (r - ac n - gr_sm ch wd n e) (wd (ch (n * 4 + e))) (fun z => ex e ⟨he4, hle, ?_⟩) (fun z => And.intro (xw_in4 hnl he4) (And.intro i2 (nm_r (e' := nI (r - ac n - gr_sm ch wd n (e + 1))) ?_ (nm_r (nI_1 e) (ih (e + 1) (by omega) ?_))))) rfl e2
    · rw [gr_sm]; omega
    · rw [e2, pk_sub z, gr_sm]; congr 1; omega
    · rw [gr_sm]; omega
theorem xq_33 {post : Int32 → Prop} {K : Nat} (G : gr_G D ac ch wd) (hD : ∀ n, D n → n < 128) (hK : K ≤ 5) : ∀ (f n r i : Nat) (p : List Nat), D n → gr_dep ch n f → r < wd n → wd n < 2 ^ 30 → i + f = K →
    (∀ v, wd_dig v → v.length ≤ f → gr_M ac ch n v = true → gr_rk ac ch wd n v = r → post (nI (wd_enc (p ++ v)))) → wX_wordAt_33 post f_letters (nI K) f_maxWords f_freeHead f_used f_root f_draftAccept f_imageSize f_formLength f_planned (nN ac) (nN ch) a_refs (nN wd) a_slot a_next a_bucket a_draft a_symbol a_path a_stack a_number a_order a_image a_form a_headOf a_edge a_level a_imageWords a_entered a_plan a_built (f + 1) (nI n) (nI r) (nI (wd_enc p)) (nI i) := by
  intro f
  induction f with
  | zero =>
    intro n r i p hn hdep hr hw hi Kp
    have hg := (G.2 n hn).2.2.2.2
    rw [gr_dep_0 hdep (d := 0) (by omega), gr_dep_0 hdep (d := 1) (by omega), gr_dep_0 hdep (d := 2) (by omega), gr_dep_0 hdep (d := 3) (by omega), G.1.2.1] at hg
    have h1 := (G.2 n hn).2.1
    have := Kp [] wd_dig_nil (Nat.le_refl _) (by rw [gr_M, gr_go_nil]; exact decide_eq_true (by omega)) (by rw [gr_rk]; omega)
    rw [List.append_nil] at this
    exact pk_le K i (fun _ => this) (fun z => absurd z (by omega))
  | succ f ih =>
    intro n r i p hn hdep hr hw hi Kp
    have hnl := hD n hn
    have h1 := (G.2 n hn).2.1
    have en : (nI n).toNatClampNeg = n := nI_clamp (by omega)
    have go : ac n ≤ r → wX_wordAt_55 post (wX_wordAt_33 post f_letters (nI K) f_maxWords f_freeHead f_used f_root f_draftAccept f_imageSize f_formLength f_planned (nN ac) (nN ch) a_refs (nN wd) a_slot a_next a_bucket a_draft a_symbol a_path a_stack a_number a_order a_image a_form a_headOf a_edge a_level a_imageWords a_entered a_plan a_built (f + 1)) (nI n) (nI r) (nI (wd_enc p)) (nI i) f_letters (nI K) f_maxWords f_freeHead f_used f_root f_draftAccept f_imageSize f_formLength f_planned (nN ac) (nN ch) a_refs (nN wd) a_slot a_next a_bucket a_draft a_symbol a_path a_stack a_number a_order a_image a_form a_headOf a_edge a_level a_imageWords a_entered a_plan a_built := by
      intro hle
      refine And.intro (vp_in_nI hnl (by omega)) (nm_r (e' := nI (r - ac n - gr_sm ch wd n 0)) (by rw [en]; exact pk_sub hle) ⟨4, ?_⟩)
      refine xq_67 G hD hn hr hw (fun d hst => ?_) 3 0 rfl (by rw [gr_sm]; omega)
      have hlt := gr_st_lt hst
      have hcz : ch (n * 4 + d) ≠ 0 := by
        intro z
        rw [z, G.1.2.1] at hlt; omega
      have hcD := ((G.2 n hn).2.2.1 d hst.1).resolve_left hcz
      have hcw : wd (ch (n * 4 + d)) < 2 ^ 30 := by
        have hg := (G.2 n hn).2.2.2.2
        have hd4 := hst.1
        have : d = 0 ∨ d = 1 ∨ d = 2 ∨ d = 3 := by omega
        rcases this with rfl | rfl | rfl | rfl <;> omega
      have := ih (ch (n * 4 + d)) (r - ac n - gr_sm ch wd n d) (i + 1) (p ++ [d]) hcD (gr_dep_ch hdep hst.1) hlt hcw (by omega) (fun v g1 g2 g3 g4 => ?_)
      · rw [wd_enc_snoc] at this; exact this
      · have := Kp (d :: v) (wd_dig_cons.mpr ⟨hst.1, g1⟩) (by simp; omega) g3 (gr_rk_st hst g4)
        rw [List.append_assoc]; exact this
    refine pk_le K i (fun z => absurd z (by omega)) (fun _ => pk_lt 0 r (fun z => go (by omega)) (fun z => And.intro (vp_in_nI hnl (by omega)) (pk_eq (ac n) 0 (fun z2 => go (by omega)) (fun z2 => ?_) (by rw [en]; rfl))))
    have := Kp [] wd_dig_nil (Nat.zero_le _) (by rw [gr_M, gr_go_nil]; exact decide_eq_true (by omega)) (by rw [gr_rk]; omega)
    rw [List.append_nil] at this
    exact this
end XQ
end
section
/-! the walk in depth, with a stack (top first) -/
def df_pu (ch : Nat → Nat) (o : List Nat) (n : Nat) : Nat → List Nat → List Nat
  | 0, st => st
  | k + 1, st => df_pu ch o n k (if ch (n * 4 + k) ≠ 0 ∧ ch (n * 4 + k) ∉ o then ch (n * 4 + k) :: st else st)
def df_R (ch : Nat → Nat) : Nat → List Nat → List Nat → List Nat → Prop
  | 0 => fun o st o' => st = [] ∧ o' = o
  | f + 1 => fun o st o' => match st with
    | [] => o' = o
    | n :: st => (n ∈ o → df_R ch f o st o') ∧ (n ∉ o → df_R ch f (o ++ [n]) (df_pu ch (o ++ [n]) n 4 st) o')
def df_p1 (ch : Nat → Nat) (o : List Nat) (n k : Nat) : List Nat := if ch (n * 4 + k) ≠ 0 ∧ ch (n * 4 + k) ∉ o then [ch (n * 4 + k)] else []
theorem df_pu_s (ch : Nat → Nat) (o : List Nat) (n k : Nat) (st : List Nat) : df_pu ch o n (k + 1) st = df_pu ch o n k (df_p1 ch o n k ++ st) := by
  rw [df_pu, df_p1]
  split <;> rfl
theorem df_pu_4 (ch : Nat → Nat) (o : List Nat) (n : Nat) (st : List Nat) : df_pu ch o n 4 st = df_p1 ch o n 0 ++ (df_p1 ch o n 1 ++ (df_p1 ch o n 2 ++ (df_p1 ch o n 3 ++ st))) := by
  rw [df_pu_s, df_pu_s, df_pu_s, df_pu_s, df_pu]
theorem df_pu_len (ch : Nat → Nat) (o : List Nat) (n : Nat) : ∀ (k : Nat) (st : List Nat), st.length ≤ (df_pu ch o n k st).length ∧ (df_pu ch o n k st).length ≤ st.length + k := by
  intro k
  induction k with
  | zero => intro st; exact ⟨Nat.le_refl _, Nat.le_refl _⟩
  | succ k ih =>
    intro st
    rw [df_pu]
    split
    · have := ih (ch (n * 4 + k) :: st)
      rw [List.length_cons] at this; omega
    · have := ih st; omega
theorem df_pu_mem (ch : Nat → Nat) (o : List Nat) (n : Nat) : ∀ (k : Nat) (st : List Nat) (x : Nat), x ∈ df_pu ch o n k st → x ∈ st ∨ (x ≠ 0 ∧ ∃ d, d < k ∧ ch (n * 4 + d) = x) := by
  intro k
  induction k with
  | zero => intro st x h; exact Or.inl h
  | succ k ih =>
    intro st x h
    rw [df_pu] at h
    split at h
    · rename_i hc
      rcases ih _ x h with h | ⟨h1, d, hd, h2⟩
      · rcases List.mem_cons.mp h with rfl | h
        · exact Or.inr ⟨hc.1, k, by omega, rfl⟩
        · exact Or.inl h
      · exact Or.inr ⟨h1, d, by omega, h2⟩
    · rcases ih _ x h with h | ⟨h1, d, hd, h2⟩
      · exact Or.inl h
      · exact Or.inr ⟨h1, d, by omega, h2⟩
section DF
variable {D : Nat → Prop} {ac ch wd : Nat → Nat}
theorem gr_nocyc {n k : Nat} (hk : gr_dep ch n k) (hn : n ≠ 0) {v : List Nat} (hv : wd_dig v) (hv2 : v ≠ []) : gr_go ch n v ≠ n := by
  intro e
  have : ∀ j, ∃ w, wd_dig w ∧ j ≤ w.length ∧ gr_go ch n w = n := by
    intro j
    induction j with
    | zero => exact ⟨[], wd_dig_nil, Nat.zero_le _, rfl⟩
    | succ j ih =>
      obtain ⟨w, h1, h2, h3⟩ := ih
      refine ⟨w ++ v, wd_dig_app.mpr ⟨h1, hv⟩, ?_, by rw [gr_go_app, h3, e]⟩
      have : 0 < v.length := List.length_pos_iff.mpr hv2
      rw [List.length_append]; omega
  obtain ⟨w, h1, h2, h3⟩ := this (k + 1)
  rw [hk w h1 (by omega)] at h3
  exact hn h3.symm
def df_cl (ch : Nat → Nat) (o : List Nat) (n : Nat) : Prop := ∀ m, m ∈ o → (∃ p, wd_dig p ∧ gr_go ch n p = m) → ∀ q, wd_dig q → gr_go ch m q ≠ 0 → gr_go ch m q ∈ o
theorem df_in {k n : Nat} {o : List Nat} (hc : df_cl ch o n) (hn : n ∈ o) : dd_up o (gr_seq ch k n) = o := by
  apply dd_sub
  intro x hx
  obtain ⟨h1, p, _, h2, h3⟩ := gr_seq_mem.mp hx
  rw [← h3] at h1 ⊢
  exact hc n hn ⟨[], wd_dig_nil, rfl⟩ p h2 h1
theorem df_rec (G : gr_G D ac ch wd) : ∀ (k n : Nat), D n → gr_dep ch n k → ∀ o, df_cl ch o n → ∃ s, s + 4 * o.length ≤ 1 + 4 * (dd_up o (gr_seq ch k n)).length ∧ ∀ f st o', df_R ch f (dd_up o (gr_seq ch k n)) st o' → df_R ch (f + s) o (n :: st) o' := by
  intro k
  induction k with
  | zero =>
    intro n hn hk o hc
    by_cases hm : n ∈ o
    · rw [df_in hc hm]
      exact ⟨1, by omega, fun f st o' h => ⟨fun _ => h, fun z => absurd hm z⟩⟩
    · have e : dd_up o (gr_seq ch 0 n) = o ++ [n] := by
        rw [gr_seq_0 (G.2 n hn).1, dd_cons, dd_nil, dd_in, if_neg hm]
      rw [e]
      refine ⟨1, by simp; omega, fun f st o' h => ⟨fun z => absurd z hm, fun _ => ?_⟩⟩
      have z : ∀ d, d < 4 → df_p1 ch (o ++ [n]) n d = [] := fun d hd => if_neg (fun z => z.1 (gr_dep_0 hk hd))
      rw [df_pu_4, z 0 (by omega), z 1 (by omega), z 2 (by omega), z 3 (by omega)]
      exact h
  | succ k ih =>
    intro n hn hk o hc
    by_cases hm : n ∈ o
    · rw [df_in hc hm]
      exact ⟨1, by omega, fun f st o' h => ⟨fun _ => h, fun z => absurd hm z⟩⟩
    · have n0 := (G.2 n hn).1
      have e : dd_up o (gr_seq ch (k + 1) n) = dd_up (dd_up (dd_up (dd_up (o ++ [n]) (gr_seq ch k (ch (n * 4 + 0)))) (gr_seq ch k (ch (n * 4 + 1)))) (gr_seq ch k (ch (n * 4 + 2)))) (gr_seq ch k (ch (n * 4 + 3))) := by
        rw [gr_seq_s k n0, dd_cons, dd_in, if_neg hm]
        simp only [List.flatMap_cons, List.flatMap_nil, List.append_nil, dd_app]
      have W0 : ∀ m, m ∈ o ++ [n] → m ∈ o ∨ m = n ∨ ∀ q, wd_dig q → gr_go ch m q ≠ 0 → gr_go ch m q ∈ o ++ [n] := by
        intro m h
        rcases List.mem_append.mp h with h | h
        · exact Or.inl h
        · exact Or.inr (Or.inl (by simpa using h))
      have one : ∀ d, d < 4 → ∀ od, (∀ m, m ∈ o ++ [n] → m ∈ od) → (∀ m, m ∈ od → m ∈ o ∨ m = n ∨ ∀ q, wd_dig q → gr_go ch m q ≠ 0 → gr_go ch m q ∈ od) →
          (∀ m, m ∈ o ++ [n] → m ∈ dd_up od (gr_seq ch k (ch (n * 4 + d)))) ∧ (∀ m, m ∈ dd_up od (gr_seq ch k (ch (n * 4 + d))) → m ∈ o ∨ m = n ∨ ∀ q, wd_dig q → gr_go ch m q ≠ 0 → gr_go ch m q ∈ dd_up od (gr_seq ch k (ch (n * 4 + d)))) ∧
          ∃ s, s + 4 * od.length ≤ 1 + 4 * (dd_up od (gr_seq ch k (ch (n * 4 + d)))).length ∧ ∀ f st o', df_R ch f (dd_up od (gr_seq ch k (ch (n * 4 + d)))) st o' → df_R ch (f + s) od (df_p1 ch (o ++ [n]) n d ++ st) o' := by
        intro d hd od hsub W
        have hkd := gr_dep_ch hk hd
        have cl : df_cl ch od (ch (n * 4 + d)) := by
          intro m hmo ⟨p, hp, hg⟩ q hq hz
          rcases W m hmo with h | h | h
          · exact hsub _ (List.mem_append_left _ (hc m h ⟨d :: p, wd_dig_cons.mpr ⟨hd, hp⟩, hg⟩ q hq hz))
          · exfalso
            rw [h] at hg
            exact gr_nocyc hk n0 (wd_dig_cons.mpr ⟨hd, hp⟩) (by simp) hg
          · exact h q hq hz
        refine ⟨fun m h => (dd_mem _ _ _).mpr (Or.inl (hsub m h)), fun m h => ?_, ?_⟩
        · rcases (dd_mem _ _ _).mp h with h | h
          · rcases W m h with h2 | h2 | h2
            · exact Or.inl h2
            · exact Or.inr (Or.inl h2)
            · exact Or.inr (Or.inr (fun q hq hz => (dd_mem _ _ _).mpr (Or.inl (h2 q hq hz))))
          · obtain ⟨h1, p, _, h2, h3⟩ := gr_seq_mem.mp h
            refine Or.inr (Or.inr (fun q hq hz => (dd_mem _ _ _).mpr (Or.inr (gr_seq_mem.mpr ⟨hz, p ++ q, ?_, wd_dig_app.mpr ⟨h2, hq⟩, by rw [gr_go_app, h3]⟩))))
            rcases Nat.lt_or_ge k (p ++ q).length with h9 | h9
            · have := hkd _ (wd_dig_app.mpr ⟨h2, hq⟩) h9
              rw [gr_go_app, h3] at this
              exact absurd this hz
            · exact h9
        · by_cases z : ch (n * 4 + d) = 0
          · have e1 : df_p1 ch (o ++ [n]) n d = [] := if_neg (fun y => y.1 z)
            rw [e1, z, gr_seq_z G, dd_nil]
            exact ⟨0, by omega, fun f st o' h => h⟩
          · by_cases y : ch (n * 4 + d) ∈ o ++ [n]
            · have e1 : df_p1 ch (o ++ [n]) n d = [] := if_neg (fun w => w.2 y)
              rw [e1, df_in cl (hsub _ y)]
              exact ⟨0, by omega, fun f st o' h => h⟩
            · have e1 : df_p1 ch (o ++ [n]) n d = [ch (n * 4 + d)] := if_pos ⟨z, y⟩
              rw [e1]
              exact ih _ (((G.2 n hn).2.2.1 d hd).resolve_left z) hkd od cl
      obtain ⟨a0, b0, s0, l0, r0⟩ := one 0 (by omega) _ (fun m h => h) W0
      obtain ⟨a1, b1, s1, l1, r1⟩ := one 1 (by omega) _ a0 b0
      obtain ⟨a2, b2, s2, l2, r2⟩ := one 2 (by omega) _ a1 b1
      obtain ⟨a3, b3, s3, l3, r3⟩ := one 3 (by omega) _ a2 b2
      rw [e]
      refine ⟨s3 + s2 + s1 + s0 + 1, ?_, fun f st o' h => ?_⟩
      · rw [List.length_append, List.length_singleton] at l0
        omega
      · refine ⟨fun z => absurd z hm, fun _ => ?_⟩
        rw [df_pu_4]
        have q3 := r3 f st o' h
        have q2 := r2 _ _ o' q3
        have q1 := r1 _ _ o' q2
        have q0 := r0 _ _ o' q1
        have e9 : f + s3 + s2 + s1 + s0 = f + (s3 + s2 + s1 + s0) := by omega
        rw [e9] at q0
        exact q0
def gr_or (ch : Nat → Nat) (n : Nat) : List Nat := if n = 0 then [0] else dd_up [] (gr_seq ch 5 n)
theorem df_top (G : gr_G D ac ch wd) {n : Nat} (hn : n = 0 ∨ D n) (hk : gr_dep ch n 5) : ∃ s, s ≤ 1 + 4 * (gr_or ch n).length ∧ df_R ch s [] [n] (gr_or ch n) := by
  rcases hn with rfl | hn
  · refine ⟨1, by omega, ⟨fun z => absurd z List.not_mem_nil, fun _ => ?_⟩⟩
    have z : ∀ d, d < 4 → df_p1 ch ([] ++ [0]) 0 d = [] := fun d hd => if_neg (fun z => z.1 (gr_dep_0 (gr_dep_z G 0) hd))
    rw [df_pu_4, z 0 (by omega), z 1 (by omega), z 2 (by omega), z 3 (by omega)]
    exact ⟨rfl, rfl⟩
  · have e : gr_or ch n = dd_up [] (gr_seq ch 5 n) := if_neg (G.2 n hn).1
    obtain ⟨s, h1, h2⟩ := df_rec G 5 n hn hk [] (fun m h => absurd h List.not_mem_nil)
    rw [e]
    refine ⟨s, by simpa using h1, ?_⟩
    have := h2 0 [] _ ⟨rfl, rfl⟩
    rw [Nat.zero_add] at this
    exact this
theorem gr_or_nd (n : Nat) : (gr_or ch n).Nodup := by
  rw [gr_or]
  split
  · simp
  · exact dd_nodup _ _ (by simp)
theorem gr_or_mem (G : gr_G D ac ch wd) {n : Nat} (hn : n = 0 ∨ D n) (hk : gr_dep ch n 5) {m : Nat} : m ∈ gr_or ch n ↔ (n = 0 ∧ m = 0) ∨ (n ≠ 0 ∧ m ≠ 0 ∧ ∃ p, wd_dig p ∧ gr_go ch n p = m) := by
  rw [gr_or]
  by_cases z : n = 0
  · rw [if_pos z, List.mem_singleton]
    exact ⟨fun h => Or.inl ⟨z, h⟩, fun h => h.elim (fun y => y.2) (fun y => absurd z y.1)⟩
  · rw [if_neg z, dd_mem, gr_seq_mem]
    constructor
    · rintro (h | ⟨h1, p, h2, h3, h4⟩)
      · exact absurd h List.not_mem_nil
      · exact Or.inr ⟨z, h1, p, h3, h4⟩
    · rintro (h | ⟨_, h1, p, h3, h4⟩)
      · exact absurd h.1 z
      · refine Or.inr ⟨h1, p, ?_, h3, h4⟩
        rcases Nat.lt_or_ge 5 p.length with h | h
        · rw [hk p h3 h] at h4; exact absurd h4.symm h1
        · exact h
/-- the states' languages in order are the order's nodes' languages -/
theorem gr_or_D (G : gr_G D ac ch wd) (Un : gr_un D ac ch) (hD : ∀ m, D m → gr_dep ch m 5) {n : Nat} (hn : n = 0 ∨ D n) : (gr_or ch n).map (gr_key ac ch) = fo_D (gr_M ac ch n) := by
  have hk : gr_dep ch n 5 := by
    rcases hn with rfl | hn
    · exact gr_dep_z G 5
    · exact hD n hn
  have hD0 : ∀ m, (m = 0 ∨ D m) → gr_dep ch m 5 := by
    rintro m (rfl | h)
    · exact gr_dep_z G 5
    · exact hD m h
  rw [fo_D]
  have em : (wd_P (gr_M ac ch n)).map (wd_fu (gr_M ac ch n)) = ((wd_P (gr_M ac ch n)).map (gr_go ch n)).map (gr_key ac ch) := by
    rw [List.map_map]
    apply List.map_congr_left
    intro p _
    exact gr_fu ac ch n p
  rw [em]
  have es : (wd_P (gr_M ac ch n)).map (gr_go ch n) = if n = 0 then [0] else gr_seq ch 5 n := by
    by_cases z : n = 0
    · rw [if_pos z]
      have : wd_P (gr_M ac ch n) = [[]] := by
        obtain ⟨t, ht⟩ := wd_P_head (gr_M ac ch n)
        have hnd := wd_P_nodup (gr_M ac ch n)
        cases t with
        | nil => exact ht
        | cons x t =>
          exfalso
          have hx : x ∈ wd_P (gr_M ac ch n) := by rw [ht]; simp
          have hx1 := List.mem_filter.mp hx
          have hx2 := (wd_mem 5 x).mp hx1.1
          rcases (gr_lv G hn hk hx2.2).mp hx1.2 with h | h
          · rw [ht, h, List.nodup_cons] at hnd
            exact hnd.1 List.mem_cons_self
          · rw [z] at h; exact h (gr_z G x hx2.2)
      rw [this, z]; rfl
    · rw [if_neg z, gr_seq, wd_P]
      congr 1
      apply List.filter_congr
      intro p hp
      have hp2 := ((wd_mem 5 p).mp hp).2
      rw [Bool.eq_iff_iff, gr_lv G hn hk hp2, decide_eq_true_eq]
      constructor
      · rintro (h | h)
        · rw [h]; exact z
        · exact h
      · exact Or.inr
  rw [es]
  have inj : ∀ x y, (x ∈ ([] : List Nat) ∨ x ∈ (if n = 0 then [0] else gr_seq ch 5 n)) → (y ∈ ([] : List Nat) ∨ y ∈ (if n = 0 then [0] else gr_seq ch 5 n)) → gr_key ac ch x = gr_key ac ch y → x = y := by
    have dm : ∀ x, (x ∈ ([] : List Nat) ∨ x ∈ (if n = 0 then [0] else gr_seq ch 5 n)) → x = 0 ∨ D x := by
      intro x hx
      have hx := hx.resolve_left List.not_mem_nil
      rw [← es] at hx
      obtain ⟨p, hp, e⟩ := List.mem_map.mp hx
      rw [← e]
      exact gr_dom G p n hn ((wd_mem 5 p).mp (List.mem_filter.mp hp).1).2
    intro x y hx hy e
    exact gr_inj G Un 5 x y (dm x hx) (dm y hy) (hD0 x (dm x hx)) (hD0 y (dm y hy)) (gr_key_M (hD0 x (dm x hx)) (hD0 y (dm y hy)) G e)
  have := dd_map (gr_key ac ch) (if n = 0 then [0] else gr_seq ch 5 n) [] inj
  rw [List.map_nil] at this
  rw [← this]
  congr 1
  rw [gr_or]
  by_cases z : n = 0
  · rw [if_pos z, if_pos z]; rfl
  · rw [if_neg z, if_neg z]
def gr_bl (ac ch : Nat → Nat) (o : List Nat) (n : Nat) : List Nat := fo_h (ac n) (gr_b ch n) :: fo_ts (gr_b ch n) (fun d => dd_ix (ch (n * 4 + d)) o)
theorem fo_h_congr {a : Nat} {b b' : Nat → Bool} (h : ∀ d, d < 4 → b d = b' d) : fo_h a b = fo_h a b' := by
  rw [fo_h, fo_h, h 0 (by omega), h 1 (by omega), h 2 (by omega), h 3 (by omega)]
theorem fo_ts_congr {b b' : Nat → Bool} {t t' : Nat → Nat} (h : ∀ d, d < 4 → b d = b' d) (h2 : ∀ d, d < 4 → b d = true → t d = t' d) : fo_ts b t = fo_ts b' t' := by
  rw [fo_ts, fo_ts]
  have : ([0, 1, 2, 3] : List Nat).filter b = ([0, 1, 2, 3] : List Nat).filter b' := List.filter_congr (fun d hd => h d (wd_d4.mp hd))
  rw [← this]
  apply List.map_congr_left
  intro d hd
  have := List.mem_filter.mp hd
  exact h2 d (wd_d4.mp this.1) this.2
theorem gr_bl_key (G : gr_G D ac ch wd) (Un : gr_un D ac ch) (hD : ∀ m, D m → gr_dep ch m 5) {n m : Nat} (hn : n = 0 ∨ D n) (hm : m ∈ gr_or ch n) : fo_bl (fo_D (gr_M ac ch n)) (gr_key ac ch m) = gr_bl ac ch (gr_or ch n) m := by
  have hD0 : ∀ m, (m = 0 ∨ D m) → gr_dep ch m 5 := by
    rintro m (rfl | h)
    · exact gr_dep_z G 5
    · exact hD m h
  have orD : ∀ m, m ∈ gr_or ch n → m = 0 ∨ D m := by
    intro m hm
    rcases (gr_or_mem G hn (hD0 n hn)).mp hm with ⟨_, h⟩ | ⟨_, _, p, hp, e⟩
    · exact Or.inl h
    · rw [← e]; exact gr_dom G p n hn hp
  have hm2 := orD m hm
  have hkm := hD0 m hm2
  have ek : gr_key ac ch m = wd_fu (gr_M ac ch m) [] := (gr_fu ac ch m []).symm
  have edv : ∀ d, d < 4 → fo_dv d (gr_key ac ch m) = gr_key ac ch (ch (m * 4 + d)) := by
    intro d hd
    rw [ek, fo_dv_fu (gr_sup G hkm) wd_dig_nil hd, gr_fu]; rfl
  have eb : ∀ d, d < 4 → fo_b (gr_key ac ch m) d = gr_b ch m d := by
    intro d hd
    rw [ek, fo_b_fu (gr_sup G hkm) wd_dig_nil hd, Bool.eq_iff_iff, gr_lv G hm2 hkm (wd_dig_app.mpr ⟨wd_dig_nil, wd_dig_one hd⟩), gr_b, decide_eq_true_eq]
    constructor
    · rintro (h | h)
      · simp at h
      · exact h
    · exact Or.inr
  have ea : fo_ac (gr_key ac ch m) = ac m := by
    rw [ek, fo_ac_fu (gr_sup G hkm) wd_dig_nil]
    have e1 : gr_M ac ch m [] = decide (ac m = 1) := rfl
    have e2 : ac m ≤ 1 := by
      rcases hm2 with rfl | h
      · rw [G.1.1]; omega
      · exact (G.2 m h).2.1
    rw [e1]
    by_cases z : ac m = 1
    · rw [if_pos (decide_eq_true z), z]
    · rw [if_neg (by simpa using z)]; omega
  rw [fo_bl, gr_bl, ea, fo_h_congr eb]
  congr 1
  refine fo_ts_congr eb (fun d hd _ => ?_)
  rw [edv d hd, ← gr_or_D G Un hD hn]
  apply dd_ix_map
  intro y hy e
  have h1 := gr_ch G hm2 hd
  exact gr_inj G Un 5 _ _ h1 (orD y hy) (hD0 _ h1) (hD0 y (orD y hy)) (gr_key_M (hD0 _ h1) (hD0 y (orD y hy)) G e)
theorem gr_form (G : gr_G D ac ch wd) (Un : gr_un D ac ch) (hD : ∀ m, D m → gr_dep ch m 5) {n : Nat} (hn : n = 0 ∨ D n) : (gr_or ch n).flatMap (gr_bl ac ch (gr_or ch n)) = fo_F (gr_M ac ch n) := by
  rw [fo_F]
  have e := gr_or_D G Un hD hn
  have : ∀ Dl, Dl = fo_D (gr_M ac ch n) → (gr_or ch n).map (gr_key ac ch) = Dl → Dl.flatMap (fo_bl Dl) = (gr_or ch n).flatMap (gr_bl ac ch (gr_or ch n)) := by
    intro Dl e1 e2
    conv => lhs; rw [← e2]
    rw [List.flatMap_map, e2, e1]
    rw [List.flatMap_def, List.flatMap_def]
    congr 1
    apply List.map_congr_left
    intro m hm
    exact gr_bl_key G Un hD hn hm
  exact (this _ rfl e).symm
theorem gr_form_len (G : gr_G D ac ch wd) {n : Nat} (hn : n = 0 ∨ D n) (hk : gr_dep ch n 5) (hw : wd n ≤ 12) : ((gr_or ch n).flatMap (gr_bl ac ch (gr_or ch n))).length ≤ 121 := by
  have e1 : ∀ (o l : List Nat), (l.flatMap (gr_bl ac ch o)).length = (l.map (fun m => 1 + gr_dg ch m)).sum := by
    intro o l
    induction l with
    | nil => rfl
    | cons x l ih =>
      rw [List.flatMap_cons, List.length_append, ih, List.map_cons, List.sum_cons, gr_bl, List.length_cons, fo_ts, List.length_map, gr_dg]; omega
  rw [e1, gr_or]
  rcases hn with rfl | hn
  · rw [if_pos rfl]
    have : gr_dg ch 0 = 0 := by
      rw [gr_dg_e, gr_b1, gr_b1, gr_b1, gr_b1, if_pos (gr_dep_0 (gr_dep_z G 0) (by omega)), if_pos (gr_dep_0 (gr_dep_z G 0) (by omega)), if_pos (gr_dep_0 (gr_dep_z G 0) (by omega)), if_pos (gr_dep_0 (gr_dep_z G 0) (by omega))]
    simp [this]
  · rw [if_neg (G.2 n hn).1]
    have h1 := dd_sum (fun m => 1 + gr_dg ch m) (gr_seq ch 5 n) []
    have h2 := gr_cost G 5 n hn hk
    simp only [List.map_nil, List.sum_nil] at h1
    omega
end DF
end
section
/-! X: numberStates, writeForm -/
def xn_h (a : Nat → Int32) (o : List Nat) : Prop := ∀ j, j < 128 → a j = if j ∈ o then nI (dd_ix j o) else -1
theorem xn_in {o : List Nat} (ho : o.Nodup) (h : ∀ m, m ∈ o → m < 128) : o.length ≤ 128 := by
  have := ho.length_le_of_subset (l₂ := List.range 128) (fun m hm => List.mem_range.mpr (h m hm))
  rwa [List.length_range] at this
theorem xn_add {a : Nat → Int32} {o : List Nat} {n : Nat} (h : xn_h a o) (hn : n ∉ o) : xn_h (upd a n (nI o.length)) (o ++ [n]) := by
  intro j hj
  by_cases e : j = n
  · rw [e, pk_us, if_pos (by simp), dd_ix_new hn]
  · rw [pk_un e, h j hj]
    by_cases z : j ∈ o
    · rw [if_pos z, if_pos (List.mem_append_left _ z), dd_ix_app z]
    · rw [if_neg z, if_neg]
      intro y
      rcases List.mem_append.mp y with y | y
      · exact z y
      · exact e (by simpa using y)
theorem fo_ts_e (b : Nat → Bool) (t : Nat → Nat) : fo_ts b t = (if b 0 = true then [t 0] else []) ++ ((if b 1 = true then [t 1] else []) ++ ((if b 2 = true then [t 2] else []) ++ (if b 3 = true then [t 3] else []))) := by
  rw [fo_ts]
  cases h0 : b 0 <;> cases h1 : b 1 <;> cases h2 : b 2 <;> cases h3 : b 3 <;> simp [h0, h1, h2, h3]
section XN
variable {f_letters f_maxLength f_maxWords f_freeHead f_used f_root f_draftAccept f_imageSize f_formLength f_planned : Int32} {a_accept a_child a_refs a_words a_slot a_next a_bucket a_draft a_symbol a_path a_stack a_number a_order a_image a_form a_headOf a_edge a_level a_imageWords a_entered a_plan a_built : Nat → Int32}
variable {ac ch : Nat → Nat}
theorem xn_push {post : Int32 → SX → Prop} {n : Nat} {o : List Nat} (hn : n < 128) (hch : ∀ d, d < 4 → ch (n * 4 + d) < 128) (ho : ∀ m, m ∈ o → dd_ix m o < 2 ^ 30) (hnum : xn_h a_number o) : ∀ (k : Nat) (st : List Nat) (stk : Nat → Int32), k ≤ 4 → xs_h stk st.reverse → st.length + k ≤ 512 →
    (∀ stk', xs_h stk' (df_pu ch o n k st).reverse → post (nI (df_pu ch o n k st).length) (f_letters, f_maxLength, f_maxWords, f_freeHead, f_used, f_root, f_draftAccept, f_imageSize, f_formLength, f_planned, a_accept, nN ch, a_refs, a_words, a_slot, a_next, a_bucket, a_draft, a_symbol, a_path, stk', a_number, a_order, a_image, a_form, a_headOf, a_edge, a_level, a_imageWords, a_entered, a_plan, a_built)) → wX_pushChildren_5 post (nI n) f_letters f_maxLength f_maxWords f_freeHead f_used f_root f_draftAccept f_imageSize f_formLength f_planned (k + 1) (nI st.length) (xk_m k) a_accept (nN ch) a_refs a_words a_slot a_next a_bucket a_draft a_symbol a_path stk a_number a_order a_image a_form a_headOf a_edge a_level a_imageWords a_entered a_plan a_built := by
  intro k
  induction k with
  | zero =>
    intro st stk _ hs _ Kp
    exact br_t (by decide) (Kp stk hs)
  | succ k ih =>
    intro st stk hk hs hl Kp
    have hd : k < 4 := by omega
    have h1 := hch k hd
    rw [show xk_m (k + 1) = nI k from rfl]
    have e1 : (nI (ch (n * 4 + k))).toNatClampNeg = ch (n * 4 + k) := nI_clamp (by omega)
    refine br_f (nI_pos (by omega)) (And.intro (xw_in4 hn hd) (nm_r (e' := nI (ch (n * 4 + k))) (by rw [xw_c4 hn hd]; rfl) ?_))
    refine pk_eq (ch (n * 4 + k)) 0 (fun z => nm_r (xk_m1 k) ?_) (fun z => And.intro (vp_in_nI h1 (by omega)) ?_)
    · refine ih st stk (by omega) hs (by omega) ?_
      rw [df_pu, if_neg (fun y => y.1 z)] at Kp; exact Kp
    · by_cases y : ch (n * 4 + k) ∈ o
      · refine br_t ?_ (nm_r (xk_m1 k) (ih st stk (by omega) hs (by omega) ?_))
        · rw [e1, hnum _ h1, if_pos y]; exact nI_pos' (by have := ho _ y; omega)
        · rw [df_pu, if_neg (fun w => w.2 y)] at Kp; exact Kp
      · rw [df_pu, if_pos ⟨z, y⟩] at Kp
        refine br_f ?_ (pk_le 512 st.length (fun w => absurd w (by omega)) (fun _ => And.intro (vp_in_nI (by omega) (by omega)) (nm_r (e' := upd stk st.length (nI (ch (n * 4 + k)))) (by rw [nI_clamp (by omega)]) (nm_r (nI_1 st.length) (nm_r (xk_m1 k) ?_)))))
        · rw [e1, hnum _ h1, if_neg y]; decide
        · have hp := xs_push hs (ch (n * 4 + k))
          rw [List.length_reverse] at hp
          have := ih (ch (n * 4 + k) :: st) (upd stk st.length (nI (ch (n * 4 + k)))) (by omega) (by rw [List.reverse_cons]; exact hp) (by rw [List.length_cons]; omega) Kp
          rw [List.length_cons] at this; exact this
theorem xn_36 {post : Int32 → SX → Prop} {o' : List Nat} (A : Nat → Prop) (hA : ∀ m, A m → m < 128) (hAc : ∀ m, A m → ∀ d, d < 4 → A (ch (m * 4 + d)))
    (Kp : ∀ num ord stk, xn_h num o' → xs_h ord o' → post (nI o'.length) (f_letters, f_maxLength, f_maxWords, f_freeHead, f_used, f_root, f_draftAccept, f_imageSize, f_formLength, f_planned, a_accept, nN ch, a_refs, a_words, a_slot, a_next, a_bucket, a_draft, a_symbol, a_path, stk, num, ord, a_image, a_form, a_headOf, a_edge, a_level, a_imageWords, a_entered, a_plan, a_built)) :
    ∀ (f s : Nat) (o st : List Nat) (num ord stk : Nat → Int32), f + s ≤ 512 → o.Nodup → (∀ m, m ∈ o → A m) → (∀ m, m ∈ st → A m) → st.length ≤ 1 + 3 * o.length → xn_h num o → xs_h ord o → xs_h stk st.reverse → df_R ch f o st o' → wX_numberStates_36 post (f + 1) (nI o.length) (nI st.length) (nI s) f_letters f_maxLength f_maxWords f_freeHead f_used f_root f_draftAccept f_imageSize f_formLength f_planned a_accept (nN ch) a_refs a_words a_slot a_next a_bucket a_draft a_symbol a_path stk num ord a_image a_form a_headOf a_edge a_level a_imageWords a_entered a_plan a_built := by
  intro f
  induction f with
  | zero =>
    intro s o st num ord stk _ _ _ _ _ hnum hord _ hR
    obtain ⟨h1, h2⟩ := hR
    subst h1; subst h2
    exact br_t (by decide) (Kp num ord stk hnum hord)
  | succ f ih =>
    intro s o st num ord stk hf hnd hoA hsA hlen hnum hord hstk hR
    have ho := xn_in hnd (fun m hm => hA m (hoA m hm))
    cases st with
    | nil =>
      have : o' = o := hR
      subst this
      exact br_t (by decide) (Kp num ord stk hnum hord)
    | cons n st =>
      rw [List.length_cons] at hlen ⊢
      rw [List.reverse_cons] at hstk
      have hp := xs_pop hstk
      rw [List.length_reverse] at hp
      have hn := hA n (hsA n List.mem_cons_self)
      have e1 : (nI st.length).toNatClampNeg = st.length := nI_clamp (by omega)
      have e2 : (nI n).toNatClampNeg = n := nI_clamp (by omega)
      refine pk_le (st.length + 1) 0 (fun z => absurd z (by omega)) (fun _ => pk_le 512 s (fun z => absurd z (by omega)) (fun _ => ?_))
      refine nm_r (pk_m1 st.length) (And.intro (vp_in_nI (by omega) (by omega)) (nm_r (e' := nI n) (by rw [e1, hp.2]) (And.intro (vp_in_nI hn (by omega)) ?_)))
      by_cases y : n ∈ o
      · refine br_t ?_ (nm_r (nI_1 s) (ih (s + 1) o st num ord stk (by omega) hnd hoA (fun m hm => hsA m (List.mem_cons_of_mem _ hm)) (by omega) hnum hord hp.1 (hR.1 y)))
        rw [e2, hnum n hn, if_pos y]
        exact nI_pos' (by have := dd_ix_lt y; omega)
      · have hnd2 : (o ++ [n]).Nodup := by
          have := dd_in_nodup (x := n) hnd
          rwa [dd_in, if_neg y] at this
        have hoA2 : ∀ m, m ∈ o ++ [n] → A m := by
          intro m hm
          rcases List.mem_append.mp hm with h | h
          · exact hoA m h
          · have : m = n := by simpa using h
            rw [this]; exact hsA n List.mem_cons_self
        have ho2 := xn_in hnd2 (fun m hm => hA m (hoA2 m hm))
        rw [List.length_append, List.length_singleton] at ho2
        have hnum2 := xn_add hnum y
        have hord2 := xs_push hord n
        have hlen4 := df_pu_len ch (o ++ [n]) n 4 st
        refine br_f ?_ (And.intro (vp_in_nI hn (by omega)) (nm_r (e' := upd num n (nI o.length)) (by rw [e2]) (And.intro (vp_in_nI (by omega) (by omega)) (nm_r (e' := upd ord o.length (nI n)) (by rw [nI_clamp (by omega)]) (nm_r (nI_1 o.length) ⟨5, ?_⟩)))))
        · rw [e2, hnum n hn, if_neg y]; decide
        · refine xn_push (o := o ++ [n]) hn (fun d hd => hA _ (hAc n (hsA n List.mem_cons_self) d hd)) (fun m hm => ?_) hnum2 4 st stk (Nat.le_refl _) hp.1 (by omega) (fun stk' hs' => nm_r (nI_1 s) ?_)
          · have := dd_ix_lt hm
            rw [List.length_append, List.length_singleton] at this; omega
          · have := ih (s + 1) (o ++ [n]) (df_pu ch (o ++ [n]) n 4 st) _ _ stk' (by omega) hnd2 hoA2 (fun m hm => ?_) (by rw [List.length_append, List.length_singleton]; omega) hnum2 hord2 hs' (hR.2 y)
            · rw [List.length_append, List.length_singleton] at this; exact this
            · rcases df_pu_mem ch _ n 4 st m hm with h | ⟨_, d, hd, e⟩
              · exact hsA m (List.mem_cons_of_mem _ h)
              · rw [← e]; exact hAc n (hsA n List.mem_cons_self) d hd
theorem xn_2 {post : Int32 → SX → Prop} {x1 : Int32} (Kp : ∀ num, xn_h num [] → ∃ n36, wX_numberStates_36 post n36 0 1 0 f_letters f_maxLength f_maxWords f_freeHead f_used f_root f_draftAccept f_imageSize f_formLength f_planned a_accept a_child a_refs a_words a_slot a_next a_bucket a_draft a_symbol a_path (upd a_stack 0 x1) num a_order a_image a_form a_headOf a_edge a_level a_imageWords a_entered a_plan a_built) : ∀ (j i : Nat) (num : Nat → Int32), i + j = 128 → (∀ e, e < i → num e = -1) → wX_numberStates_2 post x1 f_letters f_maxLength f_maxWords f_freeHead f_used f_root f_draftAccept f_imageSize f_formLength f_planned (j + 1) (nI i) a_accept a_child a_refs a_words a_slot a_next a_bucket a_draft a_symbol a_path a_stack num a_order a_image a_form a_headOf a_edge a_level a_imageWords a_entered a_plan a_built := by
  intro j
  induction j with
  | zero =>
    intro i num hi h
    refine pk_le 128 i (fun _ => nm_e (Kp num (fun e he => ?_))) (fun z => absurd z (by omega))
    rw [if_neg List.not_mem_nil]; exact h e (by omega)
  | succ j ih =>
    intro i num hi h
    refine pk_le 128 i (fun z => absurd z (by omega)) (fun _ => And.intro (vp_in_nI (by omega) (by omega)) (nm_r (e' := upd num i (-1)) (by rw [nI_clamp (by omega)]) (nm_r (nI_1 i) (ih (i + 1) _ (by omega) (fun e he => ?_)))))
    by_cases z : e = i
    · rw [z, pk_us]
    · rw [pk_un z]; exact h e (by omega)
theorem xn_ns {post : Int32 → SX → Prop} {x : Int32} {n f : Nat} {o' : List Nat} (hx : x = nI n) (A : Nat → Prop) (hA : ∀ m, A m → m < 128) (hAc : ∀ m, A m → ∀ d, d < 4 → A (ch (m * 4 + d))) (hn : A n) (hf : f ≤ 512) (hR : df_R ch f [] [n] o')
    (Kp : ∀ num ord stk, xn_h num o' → xs_h ord o' → post (nI o'.length) (f_letters, f_maxLength, f_maxWords, f_freeHead, f_used, f_root, f_draftAccept, f_imageSize, f_formLength, f_planned, a_accept, nN ch, a_refs, a_words, a_slot, a_next, a_bucket, a_draft, a_symbol, a_path, stk, num, ord, a_image, a_form, a_headOf, a_edge, a_level, a_imageWords, a_entered, a_plan, a_built)) : wpX_numberStates post (f_letters, f_maxLength, f_maxWords, f_freeHead, f_used, f_root, f_draftAccept, f_imageSize, f_formLength, f_planned, a_accept, nN ch, a_refs, a_words, a_slot, a_next, a_bucket, a_draft, a_symbol, a_path, a_stack, a_number, a_order, a_image, a_form, a_headOf, a_edge, a_level, a_imageWords, a_entered, a_plan, a_built) x := by
  subst hx
  refine ⟨129, xn_2 (fun num hnum => ⟨f + 1, ?_⟩) 128 0 a_number rfl (fun e he => by omega)⟩
  refine xn_36 A hA hAc Kp f 0 [] [n] num a_order _ (by omega) (by simp) (fun m hm => absurd hm List.not_mem_nil) (fun m hm => ?_) (by simp) hnum (fun i hi => absurd hi (by simp)) (fun i hi => ?_) hR
  · have : m = n := by simpa using hm
    rw [this]; exact hn
  · have : i = 0 := by simpa using hi
    rw [this, pk_us]; rfl
/-! writeForm -/
theorem xf_emit {post : SX → Prop} {x : Int32} {b : Nat} {F : List Nat} (hx : x = nI b) (hF : F.length < 128) (hf : xs_h a_form F) (Kp : ∀ fo, xs_h fo (F ++ [b]) → post (f_letters, f_maxLength, f_maxWords, f_freeHead, f_used, f_root, f_draftAccept, f_imageSize, nI (F ++ [b]).length, f_planned, a_accept, a_child, a_refs, a_words, a_slot, a_next, a_bucket, a_draft, a_symbol, a_path, a_stack, a_number, a_order, a_image, fo, a_headOf, a_edge, a_level, a_imageWords, a_entered, a_plan, a_built)) : wpX_emit post (f_letters, f_maxLength, f_maxWords, f_freeHead, f_used, f_root, f_draftAccept, f_imageSize, nI F.length, f_planned, a_accept, a_child, a_refs, a_words, a_slot, a_next, a_bucket, a_draft, a_symbol, a_path, a_stack, a_number, a_order, a_image, a_form, a_headOf, a_edge, a_level, a_imageWords, a_entered, a_plan, a_built) x := by
  subst hx
  refine pk_le 128 F.length (fun z => absurd z (by omega)) (fun _ => And.intro (vp_in_nI hF (by omega)) (nm_r (e' := upd a_form F.length (nI b)) (by rw [nI_clamp (by omega)]) (nm_r (e' := nI (F ++ [b]).length) (by rw [nI_1, List.length_append]; rfl) ?_)))
  exact Kp _ (xs_push hf b)
theorem xf_46 {post : SX → Prop} {k n d : Nat} {o F : List Nat} (hn : n < 128) (hd : d < 4) (hc : ch (n * 4 + d) < 128) (hcm : ch (n * 4 + d) ≠ 0 → ch (n * 4 + d) ∈ o) (hnum : xn_h a_number o) (hF : (F ++ if gr_b ch n d = true then [dd_ix (ch (n * 4 + d)) o] else []).length ≤ 128) (hf : xs_h a_form F)
    (Kp : ∀ fo, xs_h fo (F ++ if gr_b ch n d = true then [dd_ix (ch (n * 4 + d)) o] else []) → wX_writeState_46 post (nI n) k (nI (d + 1)) f_letters f_maxLength f_maxWords f_freeHead f_used f_root f_draftAccept f_imageSize (nI (F ++ if gr_b ch n d = true then [dd_ix (ch (n * 4 + d)) o] else []).length) f_planned a_accept (nN ch) a_refs a_words a_slot a_next a_bucket a_draft a_symbol a_path a_stack a_number a_order a_image fo a_headOf a_edge a_level a_imageWords a_entered a_plan a_built) : wX_writeState_46 post (nI n) (k + 1) (nI d) f_letters f_maxLength f_maxWords f_freeHead f_used f_root f_draftAccept f_imageSize (nI F.length) f_planned a_accept (nN ch) a_refs a_words a_slot a_next a_bucket a_draft a_symbol a_path a_stack a_number a_order a_image a_form a_headOf a_edge a_level a_imageWords a_entered a_plan a_built := by
  refine pk_le 4 d (fun z => absurd z (by omega)) (fun _ => And.intro (xw_in4 hn hd) (nm_r (e' := nI (ch (n * 4 + d))) (by rw [xw_c4 hn hd]; rfl) ?_))
  refine pk_eq (ch (n * 4 + d)) 0 (fun z => nm_r (nI_1 d) ?_) (fun z => And.intro (vp_in_nI hc (by omega)) ?_)
  · have e : (F ++ if gr_b ch n d = true then [dd_ix (ch (n * 4 + d)) o] else []) = F := by
      rw [if_neg (by rw [gr_b]; simpa using z), List.append_nil]
    rw [e] at Kp
    exact Kp a_form hf
  · have e : (if gr_b ch n d = true then [dd_ix (ch (n * 4 + d)) o] else []) = [dd_ix (ch (n * 4 + d)) o] := if_pos (decide_eq_true z)
    rw [e] at Kp hF
    rw [List.length_append, List.length_singleton] at hF
    refine xf_emit (b := dd_ix (ch (n * 4 + d)) o) ?_ (by omega) hf (fun fo hfo => nm_r (nI_1 d) (Kp fo hfo))
    rw [nI_clamp (by omega), hnum _ hc, if_pos (hcm z)]
theorem xf_9 {post : SX → Prop} {k n d v h : Nat} (hn : n < 128) (hd : d < 4) (hc : ch (n * 4 + d) < 128) (hv : (2 : Int32) <<< (nI d &&& 31) = nI v) (Kp : wX_writeState_9 post (nI n) f_letters f_maxLength f_maxWords f_freeHead f_used f_root f_draftAccept f_imageSize f_formLength f_planned a_accept (nN ch) a_refs a_words a_slot a_next a_bucket a_draft a_symbol a_path a_stack a_number a_order a_image a_form a_headOf a_edge a_level a_imageWords a_entered a_plan a_built k (nI (h + if gr_b ch n d = true then v else 0)) (nI (d + 1))) : wX_writeState_9 post (nI n) f_letters f_maxLength f_maxWords f_freeHead f_used f_root f_draftAccept f_imageSize f_formLength f_planned a_accept (nN ch) a_refs a_words a_slot a_next a_bucket a_draft a_symbol a_path a_stack a_number a_order a_image a_form a_headOf a_edge a_level a_imageWords a_entered a_plan a_built (k + 1) (nI h) (nI d) := by
  refine pk_le 4 d (fun z => absurd z (by omega)) (fun _ => And.intro (xw_in4 hn hd) ?_)
  refine pk_eq (ch (n * 4 + d)) 0 (fun z => nm_r (nI_1 d) ?_) (fun z => nm_r (e' := nI (h + v)) (by rw [hv, nI_add]) (nm_r (nI_1 d) ?_)) (by rw [xw_c4 hn hd]; rfl)
  · rw [if_neg (by rw [gr_b]; simpa using z)] at Kp; exact Kp
  · rw [if_pos (show gr_b ch n d = true from decide_eq_true z)] at Kp; exact Kp
theorem xf_ws {post : SX → Prop} {x : Int32} {n : Nat} {o F : List Nat} (hx : x = nI n) (hn : n < 128) (hc : ∀ d, d < 4 → ch (n * 4 + d) < 128) (hcm : ∀ d, d < 4 → ch (n * 4 + d) ≠ 0 → ch (n * 4 + d) ∈ o) (hnum : xn_h a_number o) (hF : (F ++ gr_bl ac ch o n).length ≤ 128) (hf : xs_h a_form F)
    (Kp : ∀ fo, xs_h fo (F ++ gr_bl ac ch o n) → post (f_letters, f_maxLength, f_maxWords, f_freeHead, f_used, f_root, f_draftAccept, f_imageSize, nI (F ++ gr_bl ac ch o n).length, f_planned, nN ac, nN ch, a_refs, a_words, a_slot, a_next, a_bucket, a_draft, a_symbol, a_path, a_stack, a_number, a_order, a_image, fo, a_headOf, a_edge, a_level, a_imageWords, a_entered, a_plan, a_built)) : wpX_writeState post (f_letters, f_maxLength, f_maxWords, f_freeHead, f_used, f_root, f_draftAccept, f_imageSize, nI F.length, f_planned, nN ac, nN ch, a_refs, a_words, a_slot, a_next, a_bucket, a_draft, a_symbol, a_path, a_stack, a_number, a_order, a_image, a_form, a_headOf, a_edge, a_level, a_imageWords, a_entered, a_plan, a_built) x := by
  subst hx
  rw [gr_bl, fo_ts_e] at hF Kp
  have eL : ∀ (h : Nat) (a b c d : List Nat), F ++ (h :: (a ++ (b ++ (c ++ d)))) = F ++ [h] ++ a ++ b ++ c ++ d := by
    intro h a b c d; simp
  rw [eL] at hF Kp
  simp only [List.length_append, List.length_singleton] at hF
  refine And.intro (vp_in_nI hn (by omega)) (nm_r (e' := nI (ac n)) (by rw [nI_clamp (by omega)]; rfl) ⟨5, ?_⟩)
  refine xf_9 (d := 0) (v := 2) hn (by omega) (hc 0 (by omega)) (by decide) ?_
  refine xf_9 (d := 1) (v := 4) hn (by omega) (hc 1 (by omega)) (by decide) ?_
  refine xf_9 (d := 2) (v := 8) hn (by omega) (hc 2 (by omega)) (by decide) ?_
  refine xf_9 (d := 3) (v := 16) hn (by omega) (hc 3 (by omega)) (by decide) ?_
  refine pk_le 4 4 (fun _ => ?_) (fun z => absurd z (by omega))
  refine xf_emit (b := fo_h (ac n) (gr_b ch n)) rfl (by omega) hf (fun fo0 h0 => ⟨5, ?_⟩)
  refine xf_46 (d := 0) (o := o) hn (by omega) (hc 0 (by omega)) (hcm 0 (by omega)) hnum (by simp only [List.length_append, List.length_singleton]; omega) h0 (fun fo1 h1 => ?_)
  refine xf_46 (d := 1) (o := o) hn (by omega) (hc 1 (by omega)) (hcm 1 (by omega)) hnum (by simp only [List.length_append, List.length_singleton]; omega) h1 (fun fo2 h2 => ?_)
  refine xf_46 (d := 2) (o := o) hn (by omega) (hc 2 (by omega)) (hcm 2 (by omega)) hnum (by simp only [List.length_append, List.length_singleton]; omega) h2 (fun fo3 h3 => ?_)
  refine xf_46 (d := 3) (o := o) hn (by omega) (hc 3 (by omega)) (hcm 3 (by omega)) hnum (by simp only [List.length_append, List.length_singleton]; omega) h3 (fun fo4 h4 => ?_)
  exact pk_le 4 4 (fun _ => Kp fo4 h4) (fun z => absurd z (by omega))
theorem xf_13 {post : SX → Prop} {o : List Nat} (ho : ∀ m, m ∈ o → m < 128) (hol : o.length ≤ 128) (hc : ∀ m, m ∈ o → ∀ d, d < 4 → ch (m * 4 + d) < 128 ∧ (ch (m * 4 + d) ≠ 0 → ch (m * 4 + d) ∈ o)) (hnum : xn_h a_number o) (hord : xs_h a_order o) (hF : (o.flatMap (gr_bl ac ch o)).length ≤ 128)
    (Kp : ∀ fo, xs_h fo (o.flatMap (gr_bl ac ch o)) → post (f_letters, f_maxLength, f_maxWords, f_freeHead, f_used, f_root, f_draftAccept, f_imageSize, nI (o.flatMap (gr_bl ac ch o)).length, f_planned, nN ac, nN ch, a_refs, a_words, a_slot, a_next, a_bucket, a_draft, a_symbol, a_path, a_stack, a_number, a_order, a_image, fo, a_headOf, a_edge, a_level, a_imageWords, a_entered, a_plan, a_built)) : ∀ (o2 o1 : List Nat) (fo : Nat → Int32), o = o1 ++ o2 → xs_h fo (o1.flatMap (gr_bl ac ch o)) → wX_writeForm_13 post (nI o.length) (o2.length + 1) (nI o1.length) f_letters f_maxLength f_maxWords f_freeHead f_used f_root f_draftAccept f_imageSize (nI (o1.flatMap (gr_bl ac ch o)).length) f_planned (nN ac) (nN ch) a_refs a_words a_slot a_next a_bucket a_draft a_symbol a_path a_stack a_number a_order a_image fo a_headOf a_edge a_level a_imageWords a_entered a_plan a_built := by
  intro o2
  induction o2 with
  | nil =>
    intro o1 fo e hfo
    rw [List.append_nil] at e
    subst e
    exact pk_le o.length o.length (fun _ => Kp fo hfo) (fun z => absurd z (by omega))
  | cons n o2 ih =>
    intro o1 fo e hfo
    have hm : n ∈ o := by rw [e]; simp
    have hl : o.length = o1.length + (o2.length + 1) := by rw [e]; simp
    have e1 : (o1 ++ [n]).flatMap (gr_bl ac ch o) = o1.flatMap (gr_bl ac ch o) ++ gr_bl ac ch o n := by
      rw [List.flatMap_append]; simp
    have hF2 : (o1.flatMap (gr_bl ac ch o) ++ gr_bl ac ch o n).length ≤ 128 := by
      have : o.flatMap (gr_bl ac ch o) = o1.flatMap (gr_bl ac ch o) ++ gr_bl ac ch o n ++ o2.flatMap (gr_bl ac ch o) := by
        rw [← e1, ← List.flatMap_append]
        congr 1
        rw [e]; simp
      rw [this, List.length_append] at hF
      omega
    refine pk_le o.length o1.length (fun z => absurd z (by omega)) (fun _ => And.intro (vp_in_nI (by omega) (by omega)) ?_)
    refine xf_ws (n := n) (o := o) ?_ (ho n hm) (fun d hd => (hc n hm d hd).1) (fun d hd => (hc n hm d hd).2) hnum hF2 hfo (fun fo2 h2 => nm_r (nI_1 _) ?_)
    · rw [nI_clamp (by omega), hord _ (by omega)]
      conv => lhs; rw [e]
      rw [xl_get]
    · have := ih (o1 ++ [n]) fo2 (by rw [e]; simp) (by rw [e1]; exact h2)
      rw [e1, List.length_append, List.length_singleton] at this
      exact this
end XN
end
section
/-! X: the numbering and the form at rest, pack -/
def xp_im (im : Nat → Nat) (F : List Nat) (i : Nat) : Nat → Nat := fun x => if x < i then F.getD x 0 else im x
theorem xp_im0 (im : Nat → Nat) (F : List Nat) : xp_im im F 0 = im := by
  funext x; rw [xp_im, if_neg (by omega)]
theorem xp_ims (im : Nat → Nat) (F : List Nat) (i : Nat) : po_up (xp_im im F i) i (F.getD i 0) = xp_im im F (i + 1) := by
  funext x
  rw [po_up, xp_im, xp_im]
  by_cases e : x = i
  · rw [if_pos e, if_pos (by omega), e]
  · rw [if_neg e]
    by_cases z : x < i
    · rw [if_pos z, if_pos (by omega)]
    · rw [if_neg z, if_neg (by omega)]
section XP
variable {f_letters f_maxLength f_maxWords f_freeHead f_used f_root f_draftAccept f_imageSize f_formLength f_planned : Int32} {a_accept a_child a_refs a_words a_slot a_next a_bucket a_draft a_symbol a_path a_stack a_number a_order a_image a_form a_headOf a_edge a_level a_imageWords a_entered a_plan a_built : Nat → Int32}
variable {fh us : Nat} {ac ch rf wd sl nx bk : Nat → Nat} {al fl : List Nat} {ex : Nat → Nat}
theorem xp_or (I : po_I fh us ac ch rf wd sl nx bk al fl ex) (hdep : ∀ m, m ∈ al → gr_dep ch m 5) {n : Nat} (hn : n = 0 ∨ n ∈ al) : gr_dep ch n 5 ∧ (gr_or ch n).length ≤ 127 ∧ (∀ m, m ∈ gr_or ch n → m = 0 ∨ m ∈ al) ∧ ∀ m, m ∈ gr_or ch n → ∀ d, d < 4 → ch (m * 4 + d) ≠ 0 → ch (m * 4 + d) ∈ gr_or ch n := by
  have G := I.2.2.2.2.2.2.2.1
  have hk : gr_dep ch n 5 := by
    rcases hn with rfl | hn
    · exact gr_dep_z G 5
    · exact hdep n hn
  have om : ∀ m, m ∈ gr_or ch n ↔ _ := fun m => gr_or_mem G hn hk
  have h3 : ∀ m, m ∈ gr_or ch n → m = 0 ∨ m ∈ al := by
    intro m hm
    rcases (om m).mp hm with ⟨_, h⟩ | ⟨_, _, p, hp, e⟩
    · exact Or.inl h
    · rw [← e]; exact gr_dom G p n hn hp
  refine ⟨hk, ?_, h3, ?_⟩
  · rcases hn with z | hn
    · rw [gr_or, if_pos z]; decide
    · have : (gr_or ch n).length ≤ al.length := (gr_or_nd n).length_le_of_subset (fun m hm => by
        rcases (om m).mp hm with ⟨h, _⟩ | ⟨_, h, _⟩
        · exact absurd h (G.2 n hn).1
        · exact (h3 m hm).resolve_left h)
      have := I.2.2.1
      omega
  · intro m hm d hd hz
    rcases (om m).mp hm with ⟨_, h⟩ | ⟨h1, h2, p, hp, e⟩
    · rw [h, Nat.zero_mul, Nat.zero_add, G.1.2.2 d hd] at hz; exact absurd rfl hz
    · exact (om _).mpr (Or.inr ⟨h1, hz, p ++ [d], wd_dig_app.mpr ⟨hp, wd_dig_one hd⟩, by rw [gr_go_snoc, e]⟩)
theorem xp_ns {post : Int32 → SX → Prop} {x : Int32} {n : Nat} (hx : x = nI n) (I : po_I fh us ac ch rf wd sl nx bk al fl ex) (hdep : ∀ m, m ∈ al → gr_dep ch m 5) (hn : n = 0 ∨ n ∈ al)
    (Kp : ∀ num ord stk, xn_h num (gr_or ch n) → xs_h ord (gr_or ch n) → post (nI (gr_or ch n).length) (f_letters, f_maxLength, f_maxWords, (nI fh), (nI us), f_root, f_draftAccept, f_imageSize, f_formLength, f_planned, (nN ac), (nN ch), (nN rf), (nN wd), (nN sl), (nN nx), (nN bk), a_draft, a_symbol, a_path, stk, num, ord, a_image, a_form, a_headOf, a_edge, a_level, a_imageWords, a_entered, a_plan, a_built)) : wpX_numberStates post (f_letters, f_maxLength, f_maxWords, (nI fh), (nI us), f_root, f_draftAccept, f_imageSize, f_formLength, f_planned, (nN ac), (nN ch), (nN rf), (nN wd), (nN sl), (nN nx), (nN bk), a_draft, a_symbol, a_path, a_stack, a_number, a_order, a_image, a_form, a_headOf, a_edge, a_level, a_imageWords, a_entered, a_plan, a_built) x := by
  have G := I.2.2.2.2.2.2.2.1
  obtain ⟨hk, hl, _, _⟩ := xp_or I hdep hn
  obtain ⟨s, hs, hR⟩ := df_top G hn hk
  exact xn_ns hx (fun m => m = 0 ∨ m ∈ al) (fun m hm => (po_lt I hm).1) (fun m hm d hd => gr_ch G hm hd) hn (by omega) hR Kp
theorem xp_wf {post : SX → Prop} {x : Int32} {n : Nat} (hx : x = nI n) (I : po_I fh us ac ch rf wd sl nx bk al fl ex) (hdep : ∀ m, m ∈ al → gr_dep ch m 5) (hn : n = 0 ∨ n ∈ al) (hw : wd n ≤ 12)
    (Kp : ∀ num ord stk fo, (fo_F (gr_M ac ch n)).length ≤ 121 → xs_h fo (fo_F (gr_M ac ch n)) → post (f_letters, f_maxLength, f_maxWords, (nI fh), (nI us), f_root, f_draftAccept, f_imageSize, nI (fo_F (gr_M ac ch n)).length, f_planned, (nN ac), (nN ch), (nN rf), (nN wd), (nN sl), (nN nx), (nN bk), a_draft, a_symbol, a_path, stk, num, ord, a_image, fo, a_headOf, a_edge, a_level, a_imageWords, a_entered, a_plan, a_built)) : wpX_writeForm post (f_letters, f_maxLength, f_maxWords, (nI fh), (nI us), f_root, f_draftAccept, f_imageSize, f_formLength, f_planned, (nN ac), (nN ch), (nN rf), (nN wd), (nN sl), (nN nx), (nN bk), a_draft, a_symbol, a_path, a_stack, a_number, a_order, a_image, a_form, a_headOf, a_edge, a_level, a_imageWords, a_entered, a_plan, a_built) x := by
  have G := I.2.2.2.2.2.2.2.1
  have Un := I.2.2.2.2.2.2.2.2.1
  obtain ⟨hk, hl, ho, hoc⟩ := xp_or I hdep hn
  have hF := gr_form_len G hn hk hw
  unfold wpX_writeForm
  refine xp_ns hx I hdep hn (fun num ord stk h1 h2 => ⟨(gr_or ch n).length + 1, ?_⟩)
  have e := gr_form G Un hdep hn
  refine xf_13 (ac := ac) (o := gr_or ch n) (fun m hm => (po_lt I (ho m hm)).1) (by omega) (fun m hm d hd => ⟨(po_lt I (ho m hm)).2.2 d hd, hoc m hm d hd⟩) h1 h2 (by omega) (fun fo hfo => ?_) (gr_or ch n) [] a_form rfl (fun i hi => absurd hi (by simp))
  rw [e] at hfo hF ⊢
  exact Kp num ord stk fo hF hfo
theorem xp_10 {post : Int32 → SX → Prop} {im : Nat → Nat} {F : List Nat} (hF : F.length ≤ 128) (hf : xs_h a_form F) (Kp : post (nI F.length) (f_letters, f_maxLength, f_maxWords, f_freeHead, f_used, f_root, f_draftAccept, nI F.length, nI F.length, f_planned, a_accept, a_child, a_refs, a_words, a_slot, a_next, a_bucket, a_draft, a_symbol, a_path, a_stack, a_number, a_order, nN (xp_im im F F.length), a_form, a_headOf, a_edge, a_level, a_imageWords, a_entered, a_plan, a_built)) :
    ∀ (j i : Nat), i + j = F.length → wX_pack_10 post f_letters f_maxLength f_maxWords f_freeHead f_used f_root f_draftAccept f_imageSize (nI F.length) f_planned (j + 1) (nI i) a_accept a_child a_refs a_words a_slot a_next a_bucket a_draft a_symbol a_path a_stack a_number a_order (nN (xp_im im F i)) a_form a_headOf a_edge a_level a_imageWords a_entered a_plan a_built := by
  intro j
  induction j with
  | zero =>
    intro i hi
    have : i = F.length := by omega
    subst this
    exact pk_le F.length F.length (fun _ => Kp) (fun z => absurd z (by omega))
  | succ j ih =>
    intro i hi
    have hi128 : vp_in (nI i) 128 := vp_in_nI (by omega) (by omega)
    refine pk_le F.length i (fun z => absurd z (by omega)) (fun _ => And.intro hi128 (And.intro hi128 (nm_r (e' := nN (xp_im im F (i + 1))) ?_ (nm_r (nI_1 i) (ih (i + 1) (by omega))))))
    rw [nI_clamp (by omega), hf i (by omega), po_upd, xp_ims]
theorem xp_pack {post : Int32 → SX → Prop} {n : Nat} {im : Nat → Nat} (I : po_I fh us ac ch rf wd sl nx bk al fl ex) (hdep : ∀ m, m ∈ al → gr_dep ch m 5) (hn : n = 0 ∨ n ∈ al) (hw : wd n ≤ 12)
    (Kp : ∀ num ord stk fo, (fo_F (gr_M ac ch n)).length ≤ 121 → post (nI (fo_F (gr_M ac ch n)).length) (f_letters, f_maxLength, f_maxWords, (nI fh), (nI us), nI n, f_draftAccept, nI (fo_F (gr_M ac ch n)).length, nI (fo_F (gr_M ac ch n)).length, f_planned, (nN ac), (nN ch), (nN rf), (nN wd), (nN sl), (nN nx), (nN bk), a_draft, a_symbol, a_path, stk, num, ord, nN (xp_im im (fo_F (gr_M ac ch n)) (fo_F (gr_M ac ch n)).length), fo, a_headOf, a_edge, a_level, a_imageWords, a_entered, a_plan, a_built)) : wpX_pack post (f_letters, f_maxLength, f_maxWords, (nI fh), (nI us), nI n, f_draftAccept, f_imageSize, f_formLength, f_planned, (nN ac), (nN ch), (nN rf), (nN wd), (nN sl), (nN nx), (nN bk), a_draft, a_symbol, a_path, a_stack, a_number, a_order, nN im, a_form, a_headOf, a_edge, a_level, a_imageWords, a_entered, a_plan, a_built) := by
  unfold wpX_pack
  refine xp_wf rfl I hdep hn hw (fun num ord stk fo h1 h2 => ⟨(fo_F (gr_M ac ch n)).length + 1, ?_⟩)
  have := xp_10 (post := post) (f_imageSize := f_imageSize) (im := im) (F := fo_F (gr_M ac ch n)) (a_form := fo) (by omega) h2 (Kp num ord stk fo h1) (fo_F (gr_M ac ch n)).length 0 (by omega)
  rw [xp_im0] at this
  exact this
end XP
end
section
/-! Y: isWord, find, padded, tail, includes -/
theorem ya_l {x y : Int32} (h : x.toInt64 = y.toInt64) : x = y := by
  have h1 := congrArg Int64.toInt h
  rw [Int32.toInt_toInt64, Int32.toInt_toInt64] at h1
  exact Int32.toInt_inj.mp h1
def ya_p1 (x : Int32) : Int32 := if 10000 ≤ x then x else x * 10
def ya_pd (x : Int32) : Int32 := ya_p1 (ya_p1 (ya_p1 (ya_p1 x)))
def ya_tl : Nat → Int32 → Int32 → Int64 → Int64
  | 0, w, p, pw => if w = p then pw else 0
  | f + 1, w, p, pw => if w = p then pw else ya_tl f (w / 10) p (pw * 10)
theorem ya_p1_n {w : Nat} (hw : w < 2 ^ 31) : ya_p1 (nI w) = nI (wd_pad1 w) := by
  rw [ya_p1, wd_pad1]
  by_cases h : 10000 ≤ w
  · have h2 : (10000 : Int32) ≤ nI w := nI_le (a := 10000) h hw
    rw [if_pos h2, if_pos h]
  · have h2 : ¬ (10000 : Int32) ≤ nI w := nI_ge (a := w) (b := 10000) (by omega) (by decide)
    rw [if_neg h2, if_neg h]
    exact pk_mul w 10
theorem wd_pad1_le {w : Nat} (h : w < 100000) : wd_pad1 w < 100000 := by
  rw [wd_pad1]; split <;> omega
theorem ya_pd_n {w : Nat} (hw : w < 100000) : ya_pd (nI w) = nI (wd_pad w) ∧ wd_pad w < 100000 := by
  have h1 := wd_pad1_le hw
  have h2 := wd_pad1_le h1
  have h3 := wd_pad1_le h2
  have h4 := wd_pad1_le h3
  rw [ya_pd, wd_pad, ya_p1_n (by omega), ya_p1_n (by omega), ya_p1_n (by omega), ya_p1_n (by omega)]
  exact ⟨rfl, h4⟩
theorem ya_pd_e {l : List Nat} (h : wd_dig l) (h5 : l.length ≤ 5) : ya_pd (nI (wd_enc l)) = nI (wd_pk 5 l) ∧ wd_pk 5 l < 100000 := by
  have h1 := wd_enc_lt5 h h5
  have h2 := ya_pd_n (w := wd_enc l) (by omega)
  rw [wd_pad_enc ((wd_mem 5 l).mpr ⟨h5, h⟩)] at h2
  exact h2
theorem ya_tl_e {p : List Nat} (hp : wd_dig p) (hp5 : p.length ≤ 5) : ∀ (f : Nat) (l : List Nat) (pw : Nat), wd_dig l → l.length ≤ 5 → l.length ≤ f → (∀ v, l = p ++ v → ya_tl f (nI (wd_enc l)) (nI (wd_enc p)) (lN pw) = lN (pw * 10 ^ v.length)) ∧ ((¬ ∃ v, l = p ++ v) → ya_tl f (nI (wd_enc l)) (nI (wd_enc p)) (lN pw) = 0) := by
  have hpl := wd_enc_lt5 hp hp5
  intro f
  induction f with
  | zero =>
    intro l pw hl h5 hf
    have : l = [] := List.eq_nil_of_length_eq_zero (by omega)
    subst this
    constructor
    · intro v e
      have e2 := List.append_eq_nil_iff.mp e.symm
      rw [e2.1, e2.2, ya_tl, if_pos rfl]; simp
    · intro hno
      rw [ya_tl, if_neg]
      intro e
      have e3 := (nI_eq (by rw [wd_enc_nil]; omega) (by omega)).mp e
      have := wd_enc_inj wd_dig_nil hp e3
      exact hno ⟨[], by rw [← this]; rfl⟩
  | succ f ih =>
    intro l pw hl h5 hf
    have hll := wd_enc_lt5 hl h5
    by_cases e : l = p
    · subst e
      constructor
      · intro v e
        have : v = [] := by
          have := congrArg List.length e
          rw [List.length_append] at this
          exact List.eq_nil_of_length_eq_zero (by omega)
        rw [this, ya_tl, if_pos rfl]; simp
      · intro hno; exact absurd ⟨[], by simp⟩ hno
    · have ne : ¬ nI (wd_enc l) = nI (wd_enc p) := fun z => e (wd_enc_inj hl hp ((nI_eq (by omega) (by omega)).mp z))
      rw [ya_tl, if_neg ne]
      rcases wd_rc l with rfl | ⟨m, d, rfl⟩
      · have z : ∀ (f : Nat) (pw : Int64), ya_tl f (nI (wd_enc [])) (nI (wd_enc p)) pw = 0 := by
          intro f
          induction f with
          | zero => intro pw; rw [ya_tl, if_neg ne]
          | succ f ih2 =>
            intro pw
            rw [ya_tl, if_neg ne]
            exact ih2 _
        have hz := z f (lN pw * 10)
        have : nI (wd_enc []) / 10 = nI (wd_enc []) := by rw [wd_enc_nil]; decide
        rw [this, hz]
        constructor
        · intro v e2
          exact absurd (List.append_eq_nil_iff.mp e2.symm).1.symm e
        · intro _; rfl
      · have hm := wd_dig_app.mp hl
        rw [List.length_append, List.length_singleton] at h5 hf
        have e1 : nI (wd_enc (m ++ [d])) / 10 = nI (wd_enc m) := by
          rw [show (10 : Int32) = nI 10 from rfl, pk_div (by omega) (by omega) (by omega), wd_enc_snoc]
          congr 1
          have := hm.2 d (by simp)
          omega
        have e2 : lN pw * 10 = lN (pw * 10) := lN_mul pw 10
        rw [e1, e2]
        obtain ⟨i1, i2⟩ := ih m (pw * 10) hm.1 (by omega) (by omega)
        constructor
        · intro v ev
          rcases wd_rc v with rfl | ⟨v', x, rfl⟩
          · rw [List.append_nil] at ev; exact absurd ev e
          · rw [← List.append_assoc] at ev
            have := (List.append_inj' ev rfl).1
            rw [i1 v' this, List.length_append, List.length_singleton, Nat.pow_succ]
            congr 1
            rw [Nat.mul_assoc, Nat.mul_comm 10]
        · intro hno
          exact i2 (fun ⟨v, ev⟩ => hno ⟨v ++ [d], by rw [ev]; simp⟩)
section YA
variable {f_letters f_maxLength f_maxWords f_size f_length f_liveCount f_stateCount f_formLength : Int32} {a_words a_saved a_live a_state a_image a_form a_reached : Nat → Int32} {n_reached : Nat}
variable {L K : Nat} {wl : List Nat}
theorem ya_iw2 {post : Int32 → Prop} (hK : K ≤ 5) (hL : L ≤ 4) : ∀ (k j w : Nat), j + k = K → w < 2 ^ 31 → (wd_okb L k w = true → post 1) → (wd_okb L k w = false → post 0) → wY_isWord_2 post (nI L) (nI K) f_maxWords f_size f_length f_liveCount f_stateCount f_formLength a_words a_saved a_live a_state a_image a_form a_reached n_reached (k + 1) (nI w) (nI j) := by
  intro k
  induction k with
  | zero =>
    intro j w hj hw K1 K0
    rw [wd_okb] at K1 K0
    refine pk_le K j (fun _ => pk_eq w 0 (fun z => K1 (decide_eq_true z)) (fun z => K0 (decide_eq_false z))) (fun z => absurd z (by omega))
  | succ k ih =>
    intro j w hj hw K1 K0
    rw [wd_okb] at K1 K0
    have rem : nI w - nI w / 10 * 10 = nI (w % 10) := pk_rem (d := 10) (by omega) (by omega) (by omega)
    refine pk_le K j (fun z => absurd z (by omega)) (fun _ => pk_le w 0 (fun z => pk_eq w 0 (fun z => K1 (by rw [if_pos z])) (fun z2 => absurd z2 (by omega))) (fun z => And.intro (by decide) ?_))
    rw [if_neg (by omega)] at K1 K0
    refine pk_lt (w % 10) 1 (fun z2 => K0 ?_) (fun z2 => And.intro (by decide) (pk_le (w % 10) L (fun z3 => nm_r (nI_1 j) (And.intro (by decide) (nm_r (e' := nI (w / 10)) (pk_div (d := 10) (by omega) (by omega) (by omega)) (ih (j + 1) (w / 10) (by omega) (by omega) (fun h => K1 ?_) (fun h => K0 ?_))))) (fun z3 => K0 ?_) rem)) rem
    · rw [decide_eq_false (by omega)]; rfl
    · rw [h, decide_eq_true (by omega), decide_eq_true z3]; rfl
    · rw [h, Bool.and_false]
    · rw [decide_eq_false (p := w % 10 ≤ L) (by omega), Bool.and_false]; rfl
theorem ya_iw {post : Int32 → Prop} {x : Int32} (hK : K ≤ 5) (hL : L ≤ 4) (K1 : (∃ l, wd_ok L K l ∧ x = nI (wd_enc l)) → post 1) (K0 : (¬ ∃ l, wd_ok L K l ∧ x = nI (wd_enc l)) → post 0) : wpY_isWord post (nI L, nI K, f_maxWords, f_size, f_length, f_liveCount, f_stateCount, f_formLength, a_words, a_saved, a_live, a_state, a_image, a_form, a_reached, n_reached) x := by
  by_cases h : x < 0
  · have p0 : post 0 := by
      refine K0 (fun ⟨l, hl, e⟩ => ?_)
      have := wd_enc_lt5 (wd_ok_dig hL hl) (Nat.le_trans hl.1 hK)
      rw [e] at h
      exact nI_pos (by omega) h
    have hx : ¬ x = 0 := fun z => by rw [z] at h; exact absurd h (by decide)
    refine ⟨1, br_c (fun _ => br_f hx p0) (fun _ => br_t (Int32.le_of_lt h) (br_f hx p0))⟩
  · obtain ⟨w, hw, e⟩ := nI_of h
    subst e
    have key : (∃ l, wd_ok L K l ∧ nI w = nI (wd_enc l)) ↔ wd_okb L K w = true := by
      rw [wd_okb_iff hL]
      constructor
      · rintro ⟨l, hl, e⟩
        have := wd_enc_lt5 (wd_ok_dig hL hl) (Nat.le_trans hl.1 hK)
        exact ⟨l, hl, ((nI_eq hw (by omega)).mp e).symm⟩
      · rintro ⟨l, hl, e⟩; exact ⟨l, hl, by rw [e]⟩
    refine ⟨K + 1, ya_iw2 hK hL K 0 w (by omega) hw (fun z => K1 (key.mpr z)) (fun z => K0 (fun y => ?_))⟩
    rw [key.mp y] at z; cases z
theorem ya_f2 {post : Int32 → Prop} {x : Int64} (hl : wl.length ≤ 12) (hw : xs_h a_words wl) (K1 : ∀ p m s, wl = p ++ m :: s → (nI m).toInt64 = x → post (nI p.length)) (K0 : (∀ m, m ∈ wl → (nI m).toInt64 ≠ x) → post (-1)) :
    ∀ (s p : List Nat), wl = p ++ s → (∀ m, m ∈ p → (nI m).toInt64 ≠ x) → wY_find_2 post x f_letters f_maxLength f_maxWords (nI wl.length) f_length f_liveCount f_stateCount f_formLength a_words a_saved a_live a_state a_image a_form a_reached n_reached (s.length + 1) (nI p.length) := by
  intro s
  induction s with
  | nil =>
    intro p e h
    rw [List.append_nil] at e
    subst e
    exact pk_le wl.length wl.length (fun _ => K0 h) (fun z => absurd z (by omega))
  | cons m s ih =>
    intro p e h
    have hll : wl.length = p.length + (s.length + 1) := by rw [e]; simp
    have ew : a_words (nI p.length).toNatClampNeg = nI m := by
      rw [nI_clamp (by omega), hw _ (by omega)]
      conv => lhs; rw [e]
      rw [xl_get]
    refine pk_le wl.length p.length (fun z => absurd z (by omega)) (fun _ => And.intro (vp_in_nI (by omega) (by omega)) (br_c (fun z => ?_) (fun z => nm_r (nI_1 _) ?_)))
    · rw [ew] at z
      exact K1 p m s e z
    · rw [ew] at z
      have := ih (p ++ [m]) (by rw [e]; simp) (fun y hy => ?_)
      · rw [List.length_append, List.length_singleton] at this; exact this
      · rcases List.mem_append.mp hy with hy | hy
        · exact h y hy
        · have : y = m := by simpa using hy
          rw [this]; exact z
theorem ya_fd {post : Int32 → Prop} {x : Int64} (hl : wl.length ≤ 12) (hw : xs_h a_words wl) (K1 : ∀ p m s, wl = p ++ m :: s → (nI m).toInt64 = x → post (nI p.length)) (K0 : (∀ m, m ∈ wl → (nI m).toInt64 ≠ x) → post (-1)) : wpY_find post (f_letters, f_maxLength, f_maxWords, nI wl.length, f_length, f_liveCount, f_stateCount, f_formLength, a_words, a_saved, a_live, a_state, a_image, a_form, a_reached, n_reached) x :=
  ⟨wl.length + 1, ya_f2 hl hw K1 K0 wl [] rfl (fun m hm => absurd hm List.not_mem_nil)⟩
/-- find of a natural number -/
theorem ya_fn {post : Int32 → Prop} {x : Int64} {m : Nat} (hx : x = lN m) (hm : m < 2 ^ 62) (hl : wl.length ≤ 12) (hw : xs_h a_words wl) (hwl : ∀ y, y ∈ wl → y < 2 ^ 31) (K1 : m ∈ wl → ∀ i, i < 12 → post (nI i)) (K0 : m ∉ wl → post (-1)) : wpY_find post (f_letters, f_maxLength, f_maxWords, nI wl.length, f_length, f_liveCount, f_stateCount, f_formLength, a_words, a_saved, a_live, a_state, a_image, a_form, a_reached, n_reached) x := by
  refine ya_fd hl hw (fun p y s e h => ?_) (fun h => K0 (fun hm2 => ?_))
  · have hy : y ∈ wl := by rw [e]; simp
    rw [hx, nI_l (hwl y hy)] at h
    have := (pk_lEQ (by have := hwl y hy; omega) (by omega)).mp h
    rw [this] at hy
    refine K1 hy p.length ?_
    have : wl.length = p.length + (s.length + 1) := by rw [e]; simp
    omega
  · exact h m hm2 (by rw [hx, nI_l (hwl m hm2)])
theorem ya_pd2 {post : Int32 → Prop} {x : Int32} (Kp : post (ya_pd x)) : wpY_padded post (f_letters, f_maxLength, f_maxWords, f_size, f_length, f_liveCount, f_stateCount, f_formLength, a_words, a_saved, a_live, a_state, a_image, a_form, a_reached, n_reached) x := by
  have st : ∀ (k j : Nat) (y : Int32), j < 4 → wY_padded_2 post f_letters f_maxLength f_maxWords f_size f_length f_liveCount f_stateCount f_formLength a_words a_saved a_live a_state a_image a_form a_reached n_reached k (ya_p1 y) (nI (j + 1)) → wY_padded_2 post f_letters f_maxLength f_maxWords f_size f_length f_liveCount f_stateCount f_formLength a_words a_saved a_live a_state a_image a_form a_reached n_reached (k + 1) y (nI j) := by
    intro k j y hj h
    refine pk_le 4 j (fun z => absurd z (by omega)) (fun _ => br_c (fun z => nm_r (nI_1 j) ?_) (fun z => nm_e (nm_r (nI_1 j) ?_)))
    · rw [ya_p1, if_pos z] at h; exact h
    · rw [ya_p1, if_neg z] at h; exact h
  refine ⟨5, st _ 0 _ (by omega) (st _ 1 _ (by omega) (st _ 2 _ (by omega) (st _ 3 _ (by omega) ?_)))⟩
  exact pk_le 4 4 (fun _ => Kp) (fun z => absurd z (by omega))
theorem ya_tl2 {post : Int64 → Prop} {p : Int32} : ∀ (f j : Nat) (w : Int32) (pw : Int64), j + f = 5 → post (ya_tl f w p pw) → wY_tail_5 post p f_letters f_maxLength f_maxWords f_size f_length f_liveCount f_stateCount f_formLength a_words a_saved a_live a_state a_image a_form a_reached n_reached (f + 1) w pw (nI j) := by
  intro f
  induction f with
  | zero =>
    intro j w pw hj Kp
    rw [ya_tl] at Kp
    refine pk_le 5 j (fun _ => br_c (fun z => ?_) (fun z => ?_)) (fun z => absurd z (by omega))
    · rw [if_pos z] at Kp; exact Kp
    · rw [if_neg z] at Kp; exact Kp
  | succ f ih =>
    intro j w pw hj Kp
    rw [ya_tl] at Kp
    refine pk_le 5 j (fun z => absurd z (by omega)) (fun _ => br_c (fun z => br_t z ?_) (fun z => nm_e (nm_r (nI_1 j) (And.intro (by decide) (nm_e (ih (j + 1) _ _ (by omega) ?_))))))
    · rw [if_pos z] at Kp; exact Kp
    · rw [if_neg z] at Kp; exact Kp
theorem ya_tail {post : Int64 → Prop} {w p : Int32} (Kp : post (ya_tl 5 w p 1)) : wpY_tail post (f_letters, f_maxLength, f_maxWords, f_size, f_length, f_liveCount, f_stateCount, f_formLength, a_words, a_saved, a_live, a_state, a_image, a_form, a_reached, n_reached) w p := ⟨6, ya_tl2 5 0 w 1 rfl Kp⟩
def ya_wl (wl : List Nat) : Prop := ∀ w, w ∈ wl → ∃ l, wd_dig l ∧ l.length ≤ 5 ∧ wd_enc l = w
theorem ya_wl_lt {wl : List Nat} (h : ya_wl wl) : ∀ y, y ∈ wl → y < 2 ^ 31 := by
  intro y hy
  obtain ⟨l, h1, h2, h3⟩ := h y hy
  have := wd_enc_lt5 h1 h2
  omega
theorem ya_in2 {post : Int32 → Prop} {p q : List Nat} (hp : wd_dig p) (hp5 : p.length ≤ 5) (hq : wd_dig q) (hq5 : q.length ≤ 5) (hl : wl.length ≤ 12) (hw : xs_h a_words wl) (hwl : ya_wl wl)
    (K1 : (∀ v, wd_dig v → wd_enc (p ++ v) ∈ wl → wd_enc (q ++ v) ∈ wl) → post 1) (K0 : ∀ v, wd_dig v → wd_enc (p ++ v) ∈ wl → wd_enc (q ++ v) ∉ wl → post 0) :
    ∀ (s a : List Nat), wl = a ++ s → (∀ v, wd_dig v → wd_enc (p ++ v) ∈ a → wd_enc (q ++ v) ∈ wl) → wY_includes_2 post (nI (wd_enc p)) (nI (wd_enc q)) f_letters f_maxLength f_maxWords (nI wl.length) f_length f_liveCount f_stateCount f_formLength a_words a_saved a_live a_state a_image a_form a_reached n_reached (s.length + 1) (nI a.length) := by
  have hpl := wd_enc_lt5 hp hp5
  have hql := wd_enc_lt5 hq hq5
  intro s
  induction s with
  | nil =>
    intro a e h
    rw [List.append_nil] at e
    subst e
    exact pk_le wl.length wl.length (fun _ => K1 h) (fun z => absurd z (by omega))
  | cons w s ih =>
    intro a e h
    have hll : wl.length = a.length + (s.length + 1) := by rw [e]; simp
    have hmem : w ∈ wl := by rw [e]; simp
    have ew : a_words (nI a.length).toNatClampNeg = nI w := by
      rw [nI_clamp (by omega), hw _ (by omega)]
      conv => lhs; rw [e]
      rw [xl_get]
    obtain ⟨l, g1, g2, g3⟩ := hwl w hmem
    have hlw := wd_enc_lt5 g1 g2
    have hin : vp_in (nI a.length) 12 := vp_in_nI (by omega) (by omega)
    have nxt : (∀ v, wd_dig v → wd_enc (p ++ v) = w → wd_enc (q ++ v) ∈ wl) → wY_includes_2 post (nI (wd_enc p)) (nI (wd_enc q)) f_letters f_maxLength f_maxWords (nI wl.length) f_length f_liveCount f_stateCount f_formLength a_words a_saved a_live a_state a_image a_form a_reached n_reached (s.length + 1) (nI (a.length + 1)) := by
      intro hv
      have := ih (a ++ [w]) (by rw [e]; simp) (fun v h1 h2 => ?_)
      · rw [List.length_append, List.length_singleton] at this; exact this
      · rcases List.mem_append.mp h2 with h2 | h2
        · exact h v h1 h2
        · exact hv v h1 (by simpa using h2)
    obtain ⟨t1, t2⟩ := ya_tl_e hp hp5 5 l 1 g1 g2 g2
    refine pk_le wl.length a.length (fun z => absurd z (by omega)) (fun _ => And.intro hin ?_)
    rw [ew, ← g3]
    refine ya_tail ?_
    by_cases c : ∃ v, l = p ++ v
    · obtain ⟨v, ev⟩ := c
      have hv := (wd_dig_app.mp (by rw [← ev]; exact g1 : wd_dig (p ++ v))).2
      have hvl : v.length ≤ 5 := by
        have := congrArg List.length ev
        rw [List.length_append] at this; omega
      have et := t1 v ev
      rw [show (lN 1) = (1 : Int64) from rfl, Nat.one_mul] at et
      rw [et]
      have hpow : 0 < 10 ^ v.length := Nat.pow_pos (by decide)
      have hpow2 : 10 ^ v.length ≤ 100000 := by
        have : (10 : Nat) ^ v.length ≤ 10 ^ 5 := Nat.pow_le_pow_right (by decide) hvl
        simpa using this
      have hqv : wd_enc (q ++ v) = wd_enc q * 10 ^ v.length + wd_enc v := wd_enc_app q v
      have hpv : wd_enc l = wd_enc p * 10 ^ v.length + wd_enc v := by rw [ev]; exact wd_enc_app p v
      have hvb := wd_enc_lt5 hv hvl
      have hqb : wd_enc q * 10 ^ v.length ≤ 44444 * 100000 := Nat.mul_le_mul hql hpow2
      refine br_f ?_ (And.intro hin (ya_fn (m := wd_enc (q ++ v)) ?_ ?_ hl hw (ya_wl_lt hwl) (fun hm i hi => ?_) (fun hm => ?_)))
      · intro z
        have z2 : lN (10 ^ v.length) ≤ lN 0 := z
        rw [pk_lLE (by omega) (by omega)] at z2
        omega
      · rw [nI_l (by omega), nI_l (by omega), nI_l (by omega), lN_mul, lN_mul, lN_add, lN_sub (by omega), hqv, hpv]
        congr 1; omega
      · omega
      · refine br_t (nI_pos' (by omega)) (nm_r (nI_1 _) (nxt (fun v' hv' e' => ?_)))
        have : p ++ v' = p ++ v := by
          rw [← ev]
          exact wd_enc_inj (wd_dig_app.mpr ⟨hp, hv'⟩) g1 (by rw [e', g3])
        rw [List.append_cancel_left this]; exact hm
      · refine br_f (by decide) (K0 v hv ?_ hm)
        rw [← ev, g3]; exact hmem
    · rw [show (1 : Int64) = lN 1 from rfl, t2 c]
      refine br_t (by decide) (nm_r (nI_1 _) (nxt (fun v' hv' e' => ?_)))
      refine absurd ⟨v', ?_⟩ c
      exact (wd_enc_inj (wd_dig_app.mpr ⟨hp, hv'⟩) g1 (by rw [e', g3])).symm
theorem ya_inc {post : Int32 → Prop} {x y : Int32} {p q : List Nat} (hx : x = nI (wd_enc p)) (hy : y = nI (wd_enc q)) (hp : wd_dig p) (hp5 : p.length ≤ 5) (hq : wd_dig q) (hq5 : q.length ≤ 5) (hl : wl.length ≤ 12) (hw : xs_h a_words wl) (hwl : ya_wl wl)
    (K1 : (∀ v, wd_dig v → wd_enc (p ++ v) ∈ wl → wd_enc (q ++ v) ∈ wl) → post 1) (K0 : ∀ v, wd_dig v → wd_enc (p ++ v) ∈ wl → wd_enc (q ++ v) ∉ wl → post 0) : wpY_includes post (f_letters, f_maxLength, f_maxWords, nI wl.length, f_length, f_liveCount, f_stateCount, f_formLength, a_words, a_saved, a_live, a_state, a_image, a_form, a_reached, n_reached) x y := by
  subst hx; subst hy
  exact ⟨wl.length + 1, ya_in2 hp hp5 hq hq5 hl hw hwl K1 K0 wl [] rfl (fun v _ h => absurd h List.not_mem_nil)⟩
end YA
end
section
/-! Y: number, stateIn -/
def ya_c (wl : List Nat) (l : List Nat) : Bool := decide (wd_enc l ∈ wl)
theorem ya_sup {wl : List Nat} (h : ya_wl wl) : wd_sup (ya_c wl) := by
  intro l hl hc
  obtain ⟨m, h1, h2, h3⟩ := h _ (of_decide_eq_true hc)
  rw [← wd_enc_inj h1 hl h3]; exact h2
theorem ya_lw {wl : List Nat} (h : ya_wl wl) : ∃ lw : List (List Nat), (∀ l, l ∈ lw → wd_dig l ∧ l.length ≤ 5) ∧ wl = lw.map wd_enc := by
  induction wl with
  | nil => exact ⟨[], fun l hl => absurd hl List.not_mem_nil, rfl⟩
  | cons w wl ih =>
    obtain ⟨lw, h1, h2⟩ := ih (fun x hx => h x (List.mem_cons_of_mem _ hx))
    obtain ⟨l, g1, g2, g3⟩ := h w List.mem_cons_self
    refine ⟨l :: lw, fun m hm => ?_, by rw [List.map_cons, g3, h2]⟩
    rcases List.mem_cons.mp hm with rfl | hm
    · exact ⟨g1, g2⟩
    · exact h1 m hm
theorem ya_map_nd {l : List (List Nat)} (hn : l.Nodup) (hd : ∀ x, x ∈ l → wd_dig x) : (l.map wd_enc).Nodup := by
  induction l with
  | nil => simp
  | cons a l ih =>
    rw [List.map_cons, List.nodup_cons]
    rw [List.nodup_cons] at hn
    refine ⟨fun hm => ?_, ih hn.2 (fun x hx => hd x (List.mem_cons_of_mem _ hx))⟩
    obtain ⟨b, hb, e⟩ := List.mem_map.mp hm
    have := wd_enc_inj (hd b (List.mem_cons_of_mem _ hb)) (hd a List.mem_cons_self) e
    rw [this] at hb
    exact hn.1 hb
theorem ya_cnt {wl : List Nat} : ((wd_U 5).filter (ya_c wl)).length ≤ wl.length := by
  have h1 : (((wd_U 5).filter (ya_c wl)).map wd_enc).Nodup := ya_map_nd ((wd_nodup 5).filter _) (fun x hx => ((wd_mem 5 x).mp (List.mem_filter.mp hx).1).2)
  have h2 := h1.length_le_of_subset (l₂ := wl) (fun w hw => by
    obtain ⟨l, hl, e⟩ := List.mem_map.mp hw
    rw [← e]
    exact of_decide_eq_true (List.mem_filter.mp hl).2)
  rwa [List.length_map] at h2
theorem ya_P61 {wl : List Nat} (h : ya_wl wl) (hl : wl.length ≤ 12) : (wd_P (ya_c wl)).length ≤ 61 := by
  have h1 := wd_P_len (ya_sup h)
  have h2 := ya_cnt (wl := wl)
  omega
theorem ya_P_mem {wl : List Nat} (h : ya_wl wl) {p : List Nat} (hp : p ∈ wd_P (ya_c wl)) : wd_dig p ∧ p.length ≤ 5 := ((wd_mem 5 p).mp (List.mem_filter.mp hp).1).symm
/-- equal futures, as the two questions tell -/
theorem ya_fu_eq {wl : List Nat} (h : ya_wl wl) {p q : List Nat} (hp : wd_dig p) (hq : wd_dig q) : wd_fu (ya_c wl) p = wd_fu (ya_c wl) q ↔ (∀ v, wd_dig v → wd_enc (p ++ v) ∈ wl → wd_enc (q ++ v) ∈ wl) ∧ (∀ v, wd_dig v → wd_enc (q ++ v) ∈ wl → wd_enc (p ++ v) ∈ wl) := by
  have hs := ya_sup h
  constructor
  · intro e
    constructor
    · intro v hv hm
      have := (wd_fu_mem hs hp).mpr ⟨hv, decide_eq_true hm⟩
      rw [e] at this
      exact of_decide_eq_true ((wd_fu_mem hs hq).mp this).2
    · intro v hv hm
      have := (wd_fu_mem hs hq).mpr ⟨hv, decide_eq_true hm⟩
      rw [← e] at this
      exact of_decide_eq_true ((wd_fu_mem hs hp).mp this).2
  · rintro ⟨h1, h2⟩
    rw [wd_fu, wd_fu]
    apply List.filter_congr
    intro v hv
    have hv2 := ((wd_mem 5 v).mp hv).2
    rw [Bool.eq_iff_iff, ya_c, ya_c, decide_eq_true_eq, decide_eq_true_eq]
    exact ⟨h1 v hv2, h2 v hv2⟩
def ya_mn (q : List Nat) (Cs : List (List Nat)) (x : Int32) : Prop := (x = -1 ∧ ∀ z, z ∈ Cs → ¬ wd_pk 5 q < wd_pk 5 z) ∨ (∃ y, (wd_dig y ∧ y.length ≤ 5) ∧ y ∈ Cs ∧ x = nI (wd_enc y) ∧ wd_pk 5 q < wd_pk 5 y ∧ ∀ z, z ∈ Cs → wd_pk 5 q < wd_pk 5 z → wd_pk 5 y ≤ wd_pk 5 z)
theorem ya_mn_skip {q : List Nat} {Cs : List (List Nat)} {x : Int32} {z : List Nat} (h : ya_mn q Cs x) (hz : ¬ wd_pk 5 q < wd_pk 5 z ∨ ∃ y, (wd_dig y ∧ y.length ≤ 5) ∧ y ∈ Cs ∧ x = nI (wd_enc y) ∧ wd_pk 5 q < wd_pk 5 y ∧ wd_pk 5 y ≤ wd_pk 5 z ∧ ∀ z, z ∈ Cs → wd_pk 5 q < wd_pk 5 z → wd_pk 5 y ≤ wd_pk 5 z) : ya_mn q (Cs ++ [z]) x := by
  rcases hz with hz | ⟨y, h0, h1, h2, h3, h4, h5⟩
  · rcases h with ⟨h1, h2⟩ | ⟨y, h0, h1, h2, h3, h4⟩
    · refine Or.inl ⟨h1, fun w hw => ?_⟩
      rcases List.mem_append.mp hw with hw | hw
      · exact h2 w hw
      · have : w = z := by simpa using hw
        rw [this]; exact hz
    · refine Or.inr ⟨y, h0, List.mem_append_left _ h1, h2, h3, fun w hw hlt => ?_⟩
      rcases List.mem_append.mp hw with hw | hw
      · exact h4 w hw hlt
      · have : w = z := by simpa using hw
        rw [this] at hlt; exact absurd hlt hz
  · refine Or.inr ⟨y, h0, List.mem_append_left _ h1, h2, h3, fun w hw hlt => ?_⟩
    rcases List.mem_append.mp hw with hw | hw
    · exact h5 w hw hlt
    · have : w = z := by simpa using hw
      rw [this]; exact h4
theorem ya_mn_take {q : List Nat} {Cs : List (List Nat)} {z : List Nat} (hz : wd_dig z ∧ z.length ≤ 5) (h1 : wd_pk 5 q < wd_pk 5 z) (h2 : ∀ w, w ∈ Cs → wd_pk 5 q < wd_pk 5 w → wd_pk 5 z ≤ wd_pk 5 w) : ya_mn q (Cs ++ [z]) (nI (wd_enc z)) := by
  refine Or.inr ⟨z, hz, by simp, rfl, h1, fun w hw hlt => ?_⟩
  rcases List.mem_append.mp hw with hw | hw
  · exact h2 w hw hlt
  · have : w = z := by simpa using hw
    rw [this]; exact Nat.le_refl _
def ya_pr : Nat → List Nat → List (List Nat)
  | 0, _ => []
  | f + 1, z => z :: ya_pr f z.dropLast
theorem ya_enc_dl (z : List Nat) (hz : wd_dig z) : wd_enc z / 10 = wd_enc z.dropLast := by
  rcases wd_rc z with rfl | ⟨m, d, rfl⟩
  · rfl
  · have := (wd_dig_app.mp hz).2 d (by simp)
    rw [wd_enc_snoc, List.dropLast_concat]; omega
theorem ya_dl_ok {z : List Nat} (hz : wd_dig z ∧ z.length ≤ 5) : wd_dig z.dropLast ∧ z.dropLast.length ≤ 5 :=
  ⟨fun d hd => hz.1 d (List.dropLast_subset _ hd), by rw [List.length_dropLast]; omega⟩
theorem ya_pr_mem : ∀ (f : Nat) (z y : List Nat), y ∈ ya_pr f z → ∃ v, z = y ++ v := by
  intro f
  induction f with
  | zero => intro z y h; exact absurd h List.not_mem_nil
  | succ f ih =>
    intro z y h
    rcases List.mem_cons.mp h with rfl | h
    · exact ⟨[], by simp⟩
    · obtain ⟨v, e⟩ := ih _ _ h
      rcases wd_rc z with rfl | ⟨m, d, rfl⟩
      · exact ⟨v, e⟩
      · rw [List.dropLast_concat] at e
        exact ⟨v ++ [d], by rw [e]; simp⟩
theorem ya_pr_all : ∀ (f : Nat) (y v : List Nat), v.length < f → y ∈ ya_pr f (y ++ v) := by
  intro f
  induction f with
  | zero => intro y v h; omega
  | succ f ih =>
    intro y v h
    rw [ya_pr]
    rcases wd_rc v with rfl | ⟨m, d, rfl⟩
    · rw [List.append_nil]; exact List.mem_cons_self
    · rw [← List.append_assoc, List.dropLast_concat]
      exact List.mem_cons_of_mem _ (ih y m (by simp at h; omega))
section YN
variable {f_letters f_maxLength f_maxWords f_size f_length f_liveCount f_stateCount f_formLength : Int32} {a_words a_saved a_live a_state a_image a_form a_reached : Nat → Int32} {n_reached : Nat}
variable {wl : List Nat}
theorem yn_142 {post : SY → Prop} {J9 : Int32 → Int32 → Int32 → Int32 → (Nat → Int32) → (Nat → Int32) → (Nat → Int32) → (Nat → Int32) → (Nat → Int32) → (Nat → Int32) → (Nat → Int32) → Prop} {J123 : Int32 → Int32 → Prop} {i k : Nat} {q : List Nat} (hq : wd_dig q ∧ q.length ≤ 5) (hi : i < 61) (hlive : a_live i = nI (wd_enc q)) :
    ∀ (f j : Nat) (z : List Nat) (Cs : List (List Nat)) (x1 : Int32), j + f = 5 → (wd_dig z ∧ z.length ≤ 5) → ya_mn q Cs x1 → (∀ x', ya_mn q (Cs ++ ya_pr f z) x' → J123 x' (nI (k + 1))) → wY_number_142 post J9 J123 (nI i) (nI k) f_letters f_maxLength f_maxWords f_size f_length f_liveCount f_stateCount f_formLength a_words a_saved a_live a_state a_image a_form a_reached n_reached (f + 1) x1 (nI j) (nI (wd_enc z)) := by
  intro f
  induction f with
  | zero =>
    intro j z Cs x1 hj hz hm Kp
    refine pk_le 5 j (fun _ => nm_r (nI_1 k) (Kp x1 ?_)) (fun z => absurd z (by omega))
    rw [ya_pr, List.append_nil]; exact hm
  | succ f ih =>
    intro j z Cs x1 hj hz hm Kp
    have hzl := wd_enc_lt5 hz.1 hz.2
    obtain ⟨pq1, pq2⟩ := ya_pd_e hq.1 hq.2
    obtain ⟨pz1, pz2⟩ := ya_pd_e hz.1 hz.2
    have ediv : nI (wd_enc z) / 10 = nI (wd_enc z.dropLast) := by
      rw [show (10 : Int32) = nI 10 from rfl, pk_div (by omega) (by omega) (by omega), ya_enc_dl z hz.1]
    have nxt : ∀ x', ya_mn q (Cs ++ [z]) x' → wY_number_142 post J9 J123 (nI i) (nI k) f_letters f_maxLength f_maxWords f_size f_length f_liveCount f_stateCount f_formLength a_words a_saved a_live a_state a_image a_form a_reached n_reached (f + 1) x' (nI (j + 1)) (nI (wd_enc z.dropLast)) := by
      intro x' hx'
      refine ih (j + 1) z.dropLast (Cs ++ [z]) x' (by omega) (ya_dl_ok hz) hx' (fun x'' h'' => Kp x'' ?_)
      rw [ya_pr]
      rw [List.append_assoc] at h''
      exact h''
    refine pk_le 5 j (fun z => absurd z (by omega)) (fun _ => And.intro (vp_in_nI hi (by omega)) ?_)
    refine ya_pd2 (ya_pd2 ?_)
    have e1 : ya_pd (a_live (nI i).toNatClampNeg) = nI (wd_pk 5 q) := by rw [nI_clamp (by omega), hlive, pq1]
    refine pk_le (wd_pk 5 z) (wd_pk 5 q) (fun c => nm_r (nI_1 j) (And.intro (by decide) (nm_r ediv (nxt x1 (ya_mn_skip hm (Or.inl (by omega))))))) (fun c => ?_) pz1 e1
    rcases hm with ⟨m1, m2⟩ | ⟨y, m0, m1, m2, m3, m4⟩
    · refine br_t (by rw [m1]; decide) (nm_r (nI_1 j) (And.intro (by decide) (nm_r ediv (nxt _ (ya_mn_take hz c (fun w hw hlt => absurd hlt (m2 w hw)))))))
    · obtain ⟨py1, py2⟩ := ya_pd_e m0.1 m0.2
      have hyl := wd_enc_lt5 m0.1 m0.2
      refine br_f (by rw [m2]; exact nI_pos (by omega)) (ya_pd2 (ya_pd2 ?_))
      refine pk_le (wd_pk 5 y) (wd_pk 5 z) (fun c2 => nm_r (nI_1 j) (And.intro (by decide) (nm_r ediv (nxt x1 (ya_mn_skip (Or.inr ⟨y, m0, m1, m2, m3, m4⟩) (Or.inr ⟨y, m0, m1, m2, m3, c2, m4⟩)))))) (fun c2 => ?_) (by rw [m2]; exact py1) pz1
      refine nm_r (nI_1 j) (And.intro (by decide) (nm_r ediv (nxt _ (ya_mn_take hz c (fun w hw hlt => ?_)))))
      have := m4 w hw hlt
      omega
theorem yn_123 {post : SY → Prop} {J9 : Int32 → Int32 → Int32 → Int32 → (Nat → Int32) → (Nat → Int32) → (Nat → Int32) → (Nat → Int32) → (Nat → Int32) → (Nat → Int32) → (Nat → Int32) → Prop} {i : Nat} {q : List Nat} {lw : List (List Nat)} (hq : wd_dig q ∧ q.length ≤ 5) (hi : i < 61) (hlive : a_live i = nI (wd_enc q)) (hlw : ∀ l, l ∈ lw → wd_dig l ∧ l.length ≤ 5) (hl : lw.length ≤ 12) (hw : xs_h a_words (lw.map wd_enc))
    (Kp : ∀ x', ya_mn q (lw.flatMap (ya_pr 5)) x' → J9 x' (nI (i + 1)) f_liveCount f_stateCount a_words a_saved a_live a_state a_image a_form a_reached) :
    ∀ (s a : List (List Nat)) (x1 : Int32), lw = a ++ s → ya_mn q (a.flatMap (ya_pr 5)) x1 → wY_number_123 post J9 (nI i) f_letters f_maxLength f_maxWords (nI lw.length) f_length f_liveCount f_stateCount f_formLength a_words a_saved a_live a_state a_image a_form a_reached n_reached (s.length + 1) x1 (nI a.length) := by
  intro s
  induction s with
  | nil =>
    intro a x1 e hm
    rw [List.append_nil] at e
    subst e
    exact pk_le lw.length lw.length (fun _ => nm_r (nI_1 i) (Kp x1 hm)) (fun z => absurd z (by omega))
  | cons z s ih =>
    intro a x1 e hm
    have hll : lw.length = a.length + (s.length + 1) := by rw [e]; simp
    have ew : a_words (nI a.length).toNatClampNeg = nI (wd_enc z) := by
      rw [nI_clamp (by omega), hw _ (by rw [List.length_map]; omega)]
      have : lw.map wd_enc = a.map wd_enc ++ wd_enc z :: s.map wd_enc := by rw [e]; simp
      rw [this, ← List.length_map (f := wd_enc) (as := a), xl_get]
    refine pk_le lw.length a.length (fun z => absurd z (by omega)) (fun _ => And.intro (vp_in_nI (by omega) (by omega)) (nm_r ew ⟨6, ?_⟩))
    refine yn_142 hq hi hlive 5 0 z (a.flatMap (ya_pr 5)) x1 rfl (hlw z (by rw [e]; simp)) hm (fun x' h' => ?_)
    have := ih (a ++ [z]) x' (by rw [e]; simp) (by rw [List.flatMap_append]; simpa using h')
    rw [List.length_append, List.length_singleton] at this
    exact this
end YN
/-- the least live word behind q is the next one in the list -/
theorem yn_next {wl : List Nat} {lw : List (List Nat)} (hwl : ya_wl wl) (hlw : ∀ l, l ∈ lw → wd_dig l ∧ l.length ≤ 5) (e : wl = lw.map wd_enc) {dn rest : List (List Nat)} {q : List Nat} (hP : wd_P (ya_c wl) = dn ++ q :: rest) {x : Int32} (hm : ya_mn q (lw.flatMap (ya_pr 5)) x) : (rest = [] → x = -1) ∧ (∀ y r, rest = y :: r → x = nI (wd_enc y)) := by
  have hs := ya_sup hwl
  have sorted := wd_P_sorted (ya_c wl)
  rw [hP] at sorted
  have s2 := (List.pairwise_append.mp sorted).2.1
  have s3 := List.pairwise_cons.mp s2
  have s4 := (List.pairwise_append.mp sorted).2.2
  have mem1 : ∀ z, z ∈ lw.flatMap (ya_pr 5) → z ∈ wd_P (ya_c wl) := by
    intro z hz
    obtain ⟨l, hl, hz2⟩ := List.mem_flatMap.mp hz
    obtain ⟨v, ev⟩ := ya_pr_mem _ _ _ hz2
    have hd := (hlw l hl).1
    rw [ev] at hd
    have hd2 := wd_dig_app.mp hd
    refine (wd_P_mem hs).mpr ⟨hd2.1, Or.inr ⟨v, hd2.2, decide_eq_true ?_⟩⟩
    rw [← ev, e]; exact List.mem_map_of_mem hl
  have mem2 : ∀ z, z ∈ wd_P (ya_c wl) → z ≠ [] → z ∈ lw.flatMap (ya_pr 5) := by
    intro z hz h0
    obtain ⟨h1, h2⟩ := (wd_P_mem hs).mp hz
    obtain ⟨v, hv, hc⟩ := h2.resolve_left h0
    have hc2 := of_decide_eq_true hc
    rw [e] at hc2
    obtain ⟨l, hl, el⟩ := List.mem_map.mp hc2
    have := wd_enc_inj (hlw l hl).1 (wd_dig_app.mpr ⟨h1, hv⟩) el
    refine List.mem_flatMap.mpr ⟨l, hl, ?_⟩
    rw [this]
    refine ya_pr_all 5 z v ?_
    have h5 := (hlw l hl).2
    rw [this, List.length_append] at h5
    have : 0 < z.length := List.length_pos_iff.mpr h0
    omega
  have inrest : ∀ z, z ∈ wd_P (ya_c wl) → wd_pk 5 q < wd_pk 5 z → z ∈ rest := by
    intro z hz hlt
    rw [hP] at hz
    rcases List.mem_append.mp hz with h | h
    · have := s4 z h q List.mem_cons_self; omega
    · rcases List.mem_cons.mp h with h | h
      · rw [h] at hlt; omega
      · exact h
  have nonil : ∀ z, wd_pk 5 q < wd_pk 5 z → z ≠ [] := by
    intro z hlt h0
    rw [h0] at hlt
    simp [wd_pk] at hlt
  constructor
  · intro hr
    rcases hm with ⟨h, _⟩ | ⟨y, _, h1, _, h3, _⟩
    · exact h
    · have := inrest y (mem1 y h1) h3
      rw [hr] at this; exact absurd this List.not_mem_nil
  · intro y r hr
    have hyP : y ∈ wd_P (ya_c wl) := by rw [hP, hr]; simp
    have hlt : wd_pk 5 q < wd_pk 5 y := s3.1 y (by rw [hr]; exact List.mem_cons_self)
    have hyC := mem2 y hyP (nonil y hlt)
    rcases hm with ⟨_, h⟩ | ⟨y', _, h1, h2, h3, h4⟩
    · exact absurd hlt (h y hyC)
    · have hy' := inrest y' (mem1 y' h1) h3
      rw [hr] at hy' s3
      rcases List.mem_cons.mp hy' with h | h
      · rw [h2, h]
      · have a := (List.pairwise_cons.mp s3.2).1 y' h
        have b := h4 y hyC hlt
        omega
end
section
/-! Y: number, stateIn, build -/
theorem yb_pre {c : List Nat → Bool} {dn rest : List (List Nat)} (hP : wd_P c = dn ++ rest) : ∃ t, fo_D c = dd_up [] (dn.map (wd_fu c)) ++ t := by
  rw [fo_D, hP, List.map_append, dd_app]
  exact dd_pre _ _
theorem yb_ix {c : List Nat → Bool} {dn rest : List (List Nat)} (hP : wd_P c = dn ++ rest) {q : List Nat} (hq : wd_fu c q ∈ dd_up [] (dn.map (wd_fu c))) : dd_ix (wd_fu c q) (fo_D c) = dd_ix (wd_fu c q) (dd_up [] (dn.map (wd_fu c))) ∧ dd_ix (wd_fu c q) (fo_D c) < (dd_up [] (dn.map (wd_fu c))).length := by
  obtain ⟨t, e⟩ := yb_pre hP
  rw [e, dd_ix_app hq]
  exact ⟨rfl, dd_ix_lt hq⟩
theorem yb_ixn {c : List Nat → Bool} {dn rest : List (List Nat)} {q : List Nat} (hP : wd_P c = dn ++ q :: rest) (hq : wd_fu c q ∉ dd_up [] (dn.map (wd_fu c))) : dd_ix (wd_fu c q) (fo_D c) = (dd_up [] (dn.map (wd_fu c))).length := by
  obtain ⟨t, e⟩ := yb_pre (dn := dn ++ [q]) (rest := rest) (by rw [hP]; simp)
  rw [e, List.map_append, dd_app, List.map_cons, List.map_nil, dd_cons, dd_nil, dd_in, if_neg hq, List.append_assoc]
  exact dd_ix_new hq
theorem yb_up1 {c : List Nat → Bool} {dn : List (List Nat)} {q : List Nat} : dd_up [] ((dn ++ [q]).map (wd_fu c)) = dd_in (dd_up [] (dn.map (wd_fu c))) (wd_fu c q) := by
  rw [List.map_append, dd_app, List.map_cons, List.map_nil, dd_cons, dd_nil]
section YB
variable {f_letters f_maxLength f_maxWords f_size f_length f_liveCount f_stateCount f_formLength : Int32} {a_words a_saved a_live a_state a_image a_form a_reached : Nat → Int32} {n_reached : Nat}
variable {wl : List Nat}
/-- the list of the states' numbers -/
def yb_sn (wl : List Nat) (q : List Nat) : Nat := dd_ix (wd_fu (ya_c wl) q) (fo_D (ya_c wl))
theorem yb_sn_lt {q : List Nat} (hq : q ∈ wd_P (ya_c wl)) : yb_sn wl q < (fo_D (ya_c wl)).length := by
  refine dd_ix_lt ?_
  rw [fo_D, dd_mem]
  exact Or.inr (List.mem_map_of_mem hq)
theorem yb_D61 (hwl : ya_wl wl) (hl : wl.length ≤ 12) : (fo_D (ya_c wl)).length ≤ 61 := by
  have h1 := dd_len ((wd_P (ya_c wl)).map (wd_fu (ya_c wl))) []
  have h2 := ya_P61 hwl hl
  rw [List.length_map] at h1
  rw [fo_D]
  simp at h1
  omega
theorem yb_45 {post : SY → Prop} {J9 : Int32 → Int32 → Int32 → Int32 → (Nat → Int32) → (Nat → Int32) → (Nat → Int32) → (Nat → Int32) → (Nat → Int32) → (Nat → Int32) → (Nat → Int32) → Prop} {dn rest : List (List Nat)} {q : List Nat} (hwl : ya_wl wl) (hl : wl.length ≤ 12) (hw : xs_h a_words wl) (hP : wd_P (ya_c wl) = dn ++ q :: rest)
    (hlive : xs_h a_live ((dn ++ [q]).map wd_enc))
    (Kp : ∀ sta, xs_h sta ((dn ++ [q]).map (yb_sn wl)) → ∃ n123, wY_number_123 post J9 (nI dn.length) f_letters f_maxLength f_maxWords (nI wl.length) f_length f_liveCount (nI (dd_up [] ((dn ++ [q]).map (wd_fu (ya_c wl)))).length) f_formLength a_words a_saved a_live sta a_image a_form a_reached n_reached n123 (-1) 0) :
    ∀ (d2 d1 : List (List Nat)) (sta : Nat → Int32), dn = d1 ++ d2 → xs_h sta (dn.map (yb_sn wl)) → (wd_fu (ya_c wl) q ∈ d1.map (wd_fu (ya_c wl)) → sta dn.length = nI (yb_sn wl q)) → (wd_fu (ya_c wl) q ∉ d1.map (wd_fu (ya_c wl)) → sta dn.length = nI (dd_up [] (dn.map (wd_fu (ya_c wl)))).length) →
    wY_number_45 post J9 (nI (wd_enc q)) (nI dn.length) f_letters f_maxLength f_maxWords (nI wl.length) f_length f_liveCount (nI (dd_up [] (dn.map (wd_fu (ya_c wl)))).length) f_formLength n_reached (d2.length + 1) (nI d1.length) a_words a_saved a_live sta a_image a_form a_reached := by
  have hPl := ya_P61 hwl hl
  have hdl : dn.length < 61 := by rw [hP, List.length_append, List.length_cons] at hPl; omega
  have hqP : q ∈ wd_P (ya_c wl) := by rw [hP]; simp
  obtain ⟨hq1, hq2⟩ := ya_P_mem hwl hqP
  have hDd : (dd_up [] (dn.map (wd_fu (ya_c wl)))).length ≤ 61 := by
    have := dd_len (dn.map (wd_fu (ya_c wl))) []
    rw [List.length_map] at this
    simp at this; omega
  have hsq := yb_sn_lt hqP
  have hD61 := yb_D61 hwl hl
  intro d2
  induction d2 with
  | nil =>
    intro d1 sta e hs h1 h0
    rw [List.append_nil] at e
    subst e
    refine pk_le dn.length dn.length (fun _ => And.intro (vp_in_nI hdl (by omega)) ?_) (fun z => absurd z (by omega))
    by_cases c : wd_fu (ya_c wl) q ∈ dn.map (wd_fu (ya_c wl))
    · have c2 : wd_fu (ya_c wl) q ∈ dd_up [] (dn.map (wd_fu (ya_c wl))) := (dd_mem _ _ _).mpr (Or.inr c)
      have hx := yb_ix hP c2
      have es := h1 c
      have hlt : yb_sn wl q < (dd_up [] (dn.map (wd_fu (ya_c wl)))).length := hx.2
      refine pk_eq (yb_sn wl q) (dd_up [] (dn.map (wd_fu (ya_c wl)))).length (fun z => absurd z (by omega)) (fun _ => ?_) (by rw [nI_clamp (by omega), es])
      rw [yb_up1, dd_in, if_pos c2] at Kp
      refine Kp sta ?_
      have := xs_push hs (yb_sn wl q)
      rw [List.length_map, ← es] at this
      have eu : upd sta dn.length (sta dn.length) = sta := by
        funext j; rw [upd]; split
        · rename_i hj; rw [hj]
        · rfl
      rw [eu] at this
      rw [List.map_append]; exact this
    · have c2 : wd_fu (ya_c wl) q ∉ dd_up [] (dn.map (wd_fu (ya_c wl))) := fun z => by
        rcases (dd_mem _ _ _).mp z with h | h
        · exact absurd h List.not_mem_nil
        · exact c h
      have es := h0 c
      have hx : yb_sn wl q = (dd_up [] (dn.map (wd_fu (ya_c wl)))).length := yb_ixn hP c2
      refine br_t (by rw [nI_clamp (by omega), es]) (nm_r (nI_1 _) ?_)
      rw [yb_up1, dd_in, if_neg c2, List.length_append, List.length_singleton] at Kp
      refine Kp sta ?_
      have := xs_push hs (yb_sn wl q)
      rw [List.length_map, hx, ← es] at this
      have eu : upd sta dn.length (sta dn.length) = sta := by
        funext j; rw [upd]; split
        · rename_i hj; rw [hj]
        · rfl
      rw [eu] at this
      rw [List.map_append, List.map_cons, List.map_nil, hx]; exact this
  | cons y d2 ih =>
    intro d1 sta e hs h1 h0
    have hll : dn.length = d1.length + (d2.length + 1) := by rw [e]; simp
    have hyP : y ∈ wd_P (ya_c wl) := by rw [hP, e]; simp
    obtain ⟨hy1, hy2⟩ := ya_P_mem hwl hyP
    have e1 : (nI d1.length).toNatClampNeg = d1.length := nI_clamp (by omega)
    have i1 : vp_in (nI d1.length) 61 := vp_in_nI (by omega) (by omega)
    have elive : a_live (nI d1.length).toNatClampNeg = nI (wd_enc y) := by
      rw [e1, hlive _ (by simp; omega)]
      have : (dn ++ [q]).map wd_enc = d1.map wd_enc ++ wd_enc y :: (d2 ++ [q]).map wd_enc := by rw [e]; simp
      rw [this, ← List.length_map (f := wd_enc) (as := d1), xl_get]
    have nxt0 : wd_fu (ya_c wl) q ≠ wd_fu (ya_c wl) y → wY_number_45 post J9 (nI (wd_enc q)) (nI dn.length) f_letters f_maxLength f_maxWords (nI wl.length) f_length f_liveCount (nI (dd_up [] (dn.map (wd_fu (ya_c wl)))).length) f_formLength n_reached (d2.length + 1) (nI (d1.length + 1)) a_words a_saved a_live sta a_image a_form a_reached := by
      intro hne
      have := ih (d1 ++ [y]) sta (by rw [e]; simp) hs (fun hm => h1 ?_) (fun hm => h0 ?_)
      · rw [List.length_append, List.length_singleton] at this; exact this
      · rw [List.map_append] at hm
        rcases List.mem_append.mp hm with h | h
        · exact h
        · exact absurd (by simpa using h) hne
      · intro z; exact hm (by rw [List.map_append]; exact List.mem_append_left _ z)
    refine pk_le dn.length d1.length (fun z => absurd z (by omega)) (fun _ => And.intro i1 ?_)
    refine ya_inc rfl elive hq1 hq2 hy1 hy2 hl hw hwl (fun g1 => br_f (by decide) (And.intro i1 ?_)) (fun v hv g1 g2 => br_t rfl (nm_r (nI_1 _) (nxt0 ?_)))
    · refine ya_inc elive rfl hy1 hy2 hq1 hq2 hl hw hwl (fun g2 => br_f (by decide) ?_) (fun v hv g1 g2 => br_t rfl (nm_r (nI_1 _) (nxt0 ?_)))
      · have heq : wd_fu (ya_c wl) q = wd_fu (ya_c wl) y := (ya_fu_eq hwl hq1 hy1).mpr ⟨g1, g2⟩
        have hsn : yb_sn wl q = yb_sn wl y := by rw [yb_sn, yb_sn, heq]
        have esy : sta d1.length = nI (yb_sn wl y) := by
          rw [hs _ (by simp; omega)]
          have : dn.map (yb_sn wl) = d1.map (yb_sn wl) ++ yb_sn wl y :: d2.map (yb_sn wl) := by rw [e]; simp
          rw [this, ← List.length_map (f := yb_sn wl) (as := d1), xl_get]
        refine And.intro i1 (And.intro (vp_in_nI hdl (by omega)) (nm_r (e' := upd sta dn.length (nI (yb_sn wl q))) ?_ (nm_r (nI_1 _) ?_)))
        · rw [nI_clamp (by omega), e1, esy, hsn]
        · have := ih (d1 ++ [y]) (upd sta dn.length (nI (yb_sn wl q))) (by rw [e]; simp) (fun j hj => ?_) (fun _ => pk_us) (fun hm => ?_)
          · rw [List.length_append, List.length_singleton] at this; exact this
          · rw [pk_un (by rw [List.length_map] at hj; omega)]; exact hs j hj
          · exact absurd (by rw [List.map_append, heq]; simp) hm
      · intro heq
        exact g2 (((ya_fu_eq hwl hq1 hy1).mp heq).2 v hv g1)
    · intro heq
      exact g2 (((ya_fu_eq hwl hq1 hy1).mp heq).1 v hv g1)
theorem yb_9 {post : SY → Prop} (hwl : ya_wl wl) (hl : wl.length ≤ 12) (hw : xs_h a_words wl)
    (Kp : ∀ liv sta, xs_h liv ((wd_P (ya_c wl)).map wd_enc) → xs_h sta ((wd_P (ya_c wl)).map (yb_sn wl)) → post (f_letters, f_maxLength, f_maxWords, nI wl.length, f_length, nI (wd_P (ya_c wl)).length, nI (fo_D (ya_c wl)).length, f_formLength, a_words, a_saved, liv, sta, a_image, a_form, a_reached, n_reached)) :
    ∀ (rest dn : List (List Nat)) (liv sta : Nat → Int32) (lc x1 : Int32), wd_P (ya_c wl) = dn ++ rest → (dn ≠ [] → lc = nI dn.length) → (rest = [] → x1 = -1) → (∀ y r, rest = y :: r → x1 = nI (wd_enc y)) → xs_h liv (dn.map wd_enc) → xs_h sta (dn.map (yb_sn wl)) →
    wY_number_9 post f_letters f_maxLength f_maxWords (nI wl.length) f_length f_formLength n_reached (rest.length + 1) x1 (nI dn.length) lc (nI (dd_up [] (dn.map (wd_fu (ya_c wl)))).length) a_words a_saved liv sta a_image a_form a_reached := by
  have hPl := ya_P61 hwl hl
  intro rest
  induction rest with
  | nil =>
    intro dn liv sta lc x1 e hlc hx _ hliv hsta
    rw [List.append_nil] at e
    have hne : dn ≠ [] := by
      obtain ⟨t, ht⟩ := wd_P_head (ya_c wl)
      rw [← e, ht]; simp
    have hp : post (f_letters, f_maxLength, f_maxWords, nI wl.length, f_length, lc, nI (dd_up [] (dn.map (wd_fu (ya_c wl)))).length, f_formLength, a_words, a_saved, liv, sta, a_image, a_form, a_reached, n_reached) := by
      have := Kp liv sta (by rw [e]; exact hliv) (by rw [e]; exact hsta)
      rw [hlc hne]
      rw [fo_D, e] at this
      exact this
    refine br_c (fun _ => hp) (fun _ => br_t (by rw [hx rfl]; decide) hp)
  | cons q rest ih =>
    intro dn liv sta lc x1 e hlc _ hx hliv hsta
    have hdl : dn.length < 61 := by rw [e, List.length_append, List.length_cons] at hPl; omega
    have hqP : q ∈ wd_P (ya_c wl) := by rw [e]; simp
    obtain ⟨hq1, hq2⟩ := ya_P_mem hwl hqP
    have hql := wd_enc_lt5 hq1 hq2
    have i1 : vp_in (nI dn.length) 61 := vp_in_nI hdl (by omega)
    have e1 : (nI dn.length).toNatClampNeg = dn.length := nI_clamp (by omega)
    rw [hx q rest rfl]
    refine pk_le 61 dn.length (fun z => absurd z (by omega)) (fun _ => br_f (nI_pos (by omega)) (And.intro i1 (nm_r (e' := upd liv dn.length (nI (wd_enc q))) (by rw [e1]) (nm_r (nI_1 _) (And.intro i1 (nm_r (e' := upd sta dn.length (nI (dd_up [] (dn.map (wd_fu (ya_c wl)))).length)) (by rw [e1]) ⟨dn.length + 1, ?_⟩))))))
    have hliv2 : xs_h (upd liv dn.length (nI (wd_enc q))) ((dn ++ [q]).map wd_enc) := by
      have := xs_push hliv (wd_enc q)
      rw [List.length_map] at this
      rw [List.map_append]; exact this
    refine yb_45 hwl hl hw e hliv2 (fun sta2 hs2 => ?_) dn [] _ rfl (fun j hj => ?_) (fun h => absurd h List.not_mem_nil) (fun _ => pk_us)
    · obtain ⟨lw, g1, g2⟩ := ya_lw hwl
      have hlw : lw.length = wl.length := by rw [g2, List.length_map]
      have hlive : upd liv dn.length (nI (wd_enc q)) dn.length = nI (wd_enc q) := pk_us
      refine ⟨lw.length + 1, ?_⟩
      have := yn_123 (post := post) (J9 := wY_number_9 post f_letters f_maxLength f_maxWords (nI wl.length) f_length f_formLength n_reached (rest.length + 1)) (f_letters := f_letters) (f_maxLength := f_maxLength) (f_maxWords := f_maxWords) (f_length := f_length) (f_formLength := f_formLength) (n_reached := n_reached) (a_saved := a_saved) (a_image := a_image) (a_form := a_form) (a_reached := a_reached) (f_liveCount := nI (dn.length + 1)) (f_stateCount := nI (dd_up [] ((dn ++ [q]).map (wd_fu (ya_c wl)))).length) (a_state := sta2) (a_words := a_words) (a_live := upd liv dn.length (nI (wd_enc q))) (lw := lw) ⟨hq1, hq2⟩ hdl hlive g1 (by omega) (by rw [← g2]; exact hw) (fun x' hx' => ?_) lw [] (-1) rfl (Or.inl ⟨rfl, fun z hz => absurd hz List.not_mem_nil⟩)
      · rw [hlw] at this ⊢
        exact this
      · obtain ⟨n1, n2⟩ := yn_next hwl g1 g2 e hx'
        have := ih (dn ++ [q]) (upd liv dn.length (nI (wd_enc q))) sta2 (nI (dn.length + 1)) x' (by rw [e]; simp) (fun _ => by rw [List.length_append]; rfl) n1 n2 hliv2 hs2
        rw [List.length_append, List.length_singleton] at this
        exact this
    · rw [pk_un (by rw [List.length_map] at hj; omega)]; exact hsta j hj
theorem yb_num {post : SY → Prop} (hwl : ya_wl wl) (hl : wl.length ≤ 12) (hw : xs_h a_words wl)
    (Kp : ∀ liv sta, xs_h liv ((wd_P (ya_c wl)).map wd_enc) → xs_h sta ((wd_P (ya_c wl)).map (yb_sn wl)) → post (f_letters, f_maxLength, f_maxWords, nI wl.length, f_length, nI (wd_P (ya_c wl)).length, nI (fo_D (ya_c wl)).length, f_formLength, a_words, a_saved, liv, sta, a_image, a_form, a_reached, n_reached)) : wpY_number post (f_letters, f_maxLength, f_maxWords, nI wl.length, f_length, f_liveCount, f_stateCount, f_formLength, a_words, a_saved, a_live, a_state, a_image, a_form, a_reached, n_reached) := by
  obtain ⟨t, ht⟩ := wd_P_head (ya_c wl)
  refine ⟨(wd_P (ya_c wl)).length + 1, ?_⟩
  refine yb_9 hwl hl hw Kp (wd_P (ya_c wl)) [] a_live a_state f_liveCount 0 rfl (fun z => absurd rfl z) (fun z => by rw [ht] at z; cases z) (fun y r e => ?_) (fun i hi => absurd hi (by simp)) (fun i hi => absurd hi (by simp))
  rw [ht] at e
  cases e
  rfl
theorem yb_si2 {post : Int32 → Prop} {x : Int32} {P : List (List Nat)} {sn : List Nat → Nat} (hP : P.length ≤ 61) (hliv : xs_h a_live (P.map wd_enc)) (hsta : xs_h a_state (P.map sn)) (K1 : ∀ q, q ∈ P → x = nI (wd_enc q) → post (nI (sn q))) (K0 : (∀ q, q ∈ P → ¬ x = nI (wd_enc q)) → post (-2)) :
    ∀ (s a : List (List Nat)), P = a ++ s → (∀ q, q ∈ a → ¬ x = nI (wd_enc q)) → wY_stateIn_2 post x f_letters f_maxLength f_maxWords f_size f_length (nI P.length) f_stateCount f_formLength a_words a_saved a_live a_state a_image a_form a_reached n_reached (s.length + 1) (nI a.length) := by
  intro s
  induction s with
  | nil =>
    intro a e h
    rw [List.append_nil] at e
    subst e
    exact pk_le P.length P.length (fun _ => K0 h) (fun z => absurd z (by omega))
  | cons q s ih =>
    intro a e h
    have hll : P.length = a.length + (s.length + 1) := by rw [e]; simp
    have e1 : (nI a.length).toNatClampNeg = a.length := nI_clamp (by omega)
    have i1 : vp_in (nI a.length) 61 := vp_in_nI (by omega) (by omega)
    have el : a_live (nI a.length).toNatClampNeg = nI (wd_enc q) := by
      rw [e1, hliv _ (by rw [List.length_map]; omega)]
      have : P.map wd_enc = a.map wd_enc ++ wd_enc q :: s.map wd_enc := by rw [e]; simp
      rw [this, ← List.length_map (f := wd_enc) (as := a), xl_get]
    have es : a_state (nI a.length).toNatClampNeg = nI (sn q) := by
      rw [e1, hsta _ (by rw [List.length_map]; omega)]
      have : P.map sn = a.map sn ++ sn q :: s.map sn := by rw [e]; simp
      rw [this, ← List.length_map (f := sn) (as := a), xl_get]
    refine pk_le P.length a.length (fun z => absurd z (by omega)) (fun _ => And.intro i1 (br_c (fun z => And.intro i1 ?_) (fun z => nm_r (nI_1 _) ?_)))
    · rw [el] at z
      rw [es]
      exact K1 q (by rw [e]; simp) z.symm
    · rw [el] at z
      have := ih (a ++ [q]) (by rw [e]; simp) (fun y hy => ?_)
      · rw [List.length_append, List.length_singleton] at this; exact this
      · rcases List.mem_append.mp hy with hy | hy
        · exact h y hy
        · have : y = q := by simpa using hy
          rw [this]; exact fun w => z w.symm
theorem yb_si {post : Int32 → Prop} {x : Int32} {P : List (List Nat)} {sn : List Nat → Nat} (hP : P.length ≤ 61) (hliv : xs_h a_live (P.map wd_enc)) (hsta : xs_h a_state (P.map sn)) (K1 : ∀ q, q ∈ P → x = nI (wd_enc q) → post (nI (sn q))) (K0 : (∀ q, q ∈ P → ¬ x = nI (wd_enc q)) → post (-2)) : wpY_stateIn post (f_letters, f_maxLength, f_maxWords, f_size, f_length, nI P.length, f_stateCount, f_formLength, a_words, a_saved, a_live, a_state, a_image, a_form, a_reached, n_reached) x :=
  ⟨P.length + 1, yb_si2 hP hliv hsta K1 K0 P [] rfl (fun q hq => absurd hq List.not_mem_nil)⟩
/-! the packed form -/
def yb_h (a : Nat) (b : Nat → Bool) : Nat → Nat
  | 0 => a
  | d + 1 => yb_h a b d + if b d = true then 2 * 2 ^ d else 0
def yb_t (b : Nat → Bool) (t : Nat → Nat) : Nat → List Nat
  | 0 => []
  | d + 1 => yb_t b t d ++ if b d = true then [t d] else []
theorem yb_t_len (b : Nat → Bool) (t : Nat → Nat) : ∀ d, (yb_t b t d).length ≤ d := by
  intro d
  induction d with
  | zero => exact Nat.le_refl _
  | succ d ih =>
    rw [yb_t, List.length_append]
    split
    · simp; omega
    · simp; omega
theorem yb_ht4 (a : Nat) (b : Nat → Bool) (t : Nat → Nat) : yb_h a b 4 = fo_h a b ∧ yb_t b t 4 = fo_ts b t := by
  constructor
  · simp only [yb_h, fo_h]
  · rw [fo_ts_e]; simp only [yb_t, List.nil_append, List.append_assoc]
theorem yb_htL {L : Nat} (a : Nat) (b : Nat → Bool) (t : Nat → Nat) (hb : ∀ d, L ≤ d → d < 4 → b d = false) : ∀ j, L + j ≤ 4 → yb_h a b (L + j) = yb_h a b L ∧ yb_t b t (L + j) = yb_t b t L := by
  intro j
  induction j with
  | zero => intro _; exact ⟨rfl, rfl⟩
  | succ j ih =>
    intro h
    have := ih (by omega)
    rw [← Nat.add_assoc, yb_h, yb_t, hb (L + j) (by omega) (by omega)]
    simpa using this
theorem yb_hset {fo : Nat → Int32} {F ts : List Nat} {h : Nat} (hf : xs_h fo (F ++ h :: ts)) (h' : Nat) : xs_h (upd fo F.length (nI h')) (F ++ h' :: ts) := by
  intro i hi
  have hi2 : i < (F ++ h :: ts).length := by simpa using hi
  by_cases e : i = F.length
  · rw [e, pk_us, xl_get]
  · rw [pk_un e, hf i hi2, List.getD_eq_getElem?_getD, List.getD_eq_getElem?_getD]
    congr 2
    rcases Nat.lt_or_ge i F.length with z | z
    · rw [List.getElem?_append_left z, List.getElem?_append_left z]
    · rw [List.getElem?_append_right z, List.getElem?_append_right z]
      obtain ⟨k, hk⟩ : ∃ k, i - F.length = k + 1 := ⟨i - F.length - 1, by omega⟩
      rw [hk, List.getElem?_cons_succ, List.getElem?_cons_succ]
theorem yb_77 {post : SY → Prop} {J13 : Int32 → Int32 → Int32 → (Nat → Int32) → (Nat → Int32) → (Nat → Int32) → (Nat → Int32) → (Nat → Int32) → (Nat → Int32) → (Nat → Int32) → Prop} {x1 : Int32} {L i a0 : Nat} {q F : List Nat} (hwl : ya_wl wl) (hl : wl.length ≤ 12) (hL : L ≤ 4) (hi : i < 61) (hq : q ∈ wd_P (ya_c wl)) (hlive : xs_h a_live ((wd_P (ya_c wl)).map wd_enc)) (hlq : a_live i = nI (wd_enc q)) (hsta : xs_h a_state ((wd_P (ya_c wl)).map (yb_sn wl))) (hF : F.length ≤ 300)
    (Kp : ∀ fo, xs_h fo (F ++ yb_h a0 (fo_b (wd_fu (ya_c wl) q)) L :: yb_t (fo_b (wd_fu (ya_c wl) q)) (fun d => dd_ix (fo_dv d (wd_fu (ya_c wl) q)) (fo_D (ya_c wl))) L) → J13 x1 (nI (i + 1)) (nI (F ++ yb_h a0 (fo_b (wd_fu (ya_c wl) q)) L :: yb_t (fo_b (wd_fu (ya_c wl) q)) (fun d => dd_ix (fo_dv d (wd_fu (ya_c wl) q)) (fo_D (ya_c wl))) L).length) a_words a_saved a_live a_state a_image fo a_reached) :
    ∀ (j d : Nat) (fo : Nat → Int32), d + j = L → xs_h fo (F ++ yb_h a0 (fo_b (wd_fu (ya_c wl) q)) d :: yb_t (fo_b (wd_fu (ya_c wl) q)) (fun d => dd_ix (fo_dv d (wd_fu (ya_c wl) q)) (fo_D (ya_c wl))) d) →
    wY_build_77 post J13 x1 (nI i) (nI F.length) (nI L) f_maxLength f_maxWords f_size f_length (nI (wd_P (ya_c wl)).length) f_stateCount n_reached (j + 1) (nI (d + 1)) (nI (F ++ yb_h a0 (fo_b (wd_fu (ya_c wl) q)) d :: yb_t (fo_b (wd_fu (ya_c wl) q)) (fun d => dd_ix (fo_dv d (wd_fu (ya_c wl) q)) (fo_D (ya_c wl))) d).length) a_words a_saved a_live a_state a_image fo a_reached := by
  have hPl := ya_P61 hwl hl
  have hs := ya_sup hwl
  obtain ⟨hq1, hq2⟩ := ya_P_mem hwl hq
  have hql := wd_enc_lt5 hq1 hq2
  have hD61 := yb_D61 hwl hl
  intro j
  induction j with
  | zero =>
    intro d fo hd hf
    have : d = L := by omega
    subst this
    exact pk_lt d (d + 1) (fun _ => nm_r (nI_1 i) (Kp fo hf)) (fun z => absurd z (by omega))
  | succ j ih =>
    intro d fo hd hf
    have hd4 : d < 4 := by omega
    have hq' : wd_dig (q ++ [d]) := wd_dig_app.mpr ⟨hq1, wd_dig_one hd4⟩
    have hlen := yb_t_len (fo_b (wd_fu (ya_c wl) q)) (fun d => dd_ix (fo_dv d (wd_fu (ya_c wl) q)) (fo_D (ya_c wl))) d
    have earg : a_live (nI i).toNatClampNeg * 10 + nI (d + 1) = nI (wd_enc (q ++ [d])) := by
      rw [nI_clamp (by omega), hlq, show (10 : Int32) = nI 10 from rfl, pk_mul, nI_add, wd_enc_snoc]
    have hll : (F ++ yb_h a0 (fo_b (wd_fu (ya_c wl) q)) d :: yb_t (fo_b (wd_fu (ya_c wl) q)) (fun d => dd_ix (fo_dv d (wd_fu (ya_c wl) q)) (fo_D (ya_c wl))) d).length = F.length + 1 + (yb_t (fo_b (wd_fu (ya_c wl) q)) (fun d => dd_ix (fo_dv d (wd_fu (ya_c wl) q)) (fo_D (ya_c wl))) d).length := by
      rw [List.length_append, List.length_cons]; omega
    have hsh : (1 : Int32) <<< (nI (d + 1) &&& 31) = nI (2 * 2 ^ d) := by
      have : d = 0 ∨ d = 1 ∨ d = 2 ∨ d = 3 := by omega
      rcases this with rfl | rfl | rfl | rfl <;> decide
    have eF : (nI F.length).toNatClampNeg = F.length := nI_clamp (by omega)
    have iF : vp_in (nI F.length) 305 := vp_in_nI (by omega) (by omega)
    refine pk_lt L (d + 1) (fun z => absurd z (by omega)) (fun _ => And.intro (vp_in_nI hi (by omega)) (yb_si hPl hlive hsta (fun y hy e => ?_) (fun hno => ?_)))
    · obtain ⟨hy1, hy2⟩ := ya_P_mem hwl hy
      rw [earg] at e
      have hy3 := wd_enc_lt5 hy1 hy2
      have hb9 : wd_enc (q ++ [d]) < 2 ^ 31 := by rw [wd_enc_snoc]; omega
      have hyq : y = q ++ [d] := (wd_enc_inj hq' hy1 ((nI_eq hb9 (by omega)).mp e)).symm
      subst hyq
      have hb : fo_b (wd_fu (ya_c wl) q) d = true := by
        rw [fo_b_fu hs hq1 hd4]; exact (List.mem_filter.mp hy).2
      have hix : yb_sn wl (q ++ [d]) = dd_ix (fo_dv d (wd_fu (ya_c wl) q)) (fo_D (ya_c wl)) := by rw [yb_sn, fo_dv_fu hs hq1 hd4]
      have hsn := yb_sn_lt hy
      have hfh : fo (nI F.length).toNatClampNeg = nI (yb_h a0 (fo_b (wd_fu (ya_c wl) q)) d) := by
        rw [eF, hf F.length (by rw [hll]; omega), xl_get]
      refine br_f (nI_pos (by omega)) (And.intro iF (And.intro iF (nm_r (e' := upd fo F.length (nI (yb_h a0 (fo_b (wd_fu (ya_c wl) q)) (d + 1)))) ?_ (br_f (nI_pos (by omega)) (nm_r (nI_1 _) (And.intro (vp_in_nI (by omega) (by omega)) (nm_e (nm_r (nI_1 _) ?_))))))))
      · rw [hfh, hsh, nI_add, eF, yb_h, if_pos hb]
      · have hp := xs_push (yb_hset hf (yb_h a0 (fo_b (wd_fu (ya_c wl) q)) (d + 1))) (yb_sn wl (q ++ [d]))
        have ee : F ++ yb_h a0 (fo_b (wd_fu (ya_c wl) q)) (d + 1) :: yb_t (fo_b (wd_fu (ya_c wl) q)) (fun d => dd_ix (fo_dv d (wd_fu (ya_c wl) q)) (fo_D (ya_c wl))) d ++ [yb_sn wl (q ++ [d])] = F ++ yb_h a0 (fo_b (wd_fu (ya_c wl) q)) (d + 1) :: yb_t (fo_b (wd_fu (ya_c wl) q)) (fun d => dd_ix (fo_dv d (wd_fu (ya_c wl) q)) (fo_D (ya_c wl))) (d + 1) := by
          rw [yb_t, if_pos hb, hix]; simp
        rw [ee] at hp
        have := ih (d + 1) _ (by omega) hp
        have el : (F ++ yb_h a0 (fo_b (wd_fu (ya_c wl) q)) (d + 1) :: yb_t (fo_b (wd_fu (ya_c wl) q)) (fun d => dd_ix (fo_dv d (wd_fu (ya_c wl) q)) (fo_D (ya_c wl))) (d + 1)).length = (F ++ yb_h a0 (fo_b (wd_fu (ya_c wl) q)) d :: yb_t (fo_b (wd_fu (ya_c wl) q)) (fun d => dd_ix (fo_dv d (wd_fu (ya_c wl) q)) (fo_D (ya_c wl))) d).length + 1 := by
          rw [← ee]; simp; omega
        rw [el] at this
        have ec : (F ++ yb_h a0 (fo_b (wd_fu (ya_c wl) q)) (d + 1) :: yb_t (fo_b (wd_fu (ya_c wl) q)) (fun d => dd_ix (fo_dv d (wd_fu (ya_c wl) q)) (fo_D (ya_c wl))) d).length = (F ++ yb_h a0 (fo_b (wd_fu (ya_c wl) q)) d :: yb_t (fo_b (wd_fu (ya_c wl) q)) (fun d => dd_ix (fo_dv d (wd_fu (ya_c wl) q)) (fo_D (ya_c wl))) d).length := by
          simp
        rw [ec] at this
        have ecl : (nI (F ++ yb_h a0 (fo_b (wd_fu (ya_c wl) q)) d :: yb_t (fo_b (wd_fu (ya_c wl) q)) (fun d => dd_ix (fo_dv d (wd_fu (ya_c wl) q)) (fo_D (ya_c wl))) d).length).toNatClampNeg = (F ++ yb_h a0 (fo_b (wd_fu (ya_c wl) q)) d :: yb_t (fo_b (wd_fu (ya_c wl) q)) (fun d => dd_ix (fo_dv d (wd_fu (ya_c wl) q)) (fo_D (ya_c wl))) d).length := nI_clamp (by omega)
        rw [ecl]
        exact this
    · have hb : fo_b (wd_fu (ya_c wl) q) d = false := by
        rw [fo_b_fu hs hq1 hd4]
        by_cases z : wd_lv (ya_c wl) (q ++ [d]) = true
        · exfalso
          refine hno (q ++ [d]) ((wd_P_mem hs).mpr ⟨hq', (wd_lv_iff hs hq').mp z⟩) earg
        · simpa using z
      refine br_t (by decide) (br_t (by decide) (nm_r (nI_1 _) ?_))
      have := ih (d + 1) fo (by omega) (by rw [yb_h, yb_t, hb]; simpa using hf)
      rw [yb_h, yb_t, hb] at this
      simpa using this
end YB
end
section
/-! Y: build, pack, rank, wordAt, prefixCount -/
theorem yo_bl_len (D : List (List (List Nat))) (k : List (List Nat)) : (fo_bl D k).length ≤ 5 := by
  rw [fo_bl, List.length_cons, fo_ts, List.length_map]
  have := List.length_filter_le (fo_b k) ([0, 1, 2, 3] : List Nat)
  simp at this
  omega
theorem yo_fl_len (D : List (List (List Nat))) : ∀ l : List (List (List Nat)), (l.flatMap (fo_bl D)).length ≤ 5 * l.length := by
  intro l
  induction l with
  | nil => exact Nat.le_refl _
  | cons k l ih =>
    rw [List.flatMap_cons, List.length_append, List.length_cons]
    have := yo_bl_len D k
    omega
/-- the words are legal for L letters -/
def yo_L (L : Nat) (wl : List Nat) : Prop := ∀ w, w ∈ wl → ∃ l, wd_dig l ∧ l.length ≤ 5 ∧ (∀ d, d ∈ l → d < L) ∧ wd_enc l = w
theorem yo_L_wl {L : Nat} {wl : List Nat} (h : yo_L L wl) : ya_wl wl := fun w hw => by
  obtain ⟨l, h1, h2, _, h4⟩ := h w hw
  exact ⟨l, h1, h2, h4⟩
theorem yo_bL {L : Nat} {wl : List Nat} (h : yo_L L wl) {q : List Nat} (hq : wd_dig q) : ∀ d, L ≤ d → d < 4 → fo_b (wd_fu (ya_c wl) q) d = false := by
  intro d hd hd4
  have hs := ya_sup (yo_L_wl h)
  rw [fo_b_fu hs hq hd4]
  by_cases z : wd_lv (ya_c wl) (q ++ [d]) = true
  · exfalso
    rcases (wd_lv_iff hs (wd_dig_app.mpr ⟨hq, wd_dig_one hd4⟩)).mp z with e | ⟨v, hv, hc⟩
    · simp at e
    · obtain ⟨l, h1, h2, h3, h4⟩ := h _ (of_decide_eq_true hc)
      have := wd_enc_inj h1 (wd_dig_app.mpr ⟨wd_dig_app.mpr ⟨hq, wd_dig_one hd4⟩, hv⟩) h4
      have := h3 d (by rw [this]; simp)
      omega
  · simpa using z
section YO
variable {f_letters f_maxLength f_maxWords f_size f_length f_liveCount f_stateCount f_formLength : Int32} {a_words a_saved a_live a_state a_image a_form a_reached : Nat → Int32} {n_reached : Nat}
variable {wl : List Nat} {L : Nat}
theorem yo_13 {post : SY → Prop} (hwL : yo_L L wl) (hl : wl.length ≤ 12) (hL : L ≤ 4) (hw : xs_h a_words wl) (hlive : xs_h a_live ((wd_P (ya_c wl)).map wd_enc)) (hsta : xs_h a_state ((wd_P (ya_c wl)).map (yb_sn wl)))
    (Kp : ∀ fo, xs_h fo (fo_F (ya_c wl)) → post (nI L, f_maxLength, f_maxWords, nI wl.length, f_length, nI (wd_P (ya_c wl)).length, f_stateCount, nI (fo_F (ya_c wl)).length, a_words, a_saved, a_live, a_state, a_image, fo, a_reached, n_reached)) :
    ∀ (rest dn : List (List Nat)) (fo : Nat → Int32), wd_P (ya_c wl) = dn ++ rest → xs_h fo ((dd_up [] (dn.map (wd_fu (ya_c wl)))).flatMap (fo_bl (fo_D (ya_c wl)))) →
    wY_build_13 post (nI L) f_maxLength f_maxWords (nI wl.length) f_length (nI (wd_P (ya_c wl)).length) f_stateCount n_reached (rest.length + 1) (nI (dd_up [] (dn.map (wd_fu (ya_c wl)))).length) (nI dn.length) (nI ((dd_up [] (dn.map (wd_fu (ya_c wl)))).flatMap (fo_bl (fo_D (ya_c wl)))).length) a_words a_saved a_live a_state a_image fo a_reached := by
  have hwl := yo_L_wl hwL
  have hs := ya_sup hwl
  have hPl := ya_P61 hwl hl
  intro rest
  induction rest with
  | nil =>
    intro dn fo e hf
    rw [List.append_nil] at e
    have e2 : dd_up [] (dn.map (wd_fu (ya_c wl))) = fo_D (ya_c wl) := by rw [fo_D, e]
    rw [e2] at hf ⊢
    refine pk_le (wd_P (ya_c wl)).length dn.length (fun _ => Kp fo hf) (fun z => absurd z (by rw [e]; omega)) rfl rfl (by omega) (by rw [← e]; omega)
  | cons q rest ih =>
    intro dn fo e hf
    have hll : (wd_P (ya_c wl)).length = dn.length + (rest.length + 1) := by rw [e]; simp
    have hqP : q ∈ wd_P (ya_c wl) := by rw [e]; simp
    obtain ⟨hq1, hq2⟩ := ya_P_mem hwl hqP
    have hql := wd_enc_lt5 hq1 hq2
    have e1 : (nI dn.length).toNatClampNeg = dn.length := nI_clamp (by omega)
    have i1 : vp_in (nI dn.length) 61 := vp_in_nI (by omega) (by omega)
    have elv : a_live dn.length = nI (wd_enc q) := by
      rw [hlive _ (by rw [List.length_map]; omega)]
      have : (wd_P (ya_c wl)).map wd_enc = dn.map wd_enc ++ wd_enc q :: rest.map wd_enc := by rw [e]; simp
      rw [this, ← List.length_map (f := wd_enc) (as := dn), xl_get]
    have est : a_state (nI dn.length).toNatClampNeg = nI (yb_sn wl q) := by
      rw [e1, hsta _ (by rw [List.length_map]; omega)]
      have : (wd_P (ya_c wl)).map (yb_sn wl) = dn.map (yb_sn wl) ++ yb_sn wl q :: rest.map (yb_sn wl) := by rw [e]; simp
      rw [this, ← List.length_map (f := yb_sn wl) (as := dn), xl_get]
    have hDl : (dd_up [] (dn.map (wd_fu (ya_c wl)))).length ≤ dn.length := by
      have := dd_len (dn.map (wd_fu (ya_c wl))) []
      rw [List.length_map] at this
      simpa using this
    have hFl := yo_fl_len (fo_D (ya_c wl)) (dd_up [] (dn.map (wd_fu (ya_c wl))))
    have hsn := yb_sn_lt hqP
    have hD61 := yb_D61 hwl hl
    refine pk_le (wd_P (ya_c wl)).length dn.length (fun z => absurd z (by omega)) (fun _ => And.intro i1 ?_)
    by_cases c : wd_fu (ya_c wl) q ∈ dd_up [] (dn.map (wd_fu (ya_c wl)))
    · have hx : yb_sn wl q < (dd_up [] (dn.map (wd_fu (ya_c wl)))).length := (yb_ix e c).2
      refine pk_eq (yb_sn wl q) (dd_up [] (dn.map (wd_fu (ya_c wl)))).length (fun z => absurd z (by omega)) (fun _ => nm_r (nI_1 _) ?_) est
      have := ih (dn ++ [q]) fo (by rw [e]; simp) (by rw [yb_up1, dd_in, if_pos c]; exact hf)
      rw [yb_up1, dd_in, if_pos c, List.length_append, List.length_singleton] at this
      exact this
    · have hx : yb_sn wl q = (dd_up [] (dn.map (wd_fu (ya_c wl)))).length := yb_ixn e c
      refine br_t (by rw [est, hx]) (nm_r (nI_1 _) (nm_r (nI_1 _) (And.intro i1 ?_)))
      have fin : ∀ a0, fo_ac (wd_fu (ya_c wl) q) = a0 → a0 ≤ 1 → ∀ fo1, fo1 = upd fo ((dd_up [] (dn.map (wd_fu (ya_c wl)))).flatMap (fo_bl (fo_D (ya_c wl)))).length (nI a0) → ∃ n77, wY_build_77 post (wY_build_13 post (nI L) f_maxLength f_maxWords (nI wl.length) f_length (nI (wd_P (ya_c wl)).length) f_stateCount n_reached (rest.length + 1)) (nI ((dd_up [] (dn.map (wd_fu (ya_c wl)))).length + 1)) (nI dn.length) (nI ((dd_up [] (dn.map (wd_fu (ya_c wl)))).flatMap (fo_bl (fo_D (ya_c wl)))).length) (nI L) f_maxLength f_maxWords (nI wl.length) f_length (nI (wd_P (ya_c wl)).length) f_stateCount n_reached n77 1 (nI (((dd_up [] (dn.map (wd_fu (ya_c wl)))).flatMap (fo_bl (fo_D (ya_c wl)))).length + 1)) a_words a_saved a_live a_state a_image fo1 a_reached := by
        intro a0 ea _ fo1 efo
        subst efo
        refine ⟨L + 1, ?_⟩
        have h0 := xs_push hf a0
        have hb := yo_bL hwL hq1
        have h4 := yb_ht4 a0 (fo_b (wd_fu (ya_c wl) q)) (fun d => dd_ix (fo_dv d (wd_fu (ya_c wl) q)) (fo_D (ya_c wl)))
        have h5 := yb_htL a0 (fo_b (wd_fu (ya_c wl) q)) (fun d => dd_ix (fo_dv d (wd_fu (ya_c wl) q)) (fo_D (ya_c wl))) hb (4 - L) (by omega)
        rw [show L + (4 - L) = 4 by omega, h4.1, h4.2] at h5
        have := yb_77 (post := post) (a_words := a_words) (a_saved := a_saved) (a_image := a_image) (a_reached := a_reached) (f_maxLength := f_maxLength) (f_maxWords := f_maxWords) (f_size := nI wl.length) (f_length := f_length) (f_stateCount := f_stateCount) (n_reached := n_reached) (x1 := nI ((dd_up [] (dn.map (wd_fu (ya_c wl)))).length + 1)) (J13 := wY_build_13 post (nI L) f_maxLength f_maxWords (nI wl.length) f_length (nI (wd_P (ya_c wl)).length) f_stateCount n_reached (rest.length + 1)) (a0 := a0) (F := (dd_up [] (dn.map (wd_fu (ya_c wl)))).flatMap (fo_bl (fo_D (ya_c wl)))) (i := dn.length) hwl hl hL (by omega) hqP hlive elv hsta (by omega) (fun fo2 hf2 => ?_) L 0 _ (by omega) h0
        · rw [List.length_append] at this; exact this
        · rw [← h5.1, ← h5.2] at hf2 ⊢
          have eb : fo_h a0 (fo_b (wd_fu (ya_c wl) q)) :: fo_ts (fo_b (wd_fu (ya_c wl) q)) (fun d => dd_ix (fo_dv d (wd_fu (ya_c wl) q)) (fo_D (ya_c wl))) = fo_bl (fo_D (ya_c wl)) (wd_fu (ya_c wl) q) := by
            rw [fo_bl, ea]
          rw [eb] at hf2 ⊢
          have ef : (dd_up [] ((dn ++ [q]).map (wd_fu (ya_c wl)))).flatMap (fo_bl (fo_D (ya_c wl))) = (dd_up [] (dn.map (wd_fu (ya_c wl)))).flatMap (fo_bl (fo_D (ya_c wl))) ++ fo_bl (fo_D (ya_c wl)) (wd_fu (ya_c wl) q) := by
            rw [yb_up1, dd_in, if_neg c, List.flatMap_append]; simp
          have := ih (dn ++ [q]) fo2 (by rw [e]; simp) (by rw [ef]; exact hf2)
          rw [ef, yb_up1, dd_in, if_neg c, List.length_append (as := dd_up [] (dn.map (wd_fu (ya_c wl)))), List.length_singleton, List.length_append (as := dn), List.length_singleton] at this
          exact this
      have elv2 : (a_live (nI dn.length).toNatClampNeg).toInt64 = lN (wd_enc q) := by rw [e1, elv, nI_l (by omega)]
      have eac := fo_ac_fu hs hq1
      have iF : vp_in (nI ((dd_up [] (dn.map (wd_fu (ya_c wl)))).flatMap (fo_bl (fo_D (ya_c wl)))).length) 305 := vp_in_nI (by omega) (by omega)
      refine ya_fn (m := wd_enc q) elv2 (by omega) hl hw (ya_wl_lt hwl) (fun hm i hi => ?_) (fun hm => ?_)
      · refine br_f (nI_pos (by omega)) (And.intro iF (nm_e ?_))
        refine fin 1 (by rw [eac, if_pos (show ya_c wl q = true from decide_eq_true hm)]) (by omega) _ ?_
        rw [nI_clamp (by omega)]; rfl
      · refine br_t (by decide) (And.intro iF (nm_e ?_))
        refine fin 0 (by rw [eac, if_neg (by simpa [ya_c] using hm)]) (by omega) _ ?_
        rw [nI_clamp (by omega)]; rfl
theorem yo_build {post : SY → Prop} (hwL : yo_L L wl) (hl : wl.length ≤ 12) (hL : L ≤ 4) (hw : xs_h a_words wl)
    (Kp : ∀ liv sta fo, xs_h fo (fo_F (ya_c wl)) → (fo_F (ya_c wl)).length ≤ 305 → post (nI L, f_maxLength, f_maxWords, nI wl.length, f_length, nI (wd_P (ya_c wl)).length, nI (fo_D (ya_c wl)).length, nI (fo_F (ya_c wl)).length, a_words, a_saved, liv, sta, a_image, fo, a_reached, n_reached)) : wpY_build post (nI L, f_maxLength, f_maxWords, nI wl.length, f_length, f_liveCount, f_stateCount, f_formLength, a_words, a_saved, a_live, a_state, a_image, a_form, a_reached, n_reached) := by
  have hwl := yo_L_wl hwL
  unfold wpY_build
  refine yb_num hwl hl hw (fun liv sta h1 h2 => ⟨(wd_P (ya_c wl)).length + 1, ?_⟩)
  have h9 : (fo_F (ya_c wl)).length ≤ 305 := by
    have := yo_fl_len (fo_D (ya_c wl)) (fo_D (ya_c wl))
    have := yb_D61 hwl hl
    rw [fo_F]; omega
  exact yo_13 hwL hl hL hw h1 h2 (fun fo hf => Kp liv sta fo hf h9) (wd_P (ya_c wl)) [] a_form rfl (fun i hi => absurd hi (by simp [dd_nil]))
theorem yo_p6 {post : Int32 → SY → Prop} {im : Nat → Nat} {F : List Nat} (hF : F.length ≤ 128) (hf : xs_h a_form F) (Kp : post (nI F.length) (f_letters, f_maxLength, f_maxWords, f_size, nI F.length, f_liveCount, f_stateCount, nI F.length, a_words, a_saved, a_live, a_state, nN (xp_im im F F.length), a_form, a_reached, n_reached)) :
    ∀ (j i : Nat), i + j = F.length → wY_pack_6 post f_letters f_maxLength f_maxWords f_size f_length f_liveCount f_stateCount (nI F.length) n_reached (j + 1) (nI i) a_words a_saved a_live a_state (nN (xp_im im F i)) a_form a_reached := by
  intro j
  induction j with
  | zero =>
    intro i hi
    have : i = F.length := by omega
    subst this
    exact pk_le F.length F.length (fun _ => Kp) (fun z => absurd z (by omega))
  | succ j ih =>
    intro i hi
    refine pk_le F.length i (fun z => absurd z (by omega)) (fun _ => pk_le 128 i (fun z => absurd z (by omega)) (fun _ => And.intro (vp_in_nI (by omega) (by omega)) (And.intro (vp_in_nI (by omega) (by omega)) (nm_r (e' := nN (xp_im im F (i + 1))) ?_ (nm_r (nI_1 i) (ih (i + 1) (by omega)))))))
    rw [nI_clamp (by omega), hf i (by omega), po_upd, xp_ims]
theorem yo_pack {post : Int32 → SY → Prop} {im : Nat → Nat} (hwL : yo_L L wl) (hl : wl.length ≤ 12) (hL : L ≤ 4) (hw : xs_h a_words wl) (h128 : (fo_F (ya_c wl)).length ≤ 128)
    (Kp : ∀ liv sta fo, post (nI (fo_F (ya_c wl)).length) (nI L, f_maxLength, f_maxWords, nI wl.length, nI (fo_F (ya_c wl)).length, nI (wd_P (ya_c wl)).length, nI (fo_D (ya_c wl)).length, nI (fo_F (ya_c wl)).length, a_words, a_saved, liv, sta, nN (xp_im im (fo_F (ya_c wl)) (fo_F (ya_c wl)).length), fo, a_reached, n_reached)) : wpY_pack post (nI L, f_maxLength, f_maxWords, nI wl.length, f_length, f_liveCount, f_stateCount, f_formLength, a_words, a_saved, a_live, a_state, nN im, a_form, a_reached, n_reached) := by
  unfold wpY_pack
  refine yo_build hwL hl hL hw (fun liv sta fo h1 h2 => ⟨(fo_F (ya_c wl)).length + 1, ?_⟩)
  have := yo_p6 (post := post) (im := im) (F := fo_F (ya_c wl)) (a_form := fo) (f_length := f_length) h128 h1 (Kp liv sta fo) (fo_F (ya_c wl)).length 0 (by omega)
  rw [xp_im0] at this
  exact this
/-! counts over the list -/
theorem yo_rk {post : Int32 → Prop} {x : Int32} (hl : wl.length ≤ 12) (hw : xs_h a_words wl) (Kp : wpY_isWord (fun r => (r = 0 → post (-1)) ∧ (¬ r = 0 → post (nI (List.countP (fun w => decide (ya_pd (nI w) < ya_pd x)) wl)))) (f_letters, f_maxLength, f_maxWords, nI wl.length, f_length, f_liveCount, f_stateCount, f_formLength, a_words, a_saved, a_live, a_state, a_image, a_form, a_reached, n_reached) x) :
    ∀ (s a : List Nat), wl = a ++ s → wY_rank_4 post x f_letters f_maxLength f_maxWords (nI wl.length) f_length f_liveCount f_stateCount f_formLength a_words a_saved a_live a_state a_image a_form a_reached n_reached (s.length + 1) (nI (List.countP (fun w => decide (ya_pd (nI w) < ya_pd x)) a)) (nI a.length) := by
  intro s
  induction s with
  | nil =>
    intro a e
    rw [List.append_nil] at e
    subst e
    exact pk_le wl.length wl.length (fun _ => Kp) (fun z => absurd z (by omega))
  | cons w s ih =>
    intro a e
    have hll : wl.length = a.length + (s.length + 1) := by rw [e]; simp
    have ew : a_words (nI a.length).toNatClampNeg = nI w := by
      rw [nI_clamp (by omega), hw _ (by omega)]
      conv => lhs; rw [e]
      rw [xl_get]
    have := ih (a ++ [w]) (by rw [e]; simp)
    rw [List.length_append, List.length_singleton, List.countP_append, List.countP_singleton] at this
    refine pk_le wl.length a.length (fun z => absurd z (by omega)) (fun _ => And.intro (vp_in_nI (by omega) (by omega)) ?_)
    refine ya_pd2 (ya_pd2 ?_)
    rw [ew]
    refine br_c (fun z => nm_r (nI_1 _) ?_) (fun z => nm_r (nI_1 _) (nm_r (nI_1 _) ?_))
    · rw [if_neg (by simpa using z)] at this; exact this
    · rw [if_pos (decide_eq_true (Int32.not_le.mp z))] at this; exact this
theorem yo_rank {post : Int32 → Prop} {x : Int32} {K : Nat} (hK : K ≤ 5) (hL : L ≤ 4) (hl : wl.length ≤ 12) (hw : xs_h a_words wl) (K1 : ∀ l, wd_ok L K l → x = nI (wd_enc l) → post (nI (List.countP (fun w => decide (ya_pd (nI w) < ya_pd x)) wl))) (K0 : (¬ ∃ l, wd_ok L K l ∧ x = nI (wd_enc l)) → post (-1)) : wpY_rank post (nI L, nI K, f_maxWords, nI wl.length, f_length, f_liveCount, f_stateCount, f_formLength, a_words, a_saved, a_live, a_state, a_image, a_form, a_reached, n_reached) x := by
  refine ⟨wl.length + 1, yo_rk hl hw ?_ wl [] rfl⟩
  refine ya_iw hK hL (fun ⟨l, h1, h2⟩ => br_f (by decide) (K1 l h1 h2)) (fun h => br_t rfl (K0 h))
theorem yo_wa {post : Int32 → Prop} {x : Int32} {K : Nat} (hK : K ≤ 5) (hL : L ≤ 4) (hl : wl.length ≤ 12) (hw : xs_h a_words wl) (hwK : ∀ w, w ∈ wl → ∃ l, wd_ok L K l ∧ wd_enc l = w) (K1 : ∀ w, w ∈ wl → nI (List.countP (fun w' => decide (ya_pd (nI w') < ya_pd (nI w))) wl) = x → post (nI w)) (K0 : (∀ w, w ∈ wl → ¬ nI (List.countP (fun w' => decide (ya_pd (nI w') < ya_pd (nI w))) wl) = x) → post (-2)) :
    ∀ (s a : List Nat), wl = a ++ s → (∀ w, w ∈ a → ¬ nI (List.countP (fun w' => decide (ya_pd (nI w') < ya_pd (nI w))) wl) = x) → wY_wordAt_2 post x (nI L) (nI K) f_maxWords (nI wl.length) f_length f_liveCount f_stateCount f_formLength a_words a_saved a_live a_state a_image a_form a_reached n_reached (s.length + 1) (nI a.length) := by
  intro s
  induction s with
  | nil =>
    intro a e h
    rw [List.append_nil] at e
    subst e
    exact pk_le wl.length wl.length (fun _ => K0 h) (fun z => absurd z (by omega))
  | cons w s ih =>
    intro a e h
    have hll : wl.length = a.length + (s.length + 1) := by rw [e]; simp
    have hm : w ∈ wl := by rw [e]; simp
    have ew : a_words (nI a.length).toNatClampNeg = nI w := by
      rw [nI_clamp (by omega), hw _ (by omega)]
      conv => lhs; rw [e]
      rw [xl_get]
    have i1 : vp_in (nI a.length) 12 := vp_in_nI (by omega) (by omega)
    obtain ⟨l, hl1, hl2⟩ := hwK w hm
    refine pk_le wl.length a.length (fun z => absurd z (by omega)) (fun _ => And.intro i1 ?_)
    rw [ew]
    refine yo_rank hK hL hl hw (fun l' _ _ => br_c (fun z => And.intro i1 (K1 w hm z)) (fun z => nm_r (nI_1 _) ?_)) (fun hno => absurd ⟨l, hl1, by rw [hl2]⟩ hno)
    have := ih (a ++ [w]) (by rw [e]; simp) (fun y hy => ?_)
    · rw [List.length_append, List.length_singleton] at this; exact this
    · rcases List.mem_append.mp hy with hy | hy
      · exact h y hy
      · have : y = w := by simpa using hy
        rw [this]; exact z
theorem yo_pc {post : Int32 → Prop} {x : Int32} (hl : wl.length ≤ 12) (hw : xs_h a_words wl) (Kp : wpY_isWord (fun r => (r = 0 → post (-1)) ∧ (¬ r = 0 → post (nI (List.countP (fun w => decide (¬ ya_tl 5 (nI w) x 1 ≤ 0)) wl)))) (f_letters, f_maxLength, f_maxWords, nI wl.length, f_length, f_liveCount, f_stateCount, f_formLength, a_words, a_saved, a_live, a_state, a_image, a_form, a_reached, n_reached) x) :
    ∀ (s a : List Nat), wl = a ++ s → wY_prefixCount_4 post x f_letters f_maxLength f_maxWords (nI wl.length) f_length f_liveCount f_stateCount f_formLength a_words a_saved a_live a_state a_image a_form a_reached n_reached (s.length + 1) (nI (List.countP (fun w => decide (¬ ya_tl 5 (nI w) x 1 ≤ 0)) a)) (nI a.length) := by
  intro s
  induction s with
  | nil =>
    intro a e
    rw [List.append_nil] at e
    subst e
    exact pk_le wl.length wl.length (fun _ => Kp) (fun z => absurd z (by omega))
  | cons w s ih =>
    intro a e
    have hll : wl.length = a.length + (s.length + 1) := by rw [e]; simp
    have ew : a_words (nI a.length).toNatClampNeg = nI w := by
      rw [nI_clamp (by omega), hw _ (by omega)]
      conv => lhs; rw [e]
      rw [xl_get]
    have := ih (a ++ [w]) (by rw [e]; simp)
    rw [List.length_append, List.length_singleton, List.countP_append, List.countP_singleton] at this
    refine pk_le wl.length a.length (fun z => absurd z (by omega)) (fun _ => And.intro (vp_in_nI (by omega) (by omega)) ?_)
    rw [ew]
    refine ya_tail (br_c (fun z => nm_r (nI_1 _) ?_) (fun z => nm_r (nI_1 _) (nm_r (nI_1 _) ?_)))
    · rw [if_neg (by simpa using z)] at this; exact this
    · rw [if_pos (decide_eq_true z)] at this; exact this
end YO
end
section
/-! the image read: positions, heads, edges (0: none, c + 1: to state c) -/
def ui_bt (h d : Nat) : Nat := h / 2 ^ (d + 1) % 2
def ui_sp (h : Nat) : Nat → Nat
  | 0 => 0
  | d + 1 => ui_sp h d + ui_bt h d
def ui_ps (im : Nat → Nat) : Nat → Nat
  | 0 => 0
  | s + 1 => ui_ps im s + 1 + ui_sp (im (ui_ps im s)) 4
def ui_hd (im : Nat → Nat) (s : Nat) : Nat := im (ui_ps im s)
def ui_ue (im : Nat → Nat) (s d : Nat) : Nat := if ui_bt (ui_hd im s) d = 0 then 0 else im (ui_ps im s + 1 + ui_sp (ui_hd im s) d) + 1
def ui_S (L n : Nat) (im : Nat → Nat) (t : Nat) : Prop := ui_ps im t = n ∧ ∀ s, s < t → ui_hd im s < 2 * 2 ^ L ∧ (ui_hd im s = 0 → n ≤ 1)
theorem ui_bt01 (h d : Nat) : ui_bt h d = 0 ∨ ui_bt h d = 1 := by
  rw [ui_bt]; omega
theorem ui_sp_le (h : Nat) : ∀ (d e : Nat), d ≤ e → ui_sp h d ≤ ui_sp h e := by
  intro d e hde
  induction hde with
  | refl => exact Nat.le_refl _
  | step _ ih => rw [ui_sp]; omega
theorem ui_ps_lt (im : Nat → Nat) : ∀ (s t : Nat), s < t → ui_ps im s < ui_ps im t := by
  intro s t h
  induction h with
  | refl => rw [ui_ps]; omega
  | step _ ih => rw [ui_ps]; omega
theorem ui_ps_ge (im : Nat → Nat) : ∀ s, s ≤ ui_ps im s := by
  intro s
  induction s with
  | zero => exact Nat.le_refl _
  | succ s ih => rw [ui_ps]; omega
theorem ui_ps_inj (im : Nat → Nat) {s t : Nat} (h : ui_ps im s = ui_ps im t) : s = t := by
  rcases Nat.lt_trichotomy s t with z | z | z
  · have := ui_ps_lt im s t z; omega
  · exact z
  · have := ui_ps_lt im t s z; omega
theorem ui_ps_le (im : Nat → Nat) {s t : Nat} (h : ui_ps im s < ui_ps im t) : s < t := by
  rcases Nat.lt_trichotomy s t with z | z | z
  · exact z
  · rw [z] at h; omega
  · have := ui_ps_lt im t s z; omega
theorem ui_and : ∀ h, h < 128 → ∀ d, d < 4 → ((nI h &&& ((2 : Int32) <<< (nI d &&& 31))) = 0 ↔ ui_bt h d = 0) := by
  have : (List.range 128).all (fun h => (List.range 4).all (fun d => decide ((nI h &&& ((2 : Int32) <<< (nI d &&& 31))) = 0 ↔ ui_bt h d = 0))) = true := by decide +kernel
  intro h hh d hd
  have h1 := List.all_eq_true.mp this h (List.mem_range.mpr hh)
  have h2 := List.all_eq_true.mp h1 d (List.mem_range.mpr hd)
  exact of_decide_eq_true h2
theorem ui_shL {L : Nat} (h2 : 2 ≤ L) (h4 : L ≤ 4) : (2 : Int32) <<< (nI L &&& 31) = nI (2 * 2 ^ L) := by
  have : L = 2 ∨ L = 3 ∨ L = 4 := by omega
  rcases this with rfl | rfl | rfl <;> decide
section US
variable {f_letters f_maxLength f_maxWords f_freeHead f_used f_root f_draftAccept f_imageSize f_formLength f_planned : Int32} {a_accept a_child a_refs a_words a_slot a_next a_bucket a_draft a_symbol a_path a_stack a_number a_order a_image a_form a_headOf a_edge a_level a_imageWords a_entered a_plan a_built : Nat → Int32}
variable {im : Nat → Nat} {L n : Nat}
/-- edges of state s stand in the array -/
def ui_E (im : Nat → Nat) (s : Nat) (ed : Nat → Int32) : Prop := ∀ d, d < 4 → ed (s * 4 + d) = xk_m (ui_ue im s d)
theorem us_46 {post : Int32 → SX → Prop} {s : Nat} (hs : s < 128) (him : ∀ j, im j ≤ 127) (hn : n ≤ 128) (ed0 : Nat → Int32)
    (K1 : ∀ ed, ui_ps im (s + 1) ≤ n → ui_E im s ed → (∀ t d, t ≠ s → d < 4 → ed (t * 4 + d) = ed0 (t * 4 + d)) → post (nI (ui_ps im (s + 1))) (f_letters, f_maxLength, f_maxWords, f_freeHead, f_used, f_root, f_draftAccept, nI n, f_formLength, f_planned, a_accept, a_child, a_refs, a_words, a_slot, a_next, a_bucket, a_draft, a_symbol, a_path, a_stack, a_number, a_order, nN im, a_form, a_headOf, ed, a_level, a_imageWords, a_entered, a_plan, a_built))
    (K0 : ∀ d ed, d < 4 → ui_bt (ui_hd im s) d = 1 → n ≤ ui_ps im s + 1 + ui_sp (ui_hd im s) d → post (-1) (f_letters, f_maxLength, f_maxWords, f_freeHead, f_used, f_root, f_draftAccept, nI n, f_formLength, f_planned, a_accept, a_child, a_refs, a_words, a_slot, a_next, a_bucket, a_draft, a_symbol, a_path, a_stack, a_number, a_order, nN im, a_form, a_headOf, ed, a_level, a_imageWords, a_entered, a_plan, a_built)) (hat : ui_ps im s < n) :
    ∀ (j d : Nat) (ed : Nat → Int32), d + j = 4 → ui_ps im s + 1 + ui_sp (ui_hd im s) d ≤ n → (∀ e, e < d → ed (s * 4 + e) = xk_m (ui_ue im s e)) → (∀ t e, t ≠ s → e < 4 → ed (t * 4 + e) = ed0 (t * 4 + e)) →
    wX_readState_46 post (nI s) (nI (ui_hd im s)) f_letters f_maxLength f_maxWords f_freeHead f_used f_root f_draftAccept (nI n) f_formLength f_planned (j + 1) (nI (ui_ps im s + 1 + ui_sp (ui_hd im s) d)) (nI d) a_accept a_child a_refs a_words a_slot a_next a_bucket a_draft a_symbol a_path a_stack a_number a_order (nN im) a_form a_headOf ed a_level a_imageWords a_entered a_plan a_built := by
  have hh : ui_hd im s ≤ 127 := him _
  intro j
  induction j with
  | zero =>
    intro d ed hd hle h1 h2
    have : d = 4 := by omega
    subst this
    have e : ui_ps im s + 1 + ui_sp (ui_hd im s) 4 = ui_ps im (s + 1) := by rw [ui_ps]; rfl
    rw [e] at hle ⊢
    exact pk_le 4 4 (fun _ => K1 ed hle h1 h2) (fun z => absurd z (by omega))
  | succ j ih =>
    intro d ed hd hle h1 h2
    have hd4 : d < 4 := by omega
    have e4 := xw_c4 hs hd4
    have keep : ∀ (x : Int32) (ed' : Nat → Int32), (∀ i, ed' i = if i = s * 4 + d then x else ed i) → x = xk_m (ui_ue im s d) → (∀ e, e < d + 1 → ed' (s * 4 + e) = xk_m (ui_ue im s e)) ∧ (∀ t e, t ≠ s → e < 4 → ed' (t * 4 + e) = ed0 (t * 4 + e)) := by
      intro x ed' hx ex
      constructor
      · intro e he
        rw [hx]
        by_cases z : e = d
        · rw [if_pos (by rw [z]), ex, z]
        · rw [if_neg (by omega)]; exact h1 e (by omega)
      · intro t e ht he
        rw [hx, if_neg (by omega)]; exact h2 t e ht he
    refine pk_le 4 d (fun z => absurd z (by omega)) (fun _ => And.intro (xw_in4 hs hd4) (nm_r (e' := upd ed (s * 4 + d) (-1)) (by rw [e4]) ?_))
    refine br_c (fun z => nm_r (nI_1 d) ?_) (fun z => ?_)
    · have zb := (ui_and _ (by omega) d hd4).mp z
      have ue0 : ui_ue im s d = 0 := by rw [ui_ue, if_pos zb]
      obtain ⟨k1, k2⟩ := keep (-1) (upd ed (s * 4 + d) (-1)) (fun i => rfl) (by rw [ue0]; rfl)
      have := ih (d + 1) (upd ed (s * 4 + d) (-1)) (by omega) (by rw [ui_sp, zb]; omega) k1 k2
      rw [ui_sp, zb, Nat.add_zero] at this
      exact this
    · have zb : ui_bt (ui_hd im s) d = 1 := by
        rcases ui_bt01 (ui_hd im s) d with y | y
        · exact absurd ((ui_and _ (by omega) d hd4).mpr y) z
        · exact y
      refine pk_lt (ui_ps im s + 1 + ui_sp (ui_hd im s) d) n (fun y => ?_) (fun y => K0 d _ hd4 zb y)
      have ue1 : ui_ue im s d = im (ui_ps im s + 1 + ui_sp (ui_hd im s) d) + 1 := by rw [ui_ue, if_neg (by omega)]
      obtain ⟨k1, k2⟩ := keep (nI (im (ui_ps im s + 1 + ui_sp (ui_hd im s) d))) (upd (upd ed (s * 4 + d) (-1)) (s * 4 + d) (nI (im (ui_ps im s + 1 + ui_sp (ui_hd im s) d)))) (fun i => by
        by_cases w : i = s * 4 + d
        · rw [if_pos w, w, pk_us]
        · rw [if_neg w, pk_un w, pk_un w]) (by rw [ue1]; rfl)
      have := ih (d + 1) _ (by omega) (by rw [ui_sp, zb]; omega) k1 k2
      rw [ui_sp, zb, ← Nat.add_assoc] at this
      refine And.intro (vp_in_nI (by omega) (by omega)) (And.intro (xw_in4 hs hd4) (nm_r ?_ (nm_r (nI_1 _) (nm_r (nI_1 d) this))))
      rw [e4, nI_clamp (by omega)]; rfl
theorem us_rs {post : Int32 → SX → Prop} {s : Nat} (hL2 : 2 ≤ L) (hL : L ≤ 4) (hs : s < 128) (him : ∀ j, im j ≤ 127) (hn : n ≤ 128) (hat : ui_ps im s < n)
    (K1 : ∀ hd ed, ui_hd im s < 2 * 2 ^ L → (ui_hd im s = 0 → n ≤ 1) → ui_ps im (s + 1) ≤ n → hd = upd a_headOf s (nI (ui_hd im s)) → ui_E im s ed → (∀ t d, t ≠ s → d < 4 → ed (t * 4 + d) = a_edge (t * 4 + d)) → post (nI (ui_ps im (s + 1))) (nI L, f_maxLength, f_maxWords, f_freeHead, f_used, f_root, f_draftAccept, nI n, f_formLength, f_planned, a_accept, a_child, a_refs, a_words, a_slot, a_next, a_bucket, a_draft, a_symbol, a_path, a_stack, a_number, a_order, nN im, a_form, hd, ed, a_level, a_imageWords, a_entered, a_plan, a_built))
    (K0 : (∀ t, ¬ ui_S L n im t) → ∀ hd ed, post (-1) (nI L, f_maxLength, f_maxWords, f_freeHead, f_used, f_root, f_draftAccept, nI n, f_formLength, f_planned, a_accept, a_child, a_refs, a_words, a_slot, a_next, a_bucket, a_draft, a_symbol, a_path, a_stack, a_number, a_order, nN im, a_form, hd, ed, a_level, a_imageWords, a_entered, a_plan, a_built)) : wpX_readState post (nI L, f_maxLength, f_maxWords, f_freeHead, f_used, f_root, f_draftAccept, nI n, f_formLength, f_planned, a_accept, a_child, a_refs, a_words, a_slot, a_next, a_bucket, a_draft, a_symbol, a_path, a_stack, a_number, a_order, nN im, a_form, a_headOf, a_edge, a_level, a_imageWords, a_entered, a_plan, a_built) (nI s) (nI (ui_ps im s)) := by
  have hh : ui_hd im s ≤ 127 := him _
  have hb : 2 * 2 ^ L < 2 ^ 31 := by
    have : L = 2 ∨ L = 3 ∨ L = 4 := by omega
    rcases this with rfl | rfl | rfl <;> decide
  have tgt : ∀ t, ui_S L n im t → s < t := fun t ht => ui_ps_le im (by rw [ht.1]; exact hat)
  have go : ui_hd im s < 2 * 2 ^ L → (ui_hd im s = 0 → n ≤ 1) → wX_readState_31 post (nI s) (nI (ui_ps im s)) (nI (ui_hd im s)) (nI L) f_maxLength f_maxWords f_freeHead f_used f_root f_draftAccept (nI n) f_formLength f_planned a_accept a_child a_refs a_words a_slot a_next a_bucket a_draft a_symbol a_path a_stack a_number a_order (nN im) a_form a_headOf a_edge a_level a_imageWords a_entered a_plan a_built := by
    intro g1 g2
    refine And.intro (vp_in_nI hs (by omega)) (nm_r (e' := upd a_headOf s (nI (ui_hd im s))) (by rw [nI_clamp (by omega)]) (nm_r (nI_1 _) ⟨5, ?_⟩))
    refine us_46 hs him hn a_edge (fun ed h1 h2 h3 => K1 _ ed g1 g2 h1 rfl h2 h3) (fun d ed hd hb hle => K0 (fun t ht => ?_) _ ed) hat 4 0 a_edge rfl (by rw [ui_sp]; omega) (fun e he => by omega) (fun t e _ _ => rfl)
    have hst := tgt t ht
    have h1 : ui_ps im (s + 1) ≤ ui_ps im t := by
      rcases Nat.lt_or_ge (s + 1) t with z | z
      · exact Nat.le_of_lt (ui_ps_lt im _ _ z)
      · have : t = s + 1 := by omega
        rw [this]; exact Nat.le_refl _
    have h2 := ui_sp_le (ui_hd im s) (d + 1) 4 (by omega)
    rw [ui_sp, hb] at h2
    rw [ht.1, ui_ps] at h1
    have : ui_sp (im (ui_ps im s)) 4 = ui_sp (ui_hd im s) 4 := rfl
    omega
  refine And.intro (vp_in_nI (by omega) (by omega)) (nm_r (e' := nI (ui_hd im s)) (by rw [nI_clamp (by omega)]; rfl) ?_)
  refine pk_le (2 * 2 ^ L) (ui_hd im s) (fun z => K0 (fun t ht => ?_) _ _) (fun z => ?_) (ui_shL hL2 hL)
  · have := (ht.2 s (tgt t ht)).1; omega
  · refine pk_eq (ui_hd im s) 0 (fun y => pk_le n 1 (fun w => go z (fun _ => w)) (fun w => K0 (fun t ht => ?_) _ _)) (fun y => go z (fun q => absurd q y))
    have := (ht.2 s (tgt t ht)).2 y; omega
/-- the states read stand in the arrays -/
def ui_A (im : Nat → Nat) (t : Nat) (hd ed : Nat → Int32) : Prop := ∀ s, s < t → hd s = nI (ui_hd im s) ∧ ui_E im s ed
theorem us_4 {post : Int32 → SX → Prop} (hL2 : 2 ≤ L) (hL : L ≤ 4) (him : ∀ j, im j ≤ 127) (hn : n ≤ 128)
    (K1 : ∀ t hd ed, t ≤ 128 → ui_S L n im t → ui_A im t hd ed → post (nI t) (nI L, f_maxLength, f_maxWords, f_freeHead, f_used, f_root, f_draftAccept, nI n, f_formLength, f_planned, a_accept, a_child, a_refs, a_words, a_slot, a_next, a_bucket, a_draft, a_symbol, a_path, a_stack, a_number, a_order, nN im, a_form, hd, ed, a_level, a_imageWords, a_entered, a_plan, a_built))
    (K0 : (∀ t, ¬ ui_S L n im t) → ∀ hd ed, post 0 (nI L, f_maxLength, f_maxWords, f_freeHead, f_used, f_root, f_draftAccept, nI n, f_formLength, f_planned, a_accept, a_child, a_refs, a_words, a_slot, a_next, a_bucket, a_draft, a_symbol, a_path, a_stack, a_number, a_order, nN im, a_form, hd, ed, a_level, a_imageWords, a_entered, a_plan, a_built)) :
    ∀ (j s : Nat) (hd ed : Nat → Int32), s + j = 129 → ui_ps im s ≤ n → (∀ r, r < s → ui_hd im r < 2 * 2 ^ L ∧ (ui_hd im r = 0 → n ≤ 1)) → ui_A im s hd ed → wX_scanImage_4 post (j + 1) (nI s) (nI (ui_ps im s)) (nI L) f_maxLength f_maxWords f_freeHead f_used f_root f_draftAccept (nI n) f_formLength f_planned a_accept a_child a_refs a_words a_slot a_next a_bucket a_draft a_symbol a_path a_stack a_number a_order (nN im) a_form hd ed a_level a_imageWords a_entered a_plan a_built := by
  intro j
  induction j with
  | zero =>
    intro s hd ed hs hle _ _
    have := ui_ps_ge im s
    omega
  | succ j ih =>
    intro s hd ed hs hle hok hA
    have hge := ui_ps_ge im s
    refine br_f (nI_pos (by omega)) (pk_le n (ui_ps im s) (fun z => ?_) (fun z => pk_le 128 s (fun y => absurd y (by omega)) (fun _ => ?_)))
    · have e : ui_ps im s = n := by omega
      refine br_t (by rw [e]) (K1 s hd ed (by omega) ⟨e, hok⟩ hA)
    · refine us_rs hL2 hL (by omega) him hn z (fun hd' ed' g1 g2 g3 g4 g5 g6 => nm_r (nI_1 s) (ih (s + 1) hd' ed' (by omega) g3 (fun r hr => ?_) (fun r hr => ?_))) (fun hno hd' ed' => nm_e (br_t (by decide) (br_f ?_ (K0 hno hd' ed'))))
      · rcases Nat.lt_or_ge r s with y | y
        · exact hok r y
        · have : r = s := by omega
          rw [this]; exact ⟨g1, g2⟩
      · rcases Nat.lt_or_ge r s with y | y
        · refine ⟨by rw [g4, pk_un (by omega)]; exact (hA r y).1, fun d hd => ?_⟩
          rw [g6 r d (by omega) hd]; exact (hA r y).2 d hd
        · have : r = s := by omega
          rw [this]; exact ⟨by rw [g4, pk_us], g5⟩
      · intro y
        have := nI_pos (n := n) (by omega)
        rw [← y] at this
        exact this (by decide)
theorem us_scan {post : Int32 → SX → Prop} (hL2 : 2 ≤ L) (hL : L ≤ 4) (him : ∀ j, im j ≤ 127) (hn : n ≤ 128)
    (K1 : ∀ t hd ed, t ≤ 128 → ui_S L n im t → ui_A im t hd ed → post (nI t) (nI L, f_maxLength, f_maxWords, f_freeHead, f_used, f_root, f_draftAccept, nI n, f_formLength, f_planned, a_accept, a_child, a_refs, a_words, a_slot, a_next, a_bucket, a_draft, a_symbol, a_path, a_stack, a_number, a_order, nN im, a_form, hd, ed, a_level, a_imageWords, a_entered, a_plan, a_built))
    (K0 : (∀ t, ¬ ui_S L n im t) → ∀ hd ed, post 0 (nI L, f_maxLength, f_maxWords, f_freeHead, f_used, f_root, f_draftAccept, nI n, f_formLength, f_planned, a_accept, a_child, a_refs, a_words, a_slot, a_next, a_bucket, a_draft, a_symbol, a_path, a_stack, a_number, a_order, nN im, a_form, hd, ed, a_level, a_imageWords, a_entered, a_plan, a_built)) : wpX_scanImage post (nI L, f_maxLength, f_maxWords, f_freeHead, f_used, f_root, f_draftAccept, nI n, f_formLength, f_planned, a_accept, a_child, a_refs, a_words, a_slot, a_next, a_bucket, a_draft, a_symbol, a_path, a_stack, a_number, a_order, nN im, a_form, a_headOf, a_edge, a_level, a_imageWords, a_entered, a_plan, a_built) :=
  ⟨130, us_4 hL2 hL him hn K1 K0 129 0 a_headOf a_edge rfl (Nat.zero_le _) (fun r hr => by omega) (fun r hr => by omega)⟩
end US
end
section
/-! X: layerImage, allEntered -/
def ui_sm (im w : Nat → Nat) (s : Nat) : Nat → Nat
  | 0 => 0
  | d + 1 => ui_sm im w s d + if ui_ue im s d = 0 then 0 else w (ui_ue im s d - 1)
theorem ui_sm_congr {im w w' : Nat → Nat} {s : Nat} (h : ∀ d, d < 4 → ui_ue im s d ≠ 0 → w (ui_ue im s d - 1) = w' (ui_ue im s d - 1)) : ∀ j, j ≤ 4 → ui_sm im w s j = ui_sm im w' s j := by
  intro j
  induction j with
  | zero => intro _; rfl
  | succ j ih =>
    intro hj
    rw [ui_sm, ui_sm, ih (by omega)]
    by_cases z : ui_ue im s j = 0
    · rw [if_pos z, if_pos z]
    · rw [if_neg z, if_neg z, h j (by omega) z]
def ui_GF (T K N : Nat) (im hgt ws : Nat → Nat) : Prop := ∀ s, s < T → hgt s ≤ K ∧ ws s ≤ N ∧ (∀ d, d < 4 → ui_ue im s d ≠ 0 → ui_ue im s d - 1 < T ∧ hgt (ui_ue im s d - 1) < hgt s) ∧ ws s = ui_hd im s % 2 + ui_sm im ws s 4
def ul_I (T K N : Nat) (im hgt ws : Nat → Nat) (r s : Nat) (pl : List Nat) (lv w : Nat → Nat) : Prop :=
  pl.Nodup ∧ (∀ t, t ∈ pl → t < T) ∧ (∀ t, t < 128 → (lv t ≠ 0 ↔ t ∈ pl)) ∧
  (∀ p t q, pl = p ++ t :: q → ∀ d, d < 4 → ui_ue im t d ≠ 0 → ui_ue im t d - 1 ∈ p ∧ lv (ui_ue im t d - 1) < lv t) ∧
  (∀ t, t ∈ pl → w t = ui_hd im t % 2 + ui_sm im w t 4 ∧ w t ≤ N ∧ lv t ≤ r + 1 ∧ lv t ≤ K + 1) ∧
  (ui_GF T K N im hgt ws → (∀ t, t ∈ pl → w t = ws t ∧ lv t ≤ hgt t + 1) ∧ ∀ t, t < T → (hgt t < r ∨ (hgt t ≤ r ∧ t < s)) → t ∈ pl)
def ul_A (im : Nat → Nat) (pl : List Nat) (lv w : Nat → Nat) (le iw en pn : Nat → Int32) : Prop :=
  (∀ t, t < 128 → le t = xk_m (lv t)) ∧ (∀ t, t ∈ pl → iw t = nI (w t)) ∧ xs_h pn pl ∧
  (∀ c, c < 128 → ((∃ t, t ∈ pl ∧ ∃ d, d < 4 ∧ ui_ue im t d = c + 1) → en c = 1) ∧ ((¬ ∃ t, t ∈ pl ∧ ∃ d, d < 4 ∧ ui_ue im t d = c + 1) → en c = 0))
theorem ul_kids {T K N r s : Nat} {im hgt ws lv w : Nat → Nat} {pl : List Nat} (I : ul_I T K N im hgt ws r s pl lv w) {t : Nat} (ht : t ∈ pl) {d : Nat} (hd : d < 4) (hz : ui_ue im t d ≠ 0) : ui_ue im t d - 1 ∈ pl := by
  obtain ⟨p, q, e⟩ := List.append_of_mem ht
  have := (I.2.2.2.1 p t q e d hd hz).1
  rw [e]; exact List.mem_append_left _ this
theorem ul_keep {T K N r s : Nat} {im hgt ws lv w : Nat → Nat} {pl : List Nat} (I : ul_I T K N im hgt ws r s pl lv w) (h : ui_GF T K N im hgt ws → hgt s ≤ r → s ∈ pl) : ul_I T K N im hgt ws r (s + 1) pl lv w := by
  obtain ⟨i1, i2, i3, i4, i5, i6⟩ := I
  refine ⟨i1, i2, i3, i4, i5, fun G => ⟨(i6 G).1, fun t ht hp => ?_⟩⟩
  by_cases z : t = s
  · rcases hp with y | ⟨y, _⟩
    · exact (i6 G).2 t ht (Or.inl y)
    · rw [z] at y ⊢; exact h G y
  · exact (i6 G).2 t ht (hp.imp id (fun y => ⟨y.1, by omega⟩))
theorem ul_next {T K N r : Nat} {im hgt ws lv w : Nat → Nat} {pl : List Nat} (I : ul_I T K N im hgt ws r T pl lv w) : ul_I T K N im hgt ws (r + 1) 0 pl lv w := by
  obtain ⟨i1, i2, i3, i4, i5, i6⟩ := I
  refine ⟨i1, i2, i3, i4, fun t ht => ⟨(i5 t ht).1, (i5 t ht).2.1, by have := (i5 t ht).2.2.1; omega, (i5 t ht).2.2.2⟩, fun G => ⟨(i6 G).1, fun t ht hp => (i6 G).2 t ht ?_⟩⟩
  rcases hp with y | ⟨_, y⟩
  · exact Or.inr ⟨by omega, ht⟩
  · omega
theorem ul_add {T K N r s : Nat} {im hgt ws lv w : Nat → Nat} {pl : List Nat} (I : ul_I T K N im hgt ws r s pl lv w) (hs : s < T) (hs2 : s < 128) (hr : r ≤ K) (hno : s ∉ pl) (hrd : ∀ d, d < 4 → ui_ue im s d ≠ 0 → ui_ue im s d - 1 ∈ pl ∧ lv (ui_ue im s d - 1) ≤ r) (hN : ui_hd im s % 2 + ui_sm im w s 4 ≤ N) :
    ul_I T K N im hgt ws r (s + 1) (pl ++ [s]) (po_up lv s (r + 1)) (po_up w s (ui_hd im s % 2 + ui_sm im w s 4)) := by
  have kids := fun t (ht : t ∈ pl) d (hd : d < 4) (hz : ui_ue im t d ≠ 0) => ul_kids I ht hd hz
  obtain ⟨i1, i2, i3, i4, i5, i6⟩ := I
  have ne : ∀ t, t ∈ pl → t ≠ s := fun t ht e => hno (e ▸ ht)
  have mem : ∀ t, t ∈ pl ++ [s] ↔ t ∈ pl ∨ t = s := fun t => by rw [List.mem_append, List.mem_singleton]
  have nd : (pl ++ [s]).Nodup := by
    have := dd_in_nodup (x := s) i1
    rwa [dd_in, if_neg hno] at this
  have cs : ∀ t, t ∈ pl ∨ t = s → ui_sm im (po_up w s (ui_hd im s % 2 + ui_sm im w s 4)) t 4 = ui_sm im w t 4 := by
    intro t ht
    refine ui_sm_congr (fun d hd hz => po_un (ne _ ?_)) 4 (Nat.le_refl _)
    rcases ht with h | h
    · exact kids t h d hd hz
    · rw [h] at hz ⊢; exact (hrd d hd hz).1
  refine ⟨nd, fun t ht => ?_, fun t ht => ?_, fun p t q e d hd hz => ?_, fun t ht => ?_, fun G => ⟨fun t ht => ?_, fun t ht hp => ?_⟩⟩
  · rcases (mem t).mp ht with h | h
    · exact i2 t h
    · rw [h]; exact hs
  · rw [mem]
    by_cases z : t = s
    · rw [z, po_us]; exact ⟨fun _ => Or.inr rfl, fun _ => by omega⟩
    · rw [po_un z, i3 t ht]; exact ⟨Or.inl, fun h => h.resolve_right z⟩
  · rcases wd_rc q with rfl | ⟨q', x, rfl⟩
    · have e2 := List.append_inj' e rfl
      have e3 : s = t := by simpa using e2.2
      subst e3
      rw [← e2.1]
      obtain ⟨g1, g2⟩ := hrd d hd hz
      exact ⟨g1, by rw [po_us, po_un (ne _ g1)]; omega⟩
    · have e2 : pl ++ [s] = (p ++ t :: q') ++ [x] := by rw [e]; simp
      have e3 := (List.append_inj' e2 rfl).1
      obtain ⟨g1, g2⟩ := i4 p t q' e3 d hd hz
      have ht : t ∈ pl := by rw [e3]; simp
      have hc : ui_ue im t d - 1 ∈ pl := by rw [e3]; exact List.mem_append_left _ g1
      exact ⟨g1, by rw [po_un (ne _ ht), po_un (ne _ hc)]; exact g2⟩
  · rw [cs t ((mem t).mp ht)]
    rcases (mem t).mp ht with h | h
    · rw [po_un (ne t h), po_un (ne t h)]; exact i5 t h
    · rw [h, po_us, po_us]; exact ⟨rfl, hN, Nat.le_refl _, by omega⟩
  · rcases (mem t).mp ht with h | h
    · rw [po_un (ne t h), po_un (ne t h)]; exact (i6 G).1 t h
    · rw [h, po_us, po_us]
      constructor
      · rw [(G s hs).2.2.2]
        congr 1
        exact ui_sm_congr (fun d hd hz => ((i6 G).1 _ (hrd d hd hz).1).1) 4 (Nat.le_refl _)
      · rcases Nat.lt_or_ge (hgt s) r with y | y
        · exact absurd ((i6 G).2 s hs (Or.inl y)) hno
        · omega
  · rw [mem]
    by_cases z : t = s
    · exact Or.inr z
    · exact Or.inl ((i6 G).2 t ht (hp.imp id (fun y => ⟨y.1, by omega⟩)))
section UL
variable {f_letters f_maxLength f_maxWords f_freeHead f_used f_root f_draftAccept f_imageSize f_formLength f_planned : Int32} {a_accept a_child a_refs a_words a_slot a_next a_bucket a_draft a_symbol a_path a_stack a_number a_order a_image a_form a_headOf a_edge a_level a_imageWords a_entered a_plan a_built : Nat → Int32}
variable {im hgt ws : Nat → Nat} {T K N : Nat}
theorem xk_mlt (v : Nat) : xk_m v < 0 ↔ v = 0 ∨ 2 ^ 31 ≤ v - 1 ∧ xk_m v < 0 := by
  by_cases h : v = 0
  · rw [h]; exact ⟨fun _ => Or.inl rfl, fun _ => by decide⟩
  · constructor
    · intro z
      refine Or.inr ⟨?_, z⟩
      rw [xk_m, if_neg h] at z
      rcases Nat.lt_or_ge (v - 1) (2 ^ 31) with y | y
      · exact absurd z (nI_pos y)
      · exact y
    · rintro (z | z)
      · exact absurd z h
      · exact z.2
theorem xk_m0 {v : Nat} (h : v = 0) : xk_m v < 0 := by rw [h]; decide
theorem xk_m1' {v : Nat} (h : v ≠ 0) (hv : v < 2 ^ 31) : ¬ xk_m v < 0 := by rw [xk_m, if_neg h]; exact nI_pos (by omega)
theorem xk_ms {v : Nat} (h : v ≠ 0) : xk_m v = nI (v - 1) := by rw [xk_m, if_neg h]
theorem ul_ue_lt (him : ∀ j, im j ≤ 127) (s d : Nat) : ui_ue im s d ≤ 128 := by
  rw [ui_ue]; split
  · omega
  · have := him (ui_ps im s + 1 + ui_sp (ui_hd im s) d); omega
theorem ur_2 {post : Int32 → Prop} {s r : Nat} {lv : Nat → Nat} (hs : s < 128) (hr : r ≤ 5) (him : ∀ j, im j ≤ 127) (hE : ui_E im s a_edge) (hle : ∀ t, t < 128 → a_level t = xk_m (lv t)) (hlv : ∀ t, t < 128 → lv t ≤ 10)
    (K1 : (∀ d, d < 4 → ui_ue im s d ≠ 0 → lv (ui_ue im s d - 1) ≠ 0 ∧ lv (ui_ue im s d - 1) ≤ r) → post 1) (K0 : ∀ d, d < 4 → ui_ue im s d ≠ 0 → ¬ (lv (ui_ue im s d - 1) ≠ 0 ∧ lv (ui_ue im s d - 1) ≤ r) → post 0) :
    ∀ (j d : Nat), d + j = 4 → (∀ e, e < d → ui_ue im s e ≠ 0 → lv (ui_ue im s e - 1) ≠ 0 ∧ lv (ui_ue im s e - 1) ≤ r) → wX_ready_2 post (nI s) (nI r) f_letters f_maxLength f_maxWords f_freeHead f_used f_root f_draftAccept f_imageSize f_formLength f_planned a_accept a_child a_refs a_words a_slot a_next a_bucket a_draft a_symbol a_path a_stack a_number a_order a_image a_form a_headOf a_edge a_level a_imageWords a_entered a_plan a_built (j + 1) (nI d) := by
  intro j
  induction j with
  | zero =>
    intro d hd h
    have : d = 4 := by omega
    subst this
    exact pk_le 4 4 (fun _ => K1 h) (fun z => absurd z (by omega))
  | succ j ih =>
    intro d hd h
    have hd4 : d < 4 := by omega
    have hul := ul_ue_lt him s d
    have nxt : (ui_ue im s d ≠ 0 → lv (ui_ue im s d - 1) ≠ 0 ∧ lv (ui_ue im s d - 1) ≤ r) → wX_ready_2 post (nI s) (nI r) f_letters f_maxLength f_maxWords f_freeHead f_used f_root f_draftAccept f_imageSize f_formLength f_planned a_accept a_child a_refs a_words a_slot a_next a_bucket a_draft a_symbol a_path a_stack a_number a_order a_image a_form a_headOf a_edge a_level a_imageWords a_entered a_plan a_built (j + 1) (nI (d + 1)) := by
      intro hn
      refine ih (d + 1) (by omega) (fun e he => ?_)
      by_cases z : e = d
      · rw [z]; exact hn
      · exact h e (by omega)
    refine pk_le 4 d (fun z => absurd z (by omega)) (fun _ => And.intro (xw_in4 hs hd4) (nm_r (e' := xk_m (ui_ue im s d)) (by rw [xw_c4 hs hd4, hE d hd4]) ?_))
    by_cases z : ui_ue im s d = 0
    · exact br_t (xk_m0 z) (nm_r (nI_1 d) (nxt (fun y => absurd z y)))
    · have hc : ui_ue im s d - 1 < 128 := by omega
      rw [xk_ms z]
      have el : a_level (nI (ui_ue im s d - 1)).toNatClampNeg = xk_m (lv (ui_ue im s d - 1)) := by rw [nI_clamp (by omega), hle _ hc]
      have hl10 := hlv _ hc
      refine br_f (nI_pos (by omega)) (And.intro (vp_in_nI hc (by omega)) ?_)
      rw [el]
      by_cases y : lv (ui_ue im s d - 1) = 0
      · exact br_t (xk_m0 y) (K0 d hd4 z (fun w => w.1 y))
      · refine br_f (xk_m1' y (by omega)) (And.intro (vp_in_nI hc (by omega)) (pk_lt (lv (ui_ue im s d - 1) - 1) r (fun w => nm_r (nI_1 d) (nxt (fun _ => ⟨y, by omega⟩))) (fun w => K0 d hd4 z (fun q => by omega)) (xk_ms y)))
theorem ul_39 {post : Int32 → SX → Prop} {s : Nat} {pl : List Nat} {w : Nat → Nat} {en0 : Nat → Int32} (hs : s < 128) (him : ∀ j, im j ≤ 127) (hN : N ≤ 12) (hE : ui_E im s a_edge) (hiw : ∀ t, t ∈ pl → a_imageWords t = nI (w t)) (hw : ∀ t, t ∈ pl → w t ≤ N) (hk : ∀ d, d < 4 → ui_ue im s d ≠ 0 → ui_ue im s d - 1 ∈ pl)
    (K1 : ∀ en, (∀ c, c < 128 → ((∃ d, d < 4 ∧ ui_ue im s d = c + 1) → en c = 1) ∧ ((¬ ∃ d, d < 4 ∧ ui_ue im s d = c + 1) → en c = en0 c)) → ui_hd im s % 2 + ui_sm im w s 4 ≤ N → post 1 (f_letters, f_maxLength, nI N, f_freeHead, f_used, f_root, f_draftAccept, f_imageSize, f_formLength, f_planned, a_accept, a_child, a_refs, a_words, a_slot, a_next, a_bucket, a_draft, a_symbol, a_path, a_stack, a_number, a_order, a_image, a_form, a_headOf, a_edge, a_level, upd a_imageWords s (nI (ui_hd im s % 2 + ui_sm im w s 4)), en, a_plan, a_built))
    (K0 : ∀ en, N < ui_hd im s % 2 + ui_sm im w s 4 → post 0 (f_letters, f_maxLength, nI N, f_freeHead, f_used, f_root, f_draftAccept, f_imageSize, f_formLength, f_planned, a_accept, a_child, a_refs, a_words, a_slot, a_next, a_bucket, a_draft, a_symbol, a_path, a_stack, a_number, a_order, a_image, a_form, a_headOf, a_edge, a_level, upd a_imageWords s (nI (ui_hd im s % 2 + ui_sm im w s 4)), en, a_plan, a_built)) :
    ∀ (j d : Nat) (en : Nat → Int32), d + j = 4 → ui_hd im s % 2 + ui_sm im w s d ≤ 1 + 12 * d → (∀ c, c < 128 → ((∃ e, e < d ∧ ui_ue im s e = c + 1) → en c = 1) ∧ ((¬ ∃ e, e < d ∧ ui_ue im s e = c + 1) → en c = en0 c)) →
    wX_settle_39 post (nI s) f_letters f_maxLength (nI N) f_freeHead f_used f_root f_draftAccept f_imageSize f_formLength f_planned (j + 1) (nI (ui_hd im s % 2 + ui_sm im w s d)) (nI d) a_accept a_child a_refs a_words a_slot a_next a_bucket a_draft a_symbol a_path a_stack a_number a_order a_image a_form a_headOf a_edge a_level a_imageWords en a_plan a_built := by
  intro j
  induction j with
  | zero =>
    intro d en hd hb hen
    have : d = 4 := by omega
    subst this
    refine pk_le 4 4 (fun _ => And.intro (vp_in_nI hs (by omega)) (nm_r (e' := upd a_imageWords s (nI (ui_hd im s % 2 + ui_sm im w s 4))) (by rw [nI_clamp (by omega)]) ?_)) (fun z => absurd z (by omega))
    exact pk_lt N (ui_hd im s % 2 + ui_sm im w s 4) (fun z => K0 en z) (fun z => K1 en hen z)
  | succ j ih =>
    intro d en hd hb hen
    have hd4 : d < 4 := by omega
    have hul := ul_ue_lt him s d
    refine pk_le 4 d (fun z => absurd z (by omega)) (fun _ => And.intro (xw_in4 hs hd4) (nm_r (e' := xk_m (ui_ue im s d)) (by rw [xw_c4 hs hd4, hE d hd4]) ?_))
    by_cases z : ui_ue im s d = 0
    · refine br_t (xk_m0 z) (nm_r (nI_1 d) ?_)
      have := ih (d + 1) en (by omega) (by rw [ui_sm, if_pos z]; omega) (fun c hc => ⟨fun ⟨e, he, e2⟩ => (hen c hc).1 ⟨e, ?_, e2⟩, fun hno => (hen c hc).2 (fun ⟨e, he, e2⟩ => hno ⟨e, by omega, e2⟩)⟩)
      · rw [ui_sm, if_pos z, Nat.add_zero] at this; exact this
      · rcases Nat.lt_or_ge e d with y | y
        · exact y
        · have : e = d := by omega
          rw [this, z] at e2; omega
    · have hc : ui_ue im s d - 1 < 128 := by omega
      have hp := hk d hd4 z
      have hwc := hw _ hp
      rw [xk_ms z]
      have ecl : (nI (ui_ue im s d - 1)).toNatClampNeg = ui_ue im s d - 1 := nI_clamp (by omega)
      have e1 : vp_nar .boolean 1 = 1 := by decide
      refine br_f (nI_pos (by omega)) (And.intro (vp_in_nI hc (by omega)) (nm_r (e' := upd en (ui_ue im s d - 1) 1) (by rw [ecl, e1]) (And.intro (vp_in_nI hc (by omega)) (nm_r (e' := nI (ui_hd im s % 2 + ui_sm im w s (d + 1))) ?_ (nm_r (nI_1 d) ?_)))))
      · rw [ecl, hiw _ hp, nI_add, ui_sm, if_neg z, Nat.add_assoc]
      · refine ih (d + 1) _ (by omega) (by rw [ui_sm, if_neg z]; omega) (fun c hc2 => ⟨fun ⟨e, he, e2⟩ => ?_, fun hno => ?_⟩)
        · by_cases y : c = ui_ue im s d - 1
          · rw [y, pk_us]
          · rw [pk_un y]
            refine (hen c hc2).1 ⟨e, ?_, e2⟩
            rcases Nat.lt_or_ge e d with q | q
            · exact q
            · have : e = d := by omega
              rw [this] at e2; omega
        · have y : c ≠ ui_ue im s d - 1 := fun y => hno ⟨d, by omega, by omega⟩
          rw [pk_un y]
          exact (hen c hc2).2 (fun ⟨e, he, e2⟩ => hno ⟨e, by omega, e2⟩)
theorem ul_st {post : Int32 → SX → Prop} {s r : Nat} {pl : List Nat} {lv w : Nat → Nat} (hs : s < 128) (hpl : pl.length < 128) (hno : s ∉ pl) (him : ∀ j, im j ≤ 127) (hN : N ≤ 12) (hh : a_headOf s = nI (ui_hd im s)) (hE : ui_E im s a_edge) (hA : ul_A im pl lv w a_level a_imageWords a_entered a_plan) (hw : ∀ t, t ∈ pl → w t ≤ N) (hk : ∀ d, d < 4 → ui_ue im s d ≠ 0 → ui_ue im s d - 1 ∈ pl)
    (K1 : ∀ le iw en pn, ul_A im (pl ++ [s]) (po_up lv s (r + 1)) (po_up w s (ui_hd im s % 2 + ui_sm im w s 4)) le iw en pn → ui_hd im s % 2 + ui_sm im w s 4 ≤ N → post 1 (f_letters, f_maxLength, nI N, f_freeHead, f_used, f_root, f_draftAccept, f_imageSize, f_formLength, nI (pl ++ [s]).length, a_accept, a_child, a_refs, a_words, a_slot, a_next, a_bucket, a_draft, a_symbol, a_path, a_stack, a_number, a_order, a_image, a_form, a_headOf, a_edge, le, iw, en, pn, a_built))
    (K0 : N < ui_hd im s % 2 + ui_sm im w s 4 → ∀ pln le iw en pn, post 0 (f_letters, f_maxLength, nI N, f_freeHead, f_used, f_root, f_draftAccept, f_imageSize, f_formLength, pln, a_accept, a_child, a_refs, a_words, a_slot, a_next, a_bucket, a_draft, a_symbol, a_path, a_stack, a_number, a_order, a_image, a_form, a_headOf, a_edge, le, iw, en, pn, a_built)) : wpX_settle post (f_letters, f_maxLength, nI N, f_freeHead, f_used, f_root, f_draftAccept, f_imageSize, f_formLength, nI pl.length, a_accept, a_child, a_refs, a_words, a_slot, a_next, a_bucket, a_draft, a_symbol, a_path, a_stack, a_number, a_order, a_image, a_form, a_headOf, a_edge, a_level, a_imageWords, a_entered, a_plan, a_built) (nI s) (nI r) := by
  have es : (nI s).toNatClampNeg = s := nI_clamp (by omega)
  have hhd : ui_hd im s ≤ 127 := him _
  have e1 : nI (ui_hd im s) &&& 1 = nI (ui_hd im s % 2 ^ 1) := pk_andN (by omega) 1 (by decide)
  obtain ⟨a1, a2, a3, a4⟩ := hA
  refine And.intro (vp_in_nI hs (by omega)) (nm_r (e' := upd a_level s (nI r)) (by rw [es]) (And.intro (vp_in_nI hpl (by omega)) (nm_r (e' := upd a_plan pl.length (nI s)) (by rw [nI_clamp (by omega)]) (nm_r (e' := nI (pl ++ [s]).length) (by rw [nI_1, List.length_append]; rfl) (And.intro (vp_in_nI hs (by omega)) (nm_r (e' := nI (ui_hd im s % 2 + ui_sm im w s 0)) ?_ ⟨5, ?_⟩))))))
  · rw [es, hh, e1]; rfl
  · refine ul_39 (en0 := a_entered) hs him hN hE a2 hw hk (fun en hen hle => K1 _ _ en _ ⟨fun t ht => ?_, fun t ht => ?_, xs_push a3 s, fun c hc => ⟨fun hex => ?_, fun hnex => ?_⟩⟩ hle) (fun en hlt => K0 hlt _ _ _ en _) 4 0 a_entered rfl (by rw [ui_sm]; omega) (fun c hc => ⟨fun ⟨e, he, _⟩ => by omega, fun _ => rfl⟩)
    · by_cases z : t = s
      · rw [z, pk_us, po_us]; rfl
      · rw [pk_un z, po_un z]; exact a1 t ht
    · rcases List.mem_append.mp ht with h | h
      · have : t ≠ s := fun z => hno (z ▸ h)
        rw [pk_un this, po_un this]; exact a2 t h
      · have : t = s := by simpa using h
        rw [this, pk_us, po_us]
    · by_cases y : ∃ d, d < 4 ∧ ui_ue im s d = c + 1
      · exact (hen c hc).1 y
      · rw [(hen c hc).2 y]
        obtain ⟨t, ht, d, hd, e⟩ := hex
        rcases List.mem_append.mp ht with h | h
        · exact (a4 c hc).1 ⟨t, h, d, hd, e⟩
        · have : t = s := by simpa using h
          exact absurd ⟨d, hd, by rw [← this]; exact e⟩ y
    · rw [(hen c hc).2 (fun ⟨d, hd, e⟩ => hnex ⟨s, by simp, d, hd, e⟩)]
      exact (a4 c hc).2 (fun ⟨t, ht, q⟩ => hnex ⟨t, List.mem_append_left _ ht, q⟩)
theorem ul_46 {post : Int32 → SX → Prop} {J36 : Int32 → Int32 → Int32 → Int32 → Int32 → Int32 → Int32 → Int32 → Int32 → Int32 → Int32 → (Nat → Int32) → (Nat → Int32) → (Nat → Int32) → (Nat → Int32) → (Nat → Int32) → (Nat → Int32) → (Nat → Int32) → (Nat → Int32) → (Nat → Int32) → (Nat → Int32) → (Nat → Int32) → (Nat → Int32) → (Nat → Int32) → (Nat → Int32) → (Nat → Int32) → (Nat → Int32) → (Nat → Int32) → (Nat → Int32) → (Nat → Int32) → (Nat → Int32) → (Nat → Int32) → (Nat → Int32) → Prop} {r : Nat} (hT : T ≤ 128) (hr : r ≤ K) (hK : K ≤ 5) (hN : N ≤ 12) (him : ∀ j, im j ≤ 127) (hA0 : ui_A im T a_headOf a_edge)
    (KJ : ∀ pl lv w le iw en pn, ul_I T K N im hgt ws r T pl lv w → ul_A im pl lv w le iw en pn → J36 (nI (r + 1)) f_letters f_maxLength (nI N) f_freeHead f_used f_root f_draftAccept f_imageSize f_formLength (nI pl.length) a_accept a_child a_refs a_words a_slot a_next a_bucket a_draft a_symbol a_path a_stack a_number a_order a_image a_form a_headOf a_edge le iw en pn a_built)
    (K0 : ¬ ui_GF T K N im hgt ws → ∀ pln le iw en pn, post 0 (f_letters, f_maxLength, nI N, f_freeHead, f_used, f_root, f_draftAccept, f_imageSize, f_formLength, pln, a_accept, a_child, a_refs, a_words, a_slot, a_next, a_bucket, a_draft, a_symbol, a_path, a_stack, a_number, a_order, a_image, a_form, a_headOf, a_edge, le, iw, en, pn, a_built)) :
    ∀ (j s : Nat) (pl : List Nat) (lv w : Nat → Nat) (le iw en pn : Nat → Int32), s + j = T → ul_I T K N im hgt ws r s pl lv w → ul_A im pl lv w le iw en pn → wX_layerImage_46 post J36 (nI T) (nI r) (j + 1) (nI s) f_letters f_maxLength (nI N) f_freeHead f_used f_root f_draftAccept f_imageSize f_formLength (nI pl.length) a_accept a_child a_refs a_words a_slot a_next a_bucket a_draft a_symbol a_path a_stack a_number a_order a_image a_form a_headOf a_edge le iw en pn a_built := by
  intro j
  induction j with
  | zero =>
    intro s pl lv w le iw en pn hs I A
    have : s = T := by omega
    subst this
    exact pk_le s s (fun _ => nm_r (nI_1 r) (KJ pl lv w le iw en pn I A)) (fun z => absurd z (by omega))
  | succ j ih =>
    intro s pl lv w le iw en pn hs I A
    have hsT : s < T := by omega
    have hs128 : s < 128 := by omega
    obtain ⟨hh, hE⟩ := hA0 s hsT
    have esl : le (nI s).toNatClampNeg = xk_m (lv s) := by rw [nI_clamp (by omega), A.1 s hs128]
    have lvb : ∀ t, t < 128 → lv t ≤ 10 := by
      intro t ht
      by_cases z : t ∈ pl
      · have := (I.2.2.2.2.1 t z).2.2.2; omega
      · have := mt (I.2.2.1 t ht).mp z
        omega
    refine pk_le T s (fun z => absurd z (by omega)) (fun _ => And.intro (vp_in_nI hs128 (by omega)) ?_)
    rw [esl]
    by_cases c : s ∈ pl
    · have h0 := (I.2.2.1 s hs128).mpr c
      have hlb := lvb s hs128
      refine br_t ?_ (nm_r (nI_1 s) (ih (s + 1) pl lv w le iw en pn (by omega) (ul_keep I (fun _ _ => c)) A))
      rw [xk_ms h0]; exact nI_pos' (by omega)
    · have h0 : lv s = 0 := by
        apply Classical.byContradiction
        intro z; exact c ((I.2.2.1 s hs128).mp z)
      refine br_f (by rw [h0]; decide) ⟨5, ?_⟩
      refine ur_2 (lv := lv) hs128 (by omega) him hE A.1 lvb (fun hrd => br_f (by decide) ?_) (fun d hd hz hbad => br_t rfl (nm_r (nI_1 s) (ih (s + 1) pl lv w le iw en pn (by omega) (ul_keep I (fun G hg => ?_)) A))) 4 0 rfl (fun e he => by omega)
      · have hrd2 : ∀ d, d < 4 → ui_ue im s d ≠ 0 → ui_ue im s d - 1 ∈ pl ∧ lv (ui_ue im s d - 1) ≤ r := by
          intro d hd hz
          obtain ⟨g1, g2⟩ := hrd d hd hz
          have := ul_ue_lt him s d
          exact ⟨(I.2.2.1 _ (by omega)).mp g1, g2⟩
        have hpl : pl.length < 128 := by
          have : (pl ++ [s]).Nodup := by
            have := dd_in_nodup (x := s) I.1
            rwa [dd_in, if_neg c] at this
          have := xn_in this (fun m hm => by
            rcases List.mem_append.mp hm with h | h
            · have := I.2.1 m h; omega
            · have : m = s := by simpa using h
              omega)
          rw [List.length_append, List.length_singleton] at this; omega
        refine ul_st (r := r) hs128 hpl c him hN hh hE A (fun t ht => (I.2.2.2.2.1 t ht).2.1) (fun d hd hz => (hrd2 d hd hz).1) (fun le' iw' en' pn' A' hle => br_f (by decide) (nm_r (nI_1 s) (ih (s + 1) _ _ _ le' iw' en' pn' (by omega) (ul_add I hsT hs128 hr c hrd2 hle) A'))) (fun hlt pln le' iw' en' pn' => br_t rfl (K0 (fun G => ?_) pln le' iw' en' pn'))
        have e1 := (G s hsT).2.2.2
        have e2 := (G s hsT).2.1
        have : ui_sm im w s 4 = ui_sm im ws s 4 := ui_sm_congr (fun d hd hz => ((I.2.2.2.2.2 G).1 _ (hrd2 d hd hz).1).1) 4 (Nat.le_refl _)
        omega
      · exfalso
        obtain ⟨g1, g2⟩ := (G s hsT).2.2.1 d hd hz
        have hp := (I.2.2.2.2.2 G).2 _ g1 (Or.inl (by omega))
        have h2 := ((I.2.2.2.2.2 G).1 _ hp).2
        refine hbad ⟨(I.2.2.1 _ (by omega)).mpr hp, by omega⟩
theorem ul_36 {post : Int32 → SX → Prop} (hT : T ≤ 128) (hK : K ≤ 5) (hN : N ≤ 12) (him : ∀ j, im j ≤ 127) (hA0 : ui_A im T a_headOf a_edge)
    (K1 : ∀ pl lv w le iw en pn, pl.length = T → ul_I T K N im hgt ws (K + 1) 0 pl lv w → ul_A im pl lv w le iw en pn → post 1 (f_letters, nI K, nI N, f_freeHead, f_used, f_root, f_draftAccept, f_imageSize, f_formLength, nI T, a_accept, a_child, a_refs, a_words, a_slot, a_next, a_bucket, a_draft, a_symbol, a_path, a_stack, a_number, a_order, a_image, a_form, a_headOf, a_edge, le, iw, en, pn, a_built))
    (K0 : ¬ ui_GF T K N im hgt ws → ∀ pln le iw en pn, post 0 (f_letters, nI K, nI N, f_freeHead, f_used, f_root, f_draftAccept, f_imageSize, f_formLength, pln, a_accept, a_child, a_refs, a_words, a_slot, a_next, a_bucket, a_draft, a_symbol, a_path, a_stack, a_number, a_order, a_image, a_form, a_headOf, a_edge, le, iw, en, pn, a_built)) :
    ∀ (j r : Nat) (pl : List Nat) (lv w : Nat → Nat) (le iw en pn : Nat → Int32), r + j = K + 1 → ul_I T K N im hgt ws r 0 pl lv w → ul_A im pl lv w le iw en pn → wX_layerImage_36 post (nI T) (j + 1) (nI r) f_letters (nI K) (nI N) f_freeHead f_used f_root f_draftAccept f_imageSize f_formLength (nI pl.length) a_accept a_child a_refs a_words a_slot a_next a_bucket a_draft a_symbol a_path a_stack a_number a_order a_image a_form a_headOf a_edge le iw en pn a_built := by
  intro j
  induction j with
  | zero =>
    intro r pl lv w le iw en pn hr I A
    have : r = K + 1 := by omega
    subst this
    have hpl : pl.length ≤ 128 := xn_in I.1 (fun m hm => by have := I.2.1 m hm; omega)
    refine pk_lt K (K + 1) (fun _ => pk_eq pl.length T (fun z => ?_) (fun z => K0 (fun G => z ?_) _ _ _ _ _)) (fun z => absurd z (by omega))
    · have := K1 pl lv w le iw en pn z I A
      rw [← z] at this
      exact this
    · have h1 : pl.length ≤ T := by
        have := I.1.length_le_of_subset (l₂ := List.range T) (fun m hm => List.mem_range.mpr (I.2.1 m hm))
        rwa [List.length_range] at this
      have h2 : T ≤ pl.length := by
        have := (List.nodup_range (n := T)).length_le_of_subset (l₂ := pl) (fun m hm => (I.2.2.2.2.2 G).2 m (List.mem_range.mp hm) (Or.inl (by have := (G m (List.mem_range.mp hm)).1; omega)))
        rwa [List.length_range] at this
      omega
  | succ j ih =>
    intro r pl lv w le iw en pn hr I A
    refine pk_lt K r (fun z => absurd z (by omega)) (fun _ => ⟨T + 1, ?_⟩)
    exact ul_46 hT (by omega) hK hN him hA0 (fun pl' lv' w' le' iw' en' pn' I' A' => ih (r + 1) pl' lv' w' le' iw' en' pn' (by omega) (ul_next I') A') K0 T 0 pl lv w le iw en pn (by omega) I A
theorem ul_2 {post : Int32 → SX → Prop} {x1 : Int32} (Kp : ∀ le en, (∀ t, t < 128 → le t = xk_m 0) → (∀ c, c < 128 → en c = 0) → ∃ n36, wX_layerImage_36 post x1 n36 0 f_letters f_maxLength f_maxWords f_freeHead f_used f_root f_draftAccept f_imageSize f_formLength 0 a_accept a_child a_refs a_words a_slot a_next a_bucket a_draft a_symbol a_path a_stack a_number a_order a_image a_form a_headOf a_edge le a_imageWords en a_plan a_built) : ∀ (j i : Nat) (le en : Nat → Int32), i + j = 128 → (∀ e, e < i → le e = xk_m 0 ∧ en e = 0) → wX_layerImage_2 post x1 f_letters f_maxLength f_maxWords f_freeHead f_used f_root f_draftAccept f_imageSize f_formLength f_planned (j + 1) (nI i) a_accept a_child a_refs a_words a_slot a_next a_bucket a_draft a_symbol a_path a_stack a_number a_order a_image a_form a_headOf a_edge le a_imageWords en a_plan a_built := by
  intro j
  induction j with
  | zero =>
    intro i le en hi h
    exact pk_le 128 i (fun _ => Kp le en (fun t ht => (h t (by omega)).1) (fun t ht => (h t (by omega)).2)) (fun z => absurd z (by omega))
  | succ j ih =>
    intro i le en hi h
    have ii : vp_in (nI i) 128 := vp_in_nI (by omega) (by omega)
    have e0 : vp_nar .boolean 0 = 0 := by decide
    refine pk_le 128 i (fun z => absurd z (by omega)) (fun _ => And.intro ii (nm_r (e' := upd le i (-1)) (by rw [nI_clamp (by omega)]) (And.intro ii (nm_r (e' := upd en i 0) (by rw [nI_clamp (by omega), e0]) (nm_r (nI_1 i) (ih (i + 1) _ _ (by omega) (fun e he => ?_)))))))
    by_cases z : e = i
    · rw [z, pk_us, pk_us]; exact ⟨rfl, rfl⟩
    · rw [pk_un z, pk_un z]; exact h e (by omega)
theorem ul_layer {post : Int32 → SX → Prop} (hT : T ≤ 128) (hK : K ≤ 5) (hN : N ≤ 12) (him : ∀ j, im j ≤ 127) (hA0 : ui_A im T a_headOf a_edge)
    (K1 : ∀ pl lv w le iw en pn, pl.length = T → ul_I T K N im hgt ws (K + 1) 0 pl lv w → ul_A im pl lv w le iw en pn → post 1 (f_letters, nI K, nI N, f_freeHead, f_used, f_root, f_draftAccept, f_imageSize, f_formLength, nI T, a_accept, a_child, a_refs, a_words, a_slot, a_next, a_bucket, a_draft, a_symbol, a_path, a_stack, a_number, a_order, a_image, a_form, a_headOf, a_edge, le, iw, en, pn, a_built))
    (K0 : ¬ ui_GF T K N im hgt ws → ∀ pln le iw en pn, post 0 (f_letters, nI K, nI N, f_freeHead, f_used, f_root, f_draftAccept, f_imageSize, f_formLength, pln, a_accept, a_child, a_refs, a_words, a_slot, a_next, a_bucket, a_draft, a_symbol, a_path, a_stack, a_number, a_order, a_image, a_form, a_headOf, a_edge, le, iw, en, pn, a_built)) : wpX_layerImage post (f_letters, nI K, nI N, f_freeHead, f_used, f_root, f_draftAccept, f_imageSize, f_formLength, f_planned, a_accept, a_child, a_refs, a_words, a_slot, a_next, a_bucket, a_draft, a_symbol, a_path, a_stack, a_number, a_order, a_image, a_form, a_headOf, a_edge, a_level, a_imageWords, a_entered, a_plan, a_built) (nI T) := by
  refine ⟨129, ul_2 (fun le en h1 h2 => ⟨K + 2, ?_⟩) 128 0 a_level a_entered rfl (fun e he => by omega)⟩
  refine ul_36 (hgt := hgt) (ws := ws) hT hK hN him hA0 K1 K0 (K + 1) 0 [] (fun _ => 0) (fun _ => 0) le a_imageWords en a_plan (by omega) ?_ ?_
  · refine ⟨by simp, fun t ht => absurd ht List.not_mem_nil, fun t _ => ⟨fun z => absurd rfl z, fun z => absurd z List.not_mem_nil⟩, fun p t q e => ?_, fun t ht => absurd ht List.not_mem_nil, fun G => ⟨fun t ht => absurd ht List.not_mem_nil, fun t ht hp => ?_⟩⟩
    · simp at e
    · rcases hp with z | ⟨_, z⟩ <;> omega
  · exact ⟨h1, fun t ht => absurd ht List.not_mem_nil, fun i hi => absurd hi (by simp), fun c hc => ⟨fun ⟨t, ht, _⟩ => absurd ht List.not_mem_nil, fun _ => h2 c hc⟩⟩
theorem ul_ae {post : Int32 → Prop} (hT : T ≤ 128) (K1 : (∀ s, 1 ≤ s → s < T → ¬ a_entered s = 0) → post 1) (K0 : ∀ s, 1 ≤ s → s < T → a_entered s = 0 → post 0) : wpX_allEntered post (f_letters, f_maxLength, f_maxWords, f_freeHead, f_used, f_root, f_draftAccept, f_imageSize, f_formLength, f_planned, a_accept, a_child, a_refs, a_words, a_slot, a_next, a_bucket, a_draft, a_symbol, a_path, a_stack, a_number, a_order, a_image, a_form, a_headOf, a_edge, a_level, a_imageWords, a_entered, a_plan, a_built) (nI T) := by
  have loop : ∀ (j s : Nat), 1 ≤ s → (∀ e, 1 ≤ e → e < s → ¬ a_entered e = 0) → T + 1 ≤ s + j → s ≤ T + 1 → wX_allEntered_2 post (nI T) f_letters f_maxLength f_maxWords f_freeHead f_used f_root f_draftAccept f_imageSize f_formLength f_planned a_accept a_child a_refs a_words a_slot a_next a_bucket a_draft a_symbol a_path a_stack a_number a_order a_image a_form a_headOf a_edge a_level a_imageWords a_entered a_plan a_built (j + 1) (nI s) := by
    intro j
    induction j with
    | zero =>
      intro s h1 h2 h3 h4
      exact pk_le T s (fun _ => K1 (fun e g1 g2 => h2 e g1 (by omega))) (fun z => absurd z (by omega))
    | succ j ih =>
      intro s h1 h2 h3 h4
      refine pk_le T s (fun z => K1 (fun e g1 g2 => h2 e g1 (by omega))) (fun z => And.intro (vp_in_nI (by omega) (by omega)) (br_c (fun y => ?_) (fun y => nm_r (nI_1 s) (ih (s + 1) (by omega) (fun e g1 g2 => ?_) (by omega) (by omega)))))
      · rw [nI_clamp (by omega)] at y; exact K0 s h1 z y
      · rw [nI_clamp (by omega)] at y
        by_cases q : e = s
        · rw [q]; exact y
        · exact h2 e g1 (by omega)
  exact ⟨T + 1, loop T 1 (by omega) (fun e _ _ => by omega) (by omega) (by omega)⟩
end UL
end
section
/-! the image as a graph: state s is node s + 1 -/
def ui_ac (im : Nat → Nat) (j : Nat) : Nat := if j = 0 then 0 else ui_hd im (j - 1) % 2
def ui_ch (im : Nat → Nat) (i : Nat) : Nat := if i / 4 = 0 then 0 else ui_ue im (i / 4 - 1) (i % 4)
theorem ui_ch_0 {im : Nat → Nat} {d : Nat} (hd : d < 4) : ui_ch im d = 0 := by
  rw [ui_ch, if_pos (by omega)]
theorem ui_ch_s {im : Nat → Nat} {s d : Nat} (hd : d < 4) : ui_ch im ((s + 1) * 4 + d) = ui_ue im s d := by
  rw [ui_ch, if_neg (by omega), show ((s + 1) * 4 + d) / 4 - 1 = s by omega, show ((s + 1) * 4 + d) % 4 = d by omega]
theorem ui_z {im : Nat → Nat} : ∀ l, wd_dig l → gr_go (ui_ch im) 0 l = 0 := by
  intro l
  induction l with
  | nil => intro _; rfl
  | cons d l ih =>
    intro h
    have h1 := wd_dig_cons.mp h
    rw [gr_go_cons, Nat.zero_mul, Nat.zero_add, ui_ch_0 h1.1]
    exact ih h1.2
theorem ui_M0 {im : Nat → Nat} {l : List Nat} (hl : wd_dig l) : gr_M (ui_ac im) (ui_ch im) 0 l = false := by
  rw [gr_M, ui_z l hl]; rfl
/-- what the checks give -/
def ui_C (T L K N n : Nat) (im : Nat → Nat) (pl : List Nat) (lv w : Nat → Nat) : Prop :=
  ui_S L n im T ∧ 1 ≤ T ∧ T ≤ 128 ∧ pl.Nodup ∧ (∀ s, s ∈ pl ↔ s < T) ∧
  (∀ p t q, pl = p ++ t :: q → ∀ d, d < 4 → ui_ue im t d ≠ 0 → ui_ue im t d - 1 ∈ p) ∧
  (∀ s, s < T → (1 ≤ lv s ∧ lv s ≤ K + 1) ∧ w s = ui_hd im s % 2 + ui_sm im w s 4 ∧ w s ≤ N ∧ ∀ d, d < 4 → ui_ue im s d ≠ 0 → ui_ue im s d - 1 < T ∧ lv (ui_ue im s d - 1) < lv s) ∧
  (∀ s, 1 ≤ s → s < T → ∃ t, t < T ∧ ∃ d, d < 4 ∧ ui_ue im t d = s + 1)
theorem ui_C_mk {T L K N n : Nat} {im hgt ws lv w : Nat → Nat} {pl : List Nat} (S : ui_S L n im T) (h1 : 1 ≤ T) (hT : T ≤ 128) (hpl : pl.length = T) (I : ul_I T K N im hgt ws (K + 1) 0 pl lv w) (hp : ∀ s, 1 ≤ s → s < T → ∃ t, t < T ∧ ∃ d, d < 4 ∧ ui_ue im t d = s + 1) : ui_C T L K N n im pl lv w := by
  have all : ∀ s, s < T → s ∈ pl := by
    intro s hs
    apply Classical.byContradiction
    intro z
    have nd : (s :: pl).Nodup := List.nodup_cons.mpr ⟨z, I.1⟩
    have := nd.length_le_of_subset (l₂ := List.range T) (fun m hm => List.mem_range.mpr (by
      rcases List.mem_cons.mp hm with e | e
      · rw [e]; exact hs
      · exact I.2.1 m e))
    rw [List.length_range, List.length_cons] at this
    omega
  refine ⟨S, h1, hT, I.1, fun s => ⟨I.2.1 s, all s⟩, fun p t q e d hd hz => (I.2.2.2.1 p t q e d hd hz).1, fun s hs => ?_, hp⟩
  have hm := all s hs
  obtain ⟨g1, g2, g3, g4⟩ := I.2.2.2.2.1 s hm
  have h0 := (I.2.2.1 s (by omega)).mpr hm
  refine ⟨⟨by omega, g4⟩, g1, g2, fun d hd hz => ?_⟩
  obtain ⟨p, q, e⟩ := List.append_of_mem hm
  obtain ⟨c1, c2⟩ := I.2.2.2.1 p s q e d hd hz
  exact ⟨I.2.1 _ (by rw [e]; exact List.mem_append_left _ c1), c2⟩
section UC
variable {T L K N n : Nat} {im lv w : Nat → Nat} {pl : List Nat}
theorem ui_dep (C : ui_C T L K N n im pl lv w) : ∀ (k s : Nat), s < T → lv s ≤ k → gr_dep (ui_ch im) (s + 1) (lv s - 1) := by
  intro k
  induction k with
  | zero =>
    intro s hs hk
    have := (C.2.2.2.2.2.2.1 s hs).1.1
    omega
  | succ k ih =>
    intro s hs hk l hl hlen
    obtain ⟨⟨g1, g2⟩, g3, g4, g5⟩ := C.2.2.2.2.2.2.1 s hs
    cases l with
    | nil => simp at hlen
    | cons d l =>
      have h1 := wd_dig_cons.mp hl
      rw [gr_go_cons, ui_ch_s h1.1]
      by_cases z : ui_ue im s d = 0
      · rw [z]; exact ui_z l h1.2
      · obtain ⟨c1, c2⟩ := g5 d h1.1 z
        have e : ui_ue im s d = (ui_ue im s d - 1) + 1 := by omega
        have c3 := (C.2.2.2.2.2.2.1 _ c1).1.1
        rw [e]
        exact ih (ui_ue im s d - 1) c1 (by omega) l h1.2 (by simp at hlen; omega)
theorem ui_dep5 (C : ui_C T L K N n im pl lv w) (hK : K ≤ 5) {s : Nat} (hs : s < T) : gr_dep (ui_ch im) (s + 1) 5 := by
  have := (C.2.2.2.2.2.2.1 s hs).1
  exact gr_dep_m (ui_dep C _ s hs (Nat.le_refl _)) (by omega)
theorem ui_G (C : ui_C T L K N n im pl lv w) (hL : L ≤ 4) (hz : ∀ s, s < T → ui_hd im s ≠ 0) : gr_G (fun j => 1 ≤ j ∧ j ≤ T) (ui_ac im) (ui_ch im) (fun j => if j = 0 then 0 else w (j - 1)) := by
  refine ⟨⟨rfl, rfl, fun d hd => ui_ch_0 hd⟩, fun j hj => ?_⟩
  obtain ⟨s, rfl⟩ : ∃ s, j = s + 1 := ⟨j - 1, by omega⟩
  have hs : s < T := by omega
  obtain ⟨⟨g1, g2⟩, g3, g4, g5⟩ := C.2.2.2.2.2.2.1 s hs
  have eac : ui_ac im (s + 1) = ui_hd im s % 2 := rfl
  have hb : ui_hd im s < 32 := by
    have h1 := (C.1.2 s hs).1
    have : (2 : Nat) ^ L ≤ 2 ^ 4 := Nat.pow_le_pow_right (by decide) hL
    omega
  refine ⟨by omega, by rw [eac]; omega, fun d hd => ?_, ?_, ?_⟩
  · rw [ui_ch_s hd]
    by_cases z : ui_ue im s d = 0
    · exact Or.inl z
    · have := (g5 d hd z).1
      exact Or.inr ⟨by omega, by omega⟩
  · rw [eac]
    by_cases z : ui_hd im s % 2 = 1
    · exact Or.inl z
    · right
      have ex : ∃ d, d < 4 ∧ ui_bt (ui_hd im s) d ≠ 0 := by
        apply Classical.byContradiction
        intro hno
        have b0 : ui_bt (ui_hd im s) 0 = 0 := Classical.byContradiction (fun q => hno ⟨0, by omega, q⟩)
        have b1 : ui_bt (ui_hd im s) 1 = 0 := Classical.byContradiction (fun q => hno ⟨1, by omega, q⟩)
        have b2 : ui_bt (ui_hd im s) 2 = 0 := Classical.byContradiction (fun q => hno ⟨2, by omega, q⟩)
        have b3 : ui_bt (ui_hd im s) 3 = 0 := Classical.byContradiction (fun q => hno ⟨3, by omega, q⟩)
        simp only [ui_bt] at b0 b1 b2 b3
        have := hz s hs
        omega
      obtain ⟨d, hd, hb⟩ := ex
      exact ⟨d, hd, by rw [ui_ch_s hd, ui_ue, if_neg hb]; omega⟩
  · have t : ∀ d, d < 4 → (if ui_ch im ((s + 1) * 4 + d) = 0 then 0 else w (ui_ch im ((s + 1) * 4 + d) - 1)) = if ui_ue im s d = 0 then 0 else w (ui_ue im s d - 1) := fun d hd => by rw [ui_ch_s hd]
    show (if s + 1 = 0 then 0 else w (s + 1 - 1)) = ui_ac im (s + 1) + (if ui_ch im ((s + 1) * 4 + 0) = 0 then 0 else w (ui_ch im ((s + 1) * 4 + 0) - 1)) + (if ui_ch im ((s + 1) * 4 + 1) = 0 then 0 else w (ui_ch im ((s + 1) * 4 + 1) - 1)) + (if ui_ch im ((s + 1) * 4 + 2) = 0 then 0 else w (ui_ch im ((s + 1) * 4 + 2) - 1)) + (if ui_ch im ((s + 1) * 4 + 3) = 0 then 0 else w (ui_ch im ((s + 1) * 4 + 3) - 1))
    rw [t 0 (by omega), t 1 (by omega), t 2 (by omega), t 3 (by omega), if_neg (by omega), Nat.add_sub_cancel, g3, eac]
    simp only [ui_sm]
    omega
theorem ui_reach (C : ui_C T L K N n im pl lv w) : ∀ (k s : Nat), s < T → K + 1 ≤ lv s + k → ∃ p, wd_dig p ∧ gr_go (ui_ch im) 1 p = s + 1 := by
  intro k
  induction k with
  | zero =>
    intro s hs hk
    by_cases z : s = 0
    · exact ⟨[], wd_dig_nil, by rw [z]; rfl⟩
    · obtain ⟨t, ht, d, hd, e⟩ := C.2.2.2.2.2.2.2 s (by omega) hs
      have h2 := (C.2.2.2.2.2.2.1 t ht).1.2
      have h3 := ((C.2.2.2.2.2.2.1 t ht).2.2.2 d hd (by omega)).2
      rw [e, Nat.add_sub_cancel] at h3
      omega
  | succ k ih =>
    intro s hs hk
    by_cases z : s = 0
    · exact ⟨[], wd_dig_nil, by rw [z]; rfl⟩
    · obtain ⟨t, ht, d, hd, e⟩ := C.2.2.2.2.2.2.2 s (by omega) hs
      have h3 := ((C.2.2.2.2.2.2.1 t ht).2.2.2 d hd (by omega)).2
      rw [e, Nat.add_sub_cancel] at h3
      obtain ⟨p, hp, ep⟩ := ih t ht (by omega)
      exact ⟨p ++ [d], wd_dig_app.mpr ⟨hp, wd_dig_one hd⟩, by rw [gr_go_snoc, ep, ui_ch_s hd, e]⟩
theorem ui_cnt (C : ui_C T L K N n im pl lv w) (hL : L ≤ 4) (hK : K ≤ 5) (hN : N ≤ 12) : ((wd_U 5).filter (gr_M (ui_ac im) (ui_ch im) 1)).length ≤ N ∧ T ≤ 61 := by
  by_cases z : ∀ s, s < T → ui_hd im s ≠ 0
  · have G := ui_G C hL z
    have D1 : (fun j => 1 ≤ j ∧ j ≤ T) 1 := ⟨Nat.le_refl _, C.2.1⟩
    have hk : gr_dep (ui_ch im) 1 5 := ui_dep5 C hK (s := 0) C.2.1
    have hc := gr_cnt G 5 1 (Or.inr D1) hk
    have hc2 : ((wd_U 5).filter (gr_M (ui_ac im) (ui_ch im) 1)).length = w 0 := hc.symm
    have hw0 := (C.2.2.2.2.2.2.1 0 C.2.1).2.2.1
    refine ⟨by omega, ?_⟩
    have hsub : List.range' 1 T ⊆ (wd_P (gr_M (ui_ac im) (ui_ch im) 1)).map (gr_go (ui_ch im) 1) := by
      intro j hj
      have hj2 := List.mem_range'_1.mp hj
      obtain ⟨s, rfl⟩ : ∃ s, j = s + 1 := ⟨j - 1, by omega⟩
      have hs : s < T := by omega
      obtain ⟨p, hp, e⟩ := ui_reach C (K + 1) s hs (by omega)
      refine List.mem_map.mpr ⟨p, List.mem_filter.mpr ⟨(wd_mem 5 p).mpr ⟨?_, hp⟩, (gr_lv G (Or.inr D1) hk hp).mpr (Or.inr (by rw [e]; omega))⟩, e⟩
      rcases Nat.lt_or_ge 5 p.length with y | y
      · rw [hk p hp y] at e; omega
      · exact y
    have h1 := (List.nodup_range' (s := 1) (n := T)).length_le_of_subset hsub
    rw [List.length_map, List.length_range'] at h1
    have h2 := wd_P_len (gr_sup G hk)
    omega
  · have : ∃ s, s < T ∧ ui_hd im s = 0 := Classical.byContradiction (fun q => z (fun s hs e => q ⟨s, hs, e⟩))
    obtain ⟨s, hs, e⟩ := this
    have h1 := (C.1.2 s hs).2 e
    have h2 := ui_ps_ge im T
    rw [C.1.1] at h2
    have hs0 : s = 0 := by omega
    subst hs0
    refine ⟨?_, by omega⟩
    have : (wd_U 5).filter (gr_M (ui_ac im) (ui_ch im) 1) = [] := by
      rw [List.filter_eq_nil_iff]
      intro l hl
      have hd := ((wd_mem 5 l).mp hl).2
      cases l with
      | nil =>
        rw [gr_M, gr_go_nil]
        have : ui_ac im 1 = ui_hd im 0 % 2 := rfl
        rw [this, e]; decide
      | cons d l =>
        have h3 := wd_dig_cons.mp hd
        have h4 : ui_ch im (1 * 4 + d) = ui_ue im 0 d := ui_ch_s (s := 0) h3.1
        have h5 : ui_ue im 0 d = 0 := by
          rw [ui_ue, if_pos]
          rw [e, ui_bt]; simp
        have h6 : ui_ac im 0 = 0 := rfl
        rw [gr_M, gr_go_cons, h4, h5, ui_z l h3.2, h6]
        decide
    rw [this]; exact Nat.zero_le _
end UC
/-! X: buildImage -/
section UB
variable {f_letters f_maxLength f_maxWords f_freeHead f_used f_root f_draftAccept f_imageSize f_formLength f_planned : Int32} {a_accept a_child a_refs a_words a_slot a_next a_bucket a_draft a_symbol a_path a_stack a_number a_order a_image a_form a_headOf a_edge a_level a_imageWords a_entered a_plan a_built : Nat → Int32}
variable {T L K N n rt fh0 us0 : Nat} {im lv w : Nat → Nat} {pl : List Nat} {ac0 ch0 rf0 wd0 sl0 nx0 bk0 : Nat → Nat} {al0 fl0 : List Nat}
def ub_V (L rt : Nat) (im lv : Nat → Nat) (ac0 ch0 : Nat → Nat) (al0 : List Nat) (fh us : Nat) (ac ch rf wd sl nx bk : Nat → Nat) (al fl p : List Nat) (bt : Nat → Nat) (bu : Nat → Int32) : Prop :=
  po_I fh us ac ch rf wd sl nx bk al fl (fun m => if m = rt then 1 else 0) ∧ (∀ m, (m = 0 ∨ m ∈ al0) → ac m = ac0 m ∧ ∀ d, d < 4 → ch (m * 4 + d) = ch0 (m * 4 + d)) ∧ (∀ m, m ∈ al0 → m ∈ al) ∧ al.length ≤ al0.length + p.length ∧ (∀ m, m ∈ al → gr_dep ch m 5) ∧
  (∀ s, s ∈ p → bu s = nI (bt s) ∧ (bt s = 0 ∨ bt s ∈ al) ∧ gr_ok ch (bt s) L (lv s - 1) ∧ ∀ v, wd_dig v → gr_M ac ch (bt s) v = gr_M (ui_ac im) (ui_ch im) (s + 1) v) ∧
  (∀ m, m ∈ al → rf m = 0 → ∃ s, s ∈ p ∧ bt s = m ∧ ∀ t, t ∈ p → ∀ d, d < 4 → ui_ue im t d ≠ s + 1)
theorem ub_31 {post : Int32 → SX → Prop} {J2 : Int32 → Int32 → Int32 → Int32 → Int32 → Int32 → Int32 → Int32 → Int32 → Int32 → Int32 → (Nat → Int32) → (Nat → Int32) → (Nat → Int32) → (Nat → Int32) → (Nat → Int32) → (Nat → Int32) → (Nat → Int32) → (Nat → Int32) → (Nat → Int32) → (Nat → Int32) → (Nat → Int32) → (Nat → Int32) → (Nat → Int32) → (Nat → Int32) → (Nat → Int32) → (Nat → Int32) → (Nat → Int32) → (Nat → Int32) → (Nat → Int32) → (Nat → Int32) → (Nat → Int32) → (Nat → Int32) → Prop} {x1 : Int32} {k s d : Nat} {bt : Nat → Nat} (hs : s < 128) (hd : d < 4) (him : ∀ j, im j ≤ 127) (hE : ui_E im s a_edge) (hb : ui_ue im s d ≠ 0 → a_built (ui_ue im s d - 1) = nI (bt (ui_ue im s d - 1)))
    (Kp : wX_buildImage_31 post J2 x1 (nI s) f_letters f_maxLength f_maxWords f_freeHead f_used f_root f_draftAccept f_imageSize f_formLength f_planned k (nI (d + 1)) a_accept a_child a_refs a_words a_slot a_next a_bucket (upd a_draft d (nI (if ui_ue im s d = 0 then 0 else bt (ui_ue im s d - 1)))) a_symbol a_path a_stack a_number a_order a_image a_form a_headOf a_edge a_level a_imageWords a_entered a_plan a_built) : wX_buildImage_31 post J2 x1 (nI s) f_letters f_maxLength f_maxWords f_freeHead f_used f_root f_draftAccept f_imageSize f_formLength f_planned (k + 1) (nI d) a_accept a_child a_refs a_words a_slot a_next a_bucket a_draft a_symbol a_path a_stack a_number a_order a_image a_form a_headOf a_edge a_level a_imageWords a_entered a_plan a_built := by
  have hul := ul_ue_lt him s d
  refine pk_le 4 d (fun z => absurd z (by omega)) (fun _ => And.intro (xw_in4 hs hd) (nm_r (e' := xk_m (ui_ue im s d)) (by rw [xw_c4 hs hd, hE d hd]) ?_))
  by_cases z : ui_ue im s d = 0
  · rw [if_pos z] at Kp
    refine br_f (by rw [z]; decide) (And.intro (vp_in_nI hd (by omega)) (nm_r ?_ (nm_r (nI_1 d) Kp)))
    rw [nI_clamp (by omega)]; rfl
  · rw [if_neg z] at Kp
    rw [xk_ms z]
    refine br_t (nI_pos' (by omega)) (And.intro (vp_in_nI (by omega) (by omega)) (And.intro (vp_in_nI hd (by omega)) (nm_r ?_ (nm_r (nI_1 d) Kp))))
    rw [nI_clamp (by omega), nI_clamp (by omega), hb z]
theorem ub_2 {post : Int32 → SX → Prop} (C : ui_C T L K N n im pl lv w) (h61 : al0.length ≤ 61) (hT : T ≤ 61) (hL : L ≤ 4) (hK : K ≤ 5) (him : ∀ j, im j ≤ 127) (hA : ui_A im T a_headOf a_edge) (hpn : xs_h a_plan pl) (hpl : pl.length = T)
    (Kp : ∀ fh us ac ch rf wd sl nx bk al fl bt bu dr da, ub_V L rt im lv ac0 ch0 al0 fh us ac ch rf wd sl nx bk al fl pl bt bu → post (bu 0) (f_letters, f_maxLength, f_maxWords, (nI fh), (nI us), f_root, da, f_imageSize, f_formLength, nI T, (nN ac), (nN ch), (nN rf), (nN wd), (nN sl), (nN nx), (nN bk), dr, a_symbol, a_path, a_stack, a_number, a_order, a_image, a_form, a_headOf, a_edge, a_level, a_imageWords, a_entered, a_plan, bu)) :
    ∀ (q p : List Nat), pl = p ++ q → ∀ (fh us : Nat) (ac ch rf wd sl nx bk : Nat → Nat) (al fl : List Nat) (bt : Nat → Nat) (bu dr : Nat → Int32) (da : Int32), ub_V L rt im lv ac0 ch0 al0 fh us ac ch rf wd sl nx bk al fl p bt bu → wX_buildImage_2 post (q.length + 1) (nI p.length) f_letters f_maxLength f_maxWords (nI fh) (nI us) f_root da f_imageSize f_formLength (nI T) (nN ac) (nN ch) (nN rf) (nN wd) (nN sl) (nN nx) (nN bk) dr a_symbol a_path a_stack a_number a_order a_image a_form a_headOf a_edge a_level a_imageWords a_entered a_plan bu := by
  intro q
  induction q with
  | nil =>
    intro p e fh us ac ch rf wd sl nx bk al fl bt bu dr da V
    rw [List.append_nil] at e
    subst e
    rw [hpl]
    exact pk_le T T (fun _ => Kp _ _ _ _ _ _ _ _ _ al fl bt bu dr da V) (fun z => absurd z (by omega))
  | cons s q ih =>
    intro p e fh us ac ch rf wd sl nx bk al fl bt bu dr da V
    obtain ⟨I, v2, v3, v4, v5, v6, v7⟩ := V
    have hll : pl.length = p.length + (q.length + 1) := by rw [e]; simp
    have hsT : s < T := (C.2.2.2.2.1 s).mp (by rw [e]; simp)
    obtain ⟨hh, hE⟩ := hA s hsT
    have hhd : ui_hd im s ≤ 127 := him _
    have nd := C.2.2.2.1
    rw [e] at nd
    have snp : s ∉ p := (po_fil nd).2.1
    have kp : ∀ d, d < 4 → ui_ue im s d ≠ 0 → ui_ue im s d - 1 ∈ p := fun d hd hz => C.2.2.2.2.2.1 p s q e d hd hz
    have kp2 : ∀ t, t ∈ p → ∀ d, d < 4 → ui_ue im t d ≠ 0 → ui_ue im t d - 1 ∈ p := by
      intro t ht d hd hz
      obtain ⟨a, b, eab⟩ := List.append_of_mem ht
      have := C.2.2.2.2.2.1 a t (b ++ s :: q) (by rw [e, eab]; simp) d hd hz
      rw [eab]; exact List.mem_append_left _ this
    have esp : a_plan (nI p.length).toNatClampNeg = nI s := by
      rw [nI_clamp (by omega), hpn _ (by omega)]
      conv => lhs; rw [e]
      rw [xl_get]
    have es : (nI s).toNatClampNeg = s := nI_clamp (by omega)
    have ehd : nI (ui_hd im s) &&& 1 = nI (ui_hd im s % 2 ^ 1) := pk_andN (by omega) 1 (by decide)
    refine pk_le T p.length (fun z => absurd z (by omega)) (fun _ => And.intro (vp_in_nI (by omega) (by omega)) (nm_r esp (And.intro (vp_in_nI (by omega) (by omega)) (nm_r (e' := nI (ui_hd im s % 2)) (by rw [es, hh, ehd]) ⟨5, ?_⟩))))
    have hb : ∀ d, d < 4 → ui_ue im s d ≠ 0 → bu (ui_ue im s d - 1) = nI (bt (ui_ue im s d - 1)) := fun d hd hz => (v6 _ (kp d hd hz)).1
    refine ub_31 (d := 0) (bt := bt) (by omega) (by omega) him hE (hb 0 (by omega)) ?_
    refine ub_31 (d := 1) (bt := bt) (by omega) (by omega) him hE (hb 1 (by omega)) ?_
    refine ub_31 (d := 2) (bt := bt) (by omega) (by omega) him hE (hb 2 (by omega)) ?_
    refine ub_31 (d := 3) (bt := bt) (by omega) (by omega) him hE (hb 3 (by omega)) ?_
    refine pk_le 4 4 (fun _ => ?_) (fun z => absurd z (by omega))
    have hc : ∀ x, x < 4 → (fun x => if ui_ue im s x = 0 then 0 else bt (ui_ue im s x - 1)) x = 0 ∨ (fun x => if ui_ue im s x = 0 then 0 else bt (ui_ue im s x - 1)) x ∈ al := by
      intro x hx
      show (if ui_ue im s x = 0 then 0 else bt (ui_ue im s x - 1)) = 0 ∨ (if ui_ue im s x = 0 then 0 else bt (ui_ue im s x - 1)) ∈ al
      by_cases z : ui_ue im s x = 0
      · rw [if_pos z]; exact Or.inl rfl
      · rw [if_neg z]; exact (v6 _ (kp x hx z)).2.1
    refine xi_intern (c := fun x => if ui_ue im s x = 0 then 0 else bt (ui_ue im s x - 1)) I (by omega) hc (by omega) (fun x hx => ?_) (fun r fh' us' ac' ch' rf' wd' sl' nx' bk' al' fl' I' T' => ?_)
    · have : x = 0 ∨ x = 1 ∨ x = 2 ∨ x = 3 := by omega
      rcases this with rfl | rfl | rfl | rfl
      · rw [pk_un (by omega), pk_un (by omega), pk_un (by omega), pk_us]
      · rw [pk_un (by omega), pk_un (by omega), pk_us]
      · rw [pk_un (by omega), pk_us]
      · rw [pk_us]
    · obtain ⟨b1, b2, b3, b4, b5, b6⟩ := xb_step I I' T' hc
      obtain ⟨t1, t2, t3, t4, t5, t6, t7, t8⟩ := T'
      refine And.intro (vp_in_nI (by omega) (by omega)) (nm_r (e' := upd bu s (nI r)) (by rw [es]) (nm_r (nI_1 _) ?_))
      obtain ⟨⟨g1, g2⟩, g3, g4, g5⟩ := C.2.2.2.2.2.2.1 s hsT
      have okr : gr_ok ch' r L (lv s - 1) := by
        refine b3 L _ (fun x hx hz => ?_)
        have hz2 : (if ui_ue im s x = 0 then 0 else bt (ui_ue im s x - 1)) ≠ 0 := hz
        show x < L ∧ 1 ≤ lv s - 1 ∧ gr_ok ch (if ui_ue im s x = 0 then 0 else bt (ui_ue im s x - 1)) L (lv s - 1 - 1)
        by_cases z : ui_ue im s x = 0
        · rw [if_pos z] at hz2; exact absurd rfl hz2
        · rw [if_neg z]
          obtain ⟨c1, c2⟩ := g5 x hx z
          have c3 := (C.2.2.2.2.2.2.1 _ c1).1.1
          have hxL : x < L := by
            have hbit : ui_bt (ui_hd im s) x ≠ 0 := fun q => z (by rw [ui_ue, if_pos q])
            have hlt := (C.1.2 s hsT).1
            rcases Nat.lt_or_ge x L with y | y
            · exact y
            · exfalso
              refine hbit ?_
              have h2 : (2 : Nat) ^ (L + 1) ≤ 2 ^ (x + 1) := Nat.pow_le_pow_right (by decide) (by omega)
              rw [Nat.pow_succ] at h2
              rw [ui_bt, Nat.div_eq_of_lt (by omega)]
          have c4 := (v6 _ (kp x hx z)).2.2.1
          refine ⟨hxL, by omega, fun v hv hg => ?_⟩
          have := c4 v hv hg
          exact ⟨by have := this.1; omega, this.2⟩
      have Mr : ∀ v, wd_dig v → gr_M ac' ch' r v = gr_M (ui_ac im) (ui_ch im) (s + 1) v := by
        intro v hv
        cases v with
        | nil => rw [b2]; rfl
        | cons x v =>
          have hx := wd_dig_cons.mp hv
          rw [b1 x hx.1 v hx.2]
          have eM : gr_M (ui_ac im) (ui_ch im) (s + 1) (x :: v) = gr_M (ui_ac im) (ui_ch im) (ui_ue im s x) v := by
            rw [gr_M, gr_M, gr_go_cons, ui_ch_s hx.1]
          rw [eM]
          show gr_M ac ch (if ui_ue im s x = 0 then 0 else bt (ui_ue im s x - 1)) v = _
          by_cases z : ui_ue im s x = 0
          · rw [if_pos z, z, gr_M0 I.2.2.2.2.2.2.2.1 hx.2, ui_M0 hx.2]
          · rw [if_neg z, (v6 _ (kp x hx.1 z)).2.2.2 v hx.2, show ui_ue im s x - 1 + 1 = ui_ue im s x by omega]
      have mem : ∀ t, t ∈ p ++ [s] ↔ t ∈ p ∨ t = s := fun t => by rw [List.mem_append, List.mem_singleton]
      have ne : ∀ t, t ∈ p → t ≠ s := fun t ht z => snp (z ▸ ht)
      have eL : p.length + 1 = (p ++ [s]).length := by simp
      rw [eL]
      refine ih (p ++ [s]) (by rw [e]; simp) fh' us' ac' ch' rf' wd' sl' nx' bk' al' fl' (po_up bt s r) (upd bu s (nI r)) _ _ ⟨I', fun m hm => ?_, fun m hm => t5 m (v3 m hm), ?_, fun m hm => ?_, fun t ht => ?_, fun m hm hz => ?_⟩
      · have hm2 : m = 0 ∨ m ∈ al := hm.imp id (fun h => v3 m h)
        exact ⟨((t1 m hm2).1).trans (v2 m hm).1, fun x hx => ((t1 m hm2).2 x hx).trans ((v2 m hm).2 x hx)⟩
      · rw [List.length_append, List.length_singleton]; omega
      · rcases t6 m hm with h | h
        · exact b5 m (Or.inr h) 5 (v5 m h)
        · rw [h]; exact gr_dep_m (gr_ok_dep okr) (by omega)
      · rcases (mem t).mp ht with h | h
        · obtain ⟨w1, w2, w3, w4⟩ := v6 t h
          rw [pk_un (ne t h), po_un (ne t h)]
          refine ⟨w1, w2.imp id (fun h => t5 _ h), b6 _ _ _ w2 w3, fun v hv => ?_⟩
          rw [b4 _ w2 v hv]; exact w4 v hv
        · rw [h, pk_us, po_us]
          exact ⟨rfl, t2, okr, Mr⟩
      · obtain ⟨q1, q2⟩ := t8 m hm hz
        rcases q1 with q1 | ⟨q3, q4⟩
        · refine ⟨s, (mem s).mpr (Or.inr rfl), by rw [po_us, q1], fun t ht d hd ez => ?_⟩
          have hin : s ∈ p := by
            rcases (mem t).mp ht with h | h
            · have := kp2 t h d hd (by omega)
              rw [ez, Nat.add_sub_cancel] at this; exact this
            · have := kp d hd (by rw [← h, ez]; omega)
              rw [← h, ez, Nat.add_sub_cancel] at this; exact this
          exact snp hin
        · obtain ⟨y, y1, y2, y3⟩ := v7 m q3 q4
          refine ⟨y, (mem y).mpr (Or.inl y1), by rw [po_un (ne y y1), y2], fun t ht d hd ez => ?_⟩
          rcases (mem t).mp ht with h | h
          · exact y3 t h d hd ez
          · refine q2 d hd ?_
            show (if ui_ue im s d = 0 then 0 else bt (ui_ue im s d - 1)) = m
            rw [← h, if_neg (by omega), ez, Nat.add_sub_cancel, y2]
theorem ub_build {post : Int32 → SX → Prop} (R : xs_R L K fh0 us0 ac0 ch0 rf0 wd0 sl0 nx0 bk0 al0 fl0 rt) (C : ui_C T L K N n im pl lv w) (h61 : al0.length ≤ 61) (hT : T ≤ 61) (hL : L ≤ 4) (hK : K ≤ 5) (him : ∀ j, im j ≤ 127) (hA : ui_A im T a_headOf a_edge) (hpn : xs_h a_plan pl) (hpl : pl.length = T)
    (Kp : ∀ fh us ac ch rf wd sl nx bk al fl r bu dr da, po_I fh us ac ch rf wd sl nx bk al fl (fun m => if m = rt then 1 else 0) → (∀ m, (m = 0 ∨ m ∈ al0) → ac m = ac0 m ∧ ∀ d, d < 4 → ch (m * 4 + d) = ch0 (m * 4 + d)) → (∀ m, m ∈ al0 → m ∈ al) → (∀ m, m ∈ al → gr_dep ch m 5) → (r = 0 ∨ r ∈ al) → gr_ok ch r L K → (∀ v, wd_dig v → gr_M ac ch r v = gr_M (ui_ac im) (ui_ch im) 1 v) → (∀ m, m ∈ al → rf m = 0 → m = r) → post (nI r) (f_letters, f_maxLength, f_maxWords, (nI fh), (nI us), f_root, da, f_imageSize, f_formLength, nI T, (nN ac), (nN ch), (nN rf), (nN wd), (nN sl), (nN nx), (nN bk), dr, a_symbol, a_path, a_stack, a_number, a_order, a_image, a_form, a_headOf, a_edge, a_level, a_imageWords, a_entered, a_plan, bu)) :
    wpX_buildImage post (f_letters, f_maxLength, f_maxWords, (nI fh0), (nI us0), f_root, f_draftAccept, f_imageSize, f_formLength, nI T, (nN ac0), (nN ch0), (nN rf0), (nN wd0), (nN sl0), (nN nx0), (nN bk0), a_draft, a_symbol, a_path, a_stack, a_number, a_order, a_image, a_form, a_headOf, a_edge, a_level, a_imageWords, a_entered, a_plan, a_built) := by
  refine ⟨pl.length + 1, ub_2 (rt := rt) (ac0 := ac0) (ch0 := ch0) (al0 := al0) C h61 hT hL hK him hA hpn hpl (fun fh us ac ch rf wd sl nx bk al fl bt bu dr da V => ?_) pl [] rfl fh0 us0 ac0 ch0 rf0 wd0 sl0 nx0 bk0 al0 fl0 (fun _ => 0) a_built _ _ ⟨R.1, fun m _ => ⟨rfl, fun _ _ => rfl⟩, fun m hm => hm, by simp, R.2.2.1, fun s hs => absurd hs List.not_mem_nil, fun m hm hz => absurd hz (R.2.1 m hm)⟩⟩
  obtain ⟨I, v2, v3, v4, v5, v6, v7⟩ := V
  have h0 : 0 ∈ pl := (C.2.2.2.2.1 0).mpr C.2.1
  obtain ⟨w1, w2, w3, w4⟩ := v6 0 h0
  have hl0 := (C.2.2.2.2.2.2.1 0 C.2.1).1
  rw [w1]
  refine Kp _ _ _ _ _ _ _ _ _ al fl (bt 0) bu dr da I v2 v3 v5 w2 (fun v hv hz => ?_) w4 (fun m hm hz => ?_)
  · have := w3 v hv hz
    exact ⟨by have := this.1; omega, this.2⟩
  · obtain ⟨s, s1, s2, s3⟩ := v7 m hm hz
    by_cases z : s = 0
    · rw [← s2, z]
    · exfalso
      have hsT := (C.2.2.2.2.1 s).mp s1
      obtain ⟨t, ht, d, hd, e⟩ := C.2.2.2.2.2.2.2 s (by omega) hsT
      exact s3 t ((C.2.2.2.2.1 t).mpr ht) d hd e
end UB
end
section
/-! X: formIsImage, unpack -/
def ui_eq (F : List Nat) (im : Nat → Nat) (n : Nat) : Prop := F.length = n ∧ ∀ i, i < n → F.getD i 0 = im i
theorem ui_Fb {c : List Nat → Bool} (hD : (fo_D c).length ≤ 1000) : ∀ i, (fo_F c).getD i 0 ≤ 1031 := by
  have ixl : ∀ (x : List (List Nat)) (D : List (List (List Nat))), dd_ix x D ≤ D.length := by
    intro x D
    induction D with
    | nil => exact Nat.le_refl _
    | cons y D ih => rw [dd_ix]; split <;> simp <;> omega
  have hall : ∀ x, x ∈ fo_F c → x ≤ 1031 := by
    intro x hx
    rw [fo_F] at hx
    obtain ⟨k, _, hk⟩ := List.mem_flatMap.mp hx
    rw [fo_bl] at hk
    rcases List.mem_cons.mp hk with e | hk
    · rw [e, fo_h]
      have : fo_ac k ≤ 1 := by rw [fo_ac]; split <;> omega
      repeat' split
      all_goals omega
    · rw [fo_ts] at hk
      obtain ⟨d, _, e⟩ := List.mem_map.mp hk
      have := ixl (fo_dv d k) (fo_D c)
      omega
  intro i
  rw [List.getD_eq_getElem?_getD]
  cases h : (fo_F c)[i]? with
  | none => simp
  | some x => exact hall x (List.mem_of_getElem? h)
def ui_Chk (L K N n : Nat) (im : Nat → Nat) : Prop := ∃ T hgt ws, 1 ≤ T ∧ ui_S L n im T ∧ ui_GF T K N im hgt ws ∧ ∀ s, 1 ≤ s → s < T → ∃ t, t < T ∧ ∃ d, d < 4 ∧ ui_ue im t d = s + 1
theorem ul_all {T : Nat} {pl : List Nat} (hn : pl.Nodup) (h : ∀ t, t ∈ pl → t < T) (hl : pl.length = T) : ∀ s, s < T → s ∈ pl := by
  intro s hs
  apply Classical.byContradiction
  intro z
  have nd : (s :: pl).Nodup := List.nodup_cons.mpr ⟨z, hn⟩
  have := nd.length_le_of_subset (l₂ := List.range T) (fun m hm => List.mem_range.mpr (by
    rcases List.mem_cons.mp hm with e | e
    · rw [e]; exact hs
    · exact h m e))
  rw [List.length_range, List.length_cons] at this
  omega
section UX
variable {f_letters f_maxLength f_maxWords f_freeHead f_used f_root f_draftAccept f_imageSize f_formLength f_planned : Int32} {a_accept a_child a_refs a_words a_slot a_next a_bucket a_draft a_symbol a_path a_stack a_number a_order a_image a_form a_headOf a_edge a_level a_imageWords a_entered a_plan a_built : Nat → Int32}
variable {L K N n rt fh us : Nat} {im : Nat → Nat} {ac ch rf wd sl nx bk : Nat → Nat} {al fl : List Nat}
theorem uf_15 {post : Int32 → Prop} {F : List Nat} (hF : F.length ≤ 128) (hFn : F.length = n) (hf : xs_h a_form F) (hb : ∀ i, F.getD i 0 ≤ 1031) (him : ∀ j, im j ≤ 127) (K1 : (∀ i, i < F.length → F.getD i 0 = im i) → post 1) (K0 : ∀ i, i < F.length → F.getD i 0 ≠ im i → post 0) :
    ∀ (j i : Nat), i + j = F.length → (∀ e, e < i → F.getD e 0 = im e) → wX_formIsImage_15 post f_letters f_maxLength f_maxWords f_freeHead f_used f_root f_draftAccept (nI n) (nI F.length) f_planned a_accept a_child a_refs a_words a_slot a_next a_bucket a_draft a_symbol a_path a_stack a_number a_order (nN im) a_form a_headOf a_edge a_level a_imageWords a_entered a_plan a_built (j + 1) (nI i) := by
  intro j
  induction j with
  | zero =>
    intro i hi h
    have : i = F.length := by omega
    subst this
    exact pk_le F.length F.length (fun _ => K1 h) (fun z => absurd z (by omega))
  | succ j ih =>
    intro i hi h
    have iv : vp_in (nI i) 128 := vp_in_nI (by omega) (by omega)
    have ei : (nI i).toNatClampNeg = i := nI_clamp (by omega)
    have := hb i
    have := him i
    refine pk_le F.length i (fun z => absurd z (by omega)) (fun _ => And.intro iv (And.intro iv ?_))
    refine pk_eq (F.getD i 0) (im i) (fun z => nm_r (nI_1 i) (ih (i + 1) (by omega) (fun e he => ?_))) (fun z => K0 i (by omega) z) (by rw [ei, hf i (by omega)]) (by rw [ei]; rfl)
    by_cases y : e = i
    · rw [y]; exact z
    · exact h e (by omega)
theorem uf_fi {post : Int32 → Prop} {F : List Nat} (hF : F.length ≤ 128) (hn : n ≤ 128) (hf : xs_h a_form F) (hb : ∀ i, F.getD i 0 ≤ 1031) (him : ∀ j, im j ≤ 127) (K1 : ui_eq F im n → post 1) (K0 : ¬ ui_eq F im n → post 0) : wpX_formIsImage post (f_letters, f_maxLength, f_maxWords, f_freeHead, f_used, f_root, f_draftAccept, nI n, nI F.length, f_planned, a_accept, a_child, a_refs, a_words, a_slot, a_next, a_bucket, a_draft, a_symbol, a_path, a_stack, a_number, a_order, nN im, a_form, a_headOf, a_edge, a_level, a_imageWords, a_entered, a_plan, a_built) := by
  refine pk_eq F.length n (fun z => ⟨F.length + 1, ?_⟩) (fun z => K0 (fun h => z h.1))
  exact uf_15 hF z hf hb him (fun h => K1 ⟨z, fun i hi => h i (by omega)⟩) (fun i hi h => K0 (fun y => h (y.2 i (by omega)))) F.length 0 (by omega) (fun e he => by omega)
theorem ux_unpack {post : Int32 → SX → Prop} (R : xs_R L K fh us ac ch rf wd sl nx bk al fl rt) (h61 : al.length ≤ 61) (hL2 : 2 ≤ L) (hL : L ≤ 4) (hK : K ≤ 5) (hN : N ≤ 12) (him : ∀ j, im j ≤ 127) (hn : n ≤ 128)
    (K0 : ¬ ui_Chk L K N n im → ∀ pln hd ed le iw en pn, post (-1) (nI L, nI K, nI N, (nI fh), (nI us), nI rt, f_draftAccept, nI n, f_formLength, pln, (nN ac), (nN ch), (nN rf), (nN wd), (nN sl), (nN nx), (nN bk), a_draft, a_symbol, a_path, a_stack, a_number, a_order, nN im, a_form, hd, ed, le, iw, en, pn, a_built))
    (K1 : ∀ fh' us' ac' ch' rf' wd' sl' nx' bk' al' fl' r T pl lv w pln da fL dr sk nu od fo hd ed le iw en pn bu, xs_R L K fh' us' ac' ch' rf' wd' sl' nx' bk' al' fl' r → (∀ v, wd_dig v → gr_M ac' ch' r v = gr_M (ui_ac im) (ui_ch im) 1 v) → ui_C T L K N n im pl lv w → (∀ v, wd_dig v → gr_M (ui_ac im) (ui_ch im) 1 v = true → wd_ok L K v) → ui_eq (fo_F (gr_M ac' ch' r)) im n → post 1 (nI L, nI K, nI N, (nI fh'), (nI us'), nI r, da, nI n, fL, pln, (nN ac'), (nN ch'), (nN rf'), (nN wd'), (nN sl'), (nN nx'), (nN bk'), dr, a_symbol, a_path, sk, nu, od, nN im, fo, hd, ed, le, iw, en, pn, bu))
    (K2 : ∀ fh' us' ac' ch' rf' wd' sl' nx' bk' al' fl' T pl lv w pln da fL dr sk nu od fo hd ed le iw en pn bu, xs_R L K fh' us' ac' ch' rf' wd' sl' nx' bk' al' fl' rt → (∀ v, wd_dig v → gr_M ac' ch' rt v = gr_M ac ch rt v) → ui_C T L K N n im pl lv w → (∀ v, wd_dig v → gr_M (ui_ac im) (ui_ch im) 1 v = true → wd_ok L K v) → (∀ c : List Nat → Bool, (∀ v, wd_dig v → c v = gr_M (ui_ac im) (ui_ch im) 1 v) → ¬ ui_eq (fo_F c) im n) → post (-1) (nI L, nI K, nI N, (nI fh'), (nI us'), nI rt, da, nI n, fL, pln, (nN ac'), (nN ch'), (nN rf'), (nN wd'), (nN sl'), (nN nx'), (nN bk'), dr, a_symbol, a_path, sk, nu, od, nN im, fo, hd, ed, le, iw, en, pn, bu)) :
    wpX_unpack post (nI L, nI K, nI N, (nI fh), (nI us), nI rt, f_draftAccept, nI n, f_formLength, f_planned, (nN ac), (nN ch), (nN rf), (nN wd), (nN sl), (nN nx), (nN bk), a_draft, a_symbol, a_path, a_stack, a_number, a_order, nN im, a_form, a_headOf, a_edge, a_level, a_imageWords, a_entered, a_plan, a_built) := by
  have uniq : ∀ T T', ui_S L n im T → ui_S L n im T' → T = T' := fun T T' h h' => ui_ps_inj im (by rw [h.1, h'.1])
  have G0 := xs_G R
  unfold wpX_unpack
  refine us_scan hL2 hL him hn (fun T hd ed hT S A => ?_) (fun hno hd ed => br_t rfl (K0 (fun ⟨T, _, _, _, h, _⟩ => hno T h) _ hd ed _ _ _ _))
  refine pk_eq T 0 (fun z => K0 (fun ⟨T', _, _, h1, h2, _⟩ => ?_) _ hd ed _ _ _ _) (fun z => ?_)
  · have := uniq T T' S h2; omega
  obtain ⟨hgt, ws, hG⟩ : ∃ hgt ws, (∃ h w, ui_GF T K N im h w) → ui_GF T K N im hgt ws := by
    by_cases c : ∃ h w, ui_GF T K N im h w
    · obtain ⟨h, w, g⟩ := c; exact ⟨h, w, fun _ => g⟩
    · exact ⟨fun _ => 0, fun _ => 0, fun y => absurd y c⟩
  refine ul_layer (hgt := hgt) (ws := ws) hT hK hN him A (fun pl lv w le iw en pn hpl I UA => br_f (by decide) ?_) (fun hno pln le iw en pn => br_t rfl (K0 (fun ⟨T', h, w, h1, h2, h3, h4⟩ => hno (hG ⟨h, w, ?_⟩)) pln hd ed le iw en pn))
  · have hall := ul_all I.1 I.2.1 hpl
    refine ul_ae hT (fun hen => br_f (by decide) ?_) (fun s g1 g2 g3 => br_t rfl (K0 (fun ⟨T', h, w', h1, h2, h3, h4⟩ => ?_) _ hd ed le iw en pn))
    · have par : ∀ s, 1 ≤ s → s < T → ∃ t, t < T ∧ ∃ d, d < 4 ∧ ui_ue im t d = s + 1 := by
        intro s g1 g2
        apply Classical.byContradiction
        intro hno
        refine hen s g1 g2 ((UA.2.2.2 s (by omega)).2 (fun ⟨t, ht, q⟩ => hno ⟨t, I.2.1 t ht, q⟩))
      have C : ui_C T L K N n im pl lv w := ui_C_mk S (by omega) hT hpl I par
      obtain ⟨cn, c61⟩ := ui_cnt C hL hK hN
      refine ub_build R C h61 c61 hL hK him A UA.2.2.1 hpl (fun fh' us' ac' ch' rf' wd' sl' nx' bk' al' fl' r bu dr da I' v2 v3 v5 hr okr Mr rz => ?_)
      have G' := I'.2.2.2.2.2.2.2.1
      have hrl := (po_lt I' hr).1
      have I2 := po_retain (rf' := po_rt rf' r) (ex' := fun m => (if m = rt then 1 else 0) + if m = r then 1 else 0) I' hr (fun m hm => po_rt_at hm) (fun m => rfl)
      have hdr : gr_dep ch' r 5 := by
        rcases hr with y | y
        · rw [y]; exact gr_dep_z G' 5
        · exact v5 r y
      have hwd : wd' r ≤ 12 := by
        rw [gr_cnt G' 5 r hr hdr]
        have : (wd_U 5).filter (gr_M ac' ch' r) = (wd_U 5).filter (gr_M (ui_ac im) (ui_ch im) 1) := List.filter_congr (fun v hv => Mr v ((wd_mem 5 v).mp hv).2)
        rw [this]; omega
      have hall2 : ∀ m, m ∈ al' → po_rt rf' r m ≠ 0 := by
        intro m hm y
        rw [po_rt_at (G'.2 m hm).1] at y
        have := rz m hm (by omega)
        rw [if_pos this] at y; omega
      have hex2 : ∀ m, (fun m => (if m = rt then 1 else 0) + if m = r then 1 else 0) m ≤ 4 := by
        intro m
        show (if m = rt then 1 else 0) + (if m = r then 1 else 0) ≤ 4
        repeat' split
        all_goals omega
      have hrt : rt = 0 ∨ rt ∈ al' := R.2.2.2.1.imp id (fun h => v3 _ h)
      have hok : ∀ v, wd_dig v → gr_M (ui_ac im) (ui_ch im) 1 v = true → wd_ok L K v := by
        intro v hv hM
        rw [← Mr v hv] at hM
        refine okr v hv (fun y => ?_)
        rw [gr_M, y, G'.1.1] at hM
        cases hM
      have hDl : (fo_D (gr_M ac' ch' r)).length ≤ 1000 := by
        rw [← gr_or_D G' I'.2.2.2.2.2.2.2.2.1 v5 hr, List.length_map]
        have := (xp_or I' v5 hr).2.1
        omega
      refine xw_retain rfl hrl (xp_wf rfl I2 v5 hr hwd (fun nu od sk fo h121 hfo => ?_))
      refine uf_fi (by omega) hn hfo (ui_Fb hDl) him (fun heq => br_f (by decide) ?_) (fun hne => br_t rfl ?_)
      · refine xr_rel (n := rt) rfl I2 hall2 ?_ hex2 (fun fh2 us2 rf2 nx2 bk2 al2 fl2 st2 I3 q1 q2 => ?_)
        · rcases hrt with y | y
          · exact Or.inl y
          · refine Or.inr ⟨y, ?_⟩
            show 1 ≤ (if rt = rt then 1 else 0) + (if rt = r then 1 else 0)
            rw [if_pos rfl]; omega
        · have I4 : po_I fh2 us2 ac' ch' rf2 wd' sl' nx2 bk2 al2 fl2 (fun m => if m = r then 1 else 0) := po_ex I3 (fun m hm => by
            show (if m = r then 1 else 0) = (if m = rt then 1 else 0) + (if m = r then 1 else 0) - if m = rt then 1 else 0
            omega) (fun m hm => by
            refine I3.2.2.2.2.2.2.2.2.2.2 m (fun y => hm ?_)
            have y2 : (if m = rt then 1 else 0) + (if m = r then 1 else 0) - (if m = rt then 1 else 0) = 0 := y
            show (if m = r then 1 else 0) = 0
            omega)
          have hr2 : r = 0 ∨ r ∈ al2 := I4.2.2.2.2.2.2.2.2.2.2 r (by simp)
          exact K1 _ _ _ _ _ _ _ _ _ al2 fl2 r T pl lv w _ _ _ _ _ _ _ _ hd ed le iw en pn bu ⟨I4, q1, fun m hm => v5 m (q2 m hm), hr2, okr⟩ Mr C hok heq
      · refine xr_rel (n := r) rfl I2 hall2 ?_ hex2 (fun fh2 us2 rf2 nx2 bk2 al2 fl2 st2 I3 q1 q2 => ?_)
        · rcases hr with y | y
          · exact Or.inl y
          · refine Or.inr ⟨y, ?_⟩
            show 1 ≤ (if r = rt then 1 else 0) + (if r = r then 1 else 0)
            rw [if_pos (rfl : r = r)]; omega
        · have I4 : po_I fh2 us2 ac' ch' rf2 wd' sl' nx2 bk2 al2 fl2 (fun m => if m = rt then 1 else 0) := po_ex I3 (fun m hm => by
            show (if m = rt then 1 else 0) = (if m = rt then 1 else 0) + (if m = r then 1 else 0) - if m = r then 1 else 0
            omega) (fun m hm => by
            refine I3.2.2.2.2.2.2.2.2.2.2 m (fun y => hm ?_)
            have y2 : (if m = rt then 1 else 0) + (if m = r then 1 else 0) - (if m = r then 1 else 0) = 0 := y
            show (if m = rt then 1 else 0) = 0
            omega)
          have hr2 : rt = 0 ∨ rt ∈ al2 := I4.2.2.2.2.2.2.2.2.2.2 rt (by simp)
          refine K2 _ _ _ _ _ _ _ _ _ al2 fl2 T pl lv w _ _ _ _ _ _ _ _ hd ed le iw en pn bu ⟨I4, q1, fun m hm => v5 m (q2 m hm), hr2, gr_ok_frame G0 (fun m hm => (v2 m hm).2) R.2.2.2.1 R.2.2.2.2⟩ (fun v hv => gr_frameM G0 (fun m hm => (v2 m hm).2) (fun m hm => (v2 m hm).1) R.2.2.2.1 hv) C hok (fun c hc he => hne ?_)
          rw [fo_F_congr (c := gr_M ac' ch' r) (c' := c) (fun v hv => by rw [Mr v hv, hc v hv])]
          exact he
    · have hTT := uniq T T' S h2
      subst hTT
      obtain ⟨t, ht, d, hd2, e⟩ := h4 s g1 g2
      have := (UA.2.2.2 s (by omega)).1 ⟨t, hall t ht, d, hd2, e⟩
      rw [this] at g3
      exact absurd g3 (by decide)
  · rw [uniq T T' S h2]; exact h3
end UX
end
section
/-! the canonical form passes the checks -/
theorem ud_rind {α : Type} {P : List α → Prop} (h0 : P []) (hs : ∀ l d, P l → P (l ++ [d])) : ∀ l, P l := by
  intro l
  have h : ∀ m : List α, P m.reverse := by
    intro m
    induction m with
    | nil => exact h0
    | cons d m ih => rw [List.reverse_cons]; exact hs _ _ ih
  have := h l.reverse
  rwa [List.reverse_reverse] at this
theorem ud_bt {a : Nat} (ha : a ≤ 1) (b : Nat → Bool) : (∀ d, d < 4 → ui_bt (fo_h a b) d = if b d = true then 1 else 0) ∧ fo_h a b % 2 = a ∧ (fo_h a b = 0 → a = 0 ∧ ∀ d, d < 4 → b d = false) := by
  refine ⟨?_, ?_, ?_⟩
  · intro d hd
    have : d = 0 ∨ d = 1 ∨ d = 2 ∨ d = 3 := by omega
    rcases this with rfl | rfl | rfl | rfl <;> simp only [ui_bt, fo_h] <;> cases b 0 <;> cases b 1 <;> cases b 2 <;> cases b 3 <;> simp <;> omega
  · simp only [fo_h]
    cases b 0 <;> cases b 1 <;> cases b 2 <;> cases b 3 <;> simp <;> omega
  · intro h
    rw [fo_h] at h
    refine ⟨by omega, fun d hd => ?_⟩
    have : d = 0 ∨ d = 1 ∨ d = 2 ∨ d = 3 := by omega
    rcases this with rfl | rfl | rfl | rfl
    · cases e : b 0
      · rfl
      · rw [if_pos e] at h; omega
    · cases e : b 1
      · rfl
      · rw [if_pos e] at h; omega
    · cases e : b 2
      · rfl
      · rw [if_pos e] at h; omega
    · cases e : b 3
      · rfl
      · rw [if_pos e] at h; omega
theorem ud_sp {a : Nat} (ha : a ≤ 1) (b : Nat → Bool) (t : Nat → Nat) : ui_sp (fo_h a b) 4 = (fo_ts b t).length ∧ ∀ d, d < 4 → b d = true → ui_sp (fo_h a b) d < (fo_ts b t).length ∧ (fo_ts b t).getD (ui_sp (fo_h a b) d) 0 = t d := by
  obtain ⟨h1, _, _⟩ := ud_bt ha b
  have e0 := h1 0 (by omega)
  have e1 := h1 1 (by omega)
  have e2 := h1 2 (by omega)
  have e3 := h1 3 (by omega)
  have s1 : ui_sp (fo_h a b) 1 = if b 0 = true then 1 else 0 := by simp only [ui_sp, e0]; omega
  have s2 : ui_sp (fo_h a b) 2 = (if b 0 = true then 1 else 0) + if b 1 = true then 1 else 0 := by rw [ui_sp, s1, e1]
  have s3 : ui_sp (fo_h a b) 3 = (if b 0 = true then 1 else 0) + (if b 1 = true then 1 else 0) + if b 2 = true then 1 else 0 := by rw [ui_sp, s2, e2]
  have s4 : ui_sp (fo_h a b) 4 = (if b 0 = true then 1 else 0) + (if b 1 = true then 1 else 0) + (if b 2 = true then 1 else 0) + if b 3 = true then 1 else 0 := by rw [ui_sp, s3, e3]
  rw [fo_ts_e]
  refine ⟨?_, fun d hd hb => ?_⟩
  · rw [s4]
    cases b 0 <;> cases b 1 <;> cases b 2 <;> cases b 3 <;> simp
  · have : d = 0 ∨ d = 1 ∨ d = 2 ∨ d = 3 := by omega
    rcases this with rfl | rfl | rfl | rfl
    · rw [hb]; simp [ui_sp]
    · rw [s1, hb]
      cases b 0 <;> simp
    · rw [s2, hb]
      cases b 0 <;> cases b 1 <;> simp
    · rw [s3, hb]
      cases b 0 <;> cases b 1 <;> cases b 2 <;> simp
def ud_h (k : List (List Nat)) : Nat := k.foldr (fun v m => if v.length ≤ m then m else v.length) 0
theorem ud_h_ge : ∀ (k : List (List Nat)) (v : List Nat), v ∈ k → v.length ≤ ud_h k := by
  intro k
  induction k with
  | nil => intro v h; exact absurd h List.not_mem_nil
  | cons a k ih =>
    intro v h
    have e : ud_h (a :: k) = if a.length ≤ ud_h k then ud_h k else a.length := rfl
    rw [e]
    rcases List.mem_cons.mp h with rfl | h
    · split <;> omega
    · have := ih v h
      split <;> omega
theorem ud_h_at : ∀ (k : List (List Nat)), k ≠ [] → ∃ v, v ∈ k ∧ v.length = ud_h k := by
  intro k
  induction k with
  | nil => intro h; exact absurd rfl h
  | cons a k ih =>
    intro _
    have e : ud_h (a :: k) = if a.length ≤ ud_h k then ud_h k else a.length := rfl
    rw [e]
    by_cases z : a.length ≤ ud_h k
    · rw [if_pos z]
      by_cases y : k = []
      · rw [y] at z ⊢
        exact ⟨a, List.mem_cons_self, by have : ud_h [] = 0 := rfl; omega⟩
      · obtain ⟨v, h1, h2⟩ := ih y
        exact ⟨v, List.mem_cons_of_mem _ h1, h2⟩
    · rw [if_neg z]; exact ⟨a, List.mem_cons_self, rfl⟩
theorem ud_Ff (g : List Nat → Bool) (k : Nat) : (wd_U (k + 1)).filter g = (if g [] = true then [[]] else []) ++ ([0, 1, 2, 3] : List Nat).flatMap (fun d => ((wd_U k).filter (fun t => g (d :: t))).map (fun t => d :: t)) := by
  rw [wd_U, List.filter_cons, List.filter_flatMap]
  have e2 : (fun d => ((wd_U k).map (fun t => d :: t)).filter g) = (fun d => ((wd_U k).filter (fun t => g (d :: t))).map (fun t => d :: t)) := by
    funext d
    rw [List.filter_map]
    rfl
  rw [e2]
  by_cases h : g [] = true
  · rw [if_pos h, if_pos h]; rfl
  · rw [if_neg h, if_neg h]; rfl
theorem ud_len {c : List Nat → Bool} (hc : wd_sup c) {p : List Nat} (hp : wd_dig p) : (wd_fu c p).length = fo_ac (wd_fu c p) + (fo_dv 0 (wd_fu c p)).length + (fo_dv 1 (wd_fu c p)).length + (fo_dv 2 (wd_fu c p)).length + (fo_dv 3 (wd_fu c p)).length := by
  have hd : ∀ d, d < 4 → ((wd_U 4).filter (fun t => c (p ++ d :: t))).length = (fo_dv d (wd_fu c p)).length := by
    intro d hd
    refine List.Perm.length_eq ((List.perm_ext_iff_of_nodup ((wd_nodup 4).filter _) ((wd_nodup 5).filter _)).mpr (fun t => ?_))
    rw [List.mem_filter, List.mem_filter, wd_mem, wd_mem, decide_eq_true_eq, wd_fu_mem hc hp]
    constructor
    · rintro ⟨⟨h1, h2⟩, h3⟩
      exact ⟨⟨by omega, h2⟩, wd_dig_cons.mpr ⟨hd, h2⟩, h3⟩
    · rintro ⟨⟨_, h2⟩, h3, h4⟩
      have := hc _ (wd_dig_app.mpr ⟨hp, h3⟩) h4
      rw [List.length_append, List.length_cons] at this
      exact ⟨⟨by omega, h2⟩, h4⟩
  have e : wd_fu c p = (if c (p ++ []) = true then [[]] else []) ++ ([0, 1, 2, 3] : List Nat).flatMap (fun d => ((wd_U 4).filter (fun t => c (p ++ d :: t))).map (fun t => d :: t)) := ud_Ff (fun v => c (p ++ v)) 4
  have ea := fo_ac_fu hc hp
  have el : (wd_fu c p).length = fo_ac (wd_fu c p) + ((wd_U 4).filter (fun t => c (p ++ 0 :: t))).length + ((wd_U 4).filter (fun t => c (p ++ 1 :: t))).length + ((wd_U 4).filter (fun t => c (p ++ 2 :: t))).length + ((wd_U 4).filter (fun t => c (p ++ 3 :: t))).length := by
    rw [ea]
    conv => lhs; rw [e]
    rw [List.length_append, gr_flen, List.append_nil]
    simp only [List.length_map]
    by_cases z : c p = true
    · rw [if_pos z, if_pos z, List.length_singleton]; omega
    · rw [if_neg z, if_neg z, List.length_nil]; omega
  rw [hd 0 (by omega), hd 1 (by omega), hd 2 (by omega), hd 3 (by omega)] at el
  exact el
section UD
variable {L K N n : Nat} {im : Nat → Nat} {wl : List Nat}
theorem ud_D {c : List Nat → Bool} {k : List (List Nat)} : k ∈ fo_D c ↔ ∃ p, p ∈ wd_P c ∧ wd_fu c p = k := by
  rw [fo_D, dd_mem]
  constructor
  · rintro (h | h)
    · exact absurd h List.not_mem_nil
    · obtain ⟨p, h1, h2⟩ := List.mem_map.mp h
      exact ⟨p, h1, h2⟩
  · rintro ⟨p, h1, h2⟩
    exact Or.inr (List.mem_map.mpr ⟨p, h1, h2⟩)
theorem ud_get {F A B : List Nat} {i : Nat} {C : List Nat} (h : F = A ++ B ++ C) (hi : i < B.length) : F.getD (A.length + i) 0 = B.getD i 0 := by
  rw [h, List.append_assoc, List.getD_eq_getElem?_getD, List.getD_eq_getElem?_getD, List.getElem?_append_right (by omega), show A.length + i - A.length = i by omega, List.getElem?_append_left hi]
theorem ud_ps {c : List Nat → Bool} (he : ui_eq (fo_F c) im n) : ∀ a b, fo_D c = a ++ b → ui_ps im a.length = (a.flatMap (fo_bl (fo_D c))).length ∧ (∀ k b', b = k :: b' → ui_hd im a.length = fo_h (fo_ac k) (fo_b k) ∧ ∀ d, d < 4 → ui_ue im a.length d = if fo_b k d = true then dd_ix (fo_dv d k) (fo_D c) + 1 else 0) := by
  have acl : ∀ k, fo_ac k ≤ 1 := fun k => by rw [fo_ac]; split <;> omega
  have second : ∀ a b, fo_D c = a ++ b → ui_ps im a.length = (a.flatMap (fo_bl (fo_D c))).length → (∀ k b', b = k :: b' → ui_hd im a.length = fo_h (fo_ac k) (fo_b k) ∧ ∀ d, d < 4 → ui_ue im a.length d = if fo_b k d = true then dd_ix (fo_dv d k) (fo_D c) + 1 else 0) := by
    intro a b e hps k b' eb
    have eF : fo_F c = a.flatMap (fo_bl (fo_D c)) ++ fo_bl (fo_D c) k ++ b'.flatMap (fo_bl (fo_D c)) := by
      have h2 : fo_D c = a ++ [k] ++ b' := by rw [e, eb]; simp
      have h3 : ∀ (Dl : List (List (List Nat))), fo_D c = Dl → Dl = a ++ [k] ++ b' → Dl.flatMap (fo_bl (fo_D c)) = a.flatMap (fo_bl (fo_D c)) ++ fo_bl (fo_D c) k ++ b'.flatMap (fo_bl (fo_D c)) := by
        intro Dl _ h4
        rw [h4, List.flatMap_append, List.flatMap_append]; simp
      rw [fo_F]; exact h3 _ rfl h2
    obtain ⟨sp1, sp2⟩ := ud_sp (acl k) (fo_b k) (fun d => dd_ix (fo_dv d k) (fo_D c))
    have hlen : (a.flatMap (fo_bl (fo_D c))).length + (1 + (fo_ts (fo_b k) (fun d => dd_ix (fo_dv d k) (fo_D c))).length) ≤ n := by
      rw [← he.1, eF, List.length_append, List.length_append, fo_bl, List.length_cons]; omega
    have hbl : (fo_bl (fo_D c) k).length = 1 + (fo_ts (fo_b k) (fun d => dd_ix (fo_dv d k) (fo_D c))).length := by
      rw [fo_bl, List.length_cons]; omega
    have eh : ui_hd im a.length = fo_h (fo_ac k) (fo_b k) := by
      rw [ui_hd, hps, ← he.2 _ (by omega)]
      have := ud_get (i := 0) eF (by omega)
      rw [Nat.add_zero] at this
      rw [this, fo_bl]; rfl
    refine ⟨eh, fun d hd => ?_⟩
    rw [ui_ue, eh, (ud_bt (acl k) (fo_b k)).1 d hd]
    by_cases z : fo_b k d = true
    · obtain ⟨q1, q2⟩ := sp2 d hd z
      rw [if_pos z, if_neg (by omega), if_pos z]
      congr 1
      rw [hps, ← he.2 _ (by omega), Nat.add_assoc]
      have := ud_get (i := 1 + ui_sp (fo_h (fo_ac k) (fo_b k)) d) eF (by omega)
      rw [this, fo_bl, Nat.add_comm 1, List.getD_cons_succ]
      exact q2
    · rw [if_neg z, if_pos rfl, if_neg z]
  have first : ∀ a b, fo_D c = a ++ b → ui_ps im a.length = (a.flatMap (fo_bl (fo_D c))).length := by
    refine ud_rind (P := fun a => ∀ b, fo_D c = a ++ b → ui_ps im a.length = (a.flatMap (fo_bl (fo_D c))).length) (fun _ _ => rfl) ?_
    intro a k ih b e
    have e2 : fo_D c = a ++ k :: b := by rw [e]; simp
    have h1 := ih (k :: b) e2
    have h2 := (second a (k :: b) e2 h1 k b rfl).1
    rw [List.length_append, List.length_singleton, ui_ps, List.flatMap_append, List.length_append]
    have h3 : ui_sp (im (ui_ps im a.length)) 4 = (fo_ts (fo_b k) (fun d => dd_ix (fo_dv d k) (fo_D c))).length := by
      have : im (ui_ps im a.length) = fo_h (fo_ac k) (fo_b k) := h2
      rw [this]; exact (ud_sp (acl k) (fo_b k) _).1
    rw [h3, h1]
    simp only [List.flatMap_cons, List.flatMap_nil, List.append_nil, fo_bl, List.length_cons]
    omega
  intro a b e
  exact ⟨first a b e, second a b e (first a b e)⟩
theorem ud_split {α : Type} {D : List α} {s : Nat} (h : s < D.length) : ∃ a k b, D = a ++ k :: b ∧ a.length = s ∧ D[s]? = some k := by
  refine ⟨D.take s, D[s], D.drop (s + 1), ?_, by simp; omega, List.getElem?_eq_getElem h⟩
  rw [← List.drop_eq_getElem_cons h, List.take_append_drop]
theorem ud_chk (hwK : ∀ w, w ∈ wl → ∃ l, wd_ok L K l ∧ wd_enc l = w) (hwN : wl.length ≤ N) (hL2 : 2 ≤ L) (hL : L ≤ 4) (hK : K ≤ 5) (he : ui_eq (fo_F (ya_c wl)) im n) : ui_Chk L K N n im := by
  have hwL : yo_L L wl := fun w hw => by
    obtain ⟨l, hl, e⟩ := hwK w hw
    exact ⟨l, wd_ok_dig hL hl, Nat.le_trans hl.1 hK, hl.2, e⟩
  have hwl := yo_L_wl hwL
  have hs := ya_sup hwl
  have acl : ∀ k, fo_ac k ≤ 1 := fun k => by rw [fo_ac]; split <;> omega
  have nd : (fo_D (ya_c wl)).Nodup := dd_nodup _ _ (by simp)
  have word : ∀ p, wd_dig p → ya_c wl p = true → p.length ≤ K := by
    intro p hp hc
    obtain ⟨l, hl, e⟩ := hwK _ (of_decide_eq_true hc)
    rw [← wd_enc_inj (wd_ok_dig hL hl) hp e]; exact hl.1
  have Pd : ∀ p, p ∈ wd_P (ya_c wl) → wd_dig p := fun p hp => (ya_P_mem hwl hp).1
  have D0 : ∃ t, fo_D (ya_c wl) = wd_fu (ya_c wl) [] :: t := by
    obtain ⟨t, ht⟩ := wd_P_head (ya_c wl)
    rw [fo_D, ht, List.map_cons, dd_cons, dd_in, if_neg List.not_mem_nil]
    obtain ⟨s, hs⟩ := dd_pre (t.map (wd_fu (ya_c wl))) ([] ++ [wd_fu (ya_c wl) []])
    exact ⟨s, by rw [hs]; rfl⟩
  have getk : ∀ s k, (fo_D (ya_c wl))[s]? = some k → (fo_D (ya_c wl)).getD s [] = k := fun s k h => by rw [List.getD_eq_getElem?_getD, h]; rfl
  have info : ∀ s, s < (fo_D (ya_c wl)).length → ∃ p, p ∈ wd_P (ya_c wl) ∧ (fo_D (ya_c wl))[s]? = some (wd_fu (ya_c wl) p) ∧ ui_hd im s = fo_h (fo_ac (wd_fu (ya_c wl) p)) (fo_b (wd_fu (ya_c wl) p)) ∧ ∀ d, d < 4 → ui_ue im s d = if fo_b (wd_fu (ya_c wl) p) d = true then dd_ix (fo_dv d (wd_fu (ya_c wl) p)) (fo_D (ya_c wl)) + 1 else 0 := by
    intro s hsT
    obtain ⟨a, k, b, e1, e2, e3⟩ := ud_split hsT
    obtain ⟨p, hp, ep⟩ := ud_D.mp (List.mem_of_getElem? e3)
    obtain ⟨g1, g2⟩ := (ud_ps he a (k :: b) e1).2 k b rfl
    rw [e2] at g1 g2
    rw [← ep] at g1 g2 e3
    exact ⟨p, hp, e3, g1, g2⟩
  have bP : ∀ p, p ∈ wd_P (ya_c wl) → ∀ d, d < 4 → fo_b (wd_fu (ya_c wl) p) d = true → p ++ [d] ∈ wd_P (ya_c wl) ∧ fo_dv d (wd_fu (ya_c wl) p) = wd_fu (ya_c wl) (p ++ [d]) := by
    intro p hp d hd hb
    rw [fo_b_fu hs (Pd p hp) hd] at hb
    have hpd := wd_dig_app.mpr ⟨Pd p hp, wd_dig_one hd⟩
    exact ⟨(wd_P_mem hs).mpr ⟨hpd, (wd_lv_iff hs hpd).mp hb⟩, fo_dv_fu hs (Pd p hp) hd⟩
  refine ⟨(fo_D (ya_c wl)).length, fun s => ud_h ((fo_D (ya_c wl)).getD s []), fun s => ((fo_D (ya_c wl)).getD s []).length, ?_, ⟨?_, ?_⟩, ?_, ?_⟩
  · obtain ⟨t, ht⟩ := D0
    rw [ht, List.length_cons]; omega
  · rw [(ud_ps he (fo_D (ya_c wl)) [] (by simp)).1, ← he.1]; rfl
  · intro s hsT
    obtain ⟨p, hp, e3, eh, eu⟩ := info s hsT
    have hbL := yo_bL hwL (Pd p hp)
    rw [eh]
    refine ⟨?_, fun h0 => ?_⟩
    · have ha := acl (wd_fu (ya_c wl) p)
      rw [fo_h]
      have : L = 2 ∨ L = 3 ∨ L = 4 := by omega
      rcases this with rfl | rfl | rfl
      · rw [hbL 2 (by omega) (by omega), hbL 3 (by omega) (by omega)]
        simp only [Bool.false_eq_true, if_false]
        repeat' split
        all_goals omega
      · rw [hbL 3 (by omega) (by omega)]
        simp only [Bool.false_eq_true, if_false]
        repeat' split
        all_goals omega
      · repeat' split
        all_goals omega
    · obtain ⟨z1, z2⟩ := (ud_bt (acl (wd_fu (ya_c wl) p)) (fo_b (wd_fu (ya_c wl) p))).2.2 h0
      have kn : wd_fu (ya_c wl) p = [] := by
        apply List.eq_nil_iff_forall_not_mem.mpr
        intro v hv
        cases v with
        | nil =>
          rw [fo_ac, if_pos hv] at z1; omega
        | cons d t =>
          have hvd := (wd_fu_mem hs (Pd p hp)).mp hv
          have hd4 := (wd_dig_cons.mp hvd.1).1
          have ht := (wd_dig_cons.mp hvd.1).2
          have hlen := hs _ (wd_dig_app.mpr ⟨Pd p hp, hvd.1⟩) hvd.2
          rw [List.length_append, List.length_cons] at hlen
          have hb := z2 d hd4
          have hm : t ∈ fo_dv d (wd_fu (ya_c wl) p) := List.mem_filter.mpr ⟨(wd_mem 5 t).mpr ⟨by omega, ht⟩, decide_eq_true hv⟩
          have : (fo_dv d (wd_fu (ya_c wl) p)).isEmpty = false := wd_ne.mpr ⟨t, hm⟩
          rw [fo_b, this] at hb
          cases hb
      have noc : ∀ v, wd_dig v → ya_c wl v = true → False := by
        intro v hv hc
        have hp2 := (wd_P_mem hs).mp hp
        rcases hp2.2 with h | ⟨u, hu, hcu⟩
        · rw [h] at kn
          have := (wd_fu_mem hs wd_dig_nil).mpr ⟨hv, hc⟩
          rw [kn] at this; exact absurd this List.not_mem_nil
        · have := (wd_fu_mem hs (Pd p hp)).mpr ⟨hu, hcu⟩
          rw [kn] at this; exact absurd this List.not_mem_nil
      have hP1 : wd_P (ya_c wl) = [[]] := by
        obtain ⟨t, ht⟩ := wd_P_head (ya_c wl)
        cases t with
        | nil => exact ht
        | cons x t =>
          exfalso
          have hx : x ∈ wd_P (ya_c wl) := by rw [ht]; simp
          have hx2 := (wd_P_mem hs).mp hx
          rcases hx2.2 with h | ⟨u, hu, hcu⟩
          · have hnd := wd_P_nodup (ya_c wl)
            rw [ht, h, List.nodup_cons] at hnd
            exact hnd.1 List.mem_cons_self
          · exact noc _ (wd_dig_app.mpr ⟨hx2.1, hu⟩) hcu
      have hp0 : p = [] := by rw [hP1] at hp; simpa using hp
      have hD1 : fo_D (ya_c wl) = [wd_fu (ya_c wl) []] := by
        rw [fo_D, hP1, List.map_cons, List.map_nil, dd_cons, dd_nil, dd_in, if_neg List.not_mem_nil]; rfl
      have hFl : (fo_F (ya_c wl)).length = 1 := by
        have h3 : ∀ Dl : List (List (List Nat)), fo_D (ya_c wl) = Dl → Dl = [wd_fu (ya_c wl) []] → (Dl.flatMap (fo_bl (fo_D (ya_c wl)))).length = 1 := by
          intro Dl _ h4
          rw [h4]
          have hts : fo_ts (fo_b (wd_fu (ya_c wl) [])) (fun d => dd_ix (fo_dv d (wd_fu (ya_c wl) [])) (fo_D (ya_c wl))) = [] := by
            rw [hp0] at z2
            rw [fo_ts, List.map_eq_nil_iff, List.filter_eq_nil_iff]
            intro d hd
            rw [z2 d (wd_d4.mp hd)]; decide
          simp only [List.flatMap_cons, List.flatMap_nil, List.append_nil]
          rw [fo_bl, hts]; rfl
        rw [fo_F]; exact h3 _ rfl hD1
      rw [← he.1, hFl]; exact Nat.le_refl _
  · intro s hsT
    obtain ⟨p, hp, e3, eh, eu⟩ := info s hsT
    have hpd := Pd p hp
    have ek := getk s _ e3
    have ht : (wd_fu (ya_c wl) p).length ≤ wl.length := by
      have inj : ((wd_fu (ya_c wl) p).map (fun v => wd_enc (p ++ v))).Nodup := by
        have : ∀ m : List (List Nat), m.Nodup → (∀ x, x ∈ m → wd_dig x) → (m.map (fun v => wd_enc (p ++ v))).Nodup := by
          intro m hm hd
          induction m with
          | nil => simp
          | cons a m ih =>
            rw [List.nodup_cons] at hm
            rw [List.map_cons, List.nodup_cons]
            refine ⟨fun z => ?_, ih hm.2 (fun x hx => hd x (List.mem_cons_of_mem _ hx))⟩
            obtain ⟨b, hb, eb⟩ := List.mem_map.mp z
            have := wd_enc_inj (wd_dig_app.mpr ⟨hpd, hd b (List.mem_cons_of_mem _ hb)⟩) (wd_dig_app.mpr ⟨hpd, hd a List.mem_cons_self⟩) eb
            rw [List.append_cancel_left this] at hb
            exact hm.1 hb
        exact this _ ((wd_nodup 5).filter _) (fun x hx => ((wd_fu_mem hs hpd).mp hx).1)
      have := inj.length_le_of_subset (l₂ := wl) (fun w hw => by
        obtain ⟨v, hv, e⟩ := List.mem_map.mp hw
        rw [← e]; exact of_decide_eq_true ((wd_fu_mem hs hpd).mp hv).2)
      rwa [List.length_map] at this
    have wsc : ∀ d, d < 4 → (if ui_ue im s d = 0 then 0 else ((fo_D (ya_c wl)).getD (ui_ue im s d - 1) []).length) = (fo_dv d (wd_fu (ya_c wl) p)).length := by
      intro d hd
      rw [eu d hd]
      by_cases z : fo_b (wd_fu (ya_c wl) p) d = true
      · rw [if_pos z, if_neg (by omega), Nat.add_sub_cancel]
        obtain ⟨b1, b2⟩ := bP p hp d hd z
        have hm : fo_dv d (wd_fu (ya_c wl) p) ∈ fo_D (ya_c wl) := ud_D.mpr ⟨p ++ [d], b1, b2.symm⟩
        rw [getk _ _ (dd_ix_at hm)]
      · rw [if_neg z, if_pos rfl]
        rw [fo_b] at z
        have : (fo_dv d (wd_fu (ya_c wl) p)).isEmpty = true := by simpa using z
        rw [List.isEmpty_iff.mp this]; rfl
    refine ⟨?_, ?_, fun d hd hz => ?_, ?_⟩
    · show ud_h ((fo_D (ya_c wl)).getD s []) ≤ K
      rw [ek]
      by_cases z : wd_fu (ya_c wl) p = []
      · rw [z]; exact Nat.zero_le _
      · obtain ⟨v, h1, h2⟩ := ud_h_at _ z
        have hv := (wd_fu_mem hs hpd).mp h1
        have := word _ (wd_dig_app.mpr ⟨hpd, hv.1⟩) hv.2
        rw [List.length_append] at this
        omega
    · show ((fo_D (ya_c wl)).getD s []).length ≤ N
      rw [ek]; omega
    · rw [eu d hd] at hz ⊢
      by_cases z : fo_b (wd_fu (ya_c wl) p) d = true
      · rw [if_pos z, Nat.add_sub_cancel]
        obtain ⟨b1, b2⟩ := bP p hp d hd z
        have hm : fo_dv d (wd_fu (ya_c wl) p) ∈ fo_D (ya_c wl) := ud_D.mpr ⟨p ++ [d], b1, b2.symm⟩
        refine ⟨dd_ix_lt hm, ?_⟩
        show ud_h ((fo_D (ya_c wl)).getD (dd_ix (fo_dv d (wd_fu (ya_c wl) p)) (fo_D (ya_c wl))) []) < ud_h ((fo_D (ya_c wl)).getD s [])
        rw [ek, getk _ _ (dd_ix_at hm)]
        have hne : fo_dv d (wd_fu (ya_c wl) p) ≠ [] := by
          intro y
          rw [fo_b, y] at z; cases z
        obtain ⟨v, h1, h2⟩ := ud_h_at _ hne
        have h3 := of_decide_eq_true (List.mem_filter.mp h1).2
        have := ud_h_ge _ _ h3
        rw [List.length_cons] at this
        omega
      · rw [if_neg z] at hz; exact absurd rfl hz
    · show ((fo_D (ya_c wl)).getD s []).length = ui_hd im s % 2 + ui_sm im (fun s => ((fo_D (ya_c wl)).getD s []).length) s 4
      rw [ek, eh, (ud_bt (acl _) _).2.1, ud_len hs hpd]
      have w0 := wsc 0 (by omega)
      have w1 := wsc 1 (by omega)
      have w2 := wsc 2 (by omega)
      have w3 := wsc 3 (by omega)
      simp only [ui_sm]
      rw [w0, w1, w2, w3]
      omega
  · intro s h1 hsT
    obtain ⟨p, hp, e3, eh, eu⟩ := info s hsT
    have hpd := Pd p hp
    have pne : p ≠ [] := by
      intro z
      obtain ⟨t, ht⟩ := D0
      have h0 : (fo_D (ya_c wl))[0]? = some (wd_fu (ya_c wl) []) := by rw [ht]; rfl
      rw [z] at e3
      have a1 := dd_ix_get nd e3
      have a2 := dd_ix_get nd h0
      omega
    rcases wd_rc p with rfl | ⟨p', d, rfl⟩
    · exact absurd rfl pne
    · have hd2 := wd_dig_app.mp hpd
      have hd4 := hd2.2 d (by simp)
      obtain ⟨_, hl⟩ := (wd_P_mem hs).mp hp
      obtain ⟨v, hv, hcv⟩ := hl.resolve_left pne
      have hp' : p' ∈ wd_P (ya_c wl) := (wd_P_mem hs).mpr ⟨hd2.1, Or.inr ⟨d :: v, wd_dig_cons.mpr ⟨hd4, hv⟩, by
        rw [show p' ++ d :: v = p' ++ [d] ++ v by simp]; exact hcv⟩⟩
      have hm : wd_fu (ya_c wl) p' ∈ fo_D (ya_c wl) := ud_D.mpr ⟨p', hp', rfl⟩
      refine ⟨dd_ix (wd_fu (ya_c wl) p') (fo_D (ya_c wl)), dd_ix_lt hm, d, hd4, ?_⟩
      obtain ⟨q, hq, f3, _, fu⟩ := info _ (dd_ix_lt hm)
      have eq : wd_fu (ya_c wl) q = wd_fu (ya_c wl) p' := by
        rw [dd_ix_at hm] at f3
        exact (Option.some.inj f3).symm
      have hb : fo_b (wd_fu (ya_c wl) p') d = true := by
        rw [fo_b_fu hs hd2.1 hd4]
        exact (List.mem_filter.mp hp).2
      rw [fu d hd4, eq, if_pos hb, fo_dv_fu hs hd2.1 hd4, dd_ix_get nd e3]
end UD
end
section
/-! Y: follow -/
def yu_jp (im : Nat → Nat) (n : Nat) : Nat → Nat
  | 0 => 0
  | s + 1 => if yu_jp im n s < n then yu_jp im n s + 1 + ui_sp (im (yu_jp im n s)) 4 else yu_jp im n s
def yu_fw (im : Nat → Nat) (n a d : Nat) : Nat :=
  if a = 0 then 0 else if n ≤ a - 1 then 0 else if ui_bt (im (a - 1)) d = 0 then 0 else if a - 1 + ui_sp (im (a - 1)) (d + 1) < n then (if yu_jp im n (im (a - 1 + ui_sp (im (a - 1)) (d + 1))) < n then yu_jp im n (im (a - 1 + ui_sp (im (a - 1)) (d + 1))) + 1 else 0) else 0
def yu_rc (im : Nat → Nat) (n : Nat) (l : List Nat) : Nat := l.foldl (fun a d => yu_fw im n a d) 1
def yu_acc (im : Nat → Nat) (n : Nat) (l : List Nat) : Prop := yu_rc im n l ≠ 0 ∧ yu_rc im n l - 1 < n ∧ im (yu_rc im n l - 1) % 2 = 1
theorem yu_rc_snoc (im : Nat → Nat) (n : Nat) (l : List Nat) (d : Nat) : yu_rc im n (l ++ [d]) = yu_fw im n (yu_rc im n l) d := by
  simp [yu_rc, List.foldl_append]
theorem yu_fw_le (im : Nat → Nat) (n a d : Nat) : yu_fw im n a d ≤ n := by
  rw [yu_fw]
  repeat' split
  all_goals omega
theorem yu_rc_le {im : Nat → Nat} {n : Nat} (l : List Nat) : yu_rc im n l ≤ n + 1 := by
  rcases wd_rc l with rfl | ⟨m, d, rfl⟩
  · exact Nat.le_add_left 1 n
  · rw [yu_rc_snoc]
    have := yu_fw_le im n (yu_rc im n m) d
    omega
theorem ui_sp4 (h : Nat) : ∀ d, ui_sp h d ≤ d := by
  intro d
  induction d with
  | zero => exact Nat.le_refl _
  | succ d ih =>
    rw [ui_sp]
    rcases ui_bt01 h d with z | z <;> omega
theorem yu_jp_le (im : Nat → Nat) (n : Nat) : ∀ s, yu_jp im n s ≤ n + 5 := by
  intro s
  induction s with
  | zero => exact Nat.zero_le _
  | succ s ih =>
    rw [yu_jp]
    have := ui_sp4 (im (yu_jp im n s)) 4
    split <;> omega
theorem yu_jp_st {im : Nat → Nat} {n s : Nat} (h : n ≤ yu_jp im n s) : ∀ j, yu_jp im n (s + j) = yu_jp im n s := by
  intro j
  induction j with
  | zero => rfl
  | succ j ih => rw [← Nat.add_assoc, yu_jp, ih, if_neg (by omega)]
theorem yu_bit : ∀ h, h < 128 → ∀ e, e < 5 → ((nI h >>> (nI e &&& 31)) &&& 1) = nI (h / 2 ^ e % 2) := by
  have : (List.range 128).all (fun h => (List.range 5).all (fun e => decide (((nI h >>> (nI e &&& 31)) &&& 1) = nI (h / 2 ^ e % 2)))) = true := by decide +kernel
  intro h hh d hd
  have h1 := List.all_eq_true.mp this h (List.mem_range.mpr hh)
  have h2 := List.all_eq_true.mp h1 d (List.mem_range.mpr hd)
  exact of_decide_eq_true h2
theorem yu_bit1 {h d : Nat} (hh : h ≤ 127) (hd : d < 4) : ((nI h >>> (nI (d + 1) &&& 31)) &&& 1) = nI (ui_bt h d) := yu_bit h (by omega) (d + 1) (by omega)
section YF
variable {f_letters f_maxLength f_maxWords f_size f_length f_liveCount f_stateCount f_formLength : Int32} {a_words a_saved a_live a_state a_image a_form a_reached : Nat → Int32} {n_reached : Nat}
variable {im : Nat → Nat} {n : Nat}
theorem yf_74 {post : Int32 → Prop} {q : Nat} (him : ∀ j, im j ≤ 127) (hn : n ≤ 128) (hq : q < n)
    (K1 : yu_jp im n (im q) < n → post (nI (yu_jp im n (im q)))) (K0 : n ≤ yu_jp im n (im q) → post (-1)) : ∀ (j s : Nat), s + j = im q → wY_follow_74 post (nI q) f_letters f_maxLength f_maxWords f_size (nI n) f_liveCount f_stateCount f_formLength a_words a_saved a_live a_state (nN im) a_form a_reached n_reached (j + 1) (nI (yu_jp im n s)) (nI s) := by
  have eq : (nI q).toNatClampNeg = q := nI_clamp (by omega)
  have hiq := him q
  have ex : ∀ s, yu_jp im n s = yu_jp im n (im q) → wY_follow_154 post (nI (yu_jp im n s)) f_letters f_maxLength f_maxWords f_size (nI n) f_liveCount f_stateCount f_formLength a_words a_saved a_live a_state (nN im) a_form a_reached n_reached := by
    intro s e
    rw [e]
    have := yu_jp_le im n (im q)
    exact pk_le n (yu_jp im n (im q)) (fun z => K0 z) (fun z => K1 z)
  intro j
  induction j with
  | zero =>
    intro s hs
    have e : s = im q := by omega
    refine And.intro (vp_in_nI (by omega) (by omega)) (pk_le (im q) s (fun _ => ex s (by rw [e])) (fun z => absurd z (by omega)) (by rw [eq]; rfl))
  | succ j ih =>
    intro s hs
    have hjl := yu_jp_le im n s
    refine And.intro (vp_in_nI (by omega) (by omega)) (pk_le (im q) s (fun z => absurd z (by omega)) (fun _ => ?_) (by rw [eq]; rfl))
    refine pk_le n (yu_jp im n s) (fun z => ex s ?_) (fun z => ?_)
    · have := yu_jp_st z (j + 1)
      rw [hs] at this; exact this.symm
    · have iv : vp_in (nI (yu_jp im n s)) 128 := vp_in_nI (by omega) (by omega)
      have es : (nI (yu_jp im n s)).toNatClampNeg = yu_jp im n s := nI_clamp (by omega)
      have hb := him (yu_jp im n s)
      refine And.intro iv (And.intro iv (And.intro iv (And.intro iv (nm_r (e' := nI (yu_jp im n (s + 1))) ?_ (nm_r (nI_1 s) (ih (s + 1) (by omega)))))))
      rw [es]
      have b0 := yu_bit1 (d := 0) hb (by omega)
      have b1 := yu_bit1 (d := 1) hb (by omega)
      have b2 := yu_bit1 (d := 2) hb (by omega)
      have b3 := yu_bit1 (d := 3) hb (by omega)
      have b0' : ((nN im) (yu_jp im n s) >>> ((1 : Int32) &&& 31)) &&& 1 = nI (ui_bt (im (yu_jp im n s)) 0) := b0
      have b1' : ((nN im) (yu_jp im n s) >>> ((2 : Int32) &&& 31)) &&& 1 = nI (ui_bt (im (yu_jp im n s)) 1) := b1
      have b2' : ((nN im) (yu_jp im n s) >>> ((3 : Int32) &&& 31)) &&& 1 = nI (ui_bt (im (yu_jp im n s)) 2) := b2
      have b3' : ((nN im) (yu_jp im n s) >>> ((4 : Int32) &&& 31)) &&& 1 = nI (ui_bt (im (yu_jp im n s)) 3) := b3
      rw [b0', b1', b2', b3', show (1 : Int32) = nI 1 from rfl, nI_add, nI_add, nI_add, nI_add, nI_add, yu_jp, if_pos z]
      congr 1
      simp only [ui_sp]
      omega
theorem yf_32 {post : Int32 → Prop} {a d : Nat} (him : ∀ j, im j ≤ 127) (hn : n ≤ 128) (ha : a < n) (hd : d < 4)
    (K1 : a + ui_sp (im a) (d + 1) < n → yu_jp im n (im (a + ui_sp (im a) (d + 1))) < n → post (nI (yu_jp im n (im (a + ui_sp (im a) (d + 1)))))) (K0 : ¬ (a + ui_sp (im a) (d + 1) < n ∧ yu_jp im n (im (a + ui_sp (im a) (d + 1))) < n) → post (-1)) :
    ∀ (j e : Nat), e + j = d + 1 → wY_follow_32 post (nI a) (nI (d + 1)) f_letters f_maxLength f_maxWords f_size (nI n) f_liveCount f_stateCount f_formLength a_words a_saved a_live a_state (nN im) a_form a_reached n_reached (j + 1) (nI (a + ui_sp (im a) e)) (nI (e + 1)) := by
  have ea : (nI a).toNatClampNeg = a := nI_clamp (by omega)
  intro j
  induction j with
  | zero =>
    intro e he
    have e1 : e = d + 1 := by omega
    subst e1
    have := ui_sp4 (im a) (d + 1)
    refine pk_lt (d + 1) (d + 1 + 1) (fun _ => pk_lt (a + ui_sp (im a) (d + 1)) n (fun z => ⟨im (a + ui_sp (im a) (d + 1)) + 1, ?_⟩) (fun z => K0 (fun y => by omega))) (fun z => absurd z (by omega))
    exact yf_74 him hn z (fun y => K1 z y) (fun y => K0 (fun w => by omega)) _ 0 (by omega)
  | succ j ih =>
    intro e he
    have hb := him a
    refine pk_lt (d + 1) (e + 1) (fun z => absurd z (by omega)) (fun _ => And.intro (vp_in_nI (by omega) (by omega)) (nm_r (e' := nI (a + ui_sp (im a) (e + 1))) ?_ (nm_r (nI_1 (e + 1)) (ih (e + 1) (by omega)))))
    rw [ea]
    have b0 : ((nN im) a >>> (nI (e + 1) &&& 31)) &&& 1 = nI (ui_bt (im a) e) := yu_bit1 hb (by omega)
    rw [b0, nI_add, ui_sp, Nat.add_assoc]
theorem yf_fol {post : Int32 → Prop} {x y : Int32} {a d : Nat} (hx : x = xk_m a) (hy : y = nI (d + 1)) (ha : a ≤ 129) (him : ∀ j, im j ≤ 127) (hn : n ≤ 128) (hd : d < 4) (Kp : post (xk_m (yu_fw im n a d))) : wpY_follow post (f_letters, f_maxLength, f_maxWords, f_size, nI n, f_liveCount, f_stateCount, f_formLength, a_words, a_saved, a_live, a_state, nN im, a_form, a_reached, n_reached) x y := by
  subst hx; subst hy
  by_cases z : a = 0
  · rw [yu_fw, if_pos z] at Kp
    exact br_t (xk_m0 z) Kp
  · rw [xk_ms z]
    rw [yu_fw, if_neg z] at Kp
    refine br_f (nI_pos (by omega)) (pk_le n (a - 1) (fun y => ?_) (fun y => And.intro (vp_in_nI (by omega) (by omega)) ?_))
    · rw [if_pos y] at Kp; exact Kp
    · rw [if_neg (by omega)] at Kp
      have hb := him (a - 1)
      have e1 : (nN im) (nI (a - 1)).toNatClampNeg = nI (im (a - 1)) := by rw [nI_clamp (by omega)]; rfl
      have b0 : ((nN im) (nI (a - 1)).toNatClampNeg >>> (nI (d + 1) &&& 31)) &&& 1 = nI (ui_bt (im (a - 1)) d) := by rw [e1]; exact yu_bit1 hb hd
      have hb01 := ui_bt01 (im (a - 1)) d
      refine pk_eq (ui_bt (im (a - 1)) d) 0 (fun w => ?_) (fun w => ⟨d + 2, ?_⟩) b0
      · rw [if_pos w] at Kp; exact Kp
      · rw [if_neg w] at Kp
        refine yf_32 him hn (by omega) hd (fun q1 q2 => ?_) (fun q => ?_) (d + 1) 0 (by omega)
        · rw [if_pos q1, if_pos q2] at Kp
          rw [xk_ms (by omega), Nat.add_sub_cancel] at Kp
          exact Kp
        · by_cases q1 : a - 1 + ui_sp (im (a - 1)) (d + 1) < n
          · rw [if_pos q1, if_neg (fun q2 => q ⟨q1, q2⟩)] at Kp; exact Kp
          · rw [if_neg q1] at Kp; exact Kp
end YF
/-- where the checks pass, Y's way is the graph's -/
theorem yf_way {T L K N n : Nat} {im lv w : Nat → Nat} {pl : List Nat} (C : ui_C T L K N n im pl lv w) : ∀ l, wd_dig l → gr_go (ui_ch im) 1 l ≤ T ∧ yu_rc im n l = if gr_go (ui_ch im) 1 l = 0 then 0 else ui_ps im (gr_go (ui_ch im) 1 l - 1) + 1 := by
  have hps : ∀ s, s < T → ui_ps im s < n := fun s hs => by rw [← C.1.1]; exact ui_ps_lt im s T hs
  have jp : ∀ s, s < T → yu_jp im n s = ui_ps im s := by
    intro s
    induction s with
    | zero => intro _; rfl
    | succ s ih =>
      intro hs
      have h1 := ih (by omega)
      rw [yu_jp, h1, if_pos (hps s (by omega)), ui_ps]
  refine wd_rind (P := fun l => wd_dig l → gr_go (ui_ch im) 1 l ≤ T ∧ yu_rc im n l = if gr_go (ui_ch im) 1 l = 0 then 0 else ui_ps im (gr_go (ui_ch im) 1 l - 1) + 1) ?_ ?_
  · intro _
    exact ⟨C.2.1, rfl⟩
  · intro l d ih hl
    have hl2 := wd_dig_app.mp hl
    have hd := hl2.2 d (by simp)
    obtain ⟨i1, i2⟩ := ih hl2.1
    rw [gr_go_snoc, yu_rc_snoc, i2]
    by_cases z : gr_go (ui_ch im) 1 l = 0
    · rw [if_pos z, z, Nat.zero_mul, Nat.zero_add, ui_ch_0 hd, if_pos rfl]
      refine ⟨Nat.zero_le _, ?_⟩
      rw [yu_fw, if_pos rfl]
    · rw [if_neg z]
      obtain ⟨s, hs⟩ : ∃ s, gr_go (ui_ch im) 1 l = s + 1 := ⟨gr_go (ui_ch im) 1 l - 1, by omega⟩
      rw [hs, Nat.add_sub_cancel, ui_ch_s hd]
      have hsT : s < T := by omega
      have h1 := hps s hsT
      rw [yu_fw, if_neg (by omega), Nat.add_sub_cancel, if_neg (by omega)]
      by_cases y : ui_bt (im (ui_ps im s)) d = 0
      · have e0 : ui_ue im s d = 0 := by rw [ui_ue]; exact if_pos y
        rw [if_pos y, e0, if_pos rfl]
        exact ⟨Nat.zero_le _, rfl⟩
      · have e1 : ui_ue im s d = im (ui_ps im s + 1 + ui_sp (ui_hd im s) d) + 1 := by rw [ui_ue]; exact if_neg y
        have hb1 : ui_bt (im (ui_ps im s)) d = 1 := (ui_bt01 _ d).resolve_left y
        have esp : ui_ps im s + ui_sp (im (ui_ps im s)) (d + 1) = ui_ps im s + 1 + ui_sp (ui_hd im s) d := by
          rw [ui_sp, hb1]
          have : ui_sp (ui_hd im s) d = ui_sp (im (ui_ps im s)) d := rfl
          omega
        obtain ⟨c1, c2⟩ := (C.2.2.2.2.2.2.1 s hsT).2.2.2 d hd (by rw [e1]; omega)
        have hc : im (ui_ps im s + 1 + ui_sp (ui_hd im s) d) < T := by rw [e1, Nat.add_sub_cancel] at c1; exact c1
        have hsl : ui_ps im s + 1 + ui_sp (ui_hd im s) d < n := by
          have h2 : ui_ps im (s + 1) ≤ n := by
            rw [← C.1.1]
            rcases Nat.lt_or_ge (s + 1) T with q | q
            · exact Nat.le_of_lt (ui_ps_lt im _ _ q)
            · have : T = s + 1 := by omega
              rw [this]; exact Nat.le_refl _
          have h3 := ui_sp_le (im (ui_ps im s)) (d + 1) 4 (by omega)
          rw [ui_ps] at h2
          rw [← esp]; omega
        rw [if_neg y, esp, if_pos hsl, jp _ hc, if_pos (hps _ hc), e1, if_neg (by omega), Nat.add_sub_cancel]
        exact ⟨by omega, rfl⟩
theorem yf_acc {T L K N n : Nat} {im lv w : Nat → Nat} {pl : List Nat} (C : ui_C T L K N n im pl lv w) {l : List Nat} (hl : wd_dig l) : yu_acc im n l ↔ gr_M (ui_ac im) (ui_ch im) 1 l = true := by
  obtain ⟨h1, h2⟩ := yf_way C l hl
  rw [gr_M, decide_eq_true_eq, yu_acc, h2]
  by_cases z : gr_go (ui_ch im) 1 l = 0
  · rw [if_pos z, z]
    exact ⟨fun h => absurd rfl h.1, fun h => absurd h (by decide : ¬ (0 : Nat) = 1)⟩
  · rw [if_neg z]
    have hps : ui_ps im (gr_go (ui_ch im) 1 l - 1) < n := by rw [← C.1.1]; exact ui_ps_lt im _ T (by omega)
    rw [Nat.add_sub_cancel, ui_ac, if_neg z]
    exact ⟨fun h => h.2.2, fun h => ⟨by omega, hps, h⟩⟩
end
section
/-! Y: unpack -/
theorem yu_byte : ∀ a, a < 130 → vp_nar .byte (xk_m a).toInt8.toInt32 = xk_m a ∨ a = 129 := by
  have : (List.range 129).all (fun a => decide ((xk_m a).toInt8.toInt32.toInt8.toInt32 = xk_m a)) = true := by decide +kernel
  intro a ha
  by_cases z : a = 129
  · exact Or.inr z
  · left
    have h1 := List.all_eq_true.mp this a (List.mem_range.mpr (by omega))
    rw [vp_nar_byte]
    exact of_decide_eq_true h1
section YU
variable {f_letters f_maxLength f_maxWords f_size f_length f_liveCount f_stateCount f_formLength : Int32} {a_words a_saved a_live a_state a_image a_form a_reached : Nat → Int32} {n_reached : Nat}
variable {im : Nat → Nat} {n L K N : Nat} {wl : List Nat}
theorem yu_257 {post : Int32 → SY → Prop} (Kp : ∀ wo, (∀ j, j < 12 → wo j = a_saved j) → post (-1) (f_letters, f_maxLength, f_maxWords, f_size, f_length, f_liveCount, f_stateCount, f_formLength, wo, a_saved, a_live, a_state, a_image, a_form, a_reached, n_reached)) : ∀ (j i : Nat) (wo : Nat → Int32), i + j = 12 → (∀ e, e < i → wo e = a_saved e) → wY_unpack_257 post f_letters f_maxLength f_maxWords f_size f_length f_liveCount f_stateCount f_formLength n_reached (j + 1) (nI i) wo a_saved a_live a_state a_image a_form a_reached := by
  intro j
  induction j with
  | zero =>
    intro i wo hi h
    exact pk_le 12 i (fun _ => Kp wo (fun e he => h e (by omega))) (fun z => absurd z (by omega))
  | succ j ih =>
    intro i wo hi h
    have iv : vp_in (nI i) 12 := vp_in_nI (by omega) (by omega)
    refine pk_le 12 i (fun z => absurd z (by omega)) (fun _ => And.intro iv (And.intro iv (nm_r (e' := upd wo i (a_saved i)) (by rw [nI_clamp (by omega)]) (nm_r (nI_1 i) (ih (i + 1) _ (by omega) (fun e he => ?_))))))
    by_cases z : e = i
    · rw [z, pk_us]
    · rw [pk_un z]; exact h e (by omega)
theorem yu_14 {post : Int32 → SY → Prop} {x1 x2 : Int32} (Kp : ∀ sv, (∀ j, j < 12 → sv j = a_words j) → ∃ n40, wY_unpack_40 post x1 f_letters f_maxLength f_maxWords f_length f_liveCount f_stateCount f_formLength n_reached n40 x2 0 f_size a_words sv a_live a_state a_image a_form a_reached) : ∀ (j i : Nat) (sv : Nat → Int32), i + j = 12 → (∀ e, e < i → sv e = a_words e) → wY_unpack_14 post x1 x2 f_letters f_maxLength f_maxWords f_size f_length f_liveCount f_stateCount f_formLength n_reached (j + 1) (nI i) a_words sv a_live a_state a_image a_form a_reached := by
  intro j
  induction j with
  | zero =>
    intro i sv hi h
    exact pk_le 12 i (fun _ => Kp sv (fun e he => h e (by omega))) (fun z => absurd z (by omega))
  | succ j ih =>
    intro i sv hi h
    have iv : vp_in (nI i) 12 := vp_in_nI (by omega) (by omega)
    refine pk_le 12 i (fun z => absurd z (by omega)) (fun _ => And.intro iv (And.intro iv (nm_r (e' := upd sv i (a_words i)) (by rw [nI_clamp (by omega)]) (nm_r (nI_1 i) (ih (i + 1) _ (by omega) (fun e he => ?_))))))
    by_cases z : e = i
    · rw [z, pk_us]
    · rw [pk_un z]; exact h e (by omega)
/-- the end of the comparison -/
theorem yu_244 {post : Int32 → SY → Prop} {x1 x2 : Int32} (h01 : x2 = 0 ∨ x2 = 1) (K1 : x2 = 1 → post 1 (f_letters, f_maxLength, f_maxWords, f_size, f_length, f_liveCount, f_stateCount, f_formLength, a_words, a_saved, a_live, a_state, a_image, a_form, a_reached, n_reached)) (K0 : x2 = 0 → ∀ wo, (∀ j, j < 12 → wo j = a_saved j) → post (-1) (f_letters, f_maxLength, f_maxWords, x1, f_length, f_liveCount, f_stateCount, f_formLength, wo, a_saved, a_live, a_state, a_image, a_form, a_reached, n_reached)) : wY_unpack_244 post x1 x2 f_letters f_maxLength f_maxWords f_size f_length f_liveCount f_stateCount f_formLength a_words a_saved a_live a_state a_image a_form a_reached n_reached := by
  rcases h01 with z | z
  · exact br_t z ⟨13, yu_257 (K0 z) 12 0 a_words rfl (fun e he => by omega)⟩
  · exact br_f (by rw [z]; decide) (K1 z)
theorem yu_205 {post : Int32 → SY → Prop} {x1 : Int32} {F : List Nat} (hFn : F.length = n) (hn : n ≤ 128) (hf : xs_h a_form F) (hb : ∀ i, F.getD i 0 ≤ 1031) (him : ∀ j, im j ≤ 127) (K1 : (∀ i, i < n → F.getD i 0 = im i) → post 1 (f_letters, f_maxLength, f_maxWords, f_size, nI n, f_liveCount, f_stateCount, f_formLength, a_words, a_saved, a_live, a_state, nN im, a_form, a_reached, n_reached)) (K0 : ∀ i, i < n → F.getD i 0 ≠ im i → ∀ wo, (∀ j, j < 12 → wo j = a_saved j) → post (-1) (f_letters, f_maxLength, f_maxWords, x1, nI n, f_liveCount, f_stateCount, f_formLength, wo, a_saved, a_live, a_state, nN im, a_form, a_reached, n_reached)) :
    ∀ (j i : Nat), i + j = n → (∀ e, e < i → F.getD e 0 = im e) → wY_unpack_205 post x1 f_letters f_maxLength f_maxWords f_size (nI n) f_liveCount f_stateCount f_formLength a_words a_saved a_live a_state (nN im) a_form a_reached n_reached (j + 1) 1 (nI i) := by
  intro j
  induction j with
  | zero =>
    intro i hi h
    exact pk_le n i (fun _ => yu_244 (Or.inr rfl) (fun _ => K1 (fun e he => h e (by omega))) (fun z => absurd z (by decide))) (fun z => absurd z (by omega))
  | succ j ih =>
    intro i hi h
    have ei : (nI i).toNatClampNeg = i := nI_clamp (by omega)
    have := hb i
    have := him i
    refine pk_le n i (fun z => absurd z (by omega)) (fun _ => br_f (by decide) (And.intro (vp_in_nI (by omega) (by omega)) (And.intro (vp_in_nI (by omega) (by omega)) ?_)))
    refine pk_eq (F.getD i 0) (im i) (fun z => nm_r (nI_1 i) (ih (i + 1) (by omega) (fun e he => ?_))) (fun z => nm_r (nI_1 i) ?_) (by rw [ei, hf i (by omega)]) (by rw [ei]; rfl)
    · by_cases y : e = i
      · rw [y]; exact z
      · exact h e (by omega)
    · exact br_c (fun _ => yu_244 (Or.inl rfl) (fun y => absurd y (by decide)) (fun _ => K0 i (by omega) z)) (fun _ => br_t rfl (yu_244 (Or.inl rfl) (fun y => absurd y (by decide)) (fun _ => K0 i (by omega) z)))
theorem yu_bad {post : Int32 → SY → Prop} {x1 : Int32} (K0 : ∀ wo, (∀ j, j < 12 → wo j = a_saved j) → post (-1) (f_letters, f_maxLength, f_maxWords, x1, f_length, f_liveCount, f_stateCount, f_formLength, wo, a_saved, a_live, a_state, a_image, a_form, a_reached, n_reached)) : ∃ n205, wY_unpack_205 post x1 f_letters f_maxLength f_maxWords f_size f_length f_liveCount f_stateCount f_formLength a_words a_saved a_live a_state a_image a_form a_reached n_reached n205 0 0 :=
  ⟨1, br_c (fun _ => yu_244 (Or.inl rfl) (fun y => absurd y (by decide)) (fun _ => K0)) (fun _ => br_t rfl (yu_244 (Or.inl rfl) (fun y => absurd y (by decide)) (fun _ => K0)))⟩
theorem yu_178 {post : Int32 → SY → Prop} {x1 x2 : Int32} (hwL : yo_L L wl) (hl : wl.length ≤ 12) (hL : L ≤ 4) (hw : xs_h a_words wl) (hn : n ≤ 128) (him : ∀ j, im j ≤ 127) (h01 : x2 = 0 ∨ x2 = 1)
    (K1 : x2 = 1 → ui_eq (fo_F (ya_c wl)) im n → ∀ lc sc fl liv sta fo, post 1 (nI L, f_maxLength, f_maxWords, nI wl.length, nI n, lc, sc, fl, a_words, a_saved, liv, sta, nN im, fo, a_reached, n_reached))
    (K0 : (x2 = 1 → ¬ ui_eq (fo_F (ya_c wl)) im n) → ∀ lc sc fl liv sta fo wo, (∀ j, j < 12 → wo j = a_saved j) → post (-1) (nI L, f_maxLength, f_maxWords, x1, nI n, lc, sc, fl, wo, a_saved, liv, sta, nN im, fo, a_reached, n_reached)) : wY_unpack_178 post x1 x2 (nI L) f_maxLength f_maxWords (nI wl.length) (nI n) f_liveCount f_stateCount f_formLength a_words a_saved a_live a_state (nN im) a_form a_reached n_reached := by
  have hD : (fo_D (ya_c wl)).length ≤ 1000 := by have := yb_D61 (yo_L_wl hwL) hl; omega
  unfold wY_unpack_178
  refine yo_build hwL hl hL hw (fun liv sta fo hf h305 => ?_)
  rcases h01 with z | z
  · exact br_t z (yu_bad (fun wo hwo => K0 (fun y => by rw [z] at y; exact absurd y (by decide)) _ _ _ liv sta fo wo hwo))
  · refine br_f (by rw [z]; decide) (pk_eq (fo_F (ya_c wl)).length n (fun y => ⟨n + 1, ?_⟩) (fun y => yu_bad (fun wo hwo => K0 (fun _ q => y q.1) _ _ _ liv sta fo wo hwo)))
    exact yu_205 y hn hf (ui_Fb hD) him (fun q => K1 z ⟨y, q⟩ _ _ _ liv sta fo) (fun i hi q wo hwo => K0 (fun _ w => q (w.2 i hi)) _ _ _ liv sta fo wo hwo) n 0 (by omega) (fun e he => by omega)
/-- the words found so far -/
def yu_V (L K N n : Nat) (im : Nat → Nat) (w : Nat) (re : Nat → Int32) (ws : List Nat) (wo : Nat → Int32) : Prop :=
  (∀ l, wd_ok L K l → wd_enc l < w → re (wd_enc l) = xk_m (yu_rc im n l)) ∧ ws.Nodup ∧ (∀ x, x ∈ ws ↔ x < w ∧ ∃ l, wd_ok L K l ∧ wd_enc l = x ∧ yu_acc im n l) ∧ ws.length ≤ N ∧ xs_h wo ws
theorem yu_40 {post : Int32 → SY → Prop} {x1 : Int32} {sv : Nat → Int32} (hL2 : 2 ≤ L) (hL : L ≤ 4) (hK : K ≤ 5) (hN : N ≤ 12) (hn : n ≤ 128) (him : ∀ j, im j ≤ 127)
    (K1 : ∀ ws lc sc fl wo liv sta fo re, ws.Nodup → ws.length ≤ N → (∀ x, x ∈ ws ↔ ∃ l, wd_ok L K l ∧ wd_enc l = x ∧ yu_acc im n l) → xs_h wo ws → ui_eq (fo_F (ya_c ws)) im n → post 1 (nI L, nI K, nI N, nI ws.length, nI n, lc, sc, fl, wo, sv, liv, sta, nN im, fo, re, 44445))
    (K0 : ((∃ A : List Nat, A.Nodup ∧ N < A.length ∧ ∀ x, x ∈ A → ∃ l, wd_ok L K l ∧ wd_enc l = x ∧ yu_acc im n l) ∨ (∃ ws : List Nat, ws.Nodup ∧ ws.length ≤ N ∧ (∀ x, x ∈ ws ↔ ∃ l, wd_ok L K l ∧ wd_enc l = x ∧ yu_acc im n l) ∧ ¬ ui_eq (fo_F (ya_c ws)) im n)) → ∀ lc sc fl wo liv sta fo re, (∀ j, j < 12 → wo j = sv j) → post (-1) (nI L, nI K, nI N, x1, nI n, lc, sc, fl, wo, sv, liv, sta, nN im, fo, re, 44445)) :
    ∀ (j w : Nat) (ws : List Nat) (wo re : Nat → Int32), w + j = 44445 → yu_V L K N n im w re ws wo → wY_unpack_40 post x1 (nI L) (nI K) (nI N) (nI n) f_liveCount f_stateCount f_formLength 44445 (j + 1) 1 (nI w) (nI ws.length) wo sv a_live a_state (nN im) a_form re := by
  have okL : ∀ (w : Nat) (re : Nat → Int32) (ws : List Nat) (wo : Nat → Int32), yu_V L K N n im w re ws wo → yo_L L ws := by
    intro w re ws wo V x hx
    obtain ⟨_, l, hl, e, _⟩ := (V.2.2.1 x).mp hx
    exact ⟨l, wd_ok_dig hL hl, Nat.le_trans hl.1 hK, hl.2, e⟩
  have enc5 : ∀ l, wd_ok L K l → wd_enc l ≤ 44444 := fun l hl => wd_enc_lt5 (wd_ok_dig hL hl) (Nat.le_trans hl.1 hK)
  have inj : ∀ l l', wd_ok L K l → wd_ok L K l' → wd_enc l = wd_enc l' → l = l' := fun l l' h h' e => wd_enc_inj (wd_ok_dig hL h) (wd_ok_dig hL h') e
  intro j
  induction j with
  | zero =>
    intro w ws wo re hw V
    have : w = 44445 := by omega
    subst this
    have mem : ∀ x, x ∈ ws ↔ ∃ l, wd_ok L K l ∧ wd_enc l = x ∧ yu_acc im n l := by
      intro x
      rw [V.2.2.1 x]
      exact ⟨fun h => h.2, fun ⟨l, hl, e, ha⟩ => ⟨by have := enc5 l hl; omega, l, hl, e, ha⟩⟩
    have hlen := V.2.2.2.1
    refine pk_lt 44444 44445 (fun _ => ?_) (fun z => absurd z (by omega))
    exact yu_178 (okL _ _ _ _ V) (by omega) hL V.2.2.2.2 hn him (Or.inr rfl) (fun _ he lc sc fl liv sta fo => K1 ws lc sc fl wo liv sta fo re V.2.1 hlen mem V.2.2.2.2 he) (fun hne lc sc fl liv sta fo wo' hwo => K0 (Or.inr ⟨ws, V.2.1, hlen, mem, hne rfl⟩) lc sc fl wo' liv sta fo re hwo)
  | succ j ih =>
    intro w ws wo re hw V
    have hlen := V.2.2.2.1
    have wlt : w ≤ 44444 := by omega
    have skip : ∀ re', (∀ l, wd_ok L K l → wd_enc l < w + 1 → re' (wd_enc l) = xk_m (yu_rc im n l)) → (∀ l, wd_ok L K l → wd_enc l = w → ¬ yu_acc im n l) → wY_unpack_40 post x1 (nI L) (nI K) (nI N) (nI n) f_liveCount f_stateCount f_formLength 44445 (j + 1) 1 (nI (w + 1)) (nI ws.length) wo sv a_live a_state (nN im) a_form re' := by
      intro re' hre hna
      refine ih (w + 1) ws wo re' (by omega) ⟨hre, V.2.1, fun x => ?_, hlen, V.2.2.2.2⟩
      rw [V.2.2.1 x]
      constructor
      · rintro ⟨h1, h2⟩; exact ⟨by omega, h2⟩
      · rintro ⟨h1, l, hl, e, ha⟩
        refine ⟨?_, l, hl, e, ha⟩
        rcases Nat.lt_or_ge x w with y | y
        · exact y
        · exact absurd ha (hna l hl (by omega))
    refine pk_lt 44444 w (fun z => absurd z (by omega)) (fun _ => br_f (by decide) (ya_iw hK hL (fun ⟨l, hl, el⟩ => br_f (by decide) ?_) (fun hno => br_t rfl (nm_r (nI_1 w) (skip re (fun l hl h => ?_) (fun l hl e => absurd ⟨l, hl, by rw [e]⟩ hno))))))
    · have el2 : wd_enc l = w := ((nI_eq (by omega) (by have := enc5 l hl; omega)).mp el).symm
      have ew : (nI w).toNatClampNeg = w := nI_clamp (by omega)
      have iw : vp_in (nI w) 44445 := vp_in_nI (by omega) (by omega)
      have key : yu_rc im n l ≤ 128 → ∀ z0 : Int32, z0 = xk_m (yu_rc im n l) → wY_unpack_91 post (wY_unpack_40 post x1 (nI L) (nI K) (nI N) (nI n) f_liveCount f_stateCount f_formLength 44445 (j + 1)) x1 1 (nI w) z0 (nI w) (nI L) (nI K) (nI N) (nI ws.length) (nI n) f_liveCount f_stateCount f_formLength wo sv a_live a_state (nN im) a_form re 44445 := by
        intro hrc z0 ez
        subst ez
        have hbyte : vp_nar .byte (xk_m (yu_rc im n l)).toInt8.toInt32 = xk_m (yu_rc im n l) := (yu_byte _ (by omega)).resolve_right (by omega)
        have hre : ∀ l', wd_ok L K l' → wd_enc l' < w + 1 → upd re w (xk_m (yu_rc im n l)) (wd_enc l') = xk_m (yu_rc im n l') := by
          intro l' hl' h
          by_cases y : wd_enc l' = w
          · rw [y, pk_us, inj l' l hl' hl (by rw [y, el2])]
          · rw [pk_un y]; exact V.1 l' hl' (by omega)
        have er : upd re w (xk_m (yu_rc im n l)) (nI w).toNatClampNeg = xk_m (yu_rc im n l) := by rw [ew, pk_us]
        have notacc : ¬ yu_acc im n l → ∀ l', wd_ok L K l' → wd_enc l' = w → ¬ yu_acc im n l' := fun h l' hl' e => by rw [inj l' l hl' hl (by rw [e, el2])]; exact h
        refine And.intro iw (nm_r (e' := upd re w (xk_m (yu_rc im n l))) (by rw [ew, hbyte]) (And.intro iw ?_))
        rw [er]
        by_cases z : yu_rc im n l = 0
        · exact br_t (xk_m0 z) (nm_r (nI_1 w) (skip _ hre (notacc (fun h => h.1 z))))
        · rw [xk_ms z] at hre ⊢
          refine br_f (nI_pos (by omega)) (And.intro iw (pk_le n (yu_rc im n l - 1) (fun y => nm_r (nI_1 w) (skip _ hre (notacc (fun h => by have := h.2.1; omega)))) (fun y => And.intro iw (And.intro (vp_in_nI (by omega) (by omega)) (And.intro (by decide) ?_)))))
          have hb := him (yu_rc im n l - 1)
          have rem : (nN im) (nI (yu_rc im n l - 1)).toNatClampNeg - (nN im) (nI (yu_rc im n l - 1)).toNatClampNeg / 2 * 2 = nI (im (yu_rc im n l - 1) % 2) := by
            rw [nI_clamp (by omega)]
            exact pk_rem (a := im (yu_rc im n l - 1)) (d := 2) (by omega) (by omega) (by omega)
          refine pk_eq (im (yu_rc im n l - 1) % 2) 0 (fun q => nm_r (nI_1 w) (skip _ hre (notacc (fun h => by have := h.2.2; omega)))) (fun q => ?_) rem
          have acc : yu_acc im n l := ⟨z, y, by omega⟩
          have hnin : w ∉ ws := fun h => by have := ((V.2.2.1 w).mp h).1; omega
          have nd : (ws ++ [w]).Nodup := by
            have := dd_in_nodup (x := w) V.2.1
            rwa [dd_in, if_neg hnin] at this
          refine pk_le N ws.length (fun p => br_t rfl (nm_r (nI_1 w) ?_)) (fun p => br_f (by decide) (nm_r (e' := nI (ws ++ [w]).length) (by rw [nI_1, List.length_append]; rfl) (And.intro (vp_in_nI (by omega) (by omega)) (nm_r (e' := upd wo ws.length (nI w)) (by rw [nI_clamp (by omega)]) (nm_r (nI_1 w) ?_)))))
          · have fin : wY_unpack_178 post x1 0 (nI L) (nI K) (nI N) (nI ws.length) (nI n) f_liveCount f_stateCount f_formLength wo sv a_live a_state (nN im) a_form (upd re w (nI (yu_rc im n l - 1))) 44445 := by
              refine yu_178 (okL _ _ _ _ V) (by omega) hL V.2.2.2.2 hn him (Or.inl rfl) (fun h => absurd h (by decide)) (fun _ lc sc fl liv sta fo wo' hwo => K0 (Or.inl ⟨ws ++ [w], nd, by rw [List.length_append, List.length_singleton]; omega, fun x hx => ?_⟩) lc sc fl wo' liv sta fo _ hwo)
              rcases List.mem_append.mp hx with h | h
              · exact ((V.2.2.1 x).mp h).2
              · have : x = w := by simpa using h
                exact ⟨l, hl, by rw [this, el2], acc⟩
            exact br_c (fun _ => fin) (fun _ => br_t rfl fin)
          · refine ih (w + 1) (ws ++ [w]) _ _ (by omega) ⟨hre, nd, fun x => ?_, by rw [List.length_append, List.length_singleton]; omega, xs_push V.2.2.2.2 w⟩
            rw [List.mem_append, List.mem_singleton, V.2.2.1 x]
            constructor
            · rintro (⟨h1, h2⟩ | h)
              · exact ⟨by omega, h2⟩
              · exact ⟨by omega, l, hl, by rw [h, el2], acc⟩
            · rintro ⟨h1, h2⟩
              rcases Nat.lt_or_ge x w with r | r
              · exact Or.inl ⟨r, h2⟩
              · exact Or.inr (by omega)
      rcases wd_rc l with e0 | ⟨m, d, em⟩
      · subst e0
        have hw0 : w = 0 := el2.symm
        refine br_t (by rw [hw0]; rfl) (key (show (1 : Nat) ≤ 128 by omega) 0 rfl)
      · subst em
        rw [wd_enc_snoc] at el2
        have hmok : wd_ok L K m := ⟨by have := hl.1; rw [List.length_append] at this; omega, fun x hx => hl.2 x (List.mem_append_left _ hx)⟩
        have hdL : d < L := hl.2 d (by simp)
        have ediv : nI w / 10 = nI (wd_enc m) := by
          rw [show (10 : Int32) = nI 10 from rfl, pk_div (by omega) (by omega) (by omega)]
          congr 1; omega
        have erem : nI w - nI w / 10 * 10 = nI (d + 1) := by
          have : nI w - nI w / nI 10 * nI 10 = nI (w % 10) := pk_rem (by omega) (by omega) (by omega)
          rw [show (10 : Int32) = nI 10 from rfl, this]
          congr 1; omega
        have hm5 := enc5 m hmok
        have hrcl : yu_rc im n (m ++ [d]) ≤ 128 := by
          rw [yu_rc_snoc]
          have := yu_fw_le im n (yu_rc im n m) d
          omega
        refine br_f (nI_ne0 (by omega) (by omega)) (And.intro (by decide) (And.intro (by rw [ediv]; exact vp_in_nI (by omega) (by omega)) (And.intro (by decide) (yf_fol (a := yu_rc im n m) (d := d) ?_ erem ?_ him hn (by omega) (key hrcl _ (by rw [yu_rc_snoc]))))))
        · rw [ediv, nI_clamp (by omega)]
          exact V.1 m hmok (by omega)
        · have := yu_rc_le (im := im) (n := n) m
          omega
    · rcases Nat.lt_or_ge (wd_enc l) w with y | y
      · exact V.1 l hl y
      · exact absurd ⟨l, hl, by rw [show w = wd_enc l by omega]⟩ hno
theorem yu_unpack {post : Int32 → SY → Prop} (hL2 : 2 ≤ L) (hL : L ≤ 4) (hK : K ≤ 5) (hN : N ≤ 12) (hn : n ≤ 128) (him : ∀ j, im j ≤ 127) (hl : wl.length ≤ 12) (hw : xs_h a_words wl)
    (K1 : ∀ ws lc sc fl wo sv liv sta fo re, ws.Nodup → ws.length ≤ N → (∀ x, x ∈ ws ↔ ∃ l, wd_ok L K l ∧ wd_enc l = x ∧ yu_acc im n l) → xs_h wo ws → ui_eq (fo_F (ya_c ws)) im n → post 1 (nI L, nI K, nI N, nI ws.length, nI n, lc, sc, fl, wo, sv, liv, sta, nN im, fo, re, 44445))
    (K0 : ((∃ A : List Nat, A.Nodup ∧ N < A.length ∧ ∀ x, x ∈ A → ∃ l, wd_ok L K l ∧ wd_enc l = x ∧ yu_acc im n l) ∨ (∃ ws : List Nat, ws.Nodup ∧ ws.length ≤ N ∧ (∀ x, x ∈ ws ↔ ∃ l, wd_ok L K l ∧ wd_enc l = x ∧ yu_acc im n l) ∧ ¬ ui_eq (fo_F (ya_c ws)) im n)) → ∀ lc sc fl wo sv liv sta fo re, xs_h wo wl → post (-1) (nI L, nI K, nI N, nI wl.length, nI n, lc, sc, fl, wo, sv, liv, sta, nN im, fo, re, 44445)) :
    wpY_unpack post (nI L, nI K, nI N, nI wl.length, nI n, f_liveCount, f_stateCount, f_formLength, a_words, a_saved, a_live, a_state, nN im, a_form, a_reached, 44445) := by
  refine ⟨13, yu_14 (fun sv hsv => ⟨44446, ?_⟩) 12 0 a_saved rfl (fun e he => by omega)⟩
  refine yu_40 hL2 hL hK hN hn him (fun ws lc sc fl wo liv sta fo re h1 h2 h3 h4 h5 => K1 ws lc sc fl wo sv liv sta fo re h1 h2 h3 h4 h5) (fun h lc sc fl wo liv sta fo re hwo => K0 h lc sc fl wo sv liv sta fo re (fun i hi => ?_)) 44445 0 [] a_words a_reached rfl ⟨fun l _ h => by omega, by simp, fun x => ⟨fun h => absurd h List.not_mem_nil, fun h => by omega⟩, Nat.zero_le _, fun i hi => absurd hi (by simp)⟩
  rw [hwo i (by omega), hsv i (by omega)]
  exact hw i hi
end YU
end
section
/-! the relation -/
def ir_F (L K N : Nat) (fh us : Nat) (ac ch rf wd sl nx bk : Nat → Nat) (al fl : List Nat) (rt : Nat) (wl : List Nat) (im : Nat → Nat) (n : Nat) (b_words : Nat → Int32) : Prop :=
  (2 ≤ L ∧ L ≤ 4) ∧ (2 ≤ K ∧ K ≤ 5) ∧ (2 ≤ N ∧ N ≤ 12) ∧ xs_R L K fh us ac ch rf wd sl nx bk al fl rt ∧ wl.length ≤ N ∧ wl.Nodup ∧ (∀ w, w ∈ wl → ∃ l, wd_ok L K l ∧ wd_enc l = w) ∧ (∀ l, wd_dig l → gr_M ac ch rt l = ya_c wl l) ∧ xs_h b_words wl ∧ n ≤ 128 ∧ ∀ j, im j ≤ 127
def i_Rel (k : Nat) (u : SX) (v : SY) : Prop := ∃ L K N fh us rt n : Nat, ∃ ac ch rf wd sl nx bk im : Nat → Nat, ∃ al fl wl : List Nat, ∃ f_draftAccept f_formLength f_planned g_liveCount g_stateCount g_formLength : Int32, ∃ a_draft a_symbol a_path a_stack a_number a_order a_form a_headOf a_edge a_level a_imageWords a_entered a_plan a_built b_words b_saved b_live b_state b_form b_reached : Nat → Int32, ir_F L K N fh us ac ch rf wd sl nx bk al fl rt wl im n b_words ∧ u = (nI L, nI K, nI N, (nI fh), (nI us), nI rt, f_draftAccept, nI n, f_formLength, f_planned, (nN ac), (nN ch), (nN rf), (nN wd), (nN sl), (nN nx), (nN bk), a_draft, a_symbol, a_path, a_stack, a_number, a_order, nN im, a_form, a_headOf, a_edge, a_level, a_imageWords, a_entered, a_plan, a_built) ∧ v = (nI L, nI K, nI N, nI wl.length, nI n, g_liveCount, g_stateCount, g_formLength, b_words, b_saved, b_live, b_state, nN im, b_form, b_reached, 44445)
theorem ir_mk {k : Nat} {L K N fh us rt n : Nat} {ac ch rf wd sl nx bk im : Nat → Nat} {al fl wl : List Nat} {f_draftAccept f_formLength f_planned g_liveCount g_stateCount g_formLength : Int32} {a_draft a_symbol a_path a_stack a_number a_order a_form a_headOf a_edge a_level a_imageWords a_entered a_plan a_built b_words b_saved b_live b_state b_form b_reached : Nat → Int32} (h : ir_F L K N fh us ac ch rf wd sl nx bk al fl rt wl im n b_words) : i_Rel k (nI L, nI K, nI N, (nI fh), (nI us), nI rt, f_draftAccept, nI n, f_formLength, f_planned, (nN ac), (nN ch), (nN rf), (nN wd), (nN sl), (nN nx), (nN bk), a_draft, a_symbol, a_path, a_stack, a_number, a_order, nN im, a_form, a_headOf, a_edge, a_level, a_imageWords, a_entered, a_plan, a_built) (nI L, nI K, nI N, nI wl.length, nI n, g_liveCount, g_stateCount, g_formLength, b_words, b_saved, b_live, b_state, nN im, b_form, b_reached, 44445) := ⟨L, K, N, fh, us, rt, n, ac, ch, rf, wd, sl, nx, bk, im, al, fl, wl, f_draftAccept, f_formLength, f_planned, g_liveCount, g_stateCount, g_formLength, a_draft, a_symbol, a_path, a_stack, a_number, a_order, a_form, a_headOf, a_edge, a_level, a_imageWords, a_entered, a_plan, a_built, b_words, b_saved, b_live, b_state, b_form, b_reached, h, rfl, rfl⟩
theorem ir_el {k : Nat} {u : SX} {v : SY} {P : SX → SY → Prop} (h : ∀ (L K N fh us rt n : Nat) (ac ch rf wd sl nx bk im : Nat → Nat) (al fl wl : List Nat) (f_draftAccept f_formLength f_planned g_liveCount g_stateCount g_formLength : Int32) (a_draft a_symbol a_path a_stack a_number a_order a_form a_headOf a_edge a_level a_imageWords a_entered a_plan a_built b_words b_saved b_live b_state b_form b_reached : Nat → Int32), ir_F L K N fh us ac ch rf wd sl nx bk al fl rt wl im n b_words → P (nI L, nI K, nI N, (nI fh), (nI us), nI rt, f_draftAccept, nI n, f_formLength, f_planned, (nN ac), (nN ch), (nN rf), (nN wd), (nN sl), (nN nx), (nN bk), a_draft, a_symbol, a_path, a_stack, a_number, a_order, nN im, a_form, a_headOf, a_edge, a_level, a_imageWords, a_entered, a_plan, a_built) (nI L, nI K, nI N, nI wl.length, nI n, g_liveCount, g_stateCount, g_formLength, b_words, b_saved, b_live, b_state, nN im, b_form, b_reached, 44445)) (I : i_Rel k u v) : P u v :=
  Exists.elim I fun L I => Exists.elim I fun K I => Exists.elim I fun N I => Exists.elim I fun fh I => Exists.elim I fun us I => Exists.elim I fun rt I => Exists.elim I fun n I => Exists.elim I fun ac I => Exists.elim I fun ch I => Exists.elim I fun rf I => Exists.elim I fun wd I => Exists.elim I fun sl I => Exists.elim I fun nx I => Exists.elim I fun bk I => Exists.elim I fun im I => Exists.elim I fun al I => Exists.elim I fun fl I => Exists.elim I fun wl I => Exists.elim I fun f_draftAccept I => Exists.elim I fun f_formLength I => Exists.elim I fun f_planned I => Exists.elim I fun g_liveCount I => Exists.elim I fun g_stateCount I => Exists.elim I fun g_formLength I => Exists.elim I fun a_draft I => Exists.elim I fun a_symbol I => Exists.elim I fun a_path I => Exists.elim I fun a_stack I => Exists.elim I fun a_number I => Exists.elim I fun a_order I => Exists.elim I fun a_form I => Exists.elim I fun a_headOf I => Exists.elim I fun a_edge I => Exists.elim I fun a_level I => Exists.elim I fun a_imageWords I => Exists.elim I fun a_entered I => Exists.elim I fun a_plan I => Exists.elim I fun a_built I => Exists.elim I fun b_words I => Exists.elim I fun b_saved I => Exists.elim I fun b_live I => Exists.elim I fun b_state I => Exists.elim I fun b_form I => Exists.elim I fun b_reached I => by rw [I.2.1, I.2.2]; exact h L K N fh us rt n ac ch rf wd sl nx bk im al fl wl f_draftAccept f_formLength f_planned g_liveCount g_stateCount g_formLength a_draft a_symbol a_path a_stack a_number a_order a_form a_headOf a_edge a_level a_imageWords a_entered a_plan a_built b_words b_saved b_live b_state b_form b_reached I.1
theorem i_up {k : Nat} {u : SX} {v : SY} (h : i_Rel k u v) : i_Rel (k + 2) u v := h
section IR
variable {L K N fh us rt n : Nat} {ac ch rf wd sl nx bk im : Nat → Nat} {al fl wl : List Nat} {b_words : Nat → Int32}
theorem ir_dig (h : ir_F L K N fh us ac ch rf wd sl nx bk al fl rt wl im n b_words) : ya_wl wl ∧ yo_L L wl := by
  obtain ⟨hL, hK, hN, R, h1, h2, h3, h4, h5, h6, h7⟩ := h
  constructor
  · intro w hw
    obtain ⟨l, hl, e⟩ := h3 w hw
    exact ⟨l, wd_ok_dig hL.2 hl, Nat.le_trans hl.1 hK.2, e⟩
  · intro w hw
    obtain ⟨l, hl, e⟩ := h3 w hw
    exact ⟨l, wd_ok_dig hL.2 hl, Nat.le_trans hl.1 hK.2, hl.2, e⟩
theorem ir_perm (h : ir_F L K N fh us ac ch rf wd sl nx bk al fl rt wl im n b_words) : (((wd_U 5).filter (gr_M ac ch rt)).map wd_enc).Perm wl := by
  have hd := (ir_dig h).1
  obtain ⟨hL, hK, hN, R, h1, h2, h3, h4, h5, h6, h7⟩ := h
  refine (List.perm_ext_iff_of_nodup (ya_map_nd ((wd_nodup 5).filter _) (fun x hx => ((wd_mem 5 x).mp (List.mem_filter.mp hx).1).2)) h2).mpr (fun w => ?_)
  rw [List.mem_map]
  constructor
  · rintro ⟨l, hl, e⟩
    have hl2 := List.mem_filter.mp hl
    have hl3 := ((wd_mem 5 l).mp hl2.1).2
    rw [h4 l hl3] at hl2
    rw [← e]; exact of_decide_eq_true hl2.2
  · intro hw
    obtain ⟨l, g1, g2, g3⟩ := hd w hw
    refine ⟨l, List.mem_filter.mpr ⟨(wd_mem 5 l).mpr ⟨g2, g1⟩, ?_⟩, g3⟩
    rw [h4 l g1]; exact decide_eq_true (by rw [g3]; exact hw)
theorem ir_wd (h : ir_F L K N fh us ac ch rf wd sl nx bk al fl rt wl im n b_words) : wd rt = wl.length := by
  rw [xs_cnt h.2.2.2.1, ← (ir_perm h).length_eq, List.length_map]
theorem ir_al (h : ir_F L K N fh us ac ch rf wd sl nx bk al fl rt wl im n b_words) : al.length ≤ 61 ∧ wl.length ≤ 12 := by
  have h1 := xs_len h.2.2.2.1
  rw [ir_wd h] at h1
  have := h.2.2.2.2.1
  have := h.2.2.1.2
  omega
theorem ir_rt (h : ir_F L K N fh us ac ch rf wd sl nx bk al fl rt wl im n b_words) : rt < 128 := (po_lt h.2.2.2.1.1 h.2.2.2.1.2.2.2.1).1
theorem ir_F_eq (h : ir_F L K N fh us ac ch rf wd sl nx bk al fl rt wl im n b_words) : fo_F (gr_M ac ch rt) = fo_F (ya_c wl) ∧ fo_D (gr_M ac ch rt) = fo_D (ya_c wl) := ⟨fo_F_congr h.2.2.2.2.2.2.2.1, fo_D_congr h.2.2.2.2.2.2.2.1⟩
theorem ir_im (h : ∀ j, im j ≤ 127) (hl : wl.length ≤ 12) (hwl : ya_wl wl) : ∀ j, xp_im im (fo_F (ya_c wl)) (fo_F (ya_c wl)).length j ≤ 127 := by
  have ixl : ∀ (x : List (List Nat)) (D : List (List (List Nat))), dd_ix x D ≤ D.length := by
    intro x D
    induction D with
    | nil => exact Nat.le_refl _
    | cons y D ih => rw [dd_ix]; split <;> simp <;> omega
  have hD := yb_D61 hwl hl
  have hall : ∀ x, x ∈ fo_F (ya_c wl) → x ≤ 127 := by
    intro x hx
    rw [fo_F] at hx
    obtain ⟨k, _, hk⟩ := List.mem_flatMap.mp hx
    rw [fo_bl] at hk
    rcases List.mem_cons.mp hk with e | hk
    · rw [e, fo_h]
      have : fo_ac k ≤ 1 := by rw [fo_ac]; split <;> omega
      repeat' split
      all_goals omega
    · rw [fo_ts] at hk
      obtain ⟨d, _, e⟩ := List.mem_map.mp hk
      have := ixl (fo_dv d k) (fo_D (ya_c wl))
      omega
  intro j
  rw [xp_im]
  split
  · rename_i hj
    rw [List.getD_eq_getElem?_getD, List.getElem?_eq_getElem hj]
    exact hall _ (List.getElem_mem hj)
  · exact h j
/-- the number of the least words, on both sides -/
theorem ir_rank (h : ir_F L K N fh us ac ch rf wd sl nx bk al fl rt wl im n b_words) {l : List Nat} (hl : wd_dig l) (h5 : l.length ≤ 5) : gr_rk ac ch wd rt l = List.countP (fun w => decide (ya_pd (nI w) < ya_pd (nI (wd_enc l)))) wl := by
  have R := h.2.2.2.1
  rw [gr_rank (xs_G R) 5 rt l R.2.2.2.1 (xs_dep R R.2.2.2.1) hl h5, ← (ir_perm h).countP_eq, List.countP_map]
  apply List.countP_congr
  intro v hv
  obtain ⟨v5, vd⟩ := (wd_mem 5 v).mp (List.mem_filter.mp hv).1
  obtain ⟨e1, e2⟩ := ya_pd_e vd v5
  obtain ⟨e3, e4⟩ := ya_pd_e hl h5
  simp only [Function.comp, decide_eq_true_eq]
  rw [e1, e3, nI_ltI (by omega) (by omega)]
theorem ir_rinj (h : ir_F L K N fh us ac ch rf wd sl nx bk al fl rt wl im n b_words) {a b : List Nat} (ha : wd_dig a) (ha5 : a.length ≤ 5) (hb : wd_dig b) (hb5 : b.length ≤ 5) (ma : gr_M ac ch rt a = true) (mb : gr_M ac ch rt b = true) (e : gr_rk ac ch wd rt a = gr_rk ac ch wd rt b) : a = b := by
  have R := h.2.2.2.1
  rw [gr_rank (xs_G R) 5 rt a R.2.2.2.1 (xs_dep R R.2.2.2.1) ha ha5, gr_rank (xs_G R) 5 rt b R.2.2.2.1 (xs_dep R R.2.2.2.1) hb hb5] at e
  have ma2 : a ∈ (wd_U 5).filter (gr_M ac ch rt) := List.mem_filter.mpr ⟨(wd_mem 5 a).mpr ⟨ha5, ha⟩, ma⟩
  have mb2 : b ∈ (wd_U 5).filter (gr_M ac ch rt) := List.mem_filter.mpr ⟨(wd_mem 5 b).mpr ⟨hb5, hb⟩, mb⟩
  rcases Nat.lt_trichotomy (wd_pk 5 a) (wd_pk 5 b) with z | z | z
  · have := gr_cl (f := wd_pk 5) ma2 z; omega
  · have e1 := (ya_pd_e ha ha5).1
    have inj : ∀ (k : Nat) (a b : List Nat), a.length ≤ k → b.length ≤ k → wd_dig a → wd_dig b → wd_pk k a = wd_pk k b → a = b := by
      intro k
      induction k with
      | zero =>
        intro a b h1 h2 _ _ _
        rw [List.eq_nil_of_length_eq_zero (by omega : a.length = 0), List.eq_nil_of_length_eq_zero (by omega : b.length = 0)]
      | succ k ih =>
        intro a b h1 h2 d1 d2 e
        cases a with
        | nil =>
          cases b with
          | nil => rfl
          | cons y b =>
            simp only [wd_pk] at e
            have : 0 < (y + 1) * 10 ^ k := Nat.mul_pos (by omega) (Nat.pow_pos (by decide))
            omega
        | cons x a =>
          cases b with
          | nil =>
            simp only [wd_pk] at e
            have : 0 < (x + 1) * 10 ^ k := Nat.mul_pos (by omega) (Nat.pow_pos (by decide))
            omega
          | cons y b =>
            have q1 := wd_dig_cons.mp d1
            have q2 := wd_dig_cons.mp d2
            have nlt1 : ¬ wd_pk (k + 1) (x :: a) < wd_pk (k + 1) (y :: b) := by omega
            have nlt2 : ¬ wd_pk (k + 1) (y :: b) < wd_pk (k + 1) (x :: a) := by omega
            rw [wd_pk_cons q1.2 q2.2] at nlt1
            rw [wd_pk_cons q2.2 q1.2] at nlt2
            have exy : x = y := by
              rcases Nat.lt_trichotomy x y with w | w | w
              · exact absurd (Or.inl w) nlt1
              · exact w
              · exact absurd (Or.inl w) nlt2
            subst exy
            have : wd_pk k a = wd_pk k b := by
              rcases Nat.lt_trichotomy (wd_pk k a) (wd_pk k b) with w | w | w
              · exact absurd (Or.inr ⟨rfl, w⟩) nlt1
              · exact w
              · exact absurd (Or.inr ⟨rfl, w⟩) nlt2
            rw [ih a b (by simp at h1; omega) (by simp at h2; omega) q1.2 q2.2 this]
    exact inj 5 a b ha5 hb5 ha hb z
  · have := gr_cl (f := wd_pk 5) mb2 z; omega
theorem ir_pc (h : ir_F L K N fh us ac ch rf wd sl nx bk al fl rt wl im n b_words) {l : List Nat} (hl : wd_dig l) (h5 : l.length ≤ 5) : wd (gr_go ch rt l) = List.countP (fun w => decide (¬ ya_tl 5 (nI w) (nI (wd_enc l)) 1 ≤ 0)) wl := by
  have R := h.2.2.2.1
  have hnd := xs_nd R hl
  rw [gr_cnt (xs_G R) 5 _ hnd (xs_dep R hnd), ← (ir_perm h).countP_eq, List.countP_map, List.countP_eq_length_filter]
  have e : ((wd_U 5).filter (gr_M ac ch (gr_go ch rt l))).length = (((wd_U 5).filter (gr_M ac ch (gr_go ch rt l))).map (fun v => l ++ v)).length := by rw [List.length_map]
  rw [e]
  refine List.Perm.length_eq ((List.perm_ext_iff_of_nodup ?_ ?_).mpr (fun u => ?_))
  · have : ∀ m : List (List Nat), m.Nodup → (m.map (fun v => l ++ v)).Nodup := by
      intro m hm
      induction m with
      | nil => simp
      | cons a m ih =>
        rw [List.nodup_cons] at hm
        rw [List.map_cons, List.nodup_cons]
        refine ⟨fun z => ?_, ih hm.2⟩
        obtain ⟨b, hb, eb⟩ := List.mem_map.mp z
        rw [List.append_cancel_left eb] at hb
        exact hm.1 hb
    exact this _ ((wd_nodup 5).filter _)
  · exact ((wd_nodup 5).filter _).filter _
  · have tl : ∀ u, u ∈ (wd_U 5).filter (gr_M ac ch rt) → ((¬ ya_tl 5 (nI (wd_enc u)) (nI (wd_enc l)) 1 ≤ 0) ↔ ∃ v, u = l ++ v) := by
      intro u hu
      obtain ⟨u5, ud⟩ := (wd_mem 5 u).mp (List.mem_filter.mp hu).1
      obtain ⟨t1, t2⟩ := ya_tl_e hl h5 5 u 1 ud u5 u5
      constructor
      · intro z
        apply Classical.byContradiction
        intro c
        have := t2 c
        rw [show (lN 1) = (1 : Int64) from rfl] at this
        rw [this] at z
        exact z (by decide)
      · rintro ⟨v, ev⟩ z
        have := t1 v ev
        rw [show (lN 1) = (1 : Int64) from rfl, Nat.one_mul] at this
        rw [this] at z
        have hvl : v.length ≤ 5 := by
          have := congrArg List.length ev
          rw [List.length_append] at this; omega
        have hp : 0 < 10 ^ v.length := Nat.pow_pos (by decide)
        have hp2 : (10 : Nat) ^ v.length ≤ 10 ^ 5 := Nat.pow_le_pow_right (by decide) hvl
        have z2 : lN (10 ^ v.length) ≤ lN 0 := z
        rw [pk_lLE (by omega) (by omega)] at z2
        omega
    rw [List.mem_map, List.mem_filter]
    constructor
    · rintro ⟨v, hv, e⟩
      have hv2 := List.mem_filter.mp hv
      have vd := ((wd_mem 5 v).mp hv2.1).2
      have hM : gr_M ac ch rt (l ++ v) = true := by rw [gr_M_app]; exact hv2.2
      have hd := wd_dig_app.mpr ⟨hl, vd⟩
      have hu : u ∈ (wd_U 5).filter (gr_M ac ch rt) := by
        rw [← e]
        exact List.mem_filter.mpr ⟨(wd_mem 5 _).mpr ⟨gr_sup (xs_G R) (xs_dep R R.2.2.2.1) _ hd hM, hd⟩, hM⟩
      exact ⟨hu, decide_eq_true ((tl u hu).mpr ⟨v, e.symm⟩)⟩
    · rintro ⟨hu, hz⟩
      obtain ⟨v, ev⟩ := (tl u hu).mp (of_decide_eq_true hz)
      have hu2 := List.mem_filter.mp hu
      obtain ⟨u5, ud⟩ := (wd_mem 5 u).mp hu2.1
      rw [ev] at ud u5 hu2
      have vd := (wd_dig_app.mp ud).2
      rw [List.length_append] at u5
      refine ⟨v, List.mem_filter.mpr ⟨(wd_mem 5 v).mpr ⟨by omega, vd⟩, ?_⟩, ev.symm⟩
      rw [← gr_M_app]; exact hu2.2
theorem ir_st (h : ir_F L K N fh us ac ch rf wd sl nx bk al fl rt wl im n b_words) : (gr_or ch rt).length = (fo_D (ya_c wl)).length ∧ (rt ≠ 0 → al.length = (gr_or ch rt).length) := by
  have R := h.2.2.2.1
  constructor
  · rw [← (ir_F_eq h).2, ← gr_or_D (xs_G R) (xs_un R) R.2.2.1 R.2.2.2.1, List.length_map]
  · intro h0
    refine List.Perm.length_eq ((List.perm_ext_iff_of_nodup (List.nodup_append.mp R.1.1).1 (gr_or_nd rt)).mpr (fun m => ?_))
    rw [gr_or_mem (xs_G R) R.2.2.2.1 (xs_dep R R.2.2.2.1)]
    constructor
    · intro hm
      obtain ⟨p, hp, e⟩ := xs_reach R hm
      exact Or.inr ⟨h0, ((xs_G R).2 m hm).1, p, hp, e⟩
    · rintro (⟨z, _⟩ | ⟨_, z, p, hp, e⟩)
      · exact absurd z h0
      · have := xs_nd R hp
        rw [e] at this
        exact this.resolve_left z
theorem ir_sn (h : ir_F L K N fh us ac ch rf wd sl nx bk al fl rt wl im n b_words) {p : List Nat} (hp : wd_dig p) : (p ∈ wd_P (ya_c wl) ↔ p = [] ∨ gr_go ch rt p ≠ 0) ∧ (rt ≠ 0 → gr_go ch rt p ≠ 0 → yb_sn wl p = dd_ix (gr_go ch rt p) (gr_or ch rt) ∧ gr_go ch rt p ∈ gr_or ch rt) ∧ yb_sn wl [] = 0 := by
  have hd := (ir_dig h).1
  have R := h.2.2.2.1
  have hc := h.2.2.2.2.2.2.2.1
  have G := xs_G R
  have hdep := xs_dep R R.2.2.2.1
  refine ⟨?_, ?_, ?_⟩
  · rw [← fo_P_congr hc]
    constructor
    · intro hm
      exact (gr_lv G R.2.2.2.1 hdep hp).mp (List.mem_filter.mp hm).2
    · intro hm
      refine List.mem_filter.mpr ⟨(wd_mem 5 p).mpr ⟨?_, hp⟩, (gr_lv G R.2.2.2.1 hdep hp).mpr hm⟩
      rcases hm with z | z
      · rw [z]; simp
      · rcases Nat.lt_or_ge 5 p.length with y | y
        · exact absurd (hdep p hp y) z
        · exact y
  · intro h0 hz
    have hmem : gr_go ch rt p ∈ gr_or ch rt := (gr_or_mem G R.2.2.2.1 hdep).mpr (Or.inr ⟨h0, hz, p, hp, rfl⟩)
    refine ⟨?_, hmem⟩
    rw [yb_sn, ← fo_fu_congr hc hp, ← fo_D_congr hc, gr_fu, ← gr_or_D G (xs_un R) R.2.2.1 R.2.2.2.1]
    apply dd_ix_map
    intro y hy e
    have orD : ∀ m, m ∈ gr_or ch rt → m = 0 ∨ m ∈ al := (xp_or R.1 R.2.2.1 R.2.2.2.1).2.2.1
    exact gr_inj G (xs_un R) 5 _ _ (orD _ hmem) (orD y hy) (xs_dep R (orD _ hmem)) (xs_dep R (orD y hy)) (gr_key_M (xs_dep R (orD _ hmem)) (xs_dep R (orD y hy)) G e)
  · obtain ⟨t, ht⟩ := wd_P_head (ya_c wl)
    rw [yb_sn, fo_D, ht, List.map_cons, dd_cons, dd_in, if_neg List.not_mem_nil]
    obtain ⟨s, hs⟩ := dd_pre (t.map (wd_fu (ya_c wl))) ([] ++ [wd_fu (ya_c wl) []])
    rw [hs]
    simp [dd_ix]
end IR
end
section
/-! the owed statements -/
def ic_v (lo hi : Nat) (x : Int32) : Int32 := if nI lo ≤ x then (if x ≤ nI hi then x else nI hi) else nI lo
theorem ic_v_n {lo hi : Nat} (h : lo ≤ hi) (hb : hi < 2 ^ 30) (x : Int32) : ∃ j, (lo ≤ j ∧ j ≤ hi) ∧ ic_v lo hi x = nI j := by
  rw [ic_v]
  by_cases h1 : nI lo ≤ x
  · rw [if_pos h1]
    by_cases h2 : x ≤ nI hi
    · rw [if_pos h2]
      have h0 : ¬ x < 0 := fun z => nI_pos (n := lo) (by omega) (Int32.lt_of_le_of_lt h1 z)
      obtain ⟨j, hj, e⟩ := nI_of h0
      subst e
      exact ⟨j, ⟨(nI_leI (by omega) hj).mp h1, (nI_leI hj (by omega)).mp h2⟩, rfl⟩
    · rw [if_neg h2]; exact ⟨hi, ⟨h, Nat.le_refl _⟩, rfl⟩
  · rw [if_neg h1]; exact ⟨lo, ⟨Nat.le_refl _, h⟩, rfl⟩
theorem ic_b {lo hi : Nat} {x : Int32} {P : Int32 → Prop} (h : P (ic_v lo hi x)) : (nI lo ≤ x → ((x ≤ nI hi → P x) ∧ (¬ x ≤ nI hi → P (nI hi)))) ∧ (¬ nI lo ≤ x → P (nI lo)) := by
  rw [ic_v] at h
  refine ⟨fun h1 => ?_, fun h1 => ?_⟩
  · rw [if_pos h1] at h
    refine ⟨fun h2 => ?_, fun h2 => ?_⟩
    · rw [if_pos h2] at h; exact h
    · rw [if_neg h2] at h; exact h
  · rw [if_neg h1] at h; exact h
def ic_nx (i : Nat) : Nat → Nat := fun j => if 1 ≤ j ∧ j < i then j + 1 else 0
theorem ic_nxs {i : Nat} (hi : 1 ≤ i) : po_up (ic_nx i) i (i + 1) = ic_nx (i + 1) := by
  funext j
  rw [po_up, ic_nx, ic_nx]
  by_cases e : j = i
  · rw [if_pos e, if_pos (by omega), e]
  · rw [if_neg e]
    by_cases z : 1 ≤ j ∧ j < i
    · rw [if_pos z, if_pos (by omega)]
    · rw [if_neg z, if_neg (by omega)]
section IC
variable {f_letters f_maxLength f_maxWords f_freeHead f_used f_root f_draftAccept f_imageSize f_formLength f_planned : Int32} {a_accept a_child a_refs a_words a_slot a_next a_bucket a_draft a_symbol a_path a_stack a_number a_order a_image a_form a_headOf a_edge a_level a_imageWords a_entered a_plan a_built : Nat → Int32}
theorem ic_cl {post : Int32 → Prop} {u : SX} {x : Int32} {lo hi : Nat} (h : post (ic_v lo hi x)) : wpX_clamp post u x (nI lo) (nI hi) := ic_b h
theorem ic_233 {post : SX → Prop} (Kp : post (f_letters, f_maxLength, f_maxWords, 1, f_used, f_root, f_draftAccept, f_imageSize, f_formLength, f_planned, a_accept, a_child, a_refs, a_words, a_slot, nN (ic_nx 127), a_bucket, a_draft, a_symbol, a_path, a_stack, a_number, a_order, a_image, a_form, a_headOf, a_edge, a_level, a_imageWords, a_entered, a_plan, a_built)) : ∀ (j i : Nat), 1 ≤ i → i + j = 127 → wX_init_233 post f_letters f_maxLength f_maxWords f_freeHead f_used f_root f_draftAccept f_imageSize f_formLength f_planned (j + 1) (nI i) a_accept a_child a_refs a_words a_slot (nN (ic_nx i)) a_bucket a_draft a_symbol a_path a_stack a_number a_order a_image a_form a_headOf a_edge a_level a_imageWords a_entered a_plan a_built := by
  intro j
  induction j with
  | zero =>
    intro i h1 hi
    have : i = 127 := by omega
    subst this
    exact pk_le 127 127 (fun _ => Kp) (fun z => absurd z (by omega))
  | succ j ih =>
    intro i h1 hi
    refine pk_le 127 i (fun z => absurd z (by omega)) (fun _ => And.intro (vp_in_nI (by omega) (by omega)) (nm_r (e' := nN (ic_nx (i + 1))) ?_ (nm_r (nI_1 i) (ih (i + 1) (by omega) (by omega)))))
    rw [nI_clamp (by omega), nI_1, po_upd, ic_nxs h1]
end IC
theorem ic_R (L K : Nat) : xs_R L K 1 0 (fun _ => 0) (fun _ => 0) (fun _ => 0) (fun _ => 0) (fun _ => 0) (ic_nx 127) (fun _ => 0) [] (List.range' 1 127) 0 := by
  have G : gr_G (fun n => n ∈ ([] : List Nat)) (fun _ => 0) (fun _ => 0) (fun _ => 0) := ⟨⟨rfl, rfl, fun _ _ => rfl⟩, fun n hn => absurd hn List.not_mem_nil⟩
  have chn : ∀ k a, a + k = 127 → 1 ≤ a → po_ch (ic_nx 127) a (List.range' a (k + 1)) := by
    intro k
    induction k with
    | zero =>
      intro a ha h1
      have : a = 127 := by omega
      subst this
      exact ⟨rfl, by omega, by rw [ic_nx, if_neg (by omega)]; rfl⟩
    | succ k ih =>
      intro a ha h1
      refine ⟨rfl, by omega, ?_⟩
      rw [ic_nx, if_pos (by omega)]
      exact ih (a + 1) (by omega) (by omega)
  refine ⟨⟨?_, ?_, by simp, rfl, chn 126 1 rfl (by omega), fun h _ => rfl, fun n hn => absurd hn List.not_mem_nil, G, fun n m hn => absurd hn List.not_mem_nil, fun n hn => absurd hn List.not_mem_nil, fun n hn => ?_⟩, fun m hm => absurd hm List.not_mem_nil, fun m hm => absurd hm List.not_mem_nil, Or.inl rfl, gr_ok_z G L K⟩
  · exact List.nodup_range'
  · intro n hn
    have := List.mem_range'_1.mp hn
    omega
  · by_cases z : n = 0
    · exact Or.inl z
    · exact absurd (if_neg z) hn
theorem ic_Y {post : SY → Prop} {k0 k1 k2 : Int32} (Kp : post (ic_v 2 4 k0, ic_v 2 5 k1, ic_v 2 12 k2, 0, 0, 0, 0, 0, (fun _ => 0), (fun _ => 0), (fun _ => 0), (fun _ => 0), (fun _ => 0), (fun _ => 0), (fun _ => 0), 44445)) : wpY_init post k0 k1 k2 := by
  have e4 : (44445 : Int32).toNatClampNeg = 44445 := by decide
  refine And.intro (by decide) (nm_r e4 (And.intro (Nat.le_refl _) ?_))
  refine ic_b (lo := 2) (hi := 4) (x := k0) (P := fun y => wY_init_82 post k1 k2 y 0 0 0 0 0 0 0 0 (fun _ => 0) (fun _ => 0) (fun _ => 0) (fun _ => 0) (fun _ => 0) (fun _ => 0) (fun _ => 0) 44445) ?_
  refine ic_b (lo := 2) (hi := 5) (x := k1) (P := fun y => wY_init_105 post k2 y (ic_v 2 4 k0) 0 0 0 0 0 0 0 (fun _ => 0) (fun _ => 0) (fun _ => 0) (fun _ => 0) (fun _ => 0) (fun _ => 0) (fun _ => 0) 44445) ?_
  exact ic_b (lo := 2) (hi := 12) (x := k2) (P := fun y => post (ic_v 2 4 k0, ic_v 2 5 k1, y, 0, 0, 0, 0, 0, (fun _ => 0), (fun _ => 0), (fun _ => 0), (fun _ => 0), (fun _ => 0), (fun _ => 0), (fun _ => 0), 44445)) Kp
theorem i_vc0 (k0 : Int32) (k1 : Int32) (k2 : Int32) : wpX_init (fun u => wpY_init (fun v => i_Rel 3 u v) k0 k1 k2) k0 k1 k2 := by
  obtain ⟨L, hL, eL⟩ := ic_v_n (lo := 2) (hi := 4) (by omega) (by omega) k0
  obtain ⟨K, hK, eK⟩ := ic_v_n (lo := 2) (hi := 5) (by omega) (by omega) k1
  obtain ⟨N, hN, eN⟩ := ic_v_n (lo := 2) (hi := 12) (by omega) (by omega) k2
  refine ic_cl (lo := 2) (hi := 4) (ic_cl (lo := 2) (hi := 5) (ic_cl (lo := 2) (hi := 12) ⟨127, ?_⟩))
  rw [eL, eK, eN]
  have e0 : (fun _ => 0 : Nat → Int32) = nN (ic_nx 1) := by
    funext j; rw [nN, ic_nx, if_neg (by omega)]; rfl
  have fin : wpY_init (fun v => i_Rel 3 (nI L, nI K, nI N, nI 1, nI 0, nI 0, 0, nI 0, 0, 0, nN (fun _ => 0), nN (fun _ => 0), nN (fun _ => 0), nN (fun _ => 0), nN (fun _ => 0), nN (ic_nx 127), nN (fun _ => 0), (fun _ => 0), (fun _ => 0), (fun _ => 0), (fun _ => 0), (fun _ => 0), (fun _ => 0), nN (fun _ => 0), (fun _ => 0), (fun _ => 0), (fun _ => 0), (fun _ => 0), (fun _ => 0), (fun _ => 0), (fun _ => 0), (fun _ => 0)) v) k0 k1 k2 := by
    refine ic_Y ?_
    rw [eL, eK, eN]
    refine ir_mk (wl := []) (im := fun _ => 0) (al := []) (fl := List.range' 1 127) ⟨hL, hK, hN, ic_R L K, by simp, by simp, fun w hw => absurd hw List.not_mem_nil, fun l hl => ?_, fun i hi => absurd hi (by simp), by omega, fun _ => Nat.zero_le _⟩
    rw [gr_M0 (xs_G (ic_R L K)) hl]; rfl
  have := ic_233 (f_freeHead := 0) (post := fun u => wpY_init (fun v => i_Rel 3 u v) k0 k1 k2) fin 126 1 (by omega) rfl
  rw [← e0] at this
  exact this
/-! the readers -/
section IY
variable {f_letters f_maxLength f_maxWords f_size f_length f_liveCount f_stateCount f_formLength : Int32} {a_words a_saved a_live a_state a_image a_form a_reached : Nat → Int32} {n_reached : Nat}
variable {wl : List Nat}
theorem iy_cont {post : Int32 → Prop} {x : Int32} (hl : wl.length ≤ 12) (hw : xs_h a_words wl) (K1 : (∃ m, m ∈ wl ∧ x = nI m) → post 1) (K0 : (∀ m, m ∈ wl → ¬ x = nI m) → post 0) : wpY_contains post (f_letters, f_maxLength, f_maxWords, nI wl.length, f_length, f_liveCount, f_stateCount, f_formLength, a_words, a_saved, a_live, a_state, a_image, a_form, a_reached, n_reached) x := by
  unfold wpY_contains
  refine ya_fd hl hw (fun p m s e h => ?_) (fun h => br_t (by decide) (K0 (fun m hm z => h m hm (by rw [z]))))
  have hll : wl.length = p.length + (s.length + 1) := by rw [e]; simp
  exact br_f (nI_pos (by omega)) (K1 ⟨m, by rw [e]; simp, (ya_l h).symm⟩)
end IY
theorem iy_rem {b : Nat → Int32} {p s : List Nat} {m : Nat} (hb : xs_h b (p ++ m :: s)) (hn : (p ++ m :: s).Nodup) : ∃ wl', wl'.length = (p ++ m :: s).length - 1 ∧ xs_h (upd b p.length (b ((p ++ m :: s).length - 1))) wl' ∧ wl'.Nodup ∧ ∀ x, x ∈ wl' ↔ x ∈ p ++ m :: s ∧ x ≠ m := by
  have hm := po_fil hn
  rcases wd_rc s with rfl | ⟨s', z, rfl⟩
  · refine ⟨p, by simp, fun i hi => ?_, (List.nodup_append.mp hn).1, fun x => ?_⟩
    · rw [pk_un (by omega), hb i (by simp; omega), List.getD_eq_getElem?_getD, List.getD_eq_getElem?_getD, List.getElem?_append_left hi]
    · constructor
      · intro hx; exact ⟨List.mem_append_left _ hx, fun e => hm.2.1 (e ▸ hx)⟩
      · rintro ⟨hx, hne⟩
        rcases List.mem_append.mp hx with h | h
        · exact h
        · exact absurd (by simpa using h) hne
  · have el : (p ++ m :: (s' ++ [z])).length - 1 = (p ++ m :: s').length := by simp
    have e2 : p ++ m :: (s' ++ [z]) = (p ++ m :: s') ++ [z] := by simp
    have hb2 := hb
    rw [e2] at hb2
    have ez := (xs_pop hb2).2
    rw [el, ez]
    have h3 := yb_hset hb z
    rw [show p ++ z :: (s' ++ [z]) = (p ++ z :: s') ++ [z] by simp] at h3
    have hperm : (p ++ m :: (s' ++ [z])).Perm (m :: (p ++ z :: s')) := by
      refine List.perm_middle.trans (List.Perm.cons m ?_)
      rw [← List.append_assoc]
      refine (List.perm_append_comm (l₁ := p ++ s') (l₂ := [z])).trans ?_
      show (z :: (p ++ s')).Perm (p ++ z :: s')
      exact List.perm_middle.symm
    have hn2 := List.nodup_cons.mp (hperm.nodup_iff.mp hn)
    refine ⟨p ++ z :: s', by simp, (xs_pop h3).1, hn2.2, fun x => ?_⟩
    rw [hperm.mem_iff, List.mem_cons]
    constructor
    · intro hx; exact ⟨Or.inr hx, fun e => hn2.1 (e ▸ hx)⟩
    · rintro ⟨hx, hne⟩; exact hx.resolve_left hne
theorem i_vc_contains {k : Nat} {u : SX} {v : SY} (I : i_Rel k u v) (hk : k + 2 ≤ 1027) (v1 : Int32) : wpX_contains (fun r u' => wpY_contains (fun r' => r' = r ∧ i_Rel (k + 2) u' v) v v1) u v1 := by
  refine ir_el (P := fun u v => wpX_contains (fun r u' => wpY_contains (fun r' => r' = r ∧ i_Rel (k + 2) u' v) v v1) u v1) ?_ I
  intro L K N fh us rt n ac ch rf wd sl nx bk im al fl wl f_draftAccept f_formLength f_planned g_liveCount g_stateCount g_formLength a_draft a_symbol a_path a_stack a_number a_order a_form a_headOf a_edge a_level a_imageWords a_entered a_plan a_built b_words b_saved b_live b_state b_form b_reached hF
  obtain ⟨hL, hK, hN, R, h1, h2, h3, h4, h5, h6, h7⟩ := id hF
  obtain ⟨_, h12⟩ := ir_al hF
  unfold wpX_contains
  refine xk_decode hL.2 hK.2 (fun w l sy ew hw hl e hsy => ?_) (fun hno sy => ?_)
  · have hdl := wd_ok_dig hL.2 hl
    refine br_t (nI_pos' (by have := hl.1; omega)) (xl_loc R hdl (Nat.le_trans hl.1 hK.2) hsy (fun pa hpa => ?_))
    have hn := xs_lt R hdl
    have hle := (po_lt R.1 (xs_nd R hdl)).2.1
    have hM := h4 l hdl
    refine And.intro (vp_in_nI hn (by omega)) (pk_eq (ac (gr_go ch rt l)) 1 (fun z => ?_) (fun z => ?_) (by rw [nI_clamp (by omega)]; rfl))
    · refine iy_cont h12 h5 (fun _ => ⟨rfl, ir_mk hF⟩) (fun hno => ?_)
      rw [gr_M, decide_eq_true z] at hM
      have := of_decide_eq_true hM.symm
      rw [e] at this
      exact absurd ew (hno w this)
    · refine iy_cont h12 h5 (fun ⟨m, hm, em⟩ => ?_) (fun _ => ⟨rfl, ir_mk hF⟩)
      rw [gr_M, decide_eq_false z] at hM
      have h9 : w = m := by
        rw [ew] at em
        exact (nI_eq hw (ya_wl_lt (ir_dig hF).1 m hm)).mp em
      have := of_decide_eq_false hM.symm
      rw [e, h9] at this
      exact absurd hm this
  · refine br_f (by decide) (iy_cont h12 h5 (fun ⟨m, hm, em⟩ => ?_) (fun _ => ⟨rfl, ir_mk hF⟩))
    obtain ⟨l, hl, e⟩ := h3 m hm
    exact absurd ⟨l, hl, by rw [e]; exact em⟩ hno
theorem i_vc_count {k : Nat} {u : SX} {v : SY} (I : i_Rel k u v) (hk : k + 2 ≤ 1027) : wpX_count (fun r => wpY_count (fun r' => r' = r ∧ i_Rel (k + 2) u v) v) u := by
  refine ir_el (P := fun u v => wpX_count (fun r => wpY_count (fun r' => r' = r ∧ i_Rel (k + 2) u v) v) u) ?_ I
  intro L K N fh us rt n ac ch rf wd sl nx bk im al fl wl f_draftAccept f_formLength f_planned g_liveCount g_stateCount g_formLength a_draft a_symbol a_path a_stack a_number a_order a_form a_headOf a_edge a_level a_imageWords a_entered a_plan a_built b_words b_saved b_live b_state b_form b_reached hF
  have hrt := ir_rt hF
  refine And.intro (vp_in_nI hrt (by omega)) ⟨?_, ir_mk hF⟩
  rw [nI_clamp (by omega), nN, ir_wd hF]
theorem i_vc_rank {k : Nat} {u : SX} {v : SY} (I : i_Rel k u v) (hk : k + 2 ≤ 1027) (v1 : Int32) : wpX_rank (fun r u' => wpY_rank (fun r' => r' = r ∧ i_Rel (k + 2) u' v) v v1) u v1 := by
  refine ir_el (P := fun u v => wpX_rank (fun r u' => wpY_rank (fun r' => r' = r ∧ i_Rel (k + 2) u' v) v v1) u v1) ?_ I
  intro L K N fh us rt n ac ch rf wd sl nx bk im al fl wl f_draftAccept f_formLength f_planned g_liveCount g_stateCount g_formLength a_draft a_symbol a_path a_stack a_number a_order a_form a_headOf a_edge a_level a_imageWords a_entered a_plan a_built b_words b_saved b_live b_state b_form b_reached hF
  obtain ⟨hL, hK, hN, R, h1, h2, h3, h4, h5, h6, h7⟩ := id hF
  obtain ⟨_, h12⟩ := ir_al hF
  unfold wpX_rank
  refine xk_decode hL.2 hK.2 (fun w l sy ew hw hl e hsy => ?_) (fun hno sy => ?_)
  · have hdl := wd_ok_dig hL.2 hl
    have hl5 := hl.1
    refine br_t (nI_pos' (by omega)) ⟨l.length + 1, ?_⟩
    refine xq_23 (D := fun m => m ∈ al) (xs_G R) (fun m hm => (po_lt R.1 (Or.inr hm)).1) (by omega) l rt 0 0 R.2.2.2.1 hdl (by omega) (fun j hj => by rw [Nat.zero_add]; exact hsy j hj) ?_
    rw [Nat.zero_add, ir_rank hF hdl (by omega)]
    subst ew
    rw [e]
    exact yo_rank hK.2 hL.2 h12 h5 (fun _ _ _ => ⟨rfl, ir_mk hF⟩) (fun hno => absurd ⟨l, hl, by rw [e]⟩ hno)
  · refine br_f (by decide) (yo_rank hK.2 hL.2 h12 h5 (fun l h8 h9 => absurd ⟨l, h8, h9⟩ hno) (fun _ => ⟨rfl, ir_mk hF⟩))
theorem i_vc_wordAt {k : Nat} {u : SX} {v : SY} (I : i_Rel k u v) (hk : k + 2 ≤ 1027) (v1 : Int32) : wpX_wordAt (fun r => wpY_wordAt (fun r' => r' = r ∧ i_Rel (k + 2) u v) v v1) u v1 := by
  refine ir_el (P := fun u v => wpX_wordAt (fun r => wpY_wordAt (fun r' => r' = r ∧ i_Rel (k + 2) u v) v v1) u v1) ?_ I
  intro L K N fh us rt n ac ch rf wd sl nx bk im al fl wl f_draftAccept f_formLength f_planned g_liveCount g_stateCount g_formLength a_draft a_symbol a_path a_stack a_number a_order a_form a_headOf a_edge a_level a_imageWords a_entered a_plan a_built b_words b_saved b_live b_state b_form b_reached hF
  obtain ⟨hL, hK, hN, R, h1, h2, h3, h4, h5, h6, h7⟩ := id hF
  obtain ⟨_, h12⟩ := ir_al hF
  have hrt := ir_rt hF
  have hwd := ir_wd hF
  have cl : ∀ (f : Nat → Bool), List.countP f wl ≤ wl.length := fun f => List.countP_le_length
  have small : ∀ l, wd_dig l → l.length ≤ 5 → gr_M ac ch rt l = true → gr_rk ac ch wd rt l < wl.length := by
    intro l hd hl5 hM
    rw [ir_rank hF hd hl5]
    have hm : wd_enc l ∈ wl := by rw [h4 l hd] at hM; exact of_decide_eq_true hM
    refine Nat.lt_of_le_of_ne (cl _) (fun z => ?_)
    have := List.countP_eq_length.mp z (wd_enc l) hm
    have := of_decide_eq_true this
    exact absurd this (Int32.lt_irrefl)
  have wn : ∀ w, w ∈ wl → ∃ l, wd_dig l ∧ l.length ≤ 5 ∧ gr_M ac ch rt l = true ∧ wd_enc l = w := by
    intro w hw
    obtain ⟨l, g1, g2, g3⟩ := (ir_dig hF).1 w hw
    exact ⟨l, g1, g2, by rw [h4 l g1]; exact decide_eq_true (by rw [g3]; exact hw), g3⟩
  have none : (∀ r, r < wl.length → ¬ nI r = v1) → wpY_wordAt (fun r' => r' = (-2) ∧ i_Rel (k + 2) (nI L, nI K, nI N, (nI fh), (nI us), nI rt, f_draftAccept, nI n, f_formLength, f_planned, (nN ac), (nN ch), (nN rf), (nN wd), (nN sl), (nN nx), (nN bk), a_draft, a_symbol, a_path, a_stack, a_number, a_order, nN im, a_form, a_headOf, a_edge, a_level, a_imageWords, a_entered, a_plan, a_built) (nI L, nI K, nI N, nI wl.length, nI n, g_liveCount, g_stateCount, g_formLength, b_words, b_saved, b_live, b_state, nN im, b_form, b_reached, 44445)) (nI L, nI K, nI N, nI wl.length, nI n, g_liveCount, g_stateCount, g_formLength, b_words, b_saved, b_live, b_state, nN im, b_form, b_reached, 44445) v1 := by
    intro hno
    refine ⟨wl.length + 1, yo_wa hK.2 hL.2 h12 h5 h3 (fun w hw e => ?_) (fun _ => ⟨rfl, ir_mk hF⟩) wl [] rfl (fun w hw => absurd hw List.not_mem_nil)⟩
    obtain ⟨l, g1, g2, g3, g4⟩ := wn w hw
    rw [← g4, ← ir_rank hF g1 g2] at e
    exact absurd e (hno _ (small l g1 g2 g3))
  by_cases c0 : v1 < 0
  · refine br_t c0 (none (fun r hr z => ?_))
    rw [← z] at c0
    exact nI_pos (by omega) c0
  · obtain ⟨r, hr, er⟩ := nI_of c0
    subst er
    refine br_f c0 (And.intro (vp_in_nI hrt (by omega)) (pk_lt r (wd rt) (fun z => ⟨K + 1, ?_⟩) (fun z => none (fun r' hr' e => ?_)) rfl (by rw [nI_clamp (by omega)]; rfl)))
    · have hrt2 : rt ∈ al := by
        rcases R.2.2.2.1 with z2 | z2
        · rw [z2, (xs_G R).1.2.1] at z; omega
        · exact z2
      refine xq_33 (p := []) (D := fun m => m ∈ al) (xs_G R) (fun m hm => (po_lt R.1 (Or.inr hm)).1) hK.2 K rt r 0 hrt2 (gr_ok_dep R.2.2.2.2) z (by omega) (by omega) (fun v g1 g2 g3 g4 => ?_)
      rw [List.nil_append]
      have hv5 : v.length ≤ 5 := by omega
      have hm : wd_enc v ∈ wl := by rw [h4 v g1] at g3; exact of_decide_eq_true g3
      refine ⟨wl.length + 1, yo_wa hK.2 hL.2 h12 h5 h3 (fun w hw e => ?_) (fun hno => ?_) wl [] rfl (fun w hw => absurd hw List.not_mem_nil)⟩
      · obtain ⟨l, q1, q2, q3, q4⟩ := wn w hw
        rw [← q4, ← ir_rank hF q1 q2] at e
        have hlt := small l q1 q2 q3
        have e2 := (nI_eq (by omega) hr).mp e
        have : l = v := ir_rinj hF q1 q2 g1 hv5 q3 (by rw [h4 v g1]; exact decide_eq_true hm) (by rw [e2, g4])
        exact ⟨by rw [← q4, this], ir_mk hF⟩
      · refine absurd ?_ (hno _ hm)
        rw [← ir_rank hF g1 hv5, g4]
    · have := (nI_eq (by omega) hr).mp e
      omega
theorem i_vc_prefixCount {k : Nat} {u : SX} {v : SY} (I : i_Rel k u v) (hk : k + 2 ≤ 1027) (v1 : Int32) : wpX_prefixCount (fun r u' => wpY_prefixCount (fun r' => r' = r ∧ i_Rel (k + 2) u' v) v v1) u v1 := by
  refine ir_el (P := fun u v => wpX_prefixCount (fun r u' => wpY_prefixCount (fun r' => r' = r ∧ i_Rel (k + 2) u' v) v v1) u v1) ?_ I
  intro L K N fh us rt n ac ch rf wd sl nx bk im al fl wl f_draftAccept f_formLength f_planned g_liveCount g_stateCount g_formLength a_draft a_symbol a_path a_stack a_number a_order a_form a_headOf a_edge a_level a_imageWords a_entered a_plan a_built b_words b_saved b_live b_state b_form b_reached hF
  obtain ⟨hL, hK, hN, R, h1, h2, h3, h4, h5, h6, h7⟩ := id hF
  obtain ⟨_, h12⟩ := ir_al hF
  unfold wpX_prefixCount
  refine xk_decode hL.2 hK.2 (fun w l sy ew hw hl e hsy => ?_) (fun hno sy => ?_)
  · have hdl := wd_ok_dig hL.2 hl
    have hl5 := hl.1
    refine br_t (nI_pos' (by omega)) (xl_loc R hdl (by omega) hsy (fun pa hpa => ?_))
    have hn := xs_lt R hdl
    refine And.intro (vp_in_nI hn (by omega)) ?_
    subst ew
    refine ⟨wl.length + 1, yo_pc h12 h5 (ya_iw hK.2 hL.2 (fun _ => br_f (by decide) ⟨?_, ir_mk hF⟩) (fun hno => absurd ⟨l, hl, by rw [e]⟩ hno)) wl [] rfl⟩
    rw [nI_clamp (by omega), nN, ir_pc hF hdl (by omega), e]
  · exact br_f (by decide) ⟨wl.length + 1, yo_pc h12 h5 (ya_iw hK.2 hL.2 (fun h => absurd h hno) (fun _ => br_t rfl ⟨rfl, ir_mk hF⟩)) wl [] rfl⟩
theorem i_vc_states {k : Nat} {u : SX} {v : SY} (I : i_Rel k u v) (hk : k + 2 ≤ 1027) : wpX_states (fun r => wpY_states (fun r' v' => r' = r ∧ i_Rel (k + 2) u v') v) u := by
  refine ir_el (P := fun u v => wpX_states (fun r => wpY_states (fun r' v' => r' = r ∧ i_Rel (k + 2) u v') v) u) ?_ I
  intro L K N fh us rt n ac ch rf wd sl nx bk im al fl wl f_draftAccept f_formLength f_planned g_liveCount g_stateCount g_formLength a_draft a_symbol a_path a_stack a_number a_order a_form a_headOf a_edge a_level a_imageWords a_entered a_plan a_built b_words b_saved b_live b_state b_form b_reached hF
  obtain ⟨hL, hK, hN, R, h1, h2, h3, h4, h5, h6, h7⟩ := id hF
  obtain ⟨_, h12⟩ := ir_al hF
  have hrt := ir_rt hF
  obtain ⟨s1, s2⟩ := ir_st hF
  refine pk_eq rt 0 (fun z => ?_) (fun z => ?_)
  · unfold wpY_states
    refine yb_num (ir_dig hF).1 h12 h5 (fun liv sta _ _ => ⟨?_, ir_mk hF⟩)
    rw [← s1, z, gr_or, if_pos rfl]; rfl
  · unfold wpY_states
    refine yb_num (ir_dig hF).1 h12 h5 (fun liv sta _ _ => ⟨?_, ir_mk hF⟩)
    rw [← s1, ← s2 z, ← R.1.2.2.2.1]
theorem i_vc_stateOf {k : Nat} {u : SX} {v : SY} (I : i_Rel k u v) (hk : k + 2 ≤ 1027) (v1 : Int32) : wpX_stateOf (fun r u' => wpY_stateOf (fun r' v' => r' = r ∧ i_Rel (k + 2) u' v') v v1) u v1 := by
  refine ir_el (P := fun u v => wpX_stateOf (fun r u' => wpY_stateOf (fun r' v' => r' = r ∧ i_Rel (k + 2) u' v') v v1) u v1) ?_ I
  intro L K N fh us rt n ac ch rf wd sl nx bk im al fl wl f_draftAccept f_formLength f_planned g_liveCount g_stateCount g_formLength a_draft a_symbol a_path a_stack a_number a_order a_form a_headOf a_edge a_level a_imageWords a_entered a_plan a_built b_words b_saved b_live b_state b_form b_reached hF
  obtain ⟨hL, hK, hN, R, h1, h2, h3, h4, h5, h6, h7⟩ := id hF
  obtain ⟨_, h12⟩ := ir_al hF
  have hwl := (ir_dig hF).1
  have hPl := ya_P61 hwl h12
  unfold wpX_stateOf
  refine xk_decode hL.2 hK.2 (fun w l sy ew hw hl e hsy => ?_) (fun hno sy => ?_)
  · have hdl := wd_ok_dig hL.2 hl
    have hl5 := hl.1
    subst ew
    have word : ∃ l, wd_ok L K l ∧ nI w = nI (wd_enc l) := ⟨l, hl, by rw [e]⟩
    obtain ⟨n1, n2, n3⟩ := ir_sn hF hdl
    have same : ∀ q, q ∈ wd_P (ya_c wl) → nI w = nI (wd_enc q) → q = l := by
      intro q hq eq
      obtain ⟨q1, q2⟩ := ya_P_mem hwl hq
      have := wd_enc_lt5 q1 q2
      exact wd_enc_inj q1 hdl (by rw [e]; exact ((nI_eq hw (by omega)).mp eq).symm)
    refine br_t (nI_pos' (by omega)) (pk_eq l.length 0 (fun z => ?_) (fun z => ?_))
    · have : l = [] := List.eq_nil_of_length_eq_zero z
      subst this
      unfold wpY_stateOf
      refine yb_num hwl h12 h5 (fun liv sta g1 g2 => ya_iw hK.2 hL.2 (fun _ => br_f (by decide) ?_) (fun hno => absurd word hno))
      refine yb_si hPl g1 g2 (fun q hq eq => ⟨?_, ir_mk hF⟩) (fun hno => ?_)
      · rw [same q hq eq, n3]; rfl
      · exact absurd (by rw [e]) (hno [] (n1.mpr (Or.inl rfl)))
    · refine xl_loc R hdl (by omega) hsy (fun pa hpa => ?_)
      have hn := xs_lt R hdl
      refine pk_eq (gr_go ch rt l) 0 (fun y => ?_) (fun y => ?_)
      · unfold wpY_stateOf
        refine yb_num hwl h12 h5 (fun liv sta g1 g2 => ya_iw hK.2 hL.2 (fun _ => br_f (by decide) ?_) (fun hno => absurd word hno))
        refine yb_si hPl g1 g2 (fun q hq eq => ?_) (fun _ => ⟨rfl, ir_mk hF⟩)
        rw [same q hq eq] at hq
        rcases n1.mp hq with h8 | h8
        · rw [h8] at z; exact absurd rfl z
        · exact absurd y h8
      · have hrt0 : rt ≠ 0 := by
          intro h8
          rw [h8, gr_z (xs_G R) l hdl] at y
          exact y rfl
        obtain ⟨m1, m2⟩ := n2 hrt0 y
        refine xp_ns rfl R.1 R.2.2.1 R.2.2.2.1 (fun num ord stk q1 q2 => And.intro (vp_in_nI hn (by omega)) ?_)
        unfold wpY_stateOf
        refine yb_num hwl h12 h5 (fun liv sta g1 g2 => ya_iw hK.2 hL.2 (fun _ => br_f (by decide) ?_) (fun hno => absurd word hno))
        refine yb_si hPl g1 g2 (fun q hq eq => ⟨?_, ir_mk hF⟩) (fun hno => ?_)
        · rw [same q hq eq, m1, nI_clamp (by omega), q1 _ hn, if_pos m2]
        · exact absurd (by rw [e]) (hno l (n1.mpr (Or.inr y)))
  · refine br_f (by decide) ?_
    unfold wpY_stateOf
    exact yb_num hwl h12 h5 (fun liv sta g1 g2 => ya_iw hK.2 hL.2 (fun h => absurd h hno) (fun _ => br_t rfl ⟨rfl, ir_mk hF⟩))
theorem i_vc_pack {k : Nat} {u : SX} {v : SY} (I : i_Rel k u v) (hk : k + 2 ≤ 1027) : wpX_pack (fun r u' => wpY_pack (fun r' v' => r' = r ∧ i_Rel (k + 2) u' v') v) u := by
  refine ir_el (P := fun u v => wpX_pack (fun r u' => wpY_pack (fun r' v' => r' = r ∧ i_Rel (k + 2) u' v') v) u) ?_ I
  intro L K N fh us rt n ac ch rf wd sl nx bk im al fl wl f_draftAccept f_formLength f_planned g_liveCount g_stateCount g_formLength a_draft a_symbol a_path a_stack a_number a_order a_form a_headOf a_edge a_level a_imageWords a_entered a_plan a_built b_words b_saved b_live b_state b_form b_reached hF
  obtain ⟨hL, hK, hN, R, h1, h2, h3, h4, h5, h6, h7⟩ := id hF
  obtain ⟨_, h12⟩ := ir_al hF
  have hwd := ir_wd hF
  have eF := (ir_F_eq hF).1
  refine xp_pack R.1 R.2.2.1 R.2.2.2.1 (by omega) (fun num ord stk fo h121 => ?_)
  rw [eF] at h121 ⊢
  refine yo_pack (ir_dig hF).2 h12 hL.2 h5 (by omega) (fun liv sta fo2 => ⟨rfl, ir_mk ⟨hL, hK, hN, R, h1, h2, h3, h4, h5, by omega, ir_im h7 h12 (ir_dig hF).1⟩⟩)
/-! the image's bytes -/
theorem i_vc_imageLength {k : Nat} {u : SX} {v : SY} (I : i_Rel k u v) (hk : k + 2 ≤ 1027) : wpX_imageLength (fun r => wpY_imageLength (fun r' => r' = r ∧ i_Rel (k + 2) u v) v) u := by
  refine ir_el (P := fun u v => wpX_imageLength (fun r => wpY_imageLength (fun r' => r' = r ∧ i_Rel (k + 2) u v) v) u) ?_ I
  intro L K N fh us rt n ac ch rf wd sl nx bk im al fl wl f_draftAccept f_formLength f_planned g_liveCount g_stateCount g_formLength a_draft a_symbol a_path a_stack a_number a_order a_form a_headOf a_edge a_level a_imageWords a_entered a_plan a_built b_words b_saved b_live b_state b_form b_reached hF
  exact ⟨rfl, ir_mk hF⟩
theorem i_vc_imageAt {k : Nat} {u : SX} {v : SY} (I : i_Rel k u v) (hk : k + 2 ≤ 1027) (v1 : Int32) : wpX_imageAt (fun r => wpY_imageAt (fun r' => r' = r ∧ i_Rel (k + 2) u v) v v1) u v1 := by
  refine ir_el (P := fun u v => wpX_imageAt (fun r => wpY_imageAt (fun r' => r' = r ∧ i_Rel (k + 2) u v) v v1) u v1) ?_ I
  intro L K N fh us rt n ac ch rf wd sl nx bk im al fl wl f_draftAccept f_formLength f_planned g_liveCount g_stateCount g_formLength a_draft a_symbol a_path a_stack a_number a_order a_form a_headOf a_edge a_level a_imageWords a_entered a_plan a_built b_words b_saved b_live b_state b_form b_reached hF
  have hn : n ≤ 128 := hF.2.2.2.2.2.2.2.2.2.1
  refine br_c (fun h0 => br_t h0 ⟨rfl, ir_mk hF⟩) (fun h0 => br_c (fun h1 => ?_) (fun h1 => br_f h0 (br_f h1 ⟨rfl, ir_mk hF⟩)))
  obtain ⟨i, hi, e⟩ := nI_of h0
  subst e
  have hin := (nI_ltI hi (by omega)).mp h1
  have iv : vp_in (nI i) 128 := vp_in_nI (by omega) (by omega)
  exact And.intro iv (br_f h0 (br_t h1 (And.intro iv ⟨rfl, ir_mk hF⟩)))
theorem i_vc_imageClear {k : Nat} {u : SX} {v : SY} (I : i_Rel k u v) (hk : k + 2 ≤ 1027) : wpX_imageClear (fun u' => wpY_imageClear (fun v' => i_Rel (k + 2) u' v') v) u := by
  refine ir_el (P := fun u v => wpX_imageClear (fun u' => wpY_imageClear (fun v' => i_Rel (k + 2) u' v') v) u) ?_ I
  intro L K N fh us rt n ac ch rf wd sl nx bk im al fl wl f_draftAccept f_formLength f_planned g_liveCount g_stateCount g_formLength a_draft a_symbol a_path a_stack a_number a_order a_form a_headOf a_edge a_level a_imageWords a_entered a_plan a_built b_words b_saved b_live b_state b_form b_reached hF
  obtain ⟨hL, hK, hN, R, h1, h2, h3, h4, h5, h6, h7⟩ := hF
  exact ir_mk (k := k + 2) (n := 0) ⟨hL, hK, hN, R, h1, h2, h3, h4, h5, by omega, h7⟩
theorem i_vc_imagePut {k : Nat} {u : SX} {v : SY} (I : i_Rel k u v) (hk : k + 2 ≤ 1027) (v1 : Int32) : wpX_imagePut (fun r u' => wpY_imagePut (fun r' v' => r' = r ∧ i_Rel (k + 2) u' v') v v1) u v1 := by
  refine ir_el (P := fun u v => wpX_imagePut (fun r u' => wpY_imagePut (fun r' v' => r' = r ∧ i_Rel (k + 2) u' v') v v1) u v1) ?_ I
  intro L K N fh us rt n ac ch rf wd sl nx bk im al fl wl f_draftAccept f_formLength f_planned g_liveCount g_stateCount g_formLength a_draft a_symbol a_path a_stack a_number a_order a_form a_headOf a_edge a_level a_imageWords a_entered a_plan a_built b_words b_saved b_live b_state b_form b_reached hF
  obtain ⟨hL, hK, hN, R, h1, h2, h3, h4, h5, h6, h7⟩ := id hF
  refine br_c (fun h0 => br_t h0 (br_f (by decide) ⟨rfl, ir_mk hF⟩)) (fun h0 => br_c (fun h8 => ?_) (fun h8 => br_f h0 (br_f h8 (br_f (by decide) ⟨rfl, ir_mk hF⟩))))
  obtain ⟨b, hb, e⟩ := nI_of h0
  subst e
  have hb2 : b ≤ 127 := (nI_leI (b := 127) hb (by omega)).mp h8
  refine pk_lt n 128 (fun z => ?_) (fun z => br_f h0 (br_t h8 (br_f (nI_nlt (b := 128) z (by omega)) (br_f (by decide) ⟨rfl, ir_mk hF⟩))))
  have e1 : upd (nN im) (nI n).toNatClampNeg (nI b) = nN (po_up im n b) := by rw [nI_clamp (by omega), po_upd]
  have iv : vp_in (nI n) 128 := vp_in_nI z (by omega)
  refine And.intro iv (nm_r e1 (nm_r (nI_1 n) (br_f h0 (br_t h8 (br_t (nI_lt (b := 128) z (by omega)) (br_t rfl (nm_r (nI_1 n) (And.intro iv (nm_r e1 ⟨rfl, ir_mk ⟨hL, hK, hN, R, h1, h2, h3, h4, h5, by omega, fun j => ?_⟩⟩)))))))))
  rw [po_up]
  split
  · exact hb2
  · exact h7 j
end
section
/-! insert and remove -/
theorem i_vc_insert {k : Nat} {u : SX} {v : SY} (I : i_Rel k u v) (hk : k + 2 ≤ 1027) (v1 : Int32) : wpX_insert (fun r u' => wpY_insert (fun r' v' => r' = r ∧ i_Rel (k + 2) u' v') v v1) u v1 := by
  refine ir_el (P := fun u v => wpX_insert (fun r u' => wpY_insert (fun r' v' => r' = r ∧ i_Rel (k + 2) u' v') v v1) u v1) ?_ I
  intro L K N fh us rt n ac ch rf wd sl nx bk im al fl wl f_draftAccept f_formLength f_planned g_liveCount g_stateCount g_formLength a_draft a_symbol a_path a_stack a_number a_order a_form a_headOf a_edge a_level a_imageWords a_entered a_plan a_built b_words b_saved b_live b_state b_form b_reached hF
  obtain ⟨hL, hK, hN, R, h1, h2, h3, h4, h5, h6, h7⟩ := id hF
  obtain ⟨h61, h12⟩ := ir_al hF
  have hrt := ir_rt hF
  have hwd := ir_wd hF
  unfold wpX_insert
  refine xk_decode hL.2 hK.2 (fun w l sy ew hw hl e hsy => ?_) (fun hno sy => ?_)
  · have hdl := wd_ok_dig hL.2 hl
    have hl5 := hl.1
    subst ew
    have word : ∃ l, wd_ok L K l ∧ nI w = nI (wd_enc l) := ⟨l, hl, by rw [e]⟩
    have hwin : ∀ m, m ∈ wl → nI w = nI m → w ∈ wl := fun m hm em => by
      rw [(nI_eq hw (ya_wl_lt (ir_dig hF).1 m hm)).mp em]; exact hm
    refine br_t (nI_pos' (by omega)) (xl_loc R hdl (by omega) hsy (fun pa hpa => ?_))
    have hn := xs_lt R hdl
    have hle := (po_lt R.1 (xs_nd R hdl)).2.1
    have hM := h4 l hdl
    refine And.intro (vp_in_nI hn (by omega)) (pk_eq (ac (gr_go ch rt l)) 1 (fun z => ?_) (fun z => And.intro (vp_in_nI hrt (by omega)) ?_) (by rw [nI_clamp (by omega)]; rfl))
    · rw [gr_M, decide_eq_true z] at hM
      have hin := of_decide_eq_true hM.symm
      rw [e] at hin
      unfold wpY_insert
      refine ya_iw hK.2 hL.2 (fun _ => br_f (by decide) (iy_cont h12 h5 (fun _ => br_f (by decide) (br_f (by decide) ⟨rfl, ir_mk hF⟩)) (fun hno => absurd rfl (hno w hin)))) (fun hno => absurd word hno)
    · rw [gr_M, decide_eq_false z] at hM
      have hnin := of_decide_eq_false hM.symm
      rw [e] at hnin
      refine pk_lt (wd rt) N (fun y => ?_) (fun y => ?_) (by rw [nI_clamp (by omega)]; rfl)
      · refine xb_reb (acc := 1) rfl R h61 hl hL.2 hK.2 (Nat.le_refl _) hsy hpa (fun fh' us' ac' ch' rf' wd' sl' nx' bk' al' fl' r st dr da R' hM' => ?_)
        unfold wpY_insert
        refine ya_iw hK.2 hL.2 (fun _ => br_f (by decide) (iy_cont h12 h5 (fun ⟨m, hm, em⟩ => absurd (hwin m hm em) hnin) (fun _ => br_t rfl (pk_lt wl.length N (fun _ => ?_) (fun q => absurd q (by omega)))))) (fun hno => absurd word hno)
        refine br_t rfl (nm_r (e' := nI (wl ++ [w]).length) (by rw [nI_1, List.length_append]; rfl) (And.intro (vp_in_nI (by omega) (by omega)) (nm_r (e' := upd b_words wl.length (nI w)) (by rw [nI_clamp (by omega)]) ⟨rfl, ir_mk ⟨hL, hK, hN, R', ?_, ?_, ?_, ?_, xs_push h5 w, h6, h7⟩⟩)))
        · rw [List.length_append, List.length_singleton]; omega
        · rw [List.nodup_append]
          refine ⟨h2, by simp, fun x hx y hy exy => ?_⟩
          have : y = w := by simpa using hy
          rw [exy, this] at hx
          exact hnin hx
        · intro x hx
          rcases List.mem_append.mp hx with h | h
          · exact h3 x h
          · have : x = w := by simpa using h
            rw [this]; exact ⟨l, hl, e⟩
        · intro l' hl'
          rw [hM' l' hl', h4 l' hl', Bool.eq_iff_iff, ya_c, ya_c, decide_eq_true_eq (p := wd_enc l' ∈ wl ++ [w]), List.mem_append, List.mem_singleton]
          by_cases q : l' = l
          · rw [if_pos q, q, e]
            exact ⟨fun _ => Or.inr rfl, fun _ => rfl⟩
          · rw [if_neg q, decide_eq_true_eq]
            exact ⟨Or.inl, fun h => h.resolve_right (fun h8 => q (wd_enc_inj hl' hdl (by rw [h8, e])))⟩
      · unfold wpY_insert
        refine ya_iw hK.2 hL.2 (fun _ => br_f (by decide) (iy_cont h12 h5 (fun ⟨m, hm, em⟩ => absurd (hwin m hm em) hnin) (fun _ => br_t rfl (pk_lt wl.length N (fun q => absurd q (by omega)) (fun _ => br_f (by decide) ⟨rfl, ir_mk hF⟩))))) (fun hno => absurd word hno)
  · refine br_f (by decide) ?_
    unfold wpY_insert
    exact ya_iw hK.2 hL.2 (fun h => absurd h hno) (fun _ => br_t rfl (br_f (by decide) ⟨rfl, ir_mk hF⟩))
theorem i_vc_remove {k : Nat} {u : SX} {v : SY} (I : i_Rel k u v) (hk : k + 2 ≤ 1027) (v1 : Int32) : wpX_remove (fun r u' => wpY_remove (fun r' v' => r' = r ∧ i_Rel (k + 2) u' v') v v1) u v1 := by
  refine ir_el (P := fun u v => wpX_remove (fun r u' => wpY_remove (fun r' v' => r' = r ∧ i_Rel (k + 2) u' v') v v1) u v1) ?_ I
  intro L K N fh us rt n ac ch rf wd sl nx bk im al fl wl f_draftAccept f_formLength f_planned g_liveCount g_stateCount g_formLength a_draft a_symbol a_path a_stack a_number a_order a_form a_headOf a_edge a_level a_imageWords a_entered a_plan a_built b_words b_saved b_live b_state b_form b_reached hF
  obtain ⟨hL, hK, hN, R, h1, h2, h3, h4, h5, h6, h7⟩ := id hF
  obtain ⟨h61, h12⟩ := ir_al hF
  unfold wpX_remove
  refine xk_decode hL.2 hK.2 (fun w l sy ew hw hl e hsy => ?_) (fun hno sy => ?_)
  · have hdl := wd_ok_dig hL.2 hl
    have hl5 := hl.1
    subst ew
    have word : ∃ l, wd_ok L K l ∧ nI w = nI (wd_enc l) := ⟨l, hl, by rw [e]⟩
    have hwin : ∀ m, m ∈ wl → (nI m).toInt64 = (nI w).toInt64 → m = w := fun m hm em => (nI_eq (ya_wl_lt (ir_dig hF).1 m hm) hw).mp (ya_l em)
    refine br_t (nI_pos' (by omega)) (xl_loc R hdl (by omega) hsy (fun pa hpa => ?_))
    have hn := xs_lt R hdl
    have hle := (po_lt R.1 (xs_nd R hdl)).2.1
    have hM := h4 l hdl
    refine And.intro (vp_in_nI hn (by omega)) (pk_eq (ac (gr_go ch rt l)) 0 (fun z => ?_) (fun z => ?_) (by rw [nI_clamp (by omega)]; rfl))
    · rw [gr_M, decide_eq_false (by omega)] at hM
      have hnin := of_decide_eq_false hM.symm
      rw [e] at hnin
      unfold wpY_remove
      refine ya_fd h12 h5 (fun p m s ep h => ?_) (fun _ => br_t (by decide) (br_t (by decide) (ya_iw hK.2 hL.2 (fun _ => br_f (by decide) ⟨rfl, ir_mk hF⟩) (fun hno => absurd word hno))))
      have hm : m ∈ wl := by rw [ep]; simp
      rw [hwin m hm h] at hm
      exact absurd hm hnin
    · rw [gr_M, decide_eq_true (by omega)] at hM
      have hin := of_decide_eq_true hM.symm
      rw [e] at hin
      refine xb_reb (acc := 0) rfl R h61 hl hL.2 hK.2 (by omega) hsy hpa (fun fh' us' ac' ch' rf' wd' sl' nx' bk' al' fl' r st dr da R' hM' => ?_)
      unfold wpY_remove
      refine ya_fd h12 h5 (fun p m s ep h => ?_) (fun hno => absurd rfl (hno w hin))
      have hm : m ∈ wl := by rw [ep]; simp
      have emw := hwin m hm h
      subst emw
      have hll : wl.length = p.length + (s.length + 1) := by rw [ep]; simp
      obtain ⟨wl', w1, w2, w3, w4⟩ := iy_rem (b := b_words) (p := p) (m := m) (s := s) (by rw [← ep]; exact h5) (by rw [← ep]; exact h2)
      rw [← ep] at w1 w2 w4
      have es : nI wl.length - 1 = nI (wl.length - 1) := pk_sub (b := 1) (by omega)
      refine br_f (nI_pos (by omega)) (nm_r (e' := nI wl'.length) (by rw [es, w1]) (And.intro (by rw [es]; exact vp_in_nI (by omega) (by omega)) (And.intro (vp_in_nI (by omega) (by omega)) (nm_r (e' := upd b_words p.length (b_words (wl.length - 1))) (by rw [es, nI_clamp (by omega), nI_clamp (by omega)]) (br_f (nI_pos (by omega)) ⟨rfl, ir_mk ⟨hL, hK, hN, R', by omega, w3, fun x hx => h3 x ((w4 x).mp hx).1, fun l' hl' => ?_, w2, h6, h7⟩⟩)))))
      rw [hM' l' hl', h4 l' hl', Bool.eq_iff_iff, ya_c, ya_c, decide_eq_true_eq, w4]
      by_cases q : l' = l
      · rw [if_pos q, q, e]
        exact ⟨fun h8 => absurd h8 (by decide), fun h8 => absurd rfl h8.2⟩
      · rw [if_neg q, decide_eq_true_eq]
        exact ⟨fun h8 => ⟨h8, fun h9 => q (wd_enc_inj hl' hdl (by rw [h9, e]))⟩, fun h8 => h8.1⟩
  · refine br_f (by decide) ?_
    unfold wpY_remove
    refine ya_fd h12 h5 (fun p m s ep h => ?_) (fun _ => br_t (by decide) (br_t (by decide) (ya_iw hK.2 hL.2 (fun h => absurd h hno) (fun _ => br_t rfl ⟨rfl, ir_mk hF⟩))))
    have hm : m ∈ wl := by rw [ep]; simp
    obtain ⟨l, hl, e⟩ := h3 m hm
    exact absurd ⟨l, hl, by rw [e]; exact (ya_l h).symm⟩ hno
end
section
/-! unpack -/
theorem iu_link {T L K N n : Nat} {im lv w : Nat → Nat} {pl ws : List Nat} (hL : L ≤ 4) (C : ui_C T L K N n im pl lv w) (hok : ∀ v, wd_dig v → gr_M (ui_ac im) (ui_ch im) 1 v = true → wd_ok L K v) (hm : ∀ x, x ∈ ws ↔ ∃ l, wd_ok L K l ∧ wd_enc l = x ∧ yu_acc im n l) : ∀ v, wd_dig v → ya_c ws v = gr_M (ui_ac im) (ui_ch im) 1 v := by
  intro v hv
  rw [Bool.eq_iff_iff, ya_c, decide_eq_true_eq, hm, ← yf_acc C hv]
  constructor
  · rintro ⟨l, hl, e, ha⟩
    rw [← wd_enc_inj (wd_ok_dig hL hl) hv e]; exact ha
  · intro ha
    exact ⟨v, hok v hv ((yf_acc C hv).mp ha), rfl, ha⟩
theorem i_vc_unpack {k : Nat} {u : SX} {v : SY} (I : i_Rel k u v) (hk : k + 2 ≤ 1027) : wpX_unpack (fun r u' => wpY_unpack (fun r' v' => r' = r ∧ i_Rel (k + 2) u' v') v) u := by
  refine ir_el (P := fun u v => wpX_unpack (fun r u' => wpY_unpack (fun r' v' => r' = r ∧ i_Rel (k + 2) u' v') v) u) ?_ I
  intro L K N fh us rt n ac ch rf wd sl nx bk im al fl wl f_draftAccept f_formLength f_planned g_liveCount g_stateCount g_formLength a_draft a_symbol a_path a_stack a_number a_order a_form a_headOf a_edge a_level a_imageWords a_entered a_plan a_built b_words b_saved b_live b_state b_form b_reached hF
  obtain ⟨hL, hK, hN, R, h1, h2, h3, h4, h5, h6, h7⟩ := id hF
  obtain ⟨h61, h12⟩ := ir_al hF
  have wK : ∀ ws : List Nat, (∀ x, x ∈ ws ↔ ∃ l, wd_ok L K l ∧ wd_enc l = x ∧ yu_acc im n l) → ∀ w, w ∈ ws → ∃ l, wd_ok L K l ∧ wd_enc l = w := by
    intro ws hm w hw
    obtain ⟨l, hl, e, _⟩ := (hm w).mp hw
    exact ⟨l, hl, e⟩
  refine ux_unpack (N := N) R h61 hL.1 hL.2 hK.2 hN.2 h7 h6 (fun hno pln hd ed le iw en pn => ?_) (fun fh' us' ac' ch' rf' wd' sl' nx' bk' al' fl' r T pl lv w pln da fL dr sk nu od fo hd ed le iw en pn bu R' Mr C hok heq => ?_) (fun fh' us' ac' ch' rf' wd' sl' nx' bk' al' fl' T pl lv w pln da fL dr sk nu od fo hd ed le iw en pn bu R' Mr C hok hne => ?_)
  · refine yu_unpack hL.1 hL.2 hK.2 hN.2 h6 h7 h12 h5 (fun ws lc sc fl2 wo sv liv sta fo re g1 g2 g3 g4 g5 => ?_) (fun _ lc sc fl2 wo sv liv sta fo re g => ⟨rfl, ir_mk ⟨hL, hK, hN, R, h1, h2, h3, h4, g, h6, h7⟩⟩)
    exact absurd (ud_chk (wK ws g3) g2 hL.1 hL.2 hK.2 g5) hno
  · refine yu_unpack hL.1 hL.2 hK.2 hN.2 h6 h7 h12 h5 (fun ws lc sc fl2 wo sv liv sta fo2 re g1 g2 g3 g4 g5 => ⟨rfl, ir_mk ⟨hL, hK, hN, R', g2, g1, wK ws g3, fun l hl => ?_, g4, h6, h7⟩⟩) (fun hbad lc sc fl2 wo sv liv sta fo2 re g => ?_)
    · rw [Mr l hl, iu_link hL.2 C hok g3 l hl]
    · exfalso
      rcases hbad with ⟨A, a1, a2, a3⟩ | ⟨ws, b1, b2, b3, b4⟩
      · obtain ⟨cn, _⟩ := ui_cnt C hL.2 hK.2 hN.2
        have := a1.length_le_of_subset (l₂ := ((wd_U 5).filter (gr_M (ui_ac im) (ui_ch im) 1)).map wd_enc) (fun x hx => by
          obtain ⟨l, hl, e, ha⟩ := a3 x hx
          have hd := wd_ok_dig hL.2 hl
          exact List.mem_map.mpr ⟨l, List.mem_filter.mpr ⟨(wd_mem 5 l).mpr ⟨Nat.le_trans hl.1 hK.2, hd⟩, (yf_acc C hd).mp ha⟩, e⟩)
        rw [List.length_map] at this
        omega
      · refine b4 ?_
        rw [fo_F_congr (c := ya_c ws) (c' := gr_M ac' ch' r) (fun l hl => by rw [iu_link hL.2 C hok b3 l hl, Mr l hl])]
        exact heq
  · refine yu_unpack hL.1 hL.2 hK.2 hN.2 h6 h7 h12 h5 (fun ws lc sc fl2 wo sv liv sta fo2 re g1 g2 g3 g4 g5 => ?_) (fun _ lc sc fl2 wo sv liv sta fo2 re g => ⟨rfl, ir_mk ⟨hL, hK, hN, R', h1, h2, h3, fun l hl => ?_, g, h6, h7⟩⟩)
    · exact absurd g5 (hne (ya_c ws) (iu_link hL.2 C hok g3))
    · rw [Mr l hl]; exact h4 l hl
end
