section
/-! pure rows to paste: stores, nI and lN arithmetic, masks, shifts, narrowing, branches by naturals (pk_le, pk_lt, pk_eq), loops (lp1 .. lp16: the measure of the state; rp1 ..: recursion), negatives. Take what you need -/
theorem pk_us {f : Nat → Int32} {k : Nat} {x : Int32} : upd f k x k = x := if_pos rfl
theorem pk_un {f : Nat → Int32} {k j : Nat} {x : Int32} (h : j ≠ k) : upd f k x j = f j := if_neg h
theorem pk_uLs {f : Nat → Int64} {k : Nat} {x : Int64} : vp_updL f k x k = x := if_pos rfl
theorem pk_uLn {f : Nat → Int64} {k j : Nat} {x : Int64} (h : j ≠ k) : vp_updL f k x j = f j := if_neg h
theorem pk_sub {a b : Nat} (h : b ≤ a) : nI a - nI b = nI (a - b) := by
  obtain ⟨c, rfl⟩ : ∃ c, a = c + b := ⟨a - b, by omega⟩
  rw [← nI_add, Int32.add_sub_cancel, Nat.add_sub_cancel]
theorem pk_m1 (n : Nat) : nI (n + 1) + (-1) = nI n := by
  rw [← nI_1, Int32.add_assoc, show (1 : Int32) + (-1) = 0 from rfl, Int32.add_zero]
theorem pk_mul (a b : Nat) : nI a * nI b = nI (a * b) := (Int32.ofNat_mul a b).symm
theorem pk_div {a d : Nat} (ha : a < 2 ^ 31) (h0 : 0 < d) (hd : d < 2 ^ 31) : nI a / nI d = nI (a / d) := by
  apply Int32.toInt_inj.mp
  rw [lg_idiv_nonneg (by rw [nI_toInt ha]; omega) (by rw [nI_toInt hd]; omega), nI_toInt ha, nI_toInt hd, nI_toInt (Nat.lt_of_le_of_lt (Nat.div_le_self a d) ha)]
  first | rfl | exact (Int.natCast_ediv _ _).symm
theorem pk_rem {a d : Nat} (ha : a < 2 ^ 31) (h0 : 0 < d) (hd : d < 2 ^ 31) : nI a - nI a / nI d * nI d = nI (a % d) := by
  rw [pk_div ha h0 hd, pk_mul, pk_sub (Nat.div_mul_le_self a d)]
  exact congrArg nI (by have := Nat.div_add_mod' a d; omega)
theorem pk_sub_toInt {a b : Nat} (ha : a < 2 ^ 30) (hb : b < 2 ^ 30) : (nI a - nI b).toInt = (a : Int) - b := by
  rw [Int32.toInt_sub, nI_toInt (by omega), nI_toInt (by omega)]
  exact Int.bmod_eq_of_le (by omega) (by omega)
theorem pk_sneg {a b : Nat} (hb : b < 2 ^ 30) (h : a < b) : nI a - nI b < 0 := by
  rw [Int32.lt_iff_toInt_lt, pk_sub_toInt (by omega) hb, show (0 : Int32).toInt = 0 from by decide]
  omega
theorem pk_ix (x : Int32) {n : Nat} (hn : n < 2 ^ 31) : x < 0 ∨ nI n ≤ x ∨ ∃ j : Nat, j < n ∧ x = nI j := by
  by_cases h : x < 0
  · exact Or.inl h
  · obtain ⟨j, hj, rfl⟩ := nI_of h
    by_cases h2 : j < n
    · exact Or.inr (Or.inr ⟨j, h2, rfl⟩)
    · exact Or.inr (Or.inl (nI_le (by omega) hj))
theorem pk_le {x y : Int32} {A B : Prop} (a b : Nat) (f : a ≤ b → A) (g : b < a → B) (hx : x = nI a := by rfl) (hy : y = nI b := by rfl) (ha : a < 2 ^ 31 := by omega) (hb : b < 2 ^ 31 := by omega) : (x ≤ y → A) ∧ (¬ x ≤ y → B) := by
  subst hx hy
  rw [nI_leI ha hb]
  exact ⟨f, fun z => g (by omega)⟩
theorem pk_lt {x y : Int32} {A B : Prop} (a b : Nat) (f : a < b → A) (g : b ≤ a → B) (hx : x = nI a := by rfl) (hy : y = nI b := by rfl) (ha : a < 2 ^ 31 := by omega) (hb : b < 2 ^ 31 := by omega) : (x < y → A) ∧ (¬ x < y → B) := by
  subst hx hy
  rw [nI_ltI ha hb]
  exact ⟨f, fun z => g (by omega)⟩
theorem pk_eq {x y : Int32} {A B : Prop} (a b : Nat) (f : a = b → A) (g : a ≠ b → B) (hx : x = nI a := by rfl) (hy : y = nI b := by rfl) (ha : a < 2 ^ 31 := by omega) (hb : b < 2 ^ 31 := by omega) : (x = y → A) ∧ (¬ x = y → B) := by
  subst hx hy
  rw [nI_eq ha hb]
  exact ⟨f, g⟩
theorem pk_in {x : Int32} (n N : Nat) (h : n < N) (hx : x = nI n := by rfl) (hN : N < 2 ^ 31 := by omega) : vp_in x N := by
  subst hx
  exact vp_in_nI h hN
theorem pk_cl {x : Int32} (n : Nat) (hx : x = nI n := by rfl) (h : n < 2 ^ 31 := by omega) : x.toNatClampNeg = n := by
  subst hx
  exact nI_clamp h
theorem pk_tn {n : Nat} (h : n < 2 ^ 32) : (nI n).toBitVec.toNat = n := Nat.mod_eq_of_lt h
theorem pk_and (x : Int32) {m : Int32} (k : Nat) (hm : m.toBitVec.toNat = 2 ^ k - 1) : x &&& m = nI (x.toBitVec.toNat % 2 ^ k) := by
  apply Int32.toBitVec_inj.mp
  apply BitVec.eq_of_toNat_eq
  rw [Int32.toBitVec_and, BitVec.toNat_and, hm, Nat.and_two_pow_sub_one_eq_mod]
  show _ = (BitVec.ofNat 32 _).toNat
  rw [BitVec.toNat_ofNat]
  exact (Nat.mod_eq_of_lt (Nat.lt_of_le_of_lt (Nat.mod_le _ _) x.toBitVec.isLt)).symm
theorem pk_andN {n : Nat} (h : n < 2 ^ 32) {m : Int32} (k : Nat) (hm : m.toBitVec.toNat = 2 ^ k - 1) : nI n &&& m = nI (n % 2 ^ k) := by
  rw [pk_and _ k hm, pk_tn h]
theorem pk_andE (x : Int32) {m : Int32} (k : Nat) (hm : m.toBitVec.toNat = 2 ^ k - 1) : ∃ j : Nat, j < 2 ^ k ∧ x &&& m = nI j := ⟨_, Nat.mod_lt _ (Nat.two_pow_pos k), pk_and x k hm⟩
theorem pk_andIn (x : Int32) {m : Int32} (k : Nat) (hm : m.toBitVec.toNat = 2 ^ k - 1) (hk : k ≤ 30) : vp_in (x &&& m) (2 ^ k) := by
  obtain ⟨j, hj, e⟩ := pk_andE x k hm
  rw [e]
  exact vp_in_nI hj (Nat.lt_of_le_of_lt (Nat.pow_le_pow_right (by decide) hk) (by decide))
theorem pk_shl (a s : Int32) (k : Nat) (hs : (s.toBitVec.smod 32).toNat = k) : (a <<< s).toBitVec.toNat = a.toBitVec.toNat * 2 ^ k % 2 ^ 32 := by
  show (a.toBitVec <<< (s.toBitVec.smod 32).toNat).toNat = _
  rw [hs, BitVec.toNat_shiftLeft, Nat.shiftLeft_eq]
theorem pk_shlN {n : Nat} (s : Int32) (k : Nat) (hs : (s.toBitVec.smod 32).toNat = k) (h : n * 2 ^ k < 2 ^ 32) : nI n <<< s = nI (n * 2 ^ k) := by
  apply Int32.toBitVec_inj.mp
  apply BitVec.eq_of_toNat_eq
  have hn : n < 2 ^ 32 := Nat.lt_of_le_of_lt (Nat.le_mul_of_pos_right n (Nat.two_pow_pos k)) h
  rw [pk_shl _ _ k hs, pk_tn hn, pk_tn h, Nat.mod_eq_of_lt h]
theorem pk_shr (a s : Int32) (k : Nat) (hs : (s.toBitVec.smod 32).toNat = k) : (a >>> s).toInt = a.toInt >>> k := by
  show (a.toBitVec.sshiftRight (s.toBitVec.smod 32).toNat).toInt = _
  rw [hs, BitVec.toInt_sshiftRight]
  rfl
theorem pk_shrN {n : Nat} (h : n < 2 ^ 31) (s : Int32) (k : Nat) (hs : (s.toBitVec.smod 32).toNat = k) : nI n >>> s = nI (n / 2 ^ k) := by
  apply Int32.toInt_inj.mp
  have h2 : n / 2 ^ k ≤ n := Nat.div_le_self _ _
  rw [pk_shr _ _ k hs, nI_toInt h, nI_toInt (by omega), Int.shiftRight_eq_div_pow]
  rfl
theorem pk_ushr (x s : Int32) (k : Nat) (hs : ((s.toUInt32 &&& Int32.toUInt32 31).toBitVec % 32).toNat = k) : (x.toUInt32 >>> (s.toUInt32 &&& Int32.toUInt32 31)).toInt32.toBitVec.toNat = x.toBitVec.toNat / 2 ^ k := by
  have e : (x.toUInt32 >>> (s.toUInt32 &&& Int32.toUInt32 31)).toInt32.toBitVec = x.toBitVec >>> k := by
    rw [← hs]
    exact UInt32.toBitVec_shiftRight _ _
  rw [e, BitVec.toNat_ushiftRight, Nat.shiftRight_eq_div_pow]
theorem pk_ushrN {n : Nat} (hn : n < 2 ^ 32) (s : Int32) (k : Nat) (hs : ((s.toUInt32 &&& Int32.toUInt32 31).toBitVec % 32).toNat = k) : ((nI n).toUInt32 >>> (s.toUInt32 &&& Int32.toUInt32 31)).toInt32 = nI (n / 2 ^ k) := by
  apply Int32.toBitVec_inj.mp
  apply BitVec.eq_of_toNat_eq
  rw [pk_ushr _ s k hs, pk_tn hn, pk_tn (Nat.lt_of_le_of_lt (Nat.div_le_self _ _) hn)]
theorem pk_nb (z : Int32) : narrow .byte (.int z.toInt8.toInt32) = .int z.toInt8.toInt32 := congrArg Value.int (by simp)
theorem pk_ns (z : Int32) : narrow .short (.int z.toInt16.toInt32) = .int z.toInt16.toInt32 := congrArg Value.int (by simp)
theorem pk_fb (r : Int32) : fits .byte (.int r.toInt8.toInt32) = true := by
  have ⟨a, b⟩ := lg_i2b_range r
  have h1 : (-128 : Int32).toInt = -128 := by decide
  have h2 : (127 : Int32).toInt = 127 := by decide
  simp only [fits, Bool.and_eq_true, decide_eq_true_eq, Int32.le_iff_toInt_le, h1, h2]
  omega
theorem pk_fs (r : Int32) : fits .short (.int r.toInt16.toInt32) = true := by
  have ⟨a, b⟩ := lg_i2s_range r
  have h1 : (-32768 : Int32).toInt = -32768 := by decide
  have h2 : (32767 : Int32).toInt = 32767 := by decide
  simp only [fits, Bool.and_eq_true, decide_eq_true_eq, Int32.le_iff_toInt_le, h1, h2]
  omega
theorem pk_charN {q : Nat} (hq : q < 65536) : narrow .char (.int (nI q)) = .int (nI q) ∧ fits .char (.int (nI q)) = true := by
  constructor
  · have e : (nI q).toUInt32.toUInt16.toUInt32.toInt32 = nI q := by
      apply Int32.toBitVec_inj.mp
      apply BitVec.eq_of_toNat_eq
      show (nI q).toUInt32.toUInt16.toUInt32.toNat = q % 2 ^ 32
      rw [UInt16.toNat_toUInt32, UInt32.toNat_toUInt16, show (nI q).toUInt32.toNat = q % 2 ^ 32 from rfl]
      omega
    exact congrArg Value.int e
  · have a : (0 : Int32) ≤ nI q := nI_pos' (by omega)
    have b : nI q ≤ 65535 := nI_le (b := 65535) (by omega) (by decide)
    show (decide ((0 : Int32) ≤ nI q) && decide (nI q ≤ 65535)) = true
    rw [decide_eq_true a, decide_eq_true b]
    rfl
theorem pk_char (x : Int32) : (x.toUInt32 % 65536).toInt32 = nI (x.toBitVec.toNat % 65536) := by
  apply Int32.toBitVec_inj.mp
  apply BitVec.eq_of_toNat_eq
  rw [pk_tn (by omega)]
  show (x.toUInt32 % 65536).toNat = _
  rw [UInt32.toNat_mod]
  rfl
theorem pk_nc (x : Int32) : narrow .char (.int (x.toUInt32 % 65536).toInt32) = .int (x.toUInt32 % 65536).toInt32 := by
  rw [pk_char]
  exact (pk_charN (Nat.mod_lt _ (by decide))).1
theorem pk_fc (x : Int32) : fits .char (.int (x.toUInt32 % 65536).toInt32) = true := by
  rw [pk_char]
  exact (pk_charN (Nat.mod_lt _ (by decide))).2
theorem pk_vb (z : Int32) : vp_nar .byte z.toInt8.toInt32 = z.toInt8.toInt32 := by rw [vp_nar_byte]; simp
theorem pk_vs (z : Int32) : vp_nar .short z.toInt16.toInt32 = z.toInt16.toInt32 := by rw [vp_nar_short]; simp
theorem pk_vc (z : Int32) : vp_nar .char (z.toUInt32 % 65536).toInt32 = (z.toUInt32 % 65536).toInt32 := Value.int.inj (pk_nc z)
theorem pk_lT {n : Nat} (h : n < 2 ^ 63) : (lN n).toInt = (n : Int) := lg_ofNat_toInt h
theorem pk_lLT {a b : Nat} (ha : a < 2 ^ 63) (hb : b < 2 ^ 63) : lN a < lN b ↔ a < b := by
  rw [Int64.lt_iff_toInt_lt, pk_lT ha, pk_lT hb]; omega
theorem pk_lLE {a b : Nat} (ha : a < 2 ^ 63) (hb : b < 2 ^ 63) : lN a ≤ lN b ↔ a ≤ b := by
  rw [Int64.le_iff_toInt_le, pk_lT ha, pk_lT hb]; omega
theorem pk_lEQ {a b : Nat} (ha : a < 2 ^ 63) (hb : b < 2 ^ 63) : lN a = lN b ↔ a = b := by
  rw [← Int64.toInt_inj, pk_lT ha, pk_lT hb]; omega
theorem pk_lOf {x : Int64} (h : ¬ x < 0) : ∃ k : Nat, k < 2 ^ 63 ∧ x = lN k := by
  rw [Int64.lt_iff_toInt_lt] at h
  have h0 : (0 : Int64).toInt = 0 := by decide
  have hx := Int64.toInt_lt x
  refine ⟨x.toInt.toNat, by omega, Int64.toInt_inj.mp ?_⟩
  rw [pk_lT (by omega)]
  omega
theorem pk_lDiv {a b : Nat} (ha : a < 2 ^ 63) (h0 : 0 < b) (hb : b < 2 ^ 63) : lN a / lN b = lN (a / b) := by
  apply Int64.toInt_inj.mp
  rw [lg_ldiv_nonneg (by rw [pk_lT ha]; omega) (by rw [pk_lT hb]; omega), pk_lT ha, pk_lT hb, pk_lT (Nat.lt_of_le_of_lt (Nat.div_le_self a b) ha)]
  rfl
theorem pk_lRem {a b : Nat} (ha : a < 2 ^ 63) (h0 : 0 < b) (hb : b < 2 ^ 63) : lN a - lN a / lN b * lN b = lN (a % b) := by
  rw [pk_lDiv ha h0 hb, lN_mul, lN_sub (Nat.div_mul_le_self a b)]
  exact congrArg lN (by have := Nat.div_add_mod' a b; omega)
theorem pk_loop {σ : Type} (W : Nat → Nat → σ → Prop) (I : Nat → σ → Prop) (e i0 : Nat) (s : σ) (hi : i0 ≤ e) (h0 : I i0 s) (hx : ∀ n s, I e s → W (n + 1) e s)
    (hs : ∀ n i s, i < e → I i s → (∀ s', I (i + 1) s' → W n (i + 1) s') → W (n + 1) i s) : ∃ n, W n i0 s :=
  ⟨e + 1, loop_i W I e hx hs (e + 1) i0 s hi (by omega) h0⟩
theorem pk_loopD {σ : Type} (W : Nat → Nat → σ → Prop) (I : Nat → σ → Prop) (hx : ∀ n s, I 0 s → W (n + 1) 0 s)
    (hs : ∀ n i s, I (i + 1) s → (∀ s', I i s' → W n i s') → W (n + 1) (i + 1) s) : ∀ (e : Nat) (s : σ), I e s → W (e + 1) e s := by
  intro e
  induction e with
  | zero => exact fun s h => hx 0 s h
  | succ e ih => exact fun s h => hs (e + 1) e s h (fun s' h' => ih s' h')
theorem lp1 {A1 : Type} (W : Nat → A1 → Prop) (I : A1 → Prop) (μ : A1 → Nat) (hs : ∀ (n : Nat) (a1 : A1), I a1 → (∀ (b1 : A1), I b1 → μ b1 < μ a1 → W n b1) → W (n + 1) a1) (a1 : A1) (h : I a1) : ∃ n, W n a1 :=
  loop_m (σ := A1) (fun n s => W n s) (fun s => I s) (fun s => μ s) (fun n s hI hk => hs n s hI (fun b1 h9 hm => hk b1 h9 hm)) a1 h
theorem lp2 {A1 A2 : Type} (W : Nat → A1 → A2 → Prop) (I : A1 → A2 → Prop) (μ : A1 → A2 → Nat) (hs : ∀ (n : Nat) (a1 : A1) (a2 : A2), I a1 a2 → (∀ (b1 : A1) (b2 : A2), I b1 b2 → μ b1 b2 < μ a1 a2 → W n b1 b2) → W (n + 1) a1 a2) (a1 : A1) (a2 : A2) (h : I a1 a2) : ∃ n, W n a1 a2 :=
  loop_m (σ := A1 × A2) (fun n s => W n s.1 s.2) (fun s => I s.1 s.2) (fun s => μ s.1 s.2) (fun n s hI hk => hs n s.1 s.2 hI (fun b1 b2 h9 hm => hk (b1, b2) h9 hm)) (a1, a2) h
theorem lp3 {A1 A2 A3 : Type} (W : Nat → A1 → A2 → A3 → Prop) (I : A1 → A2 → A3 → Prop) (μ : A1 → A2 → A3 → Nat) (hs : ∀ (n : Nat) (a1 : A1) (a2 : A2) (a3 : A3), I a1 a2 a3 → (∀ (b1 : A1) (b2 : A2) (b3 : A3), I b1 b2 b3 → μ b1 b2 b3 < μ a1 a2 a3 → W n b1 b2 b3) → W (n + 1) a1 a2 a3) (a1 : A1) (a2 : A2) (a3 : A3) (h : I a1 a2 a3) : ∃ n, W n a1 a2 a3 :=
  loop_m (σ := A1 × A2 × A3) (fun n s => W n s.1 s.2.1 s.2.2) (fun s => I s.1 s.2.1 s.2.2) (fun s => μ s.1 s.2.1 s.2.2) (fun n s hI hk => hs n s.1 s.2.1 s.2.2 hI (fun b1 b2 b3 h9 hm => hk (b1, b2, b3) h9 hm)) (a1, a2, a3) h
theorem lp4 {A1 A2 A3 A4 : Type} (W : Nat → A1 → A2 → A3 → A4 → Prop) (I : A1 → A2 → A3 → A4 → Prop) (μ : A1 → A2 → A3 → A4 → Nat) (hs : ∀ (n : Nat) (a1 : A1) (a2 : A2) (a3 : A3) (a4 : A4), I a1 a2 a3 a4 → (∀ (b1 : A1) (b2 : A2) (b3 : A3) (b4 : A4), I b1 b2 b3 b4 → μ b1 b2 b3 b4 < μ a1 a2 a3 a4 → W n b1 b2 b3 b4) → W (n + 1) a1 a2 a3 a4) (a1 : A1) (a2 : A2) (a3 : A3) (a4 : A4) (h : I a1 a2 a3 a4) : ∃ n, W n a1 a2 a3 a4 :=
  loop_m (σ := A1 × A2 × A3 × A4) (fun n s => W n s.1 s.2.1 s.2.2.1 s.2.2.2) (fun s => I s.1 s.2.1 s.2.2.1 s.2.2.2) (fun s => μ s.1 s.2.1 s.2.2.1 s.2.2.2) (fun n s hI hk => hs n s.1 s.2.1 s.2.2.1 s.2.2.2 hI (fun b1 b2 b3 b4 h9 hm => hk (b1, b2, b3, b4) h9 hm)) (a1, a2, a3, a4) h
theorem lp5 {A1 A2 A3 A4 A5 : Type} (W : Nat → A1 → A2 → A3 → A4 → A5 → Prop) (I : A1 → A2 → A3 → A4 → A5 → Prop) (μ : A1 → A2 → A3 → A4 → A5 → Nat) (hs : ∀ (n : Nat) (a1 : A1) (a2 : A2) (a3 : A3) (a4 : A4) (a5 : A5), I a1 a2 a3 a4 a5 → (∀ (b1 : A1) (b2 : A2) (b3 : A3) (b4 : A4) (b5 : A5), I b1 b2 b3 b4 b5 → μ b1 b2 b3 b4 b5 < μ a1 a2 a3 a4 a5 → W n b1 b2 b3 b4 b5) → W (n + 1) a1 a2 a3 a4 a5) (a1 : A1) (a2 : A2) (a3 : A3) (a4 : A4) (a5 : A5) (h : I a1 a2 a3 a4 a5) : ∃ n, W n a1 a2 a3 a4 a5 :=
  loop_m (σ := A1 × A2 × A3 × A4 × A5) (fun n s => W n s.1 s.2.1 s.2.2.1 s.2.2.2.1 s.2.2.2.2) (fun s => I s.1 s.2.1 s.2.2.1 s.2.2.2.1 s.2.2.2.2) (fun s => μ s.1 s.2.1 s.2.2.1 s.2.2.2.1 s.2.2.2.2) (fun n s hI hk => hs n s.1 s.2.1 s.2.2.1 s.2.2.2.1 s.2.2.2.2 hI (fun b1 b2 b3 b4 b5 h9 hm => hk (b1, b2, b3, b4, b5) h9 hm)) (a1, a2, a3, a4, a5) h
theorem lp6 {A1 A2 A3 A4 A5 A6 : Type} (W : Nat → A1 → A2 → A3 → A4 → A5 → A6 → Prop) (I : A1 → A2 → A3 → A4 → A5 → A6 → Prop) (μ : A1 → A2 → A3 → A4 → A5 → A6 → Nat) (hs : ∀ (n : Nat) (a1 : A1) (a2 : A2) (a3 : A3) (a4 : A4) (a5 : A5) (a6 : A6), I a1 a2 a3 a4 a5 a6 → (∀ (b1 : A1) (b2 : A2) (b3 : A3) (b4 : A4) (b5 : A5) (b6 : A6), I b1 b2 b3 b4 b5 b6 → μ b1 b2 b3 b4 b5 b6 < μ a1 a2 a3 a4 a5 a6 → W n b1 b2 b3 b4 b5 b6) → W (n + 1) a1 a2 a3 a4 a5 a6) (a1 : A1) (a2 : A2) (a3 : A3) (a4 : A4) (a5 : A5) (a6 : A6) (h : I a1 a2 a3 a4 a5 a6) : ∃ n, W n a1 a2 a3 a4 a5 a6 :=
  loop_m (σ := A1 × A2 × A3 × A4 × A5 × A6) (fun n s => W n s.1 s.2.1 s.2.2.1 s.2.2.2.1 s.2.2.2.2.1 s.2.2.2.2.2) (fun s => I s.1 s.2.1 s.2.2.1 s.2.2.2.1 s.2.2.2.2.1 s.2.2.2.2.2) (fun s => μ s.1 s.2.1 s.2.2.1 s.2.2.2.1 s.2.2.2.2.1 s.2.2.2.2.2) (fun n s hI hk => hs n s.1 s.2.1 s.2.2.1 s.2.2.2.1 s.2.2.2.2.1 s.2.2.2.2.2 hI (fun b1 b2 b3 b4 b5 b6 h9 hm => hk (b1, b2, b3, b4, b5, b6) h9 hm)) (a1, a2, a3, a4, a5, a6) h
theorem lp7 {A1 A2 A3 A4 A5 A6 A7 : Type} (W : Nat → A1 → A2 → A3 → A4 → A5 → A6 → A7 → Prop) (I : A1 → A2 → A3 → A4 → A5 → A6 → A7 → Prop) (μ : A1 → A2 → A3 → A4 → A5 → A6 → A7 → Nat) (hs : ∀ (n : Nat) (a1 : A1) (a2 : A2) (a3 : A3) (a4 : A4) (a5 : A5) (a6 : A6) (a7 : A7), I a1 a2 a3 a4 a5 a6 a7 → (∀ (b1 : A1) (b2 : A2) (b3 : A3) (b4 : A4) (b5 : A5) (b6 : A6) (b7 : A7), I b1 b2 b3 b4 b5 b6 b7 → μ b1 b2 b3 b4 b5 b6 b7 < μ a1 a2 a3 a4 a5 a6 a7 → W n b1 b2 b3 b4 b5 b6 b7) → W (n + 1) a1 a2 a3 a4 a5 a6 a7) (a1 : A1) (a2 : A2) (a3 : A3) (a4 : A4) (a5 : A5) (a6 : A6) (a7 : A7) (h : I a1 a2 a3 a4 a5 a6 a7) : ∃ n, W n a1 a2 a3 a4 a5 a6 a7 :=
  loop_m (σ := A1 × A2 × A3 × A4 × A5 × A6 × A7) (fun n s => W n s.1 s.2.1 s.2.2.1 s.2.2.2.1 s.2.2.2.2.1 s.2.2.2.2.2.1 s.2.2.2.2.2.2) (fun s => I s.1 s.2.1 s.2.2.1 s.2.2.2.1 s.2.2.2.2.1 s.2.2.2.2.2.1 s.2.2.2.2.2.2) (fun s => μ s.1 s.2.1 s.2.2.1 s.2.2.2.1 s.2.2.2.2.1 s.2.2.2.2.2.1 s.2.2.2.2.2.2) (fun n s hI hk => hs n s.1 s.2.1 s.2.2.1 s.2.2.2.1 s.2.2.2.2.1 s.2.2.2.2.2.1 s.2.2.2.2.2.2 hI (fun b1 b2 b3 b4 b5 b6 b7 h9 hm => hk (b1, b2, b3, b4, b5, b6, b7) h9 hm)) (a1, a2, a3, a4, a5, a6, a7) h
theorem lp8 {A1 A2 A3 A4 A5 A6 A7 A8 : Type} (W : Nat → A1 → A2 → A3 → A4 → A5 → A6 → A7 → A8 → Prop) (I : A1 → A2 → A3 → A4 → A5 → A6 → A7 → A8 → Prop) (μ : A1 → A2 → A3 → A4 → A5 → A6 → A7 → A8 → Nat) (hs : ∀ (n : Nat) (a1 : A1) (a2 : A2) (a3 : A3) (a4 : A4) (a5 : A5) (a6 : A6) (a7 : A7) (a8 : A8), I a1 a2 a3 a4 a5 a6 a7 a8 → (∀ (b1 : A1) (b2 : A2) (b3 : A3) (b4 : A4) (b5 : A5) (b6 : A6) (b7 : A7) (b8 : A8), I b1 b2 b3 b4 b5 b6 b7 b8 → μ b1 b2 b3 b4 b5 b6 b7 b8 < μ a1 a2 a3 a4 a5 a6 a7 a8 → W n b1 b2 b3 b4 b5 b6 b7 b8) → W (n + 1) a1 a2 a3 a4 a5 a6 a7 a8) (a1 : A1) (a2 : A2) (a3 : A3) (a4 : A4) (a5 : A5) (a6 : A6) (a7 : A7) (a8 : A8) (h : I a1 a2 a3 a4 a5 a6 a7 a8) : ∃ n, W n a1 a2 a3 a4 a5 a6 a7 a8 :=
  loop_m (σ := A1 × A2 × A3 × A4 × A5 × A6 × A7 × A8) (fun n s => W n s.1 s.2.1 s.2.2.1 s.2.2.2.1 s.2.2.2.2.1 s.2.2.2.2.2.1 s.2.2.2.2.2.2.1 s.2.2.2.2.2.2.2) (fun s => I s.1 s.2.1 s.2.2.1 s.2.2.2.1 s.2.2.2.2.1 s.2.2.2.2.2.1 s.2.2.2.2.2.2.1 s.2.2.2.2.2.2.2) (fun s => μ s.1 s.2.1 s.2.2.1 s.2.2.2.1 s.2.2.2.2.1 s.2.2.2.2.2.1 s.2.2.2.2.2.2.1 s.2.2.2.2.2.2.2) (fun n s hI hk => hs n s.1 s.2.1 s.2.2.1 s.2.2.2.1 s.2.2.2.2.1 s.2.2.2.2.2.1 s.2.2.2.2.2.2.1 s.2.2.2.2.2.2.2 hI (fun b1 b2 b3 b4 b5 b6 b7 b8 h9 hm => hk (b1, b2, b3, b4, b5, b6, b7, b8) h9 hm)) (a1, a2, a3, a4, a5, a6, a7, a8) h
theorem lp9 {A1 A2 A3 A4 A5 A6 A7 A8 A9 : Type} (W : Nat → A1 → A2 → A3 → A4 → A5 → A6 → A7 → A8 → A9 → Prop) (I : A1 → A2 → A3 → A4 → A5 → A6 → A7 → A8 → A9 → Prop) (μ : A1 → A2 → A3 → A4 → A5 → A6 → A7 → A8 → A9 → Nat) (hs : ∀ (n : Nat) (a1 : A1) (a2 : A2) (a3 : A3) (a4 : A4) (a5 : A5) (a6 : A6) (a7 : A7) (a8 : A8) (a9 : A9), I a1 a2 a3 a4 a5 a6 a7 a8 a9 → (∀ (b1 : A1) (b2 : A2) (b3 : A3) (b4 : A4) (b5 : A5) (b6 : A6) (b7 : A7) (b8 : A8) (b9 : A9), I b1 b2 b3 b4 b5 b6 b7 b8 b9 → μ b1 b2 b3 b4 b5 b6 b7 b8 b9 < μ a1 a2 a3 a4 a5 a6 a7 a8 a9 → W n b1 b2 b3 b4 b5 b6 b7 b8 b9) → W (n + 1) a1 a2 a3 a4 a5 a6 a7 a8 a9) (a1 : A1) (a2 : A2) (a3 : A3) (a4 : A4) (a5 : A5) (a6 : A6) (a7 : A7) (a8 : A8) (a9 : A9) (h : I a1 a2 a3 a4 a5 a6 a7 a8 a9) : ∃ n, W n a1 a2 a3 a4 a5 a6 a7 a8 a9 :=
  loop_m (σ := A1 × A2 × A3 × A4 × A5 × A6 × A7 × A8 × A9) (fun n s => W n s.1 s.2.1 s.2.2.1 s.2.2.2.1 s.2.2.2.2.1 s.2.2.2.2.2.1 s.2.2.2.2.2.2.1 s.2.2.2.2.2.2.2.1 s.2.2.2.2.2.2.2.2) (fun s => I s.1 s.2.1 s.2.2.1 s.2.2.2.1 s.2.2.2.2.1 s.2.2.2.2.2.1 s.2.2.2.2.2.2.1 s.2.2.2.2.2.2.2.1 s.2.2.2.2.2.2.2.2) (fun s => μ s.1 s.2.1 s.2.2.1 s.2.2.2.1 s.2.2.2.2.1 s.2.2.2.2.2.1 s.2.2.2.2.2.2.1 s.2.2.2.2.2.2.2.1 s.2.2.2.2.2.2.2.2) (fun n s hI hk => hs n s.1 s.2.1 s.2.2.1 s.2.2.2.1 s.2.2.2.2.1 s.2.2.2.2.2.1 s.2.2.2.2.2.2.1 s.2.2.2.2.2.2.2.1 s.2.2.2.2.2.2.2.2 hI (fun b1 b2 b3 b4 b5 b6 b7 b8 b9 h9 hm => hk (b1, b2, b3, b4, b5, b6, b7, b8, b9) h9 hm)) (a1, a2, a3, a4, a5, a6, a7, a8, a9) h
theorem lp10 {A1 A2 A3 A4 A5 A6 A7 A8 A9 A10 : Type} (W : Nat → A1 → A2 → A3 → A4 → A5 → A6 → A7 → A8 → A9 → A10 → Prop) (I : A1 → A2 → A3 → A4 → A5 → A6 → A7 → A8 → A9 → A10 → Prop) (μ : A1 → A2 → A3 → A4 → A5 → A6 → A7 → A8 → A9 → A10 → Nat) (hs : ∀ (n : Nat) (a1 : A1) (a2 : A2) (a3 : A3) (a4 : A4) (a5 : A5) (a6 : A6) (a7 : A7) (a8 : A8) (a9 : A9) (a10 : A10), I a1 a2 a3 a4 a5 a6 a7 a8 a9 a10 → (∀ (b1 : A1) (b2 : A2) (b3 : A3) (b4 : A4) (b5 : A5) (b6 : A6) (b7 : A7) (b8 : A8) (b9 : A9) (b10 : A10), I b1 b2 b3 b4 b5 b6 b7 b8 b9 b10 → μ b1 b2 b3 b4 b5 b6 b7 b8 b9 b10 < μ a1 a2 a3 a4 a5 a6 a7 a8 a9 a10 → W n b1 b2 b3 b4 b5 b6 b7 b8 b9 b10) → W (n + 1) a1 a2 a3 a4 a5 a6 a7 a8 a9 a10) (a1 : A1) (a2 : A2) (a3 : A3) (a4 : A4) (a5 : A5) (a6 : A6) (a7 : A7) (a8 : A8) (a9 : A9) (a10 : A10) (h : I a1 a2 a3 a4 a5 a6 a7 a8 a9 a10) : ∃ n, W n a1 a2 a3 a4 a5 a6 a7 a8 a9 a10 :=
  loop_m (σ := A1 × A2 × A3 × A4 × A5 × A6 × A7 × A8 × A9 × A10) (fun n s => W n s.1 s.2.1 s.2.2.1 s.2.2.2.1 s.2.2.2.2.1 s.2.2.2.2.2.1 s.2.2.2.2.2.2.1 s.2.2.2.2.2.2.2.1 s.2.2.2.2.2.2.2.2.1 s.2.2.2.2.2.2.2.2.2) (fun s => I s.1 s.2.1 s.2.2.1 s.2.2.2.1 s.2.2.2.2.1 s.2.2.2.2.2.1 s.2.2.2.2.2.2.1 s.2.2.2.2.2.2.2.1 s.2.2.2.2.2.2.2.2.1 s.2.2.2.2.2.2.2.2.2) (fun s => μ s.1 s.2.1 s.2.2.1 s.2.2.2.1 s.2.2.2.2.1 s.2.2.2.2.2.1 s.2.2.2.2.2.2.1 s.2.2.2.2.2.2.2.1 s.2.2.2.2.2.2.2.2.1 s.2.2.2.2.2.2.2.2.2) (fun n s hI hk => hs n s.1 s.2.1 s.2.2.1 s.2.2.2.1 s.2.2.2.2.1 s.2.2.2.2.2.1 s.2.2.2.2.2.2.1 s.2.2.2.2.2.2.2.1 s.2.2.2.2.2.2.2.2.1 s.2.2.2.2.2.2.2.2.2 hI (fun b1 b2 b3 b4 b5 b6 b7 b8 b9 b10 h9 hm => hk (b1, b2, b3, b4, b5, b6, b7, b8, b9, b10) h9 hm)) (a1, a2, a3, a4, a5, a6, a7, a8, a9, a10) h
theorem lp11 {A1 A2 A3 A4 A5 A6 A7 A8 A9 A10 A11 : Type} (W : Nat → A1 → A2 → A3 → A4 → A5 → A6 → A7 → A8 → A9 → A10 → A11 → Prop) (I : A1 → A2 → A3 → A4 → A5 → A6 → A7 → A8 → A9 → A10 → A11 → Prop) (μ : A1 → A2 → A3 → A4 → A5 → A6 → A7 → A8 → A9 → A10 → A11 → Nat) (hs : ∀ (n : Nat) (a1 : A1) (a2 : A2) (a3 : A3) (a4 : A4) (a5 : A5) (a6 : A6) (a7 : A7) (a8 : A8) (a9 : A9) (a10 : A10) (a11 : A11), I a1 a2 a3 a4 a5 a6 a7 a8 a9 a10 a11 → (∀ (b1 : A1) (b2 : A2) (b3 : A3) (b4 : A4) (b5 : A5) (b6 : A6) (b7 : A7) (b8 : A8) (b9 : A9) (b10 : A10) (b11 : A11), I b1 b2 b3 b4 b5 b6 b7 b8 b9 b10 b11 → μ b1 b2 b3 b4 b5 b6 b7 b8 b9 b10 b11 < μ a1 a2 a3 a4 a5 a6 a7 a8 a9 a10 a11 → W n b1 b2 b3 b4 b5 b6 b7 b8 b9 b10 b11) → W (n + 1) a1 a2 a3 a4 a5 a6 a7 a8 a9 a10 a11) (a1 : A1) (a2 : A2) (a3 : A3) (a4 : A4) (a5 : A5) (a6 : A6) (a7 : A7) (a8 : A8) (a9 : A9) (a10 : A10) (a11 : A11) (h : I a1 a2 a3 a4 a5 a6 a7 a8 a9 a10 a11) : ∃ n, W n a1 a2 a3 a4 a5 a6 a7 a8 a9 a10 a11 :=
  loop_m (σ := A1 × A2 × A3 × A4 × A5 × A6 × A7 × A8 × A9 × A10 × A11) (fun n s => W n s.1 s.2.1 s.2.2.1 s.2.2.2.1 s.2.2.2.2.1 s.2.2.2.2.2.1 s.2.2.2.2.2.2.1 s.2.2.2.2.2.2.2.1 s.2.2.2.2.2.2.2.2.1 s.2.2.2.2.2.2.2.2.2.1 s.2.2.2.2.2.2.2.2.2.2) (fun s => I s.1 s.2.1 s.2.2.1 s.2.2.2.1 s.2.2.2.2.1 s.2.2.2.2.2.1 s.2.2.2.2.2.2.1 s.2.2.2.2.2.2.2.1 s.2.2.2.2.2.2.2.2.1 s.2.2.2.2.2.2.2.2.2.1 s.2.2.2.2.2.2.2.2.2.2) (fun s => μ s.1 s.2.1 s.2.2.1 s.2.2.2.1 s.2.2.2.2.1 s.2.2.2.2.2.1 s.2.2.2.2.2.2.1 s.2.2.2.2.2.2.2.1 s.2.2.2.2.2.2.2.2.1 s.2.2.2.2.2.2.2.2.2.1 s.2.2.2.2.2.2.2.2.2.2) (fun n s hI hk => hs n s.1 s.2.1 s.2.2.1 s.2.2.2.1 s.2.2.2.2.1 s.2.2.2.2.2.1 s.2.2.2.2.2.2.1 s.2.2.2.2.2.2.2.1 s.2.2.2.2.2.2.2.2.1 s.2.2.2.2.2.2.2.2.2.1 s.2.2.2.2.2.2.2.2.2.2 hI (fun b1 b2 b3 b4 b5 b6 b7 b8 b9 b10 b11 h9 hm => hk (b1, b2, b3, b4, b5, b6, b7, b8, b9, b10, b11) h9 hm)) (a1, a2, a3, a4, a5, a6, a7, a8, a9, a10, a11) h
theorem lp12 {A1 A2 A3 A4 A5 A6 A7 A8 A9 A10 A11 A12 : Type} (W : Nat → A1 → A2 → A3 → A4 → A5 → A6 → A7 → A8 → A9 → A10 → A11 → A12 → Prop) (I : A1 → A2 → A3 → A4 → A5 → A6 → A7 → A8 → A9 → A10 → A11 → A12 → Prop) (μ : A1 → A2 → A3 → A4 → A5 → A6 → A7 → A8 → A9 → A10 → A11 → A12 → Nat) (hs : ∀ (n : Nat) (a1 : A1) (a2 : A2) (a3 : A3) (a4 : A4) (a5 : A5) (a6 : A6) (a7 : A7) (a8 : A8) (a9 : A9) (a10 : A10) (a11 : A11) (a12 : A12), I a1 a2 a3 a4 a5 a6 a7 a8 a9 a10 a11 a12 → (∀ (b1 : A1) (b2 : A2) (b3 : A3) (b4 : A4) (b5 : A5) (b6 : A6) (b7 : A7) (b8 : A8) (b9 : A9) (b10 : A10) (b11 : A11) (b12 : A12), I b1 b2 b3 b4 b5 b6 b7 b8 b9 b10 b11 b12 → μ b1 b2 b3 b4 b5 b6 b7 b8 b9 b10 b11 b12 < μ a1 a2 a3 a4 a5 a6 a7 a8 a9 a10 a11 a12 → W n b1 b2 b3 b4 b5 b6 b7 b8 b9 b10 b11 b12) → W (n + 1) a1 a2 a3 a4 a5 a6 a7 a8 a9 a10 a11 a12) (a1 : A1) (a2 : A2) (a3 : A3) (a4 : A4) (a5 : A5) (a6 : A6) (a7 : A7) (a8 : A8) (a9 : A9) (a10 : A10) (a11 : A11) (a12 : A12) (h : I a1 a2 a3 a4 a5 a6 a7 a8 a9 a10 a11 a12) : ∃ n, W n a1 a2 a3 a4 a5 a6 a7 a8 a9 a10 a11 a12 :=
  loop_m (σ := A1 × A2 × A3 × A4 × A5 × A6 × A7 × A8 × A9 × A10 × A11 × A12) (fun n s => W n s.1 s.2.1 s.2.2.1 s.2.2.2.1 s.2.2.2.2.1 s.2.2.2.2.2.1 s.2.2.2.2.2.2.1 s.2.2.2.2.2.2.2.1 s.2.2.2.2.2.2.2.2.1 s.2.2.2.2.2.2.2.2.2.1 s.2.2.2.2.2.2.2.2.2.2.1 s.2.2.2.2.2.2.2.2.2.2.2) (fun s => I s.1 s.2.1 s.2.2.1 s.2.2.2.1 s.2.2.2.2.1 s.2.2.2.2.2.1 s.2.2.2.2.2.2.1 s.2.2.2.2.2.2.2.1 s.2.2.2.2.2.2.2.2.1 s.2.2.2.2.2.2.2.2.2.1 s.2.2.2.2.2.2.2.2.2.2.1 s.2.2.2.2.2.2.2.2.2.2.2) (fun s => μ s.1 s.2.1 s.2.2.1 s.2.2.2.1 s.2.2.2.2.1 s.2.2.2.2.2.1 s.2.2.2.2.2.2.1 s.2.2.2.2.2.2.2.1 s.2.2.2.2.2.2.2.2.1 s.2.2.2.2.2.2.2.2.2.1 s.2.2.2.2.2.2.2.2.2.2.1 s.2.2.2.2.2.2.2.2.2.2.2) (fun n s hI hk => hs n s.1 s.2.1 s.2.2.1 s.2.2.2.1 s.2.2.2.2.1 s.2.2.2.2.2.1 s.2.2.2.2.2.2.1 s.2.2.2.2.2.2.2.1 s.2.2.2.2.2.2.2.2.1 s.2.2.2.2.2.2.2.2.2.1 s.2.2.2.2.2.2.2.2.2.2.1 s.2.2.2.2.2.2.2.2.2.2.2 hI (fun b1 b2 b3 b4 b5 b6 b7 b8 b9 b10 b11 b12 h9 hm => hk (b1, b2, b3, b4, b5, b6, b7, b8, b9, b10, b11, b12) h9 hm)) (a1, a2, a3, a4, a5, a6, a7, a8, a9, a10, a11, a12) h
theorem lp13 {A1 A2 A3 A4 A5 A6 A7 A8 A9 A10 A11 A12 A13 : Type} (W : Nat → A1 → A2 → A3 → A4 → A5 → A6 → A7 → A8 → A9 → A10 → A11 → A12 → A13 → Prop) (I : A1 → A2 → A3 → A4 → A5 → A6 → A7 → A8 → A9 → A10 → A11 → A12 → A13 → Prop) (μ : A1 → A2 → A3 → A4 → A5 → A6 → A7 → A8 → A9 → A10 → A11 → A12 → A13 → Nat) (hs : ∀ (n : Nat) (a1 : A1) (a2 : A2) (a3 : A3) (a4 : A4) (a5 : A5) (a6 : A6) (a7 : A7) (a8 : A8) (a9 : A9) (a10 : A10) (a11 : A11) (a12 : A12) (a13 : A13), I a1 a2 a3 a4 a5 a6 a7 a8 a9 a10 a11 a12 a13 → (∀ (b1 : A1) (b2 : A2) (b3 : A3) (b4 : A4) (b5 : A5) (b6 : A6) (b7 : A7) (b8 : A8) (b9 : A9) (b10 : A10) (b11 : A11) (b12 : A12) (b13 : A13), I b1 b2 b3 b4 b5 b6 b7 b8 b9 b10 b11 b12 b13 → μ b1 b2 b3 b4 b5 b6 b7 b8 b9 b10 b11 b12 b13 < μ a1 a2 a3 a4 a5 a6 a7 a8 a9 a10 a11 a12 a13 → W n b1 b2 b3 b4 b5 b6 b7 b8 b9 b10 b11 b12 b13) → W (n + 1) a1 a2 a3 a4 a5 a6 a7 a8 a9 a10 a11 a12 a13) (a1 : A1) (a2 : A2) (a3 : A3) (a4 : A4) (a5 : A5) (a6 : A6) (a7 : A7) (a8 : A8) (a9 : A9) (a10 : A10) (a11 : A11) (a12 : A12) (a13 : A13) (h : I a1 a2 a3 a4 a5 a6 a7 a8 a9 a10 a11 a12 a13) : ∃ n, W n a1 a2 a3 a4 a5 a6 a7 a8 a9 a10 a11 a12 a13 :=
  loop_m (σ := A1 × A2 × A3 × A4 × A5 × A6 × A7 × A8 × A9 × A10 × A11 × A12 × A13) (fun n s => W n s.1 s.2.1 s.2.2.1 s.2.2.2.1 s.2.2.2.2.1 s.2.2.2.2.2.1 s.2.2.2.2.2.2.1 s.2.2.2.2.2.2.2.1 s.2.2.2.2.2.2.2.2.1 s.2.2.2.2.2.2.2.2.2.1 s.2.2.2.2.2.2.2.2.2.2.1 s.2.2.2.2.2.2.2.2.2.2.2.1 s.2.2.2.2.2.2.2.2.2.2.2.2) (fun s => I s.1 s.2.1 s.2.2.1 s.2.2.2.1 s.2.2.2.2.1 s.2.2.2.2.2.1 s.2.2.2.2.2.2.1 s.2.2.2.2.2.2.2.1 s.2.2.2.2.2.2.2.2.1 s.2.2.2.2.2.2.2.2.2.1 s.2.2.2.2.2.2.2.2.2.2.1 s.2.2.2.2.2.2.2.2.2.2.2.1 s.2.2.2.2.2.2.2.2.2.2.2.2) (fun s => μ s.1 s.2.1 s.2.2.1 s.2.2.2.1 s.2.2.2.2.1 s.2.2.2.2.2.1 s.2.2.2.2.2.2.1 s.2.2.2.2.2.2.2.1 s.2.2.2.2.2.2.2.2.1 s.2.2.2.2.2.2.2.2.2.1 s.2.2.2.2.2.2.2.2.2.2.1 s.2.2.2.2.2.2.2.2.2.2.2.1 s.2.2.2.2.2.2.2.2.2.2.2.2) (fun n s hI hk => hs n s.1 s.2.1 s.2.2.1 s.2.2.2.1 s.2.2.2.2.1 s.2.2.2.2.2.1 s.2.2.2.2.2.2.1 s.2.2.2.2.2.2.2.1 s.2.2.2.2.2.2.2.2.1 s.2.2.2.2.2.2.2.2.2.1 s.2.2.2.2.2.2.2.2.2.2.1 s.2.2.2.2.2.2.2.2.2.2.2.1 s.2.2.2.2.2.2.2.2.2.2.2.2 hI (fun b1 b2 b3 b4 b5 b6 b7 b8 b9 b10 b11 b12 b13 h9 hm => hk (b1, b2, b3, b4, b5, b6, b7, b8, b9, b10, b11, b12, b13) h9 hm)) (a1, a2, a3, a4, a5, a6, a7, a8, a9, a10, a11, a12, a13) h
theorem lp14 {A1 A2 A3 A4 A5 A6 A7 A8 A9 A10 A11 A12 A13 A14 : Type} (W : Nat → A1 → A2 → A3 → A4 → A5 → A6 → A7 → A8 → A9 → A10 → A11 → A12 → A13 → A14 → Prop) (I : A1 → A2 → A3 → A4 → A5 → A6 → A7 → A8 → A9 → A10 → A11 → A12 → A13 → A14 → Prop) (μ : A1 → A2 → A3 → A4 → A5 → A6 → A7 → A8 → A9 → A10 → A11 → A12 → A13 → A14 → Nat) (hs : ∀ (n : Nat) (a1 : A1) (a2 : A2) (a3 : A3) (a4 : A4) (a5 : A5) (a6 : A6) (a7 : A7) (a8 : A8) (a9 : A9) (a10 : A10) (a11 : A11) (a12 : A12) (a13 : A13) (a14 : A14), I a1 a2 a3 a4 a5 a6 a7 a8 a9 a10 a11 a12 a13 a14 → (∀ (b1 : A1) (b2 : A2) (b3 : A3) (b4 : A4) (b5 : A5) (b6 : A6) (b7 : A7) (b8 : A8) (b9 : A9) (b10 : A10) (b11 : A11) (b12 : A12) (b13 : A13) (b14 : A14), I b1 b2 b3 b4 b5 b6 b7 b8 b9 b10 b11 b12 b13 b14 → μ b1 b2 b3 b4 b5 b6 b7 b8 b9 b10 b11 b12 b13 b14 < μ a1 a2 a3 a4 a5 a6 a7 a8 a9 a10 a11 a12 a13 a14 → W n b1 b2 b3 b4 b5 b6 b7 b8 b9 b10 b11 b12 b13 b14) → W (n + 1) a1 a2 a3 a4 a5 a6 a7 a8 a9 a10 a11 a12 a13 a14) (a1 : A1) (a2 : A2) (a3 : A3) (a4 : A4) (a5 : A5) (a6 : A6) (a7 : A7) (a8 : A8) (a9 : A9) (a10 : A10) (a11 : A11) (a12 : A12) (a13 : A13) (a14 : A14) (h : I a1 a2 a3 a4 a5 a6 a7 a8 a9 a10 a11 a12 a13 a14) : ∃ n, W n a1 a2 a3 a4 a5 a6 a7 a8 a9 a10 a11 a12 a13 a14 :=
  loop_m (σ := A1 × A2 × A3 × A4 × A5 × A6 × A7 × A8 × A9 × A10 × A11 × A12 × A13 × A14) (fun n s => W n s.1 s.2.1 s.2.2.1 s.2.2.2.1 s.2.2.2.2.1 s.2.2.2.2.2.1 s.2.2.2.2.2.2.1 s.2.2.2.2.2.2.2.1 s.2.2.2.2.2.2.2.2.1 s.2.2.2.2.2.2.2.2.2.1 s.2.2.2.2.2.2.2.2.2.2.1 s.2.2.2.2.2.2.2.2.2.2.2.1 s.2.2.2.2.2.2.2.2.2.2.2.2.1 s.2.2.2.2.2.2.2.2.2.2.2.2.2) (fun s => I s.1 s.2.1 s.2.2.1 s.2.2.2.1 s.2.2.2.2.1 s.2.2.2.2.2.1 s.2.2.2.2.2.2.1 s.2.2.2.2.2.2.2.1 s.2.2.2.2.2.2.2.2.1 s.2.2.2.2.2.2.2.2.2.1 s.2.2.2.2.2.2.2.2.2.2.1 s.2.2.2.2.2.2.2.2.2.2.2.1 s.2.2.2.2.2.2.2.2.2.2.2.2.1 s.2.2.2.2.2.2.2.2.2.2.2.2.2) (fun s => μ s.1 s.2.1 s.2.2.1 s.2.2.2.1 s.2.2.2.2.1 s.2.2.2.2.2.1 s.2.2.2.2.2.2.1 s.2.2.2.2.2.2.2.1 s.2.2.2.2.2.2.2.2.1 s.2.2.2.2.2.2.2.2.2.1 s.2.2.2.2.2.2.2.2.2.2.1 s.2.2.2.2.2.2.2.2.2.2.2.1 s.2.2.2.2.2.2.2.2.2.2.2.2.1 s.2.2.2.2.2.2.2.2.2.2.2.2.2) (fun n s hI hk => hs n s.1 s.2.1 s.2.2.1 s.2.2.2.1 s.2.2.2.2.1 s.2.2.2.2.2.1 s.2.2.2.2.2.2.1 s.2.2.2.2.2.2.2.1 s.2.2.2.2.2.2.2.2.1 s.2.2.2.2.2.2.2.2.2.1 s.2.2.2.2.2.2.2.2.2.2.1 s.2.2.2.2.2.2.2.2.2.2.2.1 s.2.2.2.2.2.2.2.2.2.2.2.2.1 s.2.2.2.2.2.2.2.2.2.2.2.2.2 hI (fun b1 b2 b3 b4 b5 b6 b7 b8 b9 b10 b11 b12 b13 b14 h9 hm => hk (b1, b2, b3, b4, b5, b6, b7, b8, b9, b10, b11, b12, b13, b14) h9 hm)) (a1, a2, a3, a4, a5, a6, a7, a8, a9, a10, a11, a12, a13, a14) h
theorem lp15 {A1 A2 A3 A4 A5 A6 A7 A8 A9 A10 A11 A12 A13 A14 A15 : Type} (W : Nat → A1 → A2 → A3 → A4 → A5 → A6 → A7 → A8 → A9 → A10 → A11 → A12 → A13 → A14 → A15 → Prop) (I : A1 → A2 → A3 → A4 → A5 → A6 → A7 → A8 → A9 → A10 → A11 → A12 → A13 → A14 → A15 → Prop) (μ : A1 → A2 → A3 → A4 → A5 → A6 → A7 → A8 → A9 → A10 → A11 → A12 → A13 → A14 → A15 → Nat) (hs : ∀ (n : Nat) (a1 : A1) (a2 : A2) (a3 : A3) (a4 : A4) (a5 : A5) (a6 : A6) (a7 : A7) (a8 : A8) (a9 : A9) (a10 : A10) (a11 : A11) (a12 : A12) (a13 : A13) (a14 : A14) (a15 : A15), I a1 a2 a3 a4 a5 a6 a7 a8 a9 a10 a11 a12 a13 a14 a15 → (∀ (b1 : A1) (b2 : A2) (b3 : A3) (b4 : A4) (b5 : A5) (b6 : A6) (b7 : A7) (b8 : A8) (b9 : A9) (b10 : A10) (b11 : A11) (b12 : A12) (b13 : A13) (b14 : A14) (b15 : A15), I b1 b2 b3 b4 b5 b6 b7 b8 b9 b10 b11 b12 b13 b14 b15 → μ b1 b2 b3 b4 b5 b6 b7 b8 b9 b10 b11 b12 b13 b14 b15 < μ a1 a2 a3 a4 a5 a6 a7 a8 a9 a10 a11 a12 a13 a14 a15 → W n b1 b2 b3 b4 b5 b6 b7 b8 b9 b10 b11 b12 b13 b14 b15) → W (n + 1) a1 a2 a3 a4 a5 a6 a7 a8 a9 a10 a11 a12 a13 a14 a15) (a1 : A1) (a2 : A2) (a3 : A3) (a4 : A4) (a5 : A5) (a6 : A6) (a7 : A7) (a8 : A8) (a9 : A9) (a10 : A10) (a11 : A11) (a12 : A12) (a13 : A13) (a14 : A14) (a15 : A15) (h : I a1 a2 a3 a4 a5 a6 a7 a8 a9 a10 a11 a12 a13 a14 a15) : ∃ n, W n a1 a2 a3 a4 a5 a6 a7 a8 a9 a10 a11 a12 a13 a14 a15 :=
  loop_m (σ := A1 × A2 × A3 × A4 × A5 × A6 × A7 × A8 × A9 × A10 × A11 × A12 × A13 × A14 × A15) (fun n s => W n s.1 s.2.1 s.2.2.1 s.2.2.2.1 s.2.2.2.2.1 s.2.2.2.2.2.1 s.2.2.2.2.2.2.1 s.2.2.2.2.2.2.2.1 s.2.2.2.2.2.2.2.2.1 s.2.2.2.2.2.2.2.2.2.1 s.2.2.2.2.2.2.2.2.2.2.1 s.2.2.2.2.2.2.2.2.2.2.2.1 s.2.2.2.2.2.2.2.2.2.2.2.2.1 s.2.2.2.2.2.2.2.2.2.2.2.2.2.1 s.2.2.2.2.2.2.2.2.2.2.2.2.2.2) (fun s => I s.1 s.2.1 s.2.2.1 s.2.2.2.1 s.2.2.2.2.1 s.2.2.2.2.2.1 s.2.2.2.2.2.2.1 s.2.2.2.2.2.2.2.1 s.2.2.2.2.2.2.2.2.1 s.2.2.2.2.2.2.2.2.2.1 s.2.2.2.2.2.2.2.2.2.2.1 s.2.2.2.2.2.2.2.2.2.2.2.1 s.2.2.2.2.2.2.2.2.2.2.2.2.1 s.2.2.2.2.2.2.2.2.2.2.2.2.2.1 s.2.2.2.2.2.2.2.2.2.2.2.2.2.2) (fun s => μ s.1 s.2.1 s.2.2.1 s.2.2.2.1 s.2.2.2.2.1 s.2.2.2.2.2.1 s.2.2.2.2.2.2.1 s.2.2.2.2.2.2.2.1 s.2.2.2.2.2.2.2.2.1 s.2.2.2.2.2.2.2.2.2.1 s.2.2.2.2.2.2.2.2.2.2.1 s.2.2.2.2.2.2.2.2.2.2.2.1 s.2.2.2.2.2.2.2.2.2.2.2.2.1 s.2.2.2.2.2.2.2.2.2.2.2.2.2.1 s.2.2.2.2.2.2.2.2.2.2.2.2.2.2) (fun n s hI hk => hs n s.1 s.2.1 s.2.2.1 s.2.2.2.1 s.2.2.2.2.1 s.2.2.2.2.2.1 s.2.2.2.2.2.2.1 s.2.2.2.2.2.2.2.1 s.2.2.2.2.2.2.2.2.1 s.2.2.2.2.2.2.2.2.2.1 s.2.2.2.2.2.2.2.2.2.2.1 s.2.2.2.2.2.2.2.2.2.2.2.1 s.2.2.2.2.2.2.2.2.2.2.2.2.1 s.2.2.2.2.2.2.2.2.2.2.2.2.2.1 s.2.2.2.2.2.2.2.2.2.2.2.2.2.2 hI (fun b1 b2 b3 b4 b5 b6 b7 b8 b9 b10 b11 b12 b13 b14 b15 h9 hm => hk (b1, b2, b3, b4, b5, b6, b7, b8, b9, b10, b11, b12, b13, b14, b15) h9 hm)) (a1, a2, a3, a4, a5, a6, a7, a8, a9, a10, a11, a12, a13, a14, a15) h
theorem lp16 {A1 A2 A3 A4 A5 A6 A7 A8 A9 A10 A11 A12 A13 A14 A15 A16 : Type} (W : Nat → A1 → A2 → A3 → A4 → A5 → A6 → A7 → A8 → A9 → A10 → A11 → A12 → A13 → A14 → A15 → A16 → Prop) (I : A1 → A2 → A3 → A4 → A5 → A6 → A7 → A8 → A9 → A10 → A11 → A12 → A13 → A14 → A15 → A16 → Prop) (μ : A1 → A2 → A3 → A4 → A5 → A6 → A7 → A8 → A9 → A10 → A11 → A12 → A13 → A14 → A15 → A16 → Nat) (hs : ∀ (n : Nat) (a1 : A1) (a2 : A2) (a3 : A3) (a4 : A4) (a5 : A5) (a6 : A6) (a7 : A7) (a8 : A8) (a9 : A9) (a10 : A10) (a11 : A11) (a12 : A12) (a13 : A13) (a14 : A14) (a15 : A15) (a16 : A16), I a1 a2 a3 a4 a5 a6 a7 a8 a9 a10 a11 a12 a13 a14 a15 a16 → (∀ (b1 : A1) (b2 : A2) (b3 : A3) (b4 : A4) (b5 : A5) (b6 : A6) (b7 : A7) (b8 : A8) (b9 : A9) (b10 : A10) (b11 : A11) (b12 : A12) (b13 : A13) (b14 : A14) (b15 : A15) (b16 : A16), I b1 b2 b3 b4 b5 b6 b7 b8 b9 b10 b11 b12 b13 b14 b15 b16 → μ b1 b2 b3 b4 b5 b6 b7 b8 b9 b10 b11 b12 b13 b14 b15 b16 < μ a1 a2 a3 a4 a5 a6 a7 a8 a9 a10 a11 a12 a13 a14 a15 a16 → W n b1 b2 b3 b4 b5 b6 b7 b8 b9 b10 b11 b12 b13 b14 b15 b16) → W (n + 1) a1 a2 a3 a4 a5 a6 a7 a8 a9 a10 a11 a12 a13 a14 a15 a16) (a1 : A1) (a2 : A2) (a3 : A3) (a4 : A4) (a5 : A5) (a6 : A6) (a7 : A7) (a8 : A8) (a9 : A9) (a10 : A10) (a11 : A11) (a12 : A12) (a13 : A13) (a14 : A14) (a15 : A15) (a16 : A16) (h : I a1 a2 a3 a4 a5 a6 a7 a8 a9 a10 a11 a12 a13 a14 a15 a16) : ∃ n, W n a1 a2 a3 a4 a5 a6 a7 a8 a9 a10 a11 a12 a13 a14 a15 a16 :=
  loop_m (σ := A1 × A2 × A3 × A4 × A5 × A6 × A7 × A8 × A9 × A10 × A11 × A12 × A13 × A14 × A15 × A16) (fun n s => W n s.1 s.2.1 s.2.2.1 s.2.2.2.1 s.2.2.2.2.1 s.2.2.2.2.2.1 s.2.2.2.2.2.2.1 s.2.2.2.2.2.2.2.1 s.2.2.2.2.2.2.2.2.1 s.2.2.2.2.2.2.2.2.2.1 s.2.2.2.2.2.2.2.2.2.2.1 s.2.2.2.2.2.2.2.2.2.2.2.1 s.2.2.2.2.2.2.2.2.2.2.2.2.1 s.2.2.2.2.2.2.2.2.2.2.2.2.2.1 s.2.2.2.2.2.2.2.2.2.2.2.2.2.2.1 s.2.2.2.2.2.2.2.2.2.2.2.2.2.2.2) (fun s => I s.1 s.2.1 s.2.2.1 s.2.2.2.1 s.2.2.2.2.1 s.2.2.2.2.2.1 s.2.2.2.2.2.2.1 s.2.2.2.2.2.2.2.1 s.2.2.2.2.2.2.2.2.1 s.2.2.2.2.2.2.2.2.2.1 s.2.2.2.2.2.2.2.2.2.2.1 s.2.2.2.2.2.2.2.2.2.2.2.1 s.2.2.2.2.2.2.2.2.2.2.2.2.1 s.2.2.2.2.2.2.2.2.2.2.2.2.2.1 s.2.2.2.2.2.2.2.2.2.2.2.2.2.2.1 s.2.2.2.2.2.2.2.2.2.2.2.2.2.2.2) (fun s => μ s.1 s.2.1 s.2.2.1 s.2.2.2.1 s.2.2.2.2.1 s.2.2.2.2.2.1 s.2.2.2.2.2.2.1 s.2.2.2.2.2.2.2.1 s.2.2.2.2.2.2.2.2.1 s.2.2.2.2.2.2.2.2.2.1 s.2.2.2.2.2.2.2.2.2.2.1 s.2.2.2.2.2.2.2.2.2.2.2.1 s.2.2.2.2.2.2.2.2.2.2.2.2.1 s.2.2.2.2.2.2.2.2.2.2.2.2.2.1 s.2.2.2.2.2.2.2.2.2.2.2.2.2.2.1 s.2.2.2.2.2.2.2.2.2.2.2.2.2.2.2) (fun n s hI hk => hs n s.1 s.2.1 s.2.2.1 s.2.2.2.1 s.2.2.2.2.1 s.2.2.2.2.2.1 s.2.2.2.2.2.2.1 s.2.2.2.2.2.2.2.1 s.2.2.2.2.2.2.2.2.1 s.2.2.2.2.2.2.2.2.2.1 s.2.2.2.2.2.2.2.2.2.2.1 s.2.2.2.2.2.2.2.2.2.2.2.1 s.2.2.2.2.2.2.2.2.2.2.2.2.1 s.2.2.2.2.2.2.2.2.2.2.2.2.2.1 s.2.2.2.2.2.2.2.2.2.2.2.2.2.2.1 s.2.2.2.2.2.2.2.2.2.2.2.2.2.2.2 hI (fun b1 b2 b3 b4 b5 b6 b7 b8 b9 b10 b11 b12 b13 b14 b15 b16 h9 hm => hk (b1, b2, b3, b4, b5, b6, b7, b8, b9, b10, b11, b12, b13, b14, b15, b16) h9 hm)) (a1, a2, a3, a4, a5, a6, a7, a8, a9, a10, a11, a12, a13, a14, a15, a16) h
theorem pk_least (P : Nat → Prop) (h : ∃ k, P k) : ∃ k, P k ∧ ∀ j, j < k → ¬ P j := by
  obtain ⟨k, hk⟩ := h
  induction k using Nat.strongRecOn with
  | ind k ih =>
    by_cases e : ∃ j, j < k ∧ P j
    · obtain ⟨j, hj, pj⟩ := e
      exact ih j hj pj
    · exact ⟨k, hk, fun j hj pj => e ⟨j, hj, pj⟩⟩
theorem rp1 {ρ A1 : Type} (W : Nat → (ρ → Prop) → A1 → Prop) (ok : A1 → Prop) (μ : A1 → Nat) (val : A1 → ρ)
    (hs : ∀ (d : Nat) (post : ρ → Prop) (a1 : A1), ok a1 → post (val a1) → (∀ (post' : ρ → Prop) (b1 : A1), ok b1 → μ b1 < μ a1 → post' (val b1) → W d post' b1) → W (d + 1) post a1) :
    ∀ (d : Nat) (post : ρ → Prop) (a1 : A1), ok a1 → μ a1 < d → post (val a1) → W d post a1 := by
  intro d
  induction d with
  | zero => intro post a1 _ h; omega
  | succ d ih =>
    intro post a1 ho hm hp
    exact hs d post a1 ho hp (fun post' b1 ho' hm' hp' => ih post' b1 ho' (by omega) hp')
theorem rp2 {ρ A1 A2 : Type} (W : Nat → (ρ → Prop) → A1 → A2 → Prop) (ok : A1 → A2 → Prop) (μ : A1 → A2 → Nat) (val : A1 → A2 → ρ)
    (hs : ∀ (d : Nat) (post : ρ → Prop) (a1 : A1) (a2 : A2), ok a1 a2 → post (val a1 a2) → (∀ (post' : ρ → Prop) (b1 : A1) (b2 : A2), ok b1 b2 → μ b1 b2 < μ a1 a2 → post' (val b1 b2) → W d post' b1 b2) → W (d + 1) post a1 a2) :
    ∀ (d : Nat) (post : ρ → Prop) (a1 : A1) (a2 : A2), ok a1 a2 → μ a1 a2 < d → post (val a1 a2) → W d post a1 a2 := by
  intro d
  induction d with
  | zero => intro post a1 a2 _ h; omega
  | succ d ih =>
    intro post a1 a2 ho hm hp
    exact hs d post a1 a2 ho hp (fun post' b1 b2 ho' hm' hp' => ih post' b1 b2 ho' (by omega) hp')
theorem rp3 {ρ A1 A2 A3 : Type} (W : Nat → (ρ → Prop) → A1 → A2 → A3 → Prop) (ok : A1 → A2 → A3 → Prop) (μ : A1 → A2 → A3 → Nat) (val : A1 → A2 → A3 → ρ)
    (hs : ∀ (d : Nat) (post : ρ → Prop) (a1 : A1) (a2 : A2) (a3 : A3), ok a1 a2 a3 → post (val a1 a2 a3) → (∀ (post' : ρ → Prop) (b1 : A1) (b2 : A2) (b3 : A3), ok b1 b2 b3 → μ b1 b2 b3 < μ a1 a2 a3 → post' (val b1 b2 b3) → W d post' b1 b2 b3) → W (d + 1) post a1 a2 a3) :
    ∀ (d : Nat) (post : ρ → Prop) (a1 : A1) (a2 : A2) (a3 : A3), ok a1 a2 a3 → μ a1 a2 a3 < d → post (val a1 a2 a3) → W d post a1 a2 a3 := by
  intro d
  induction d with
  | zero => intro post a1 a2 a3 _ h; omega
  | succ d ih =>
    intro post a1 a2 a3 ho hm hp
    exact hs d post a1 a2 a3 ho hp (fun post' b1 b2 b3 ho' hm' hp' => ih post' b1 b2 b3 ho' (by omega) hp')
theorem rp4 {ρ A1 A2 A3 A4 : Type} (W : Nat → (ρ → Prop) → A1 → A2 → A3 → A4 → Prop) (ok : A1 → A2 → A3 → A4 → Prop) (μ : A1 → A2 → A3 → A4 → Nat) (val : A1 → A2 → A3 → A4 → ρ)
    (hs : ∀ (d : Nat) (post : ρ → Prop) (a1 : A1) (a2 : A2) (a3 : A3) (a4 : A4), ok a1 a2 a3 a4 → post (val a1 a2 a3 a4) → (∀ (post' : ρ → Prop) (b1 : A1) (b2 : A2) (b3 : A3) (b4 : A4), ok b1 b2 b3 b4 → μ b1 b2 b3 b4 < μ a1 a2 a3 a4 → post' (val b1 b2 b3 b4) → W d post' b1 b2 b3 b4) → W (d + 1) post a1 a2 a3 a4) :
    ∀ (d : Nat) (post : ρ → Prop) (a1 : A1) (a2 : A2) (a3 : A3) (a4 : A4), ok a1 a2 a3 a4 → μ a1 a2 a3 a4 < d → post (val a1 a2 a3 a4) → W d post a1 a2 a3 a4 := by
  intro d
  induction d with
  | zero => intro post a1 a2 a3 a4 _ h; omega
  | succ d ih =>
    intro post a1 a2 a3 a4 ho hm hp
    exact hs d post a1 a2 a3 a4 ho hp (fun post' b1 b2 b3 b4 ho' hm' hp' => ih post' b1 b2 b3 b4 ho' (by omega) hp')
theorem rp5 {ρ A1 A2 A3 A4 A5 : Type} (W : Nat → (ρ → Prop) → A1 → A2 → A3 → A4 → A5 → Prop) (ok : A1 → A2 → A3 → A4 → A5 → Prop) (μ : A1 → A2 → A3 → A4 → A5 → Nat) (val : A1 → A2 → A3 → A4 → A5 → ρ)
    (hs : ∀ (d : Nat) (post : ρ → Prop) (a1 : A1) (a2 : A2) (a3 : A3) (a4 : A4) (a5 : A5), ok a1 a2 a3 a4 a5 → post (val a1 a2 a3 a4 a5) → (∀ (post' : ρ → Prop) (b1 : A1) (b2 : A2) (b3 : A3) (b4 : A4) (b5 : A5), ok b1 b2 b3 b4 b5 → μ b1 b2 b3 b4 b5 < μ a1 a2 a3 a4 a5 → post' (val b1 b2 b3 b4 b5) → W d post' b1 b2 b3 b4 b5) → W (d + 1) post a1 a2 a3 a4 a5) :
    ∀ (d : Nat) (post : ρ → Prop) (a1 : A1) (a2 : A2) (a3 : A3) (a4 : A4) (a5 : A5), ok a1 a2 a3 a4 a5 → μ a1 a2 a3 a4 a5 < d → post (val a1 a2 a3 a4 a5) → W d post a1 a2 a3 a4 a5 := by
  intro d
  induction d with
  | zero => intro post a1 a2 a3 a4 a5 _ h; omega
  | succ d ih =>
    intro post a1 a2 a3 a4 a5 ho hm hp
    exact hs d post a1 a2 a3 a4 a5 ho hp (fun post' b1 b2 b3 b4 b5 ho' hm' hp' => ih post' b1 b2 b3 b4 b5 ho' (by omega) hp')
theorem rp6 {ρ A1 A2 A3 A4 A5 A6 : Type} (W : Nat → (ρ → Prop) → A1 → A2 → A3 → A4 → A5 → A6 → Prop) (ok : A1 → A2 → A3 → A4 → A5 → A6 → Prop) (μ : A1 → A2 → A3 → A4 → A5 → A6 → Nat) (val : A1 → A2 → A3 → A4 → A5 → A6 → ρ)
    (hs : ∀ (d : Nat) (post : ρ → Prop) (a1 : A1) (a2 : A2) (a3 : A3) (a4 : A4) (a5 : A5) (a6 : A6), ok a1 a2 a3 a4 a5 a6 → post (val a1 a2 a3 a4 a5 a6) → (∀ (post' : ρ → Prop) (b1 : A1) (b2 : A2) (b3 : A3) (b4 : A4) (b5 : A5) (b6 : A6), ok b1 b2 b3 b4 b5 b6 → μ b1 b2 b3 b4 b5 b6 < μ a1 a2 a3 a4 a5 a6 → post' (val b1 b2 b3 b4 b5 b6) → W d post' b1 b2 b3 b4 b5 b6) → W (d + 1) post a1 a2 a3 a4 a5 a6) :
    ∀ (d : Nat) (post : ρ → Prop) (a1 : A1) (a2 : A2) (a3 : A3) (a4 : A4) (a5 : A5) (a6 : A6), ok a1 a2 a3 a4 a5 a6 → μ a1 a2 a3 a4 a5 a6 < d → post (val a1 a2 a3 a4 a5 a6) → W d post a1 a2 a3 a4 a5 a6 := by
  intro d
  induction d with
  | zero => intro post a1 a2 a3 a4 a5 a6 _ h; omega
  | succ d ih =>
    intro post a1 a2 a3 a4 a5 a6 ho hm hp
    exact hs d post a1 a2 a3 a4 a5 a6 ho hp (fun post' b1 b2 b3 b4 b5 b6 ho' hm' hp' => ih post' b1 b2 b3 b4 b5 b6 ho' (by omega) hp')
theorem rec_p {σ ρ : Type} (W : Nat → (ρ → Prop) → σ → Prop) (ok : σ → Prop) (μ : σ → Nat) (val : σ → ρ)
    (hs : ∀ d s post, ok s → post (val s) → (∀ s' post', ok s' → μ s' < μ s → post' (val s') → W d post' s') → W (d + 1) post s) :
    ∀ d s post, ok s → μ s < d → post (val s) → W d post s := by
  intro d
  induction d with
  | zero => intro s post _ h; omega
  | succ d ih =>
    intro s post ho hm hp
    exact hs d s post ho hp (fun s' post' ho' hm' hp' => ih s' post' ho' (by omega) hp')
theorem rec_q {σ ρ : Type} (W : Nat → (ρ → Prop) → σ → Prop) (ok : σ → Prop) (μ : σ → Nat) (Q : σ → ρ → Prop)
    (hs : ∀ d s post, ok s → (∀ r, Q s r → post r) → (∀ s' post', ok s' → μ s' < μ s → (∀ r, Q s' r → post' r) → W d post' s') → W (d + 1) post s) :
    ∀ d s post, ok s → μ s < d → (∀ r, Q s r → post r) → W d post s := by
  intro d
  induction d with
  | zero => intro s post _ h; omega
  | succ d ih =>
    intro s post ho hm hp
    exact hs d s post ho hp (fun s' post' ho' hm' hp' => ih s' post' ho' (by omega) hp')
def bx_sum (f : Nat → Int32) : Nat → Int32
  | 0 => 0
  | n + 1 => bx_sum f n + f n
theorem ek_u {A : Prop} {B : Nat → Prop} {k N : Nat} (hk : k < N) (h : B k) : (some k = none → A) ∧ (∀ y : Nat, some k = some y → (y < N ∧ B y)) :=
  ⟨fun z => absurd z (Option.some_ne_none k), fun _ e => (by cases e; exact ⟨hk, h⟩)⟩
theorem ek_nu {A : Prop} {B : Nat → Prop} (h : A) : ((none : Option Nat) = none → A) ∧ (∀ y : Nat, (none : Option Nat) = some y → B y) :=
  ⟨fun _ => h, fun _ e => (by cases e)⟩
theorem ek_if {c d A B : Prop} (e : c ↔ d) (f : d → A) (g : ¬ d → B) : (c → A) ∧ (¬ c → B) :=
  ⟨fun z => f (e.mp z), fun z => g (fun y => z (e.mpr y))⟩
theorem ek_v {α : Sort _} {P : α → Prop} {a b : α} (e : a = b) (h : P b) : P a := e ▸ h
theorem co_some {x : Option Nat} {A : Prop} {B : Nat → Prop} (i : Nat) (h : B i) (hx : x = some i := by rfl) : (x = none → A) ∧ (∀ y : Nat, x = some y → B y) := by
  subst hx
  exact ⟨fun e => (nomatch e), fun y e => Option.some.inj e ▸ h⟩
theorem co_none {x : Option Nat} {A : Prop} {B : Nat → Prop} (h : A) (hx : x = none := by rfl) : (x = none → A) ∧ (∀ y : Nat, x = some y → B y) := by
  subst hx
  exact ⟨fun _ => h, fun y e => (nomatch e)⟩
theorem co_any {x : Option Nat} {A : Prop} {B : Nat → Prop} (hn : x = none → A) (hs : ∀ i : Nat, x = some i → B i) : (x = none → A) ∧ (∀ y : Nat, x = some y → B y) := ⟨hn, hs⟩
theorem co_2 {P : Nat → Prop} (h0 : P 0) (h1 : P 1) {i : Nat} (hi : i < 2) : P i :=
  match i, hi with
  | 0, _ => h0
  | 1, _ => h1
theorem co_3 {P : Nat → Prop} (h0 : P 0) (h1 : P 1) (h2 : P 2) {i : Nat} (hi : i < 3) : P i :=
  match i, hi with
  | 0, _ => h0
  | 1, _ => h1
  | 2, _ => h2
theorem co_4 {P : Nat → Prop} (h0 : P 0) (h1 : P 1) (h2 : P 2) (h3 : P 3) {i : Nat} (hi : i < 4) : P i :=
  match i, hi with
  | 0, _ => h0
  | 1, _ => h1
  | 2, _ => h2
  | 3, _ => h3
theorem co_dec {N : Nat} {P : Nat → Prop} [DecidablePred P] (h : (List.range N).all (fun i => decide (P i)) = true) {i : Nat} (hi : i < N) : P i := by
  have := List.all_eq_true.mp h i (List.mem_range.mpr hi)
  exact of_decide_eq_true this
theorem co_tab {α : Type} {l : List α} {d : α} {P : α → Prop} (h : ∀ a, a ∈ l → P a) {i : Nat} (hi : i < l.length) : P (l.getD i d) := by
  rw [List.getD_eq_getElem?_getD, List.getElem?_eq_getElem hi]
  exact h _ (List.getElem_mem hi)
theorem pk_mu {x : Int32} {L : Nat} (h0 : ¬ x < 0) (h : ¬ nI L ≤ x) (hL : L < 2 ^ 31) : ∃ j : Nat, j < L ∧ x = nI j ∧ x + 1 = nI (j + 1) ∧ x.toNatClampNeg = j ∧ L - (x + 1).toNatClampNeg < L - x.toNatClampNeg := by
  obtain ⟨j, hj, rfl⟩ := nI_of h0
  have hl : j < L := Nat.not_le.mp fun q => h (nI_le q hj)
  refine ⟨j, hl, rfl, nI_1 j, nI_clamp hj, ?_⟩
  rw [nI_1, nI_clamp (by omega), nI_clamp hj]
  omega
theorem op_s {α : Type} {r : Option α} {A : Prop} {B : α → Prop} {y : α} (h : r = some y) (b : B y) : (r = none → A) ∧ ∀ z, r = some z → B z :=
  ⟨fun e => (by rw [h] at e; cases e), fun z e => (by rw [h] at e; cases e; exact b)⟩
def l_holds {α : Type} (a : Nat → Option Nat) (LP : List Nat) (p : Nat → α) (c : Nat) (b : Nat → α) : Prop :=
  ∀ j, j < c → ∃ y, a j = some y ∧ y ∈ LP ∧ p y = b j
theorem l_holds_0 {α : Type} {a : Nat → Option Nat} {LP : List Nat} {p b : Nat → α} : l_holds a LP p 0 b := fun j h => absurd h (Nat.not_lt_zero j)
theorem l_in_new (LP : List Nat) (q : Nat) : q ∈ LP ++ [q] := List.mem_append.mpr (Or.inr (List.mem_singleton.mpr rfl))
def l_sum (b : Nat → Int32) : Nat → Int32
  | 0 => 0
  | k + 1 => l_sum b k + b k
theorem sb_shr0 (x : Int32) : x >>> ((0 : Int32) &&& 31) = x := by
  rw [show ((0 : Int32) &&& 31) = 0 by decide]
  simp
theorem sb_shl0 (x : Int32) : x <<< ((0 : Int32) &&& 31) = x := by
  rw [show ((0 : Int32) &&& 31) = 0 by decide]
  simp
theorem sb_cl0 : (0 : Int32).toNatClampNeg = 0 := by decide
theorem sb_m1 {p : Nat} (h : 0 < p) : nI p + (-1) = nI (p - 1) := by
  obtain ⟨q, rfl⟩ : ∃ q, p = q + 1 := ⟨p - 1, by omega⟩
  exact pk_m1 q
def sb_b (c : Nat) : Int32 := (nI c).toInt8.toInt32
theorem sb_byte : ∀ c, c < 256 → sb_b c &&& 255 = nI c ∧ ((nI c).toUInt32 % 65536).toInt32 = nI c ∧ nI c ≤ 255 := by decide +kernel
def sb_Fit (a : Nat → Int32) : Prop := ∀ j, fits .byte (.int (a j)) = true
def sb_Lat (t : Nat → Nat) (n : Nat) (a : Nat → Int32) : Prop := ∀ j, j < n → t j < 256 ∧ a j = sb_b (t j)
theorem sb_fitB (c : Nat) : fits .byte (.int (sb_b c)) = true := pk_fb _
theorem sb_fit0 : sb_Fit (fun _ => 0) := fun _ => by
  show fits .byte (.int 0) = true
  decide
theorem sb_fitU {a : Nat → Int32} {k : Nat} {x : Int32} (h : sb_Fit a) (hx : fits .byte (.int x) = true) : sb_Fit (upd a k x) := by
  intro j
  by_cases e : j = k
  · subst e
    rw [pk_us]
    exact hx
  · rw [pk_un e]
    exact h j
def sb_cat (t : Nat → Nat) (n : Nat) (s : Nat → Nat) : Nat → Nat := fun j => if j < n then t j else s (j - n)
theorem sb_cat_lo {t s : Nat → Nat} {n j : Nat} (h : j < n) : sb_cat t n s j = t j := if_pos h
theorem sb_cat_hi {t s : Nat → Nat} {n j : Nat} : sb_cat t n s (n + j) = s j := by
  show (if n + j < n then t (n + j) else s (n + j - n)) = s j
  rw [if_neg (by omega), Nat.add_sub_cancel_left]
theorem sb_latPut {t s : Nat → Nat} {n w : Nat} {a a' : Nat → Int32} (h : sb_Lat t n a) (hk : ∀ j, j < n → a' j = a j) (hs : ∀ i, i < w → s i < 256 ∧ a' (n + i) = sb_b (s i)) : sb_Lat (sb_cat t n s) (n + w) a' := by
  intro j hj
  by_cases e : j < n
  · rw [sb_cat_lo e, hk j e]
    exact h j e
  · obtain ⟨i, rfl⟩ : ∃ i, j = n + i := ⟨j - n, by omega⟩
    rw [sb_cat_hi]
    exact hs i (by omega)
theorem sb_latKeep {t : Nat → Nat} {n : Nat} {a a' : Nat → Int32} (h : sb_Lat t n a) (hk : ∀ j, j < n → a' j = a j) : sb_Lat t n a' := fun j hj => by
  rw [hk j hj]
  exact h j hj
def sb_cap (q m : Nat) : Nat := if q ≤ m then m else if 2 * m + 2 < q then q else 2 * m + 2
def sb_Room (q m mc ms : Nat) : Prop := q ≤ m ∨ (1 ≤ mc ∧ sb_cap q m ≤ ms ∧ sb_cap q m ≤ 65536)
theorem sb_cap_ge (q m : Nat) : q ≤ sb_cap q m := by
  unfold sb_cap
  split
  · omega
  · split <;> omega
theorem sb_cap_gem (q m : Nat) : m ≤ sb_cap q m := by
  unfold sb_cap
  split
  · omega
  · split <;> omega
theorem sb_cap_le {q m mc ms : Nat} (hm : m ≤ 65536) (hr : sb_Room q m mc ms) : sb_cap q m ≤ 65536 := by
  rcases hr with h | h
  · rw [sb_cap, if_pos h]
    exact hm
  · exact h.2.2
theorem sb_at {P : Int32 → Prop} {x y : Int32} (e : x = y) (h : P y) : P x := e ▸ h
def sb_dg (w : Nat) : Nat := if w < 10 then 1 else if w < 100 then 2 else if w < 1000 then 3 else if w < 10000 then 4 else if w < 100000 then 5 else if w < 1000000 then 6 else if w < 10000000 then 7 else if w < 100000000 then 8 else if w < 1000000000 then 9 else 10
def sb_dec (v : Nat) : Nat → Nat := fun i => 48 + v / 10 ^ (sb_dg v - 1 - i) % 10
theorem sb_dg_in (w : Nat) : 1 ≤ sb_dg w ∧ sb_dg w ≤ 10 := by
  unfold sb_dg
  constructor <;> (repeat' split) <;> omega
theorem sb_dg100 {w : Nat} (h : 100 ≤ w) (hw : w < 2 ^ 31) : sb_dg w = sb_dg (w / 100) + 2 := by
  rw [sb_dg, sb_dg, if_neg (show ¬ w < 10 by omega), if_neg (show ¬ w < 100 by omega)]
  by_cases h3 : w < 1000
  · rw [if_pos h3, if_pos (show w / 100 < 10 by omega)]
  rw [if_neg h3, if_neg (show ¬ w / 100 < 10 by omega)]
  by_cases h4 : w < 10000
  · rw [if_pos h4, if_pos (show w / 100 < 100 by omega)]
  rw [if_neg h4, if_neg (show ¬ w / 100 < 100 by omega)]
  by_cases h5 : w < 100000
  · rw [if_pos h5, if_pos (show w / 100 < 1000 by omega)]
  rw [if_neg h5, if_neg (show ¬ w / 100 < 1000 by omega)]
  by_cases h6 : w < 1000000
  · rw [if_pos h6, if_pos (show w / 100 < 10000 by omega)]
  rw [if_neg h6, if_neg (show ¬ w / 100 < 10000 by omega)]
  by_cases h7 : w < 10000000
  · rw [if_pos h7, if_pos (show w / 100 < 100000 by omega)]
  rw [if_neg h7, if_neg (show ¬ w / 100 < 100000 by omega)]
  by_cases h8 : w < 100000000
  · rw [if_pos h8, if_pos (show w / 100 < 1000000 by omega)]
  rw [if_neg h8, if_neg (show ¬ w / 100 < 1000000 by omega)]
  by_cases h9 : w < 1000000000
  · rw [if_pos h9, if_pos (show w / 100 < 10000000 by omega)]
  rw [if_neg h9, if_neg (show ¬ w / 100 < 10000000 by omega)]
  rw [if_pos (show w / 100 < 100000000 by omega)]
theorem sb_negT {w : Nat} (h : w < 2 ^ 31) : (-nI w).toInt = -(w : Int) := by
  rw [Int32.toInt_neg, nI_toInt h]
  exact Int.bmod_eq_of_le (by omega) (by omega)
theorem sb_nle {a b : Nat} (ha : a < 2 ^ 31) (hb : b < 2 ^ 31) : -nI a ≤ -nI b ↔ b ≤ a := by
  rw [Int32.le_iff_toInt_le, sb_negT ha, sb_negT hb]
  omega
theorem sb_nlt {a b : Nat} (ha : a < 2 ^ 31) (hb : b < 2 ^ 31) : -nI a < -nI b ↔ b < a := by
  rw [Int32.lt_iff_toInt_lt, sb_negT ha, sb_negT hb]
  omega
theorem sb_cmp {A B : Prop} {x : Int32} (v c : Nat) (f : c ≤ v → A) (g : v < c → B) (hv : v < 2 ^ 31) (hx : x = -nI c := by rfl) (hc : c < 2 ^ 31 := by omega) : (-nI v ≤ x → A) ∧ (¬ -nI v ≤ x → B) := by
  subst hx
  rw [sb_nle hv hc]
  exact ⟨f, fun z => g (by omega)⟩
theorem sb_ndiv {w : Nat} (hw : w < 2 ^ 31) : (-nI w) / 100 = -nI (w / 100) := by
  apply Int32.toInt_inj.mp
  have h100 : (100 : Int32).toInt = 100 := by decide
  rw [Int32.toInt_div, sb_negT hw, h100, sb_negT (by omega), Int.neg_tdiv, Int.tdiv_eq_ediv_of_nonneg (by omega), Int.bmod_eq_of_le (by omega) (by omega)]
  omega
theorem sb_nrem {w : Nat} (hw : w < 2 ^ 31) : (-nI (w / 100)) * 100 - (-nI w) = nI (w % 100) := by
  have h := pk_rem (a := w) (d := 100) hw (by decide) (by decide)
  rw [pk_div hw (by decide) (by decide)] at h
  rw [← h]
  show (-nI (w / 100)) * nI 100 - (-nI w) = nI w - nI (w / 100) * nI 100
  rw [Int32.neg_mul, Int32.sub_neg, Int32.add_comm, ← Int32.sub_eq_add_neg]
/-! rows on bits, shifts and unsigned numbers, to paste: each family out of a closed proof of our own, whole with what it rests on; each by itself clean at Lean in its own claim (generation 39, form 5). Take a family whole -/
/-! ===== Int32 by its bits: bt x i ===== -/
def bt (x : Int32) (i : Nat) : Bool := x.toBitVec.getLsbD i
theorem b_ext {x y : Int32} (h : ∀ i, i < 32 → bt x i = bt y i) : x = y := Int32.toBitVec_inj.mp (BitVec.eq_of_getLsbD_eq (fun i hi => h i hi))
theorem b_or (x y : Int32) (i : Nat) : bt (x ||| y) i = (bt x i || bt y i) := by unfold bt; rw [Int32.toBitVec_or, BitVec.getLsbD_or]
theorem b_and (x y : Int32) (i : Nat) : bt (x &&& y) i = (bt x i && bt y i) := by unfold bt; rw [Int32.toBitVec_and, BitVec.getLsbD_and]
theorem b_xor (x y : Int32) (i : Nat) : bt (x ^^^ y) i = (bt x i ^^ bt y i) := by unfold bt; rw [Int32.toBitVec_xor, BitVec.getLsbD_xor]
theorem b_big {x : Int32} {i : Nat} (h : 32 ≤ i) : bt x i = false := BitVec.getLsbD_of_ge _ _ h
theorem b_255 (i : Nat) : bt 255 i = decide (i < 8) := by
  rcases Nat.lt_or_ge i 32 with h | h
  · exact (by decide +kernel : ∀ i, i < 32 → bt 255 i = decide (i < 8)) i h
  · rw [b_big h, decide_eq_false (by omega)]
theorem b_65535 (i : Nat) : bt 65535 i = decide (i < 16) := by
  rcases Nat.lt_or_ge i 32 with h | h
  · exact (by decide +kernel : ∀ i, i < 32 → bt 65535 i = decide (i < 16)) i h
  · rw [b_big h, decide_eq_false (by omega)]
theorem b_m1 : ∀ i, i < 32 → bt (-1) i = true := by decide +kernel
theorem b_0 (i : Nat) : bt 0 i = false := BitVec.getLsbD_zero
theorem s_l : ∀ n, n < 32 → ((nI n &&& 31).toBitVec.smod 32).toNat = n := by decide +kernel
theorem s_u : ∀ n, n < 32 → (((nI n).toUInt32 &&& Int32.toUInt32 31).toBitVec % 32).toNat = n := by decide +kernel
theorem b_shl (n : Nat) (hn : n < 32) (x : Int32) {i : Nat} (hi : i < 32) : bt (x <<< (nI n &&& 31)) i = (decide (n ≤ i) && bt x (i - n)) := by
  unfold bt
  rw [Int32.toBitVec_shiftLeft]
  show (x.toBitVec <<< ((nI n &&& 31).toBitVec.smod 32).toNat).getLsbD i = _
  rw [s_l n hn, BitVec.getLsbD_shiftLeft]
  rcases Nat.lt_or_ge i n with h | h
  · simp [h, Nat.not_le.mpr h]
  · simp [hi, h, Nat.not_lt.mpr h]
theorem b_ushr (n : Nat) (hn : n < 32) (x : Int32) (i : Nat) : bt ((x.toUInt32 >>> ((nI n).toUInt32 &&& Int32.toUInt32 31)).toInt32) i = bt x (n + i) := by
  show (x.toUInt32 >>> ((nI n).toUInt32 &&& Int32.toUInt32 31)).toBitVec.getLsbD i = x.toUInt32.toBitVec.getLsbD (n + i)
  rw [UInt32.toBitVec_shiftRight]
  show (x.toUInt32.toBitVec >>> (((nI n).toUInt32 &&& Int32.toUInt32 31).toBitVec % 32).toNat).getLsbD i = _
  rw [s_u n hn, BitVec.getLsbD_ushiftRight]
theorem b_sshr (n : Nat) (hn : n < 32) (x : Int32) {i : Nat} (hi : i < 32) : bt (x >>> (nI n &&& 31)) i = if n + i < 32 then bt x (n + i) else bt x 31 := by
  unfold bt
  rw [Int32.toBitVec_shiftRight]
  show (x.toBitVec.sshiftRight ((nI n &&& 31).toBitVec.smod 32).toNat).getLsbD i = _
  rw [s_l n hn, BitVec.getLsbD_sshiftRight, BitVec.msb_eq_getLsbD_last]
  simp [hi]
theorem b_shl8 (x : Int32) {i : Nat} (hi : i < 32) : bt (x <<< ((8 : Int32) &&& 31)) i = (decide (8 ≤ i) && bt x (i - 8)) := b_shl 8 (by omega) x hi
theorem b_shl16 (x : Int32) {i : Nat} (hi : i < 32) : bt (x <<< ((16 : Int32) &&& 31)) i = (decide (16 ≤ i) && bt x (i - 16)) := b_shl 16 (by omega) x hi
theorem b_shl24 (x : Int32) {i : Nat} (hi : i < 32) : bt (x <<< ((24 : Int32) &&& 31)) i = (decide (24 ≤ i) && bt x (i - 24)) := b_shl 24 (by omega) x hi
theorem b_sshr8 (x : Int32) {i : Nat} (hi : i < 32) : bt (x >>> ((8 : Int32) &&& 31)) i = if 8 + i < 32 then bt x (8 + i) else bt x 31 := b_sshr 8 (by omega) x hi
/-! ===== nI under and, xor, >>>, one bit, 65535 ===== -/
theorem nx_and (a b : Nat) : nI a &&& nI b = nI (a &&& b) := by
  apply Int32.toBitVec_inj.1
  show BitVec.ofNat 32 a &&& BitVec.ofNat 32 b = BitVec.ofNat 32 (a &&& b)
  apply BitVec.eq_of_getLsbD_eq
  intro i hi
  simp [hi]
theorem nx_xor (a b : Nat) : nI a ^^^ nI b = nI (a ^^^ b) := by
  apply Int32.toBitVec_inj.1
  show BitVec.ofNat 32 a ^^^ BitVec.ofNat 32 b = BitVec.ofNat 32 (a ^^^ b)
  apply BitVec.eq_of_getLsbD_eq
  intro i hi
  simp [hi]
theorem nx_cnt : ∀ j : Fin 32, (UInt32.ofNat j.val &&& Int32.toUInt32 31).toNat % 32 = j.val := by decide +kernel
theorem nx_ush {k j : Nat} (hk : k < 65536) (hj : j < 32) : ((nI k).toUInt32 >>> ((nI j).toUInt32 &&& Int32.toUInt32 31)).toInt32 = nI (k >>> j) := by
  have hs : k >>> j ≤ k := by
    rw [Nat.shiftRight_eq_div_pow]
    exact Nat.div_le_self _ _
  have e2 : UInt32.ofNat k >>> (UInt32.ofNat j &&& Int32.toUInt32 31) = UInt32.ofNat (k >>> j) := by
    apply UInt32.toNat_inj.1
    have h1 : (UInt32.ofNat k).toNat = k := Nat.mod_eq_of_lt (by omega)
    have h2 : (UInt32.ofNat (k >>> j)).toNat = k >>> j := Nat.mod_eq_of_lt (by omega)
    rw [UInt32.toNat_shiftRight, nx_cnt ⟨j, hj⟩, h1, h2]
  show (UInt32.ofNat k >>> (UInt32.ofNat j &&& Int32.toUInt32 31)).toInt32 = _
  rw [e2]
  rfl
theorem nx_bit {k j : Nat} (hk : k < 65536) (hj : j < 16) : (((nI k).toUInt32 >>> ((nI j).toUInt32 &&& Int32.toUInt32 31)).toInt32 &&& 1) = 0 ↔ k.testBit j = false := by
  rw [nx_ush hk (by omega)]
  show nI (k >>> j) &&& nI 1 = 0 ↔ _
  rw [nx_and, Nat.and_one_is_mod, ← nI_0, nI_eq (by omega) (by omega), Nat.testBit_eq_decide_div_mod_eq, Nat.shiftRight_eq_div_pow, decide_eq_false_iff_not]
  generalize k / 2 ^ j = z
  omega
theorem nx_mod (k : Nat) : nI k &&& 65535 = nI (k % 65536) := by
  show nI k &&& nI 65535 = _
  rw [nx_and, show (65535 : Nat) = 2 ^ 16 - 1 from rfl, Nat.and_two_pow_sub_one_eq_mod]
theorem nx_m16 {k : Nat} (h : k < 65536) : nI k &&& 65535 = nI k := by rw [nx_mod, Nat.mod_eq_of_lt h]
theorem nx_mask (x : Int32) : ∃ k, k < 65536 ∧ x &&& 65535 = nI k := by
  have e : x = nI x.toBitVec.toNat := by
    apply Int32.toBitVec_inj.1
    show x.toBitVec = BitVec.ofNat 32 x.toBitVec.toNat
    simp
  refine ⟨x.toBitVec.toNat % 65536, Nat.mod_lt _ (by omega), ?_⟩
  rw [← nx_mod, ← e]
/-! ===== Int32 as a set of bits: test, set ===== -/
def nf_M (m : Int32) : Nat := 4294967296 - m.toBitVec.toNat
theorem nf_sh : ∀ l, l < 32 → ((1 : Int32) <<< (nI l &&& 31)).toBitVec = BitVec.twoPow 32 l := by decide +kernel
theorem nf_sl : ∀ l, l < 32 → (((nI l).toUInt32 &&& Int32.toUInt32 31).toBitVec % 32).toNat = l := by decide +kernel
theorem nf_tp : ∀ l, l < 32 → BitVec.twoPow 32 l ≠ 0#32 := by decide +kernel
theorem nf_bit (m : Int32) (l : Nat) (hl : l < 32) : ((m.toUInt32 >>> ((nI l).toUInt32 &&& Int32.toUInt32 31)).toInt32 &&& 1) = 0 ↔ (m &&& ((1 : Int32) <<< (nI l &&& 31))) = 0 := by
  have e : ((m.toUInt32 >>> ((nI l).toUInt32 &&& Int32.toUInt32 31)).toInt32).toBitVec = m.toBitVec >>> l := by
    show m.toBitVec >>> (((nI l).toUInt32 &&& Int32.toUInt32 31).toBitVec % 32) = m.toBitVec >>> l
    rw [BitVec.ushiftRight_eq', nf_sl l hl]
  rw [← Int32.toBitVec_inj, ← Int32.toBitVec_inj, Int32.toBitVec_and, Int32.toBitVec_and, nf_sh l hl, e, BitVec.and_twoPow]
  show (m.toBitVec >>> l &&& 1#32) = 0#32 ↔ _ = 0#32
  rw [BitVec.and_one_eq_setWidth_ofBool_getLsbD, BitVec.getLsbD_ushiftRight, Nat.add_zero]
  cases hb : m.toBitVec.getLsbD l
  · exact ⟨fun _ => by simp, fun _ => by decide⟩
  · exact ⟨fun z => absurd z (by decide), fun z => absurd ((if_pos rfl).symm.trans z) (nf_tp l hl)⟩
theorem nf_gr (m k : Int32) (h : m &&& k = 0) (hk : k ≠ 0) : nf_M (m ||| k) < nf_M m := by
  have hm := m.toBitVec.isLt
  have hm' := (m ||| k).toBitVec.isLt
  have h1 : m.toBitVec.toNat ≤ (m ||| k).toBitVec.toNat := by
    rw [Int32.toBitVec_or, BitVec.toNat_or]
    exact Nat.left_le_or
  have h2 : m.toBitVec.toNat ≠ (m ||| k).toBitVec.toNat := by
    intro e
    have e2 : m = m ||| k := Int32.toBitVec_inj.mp (BitVec.eq_of_toNat_eq e)
    apply hk
    apply Int32.toBitVec_inj.mp
    show k.toBitVec = 0#32
    apply BitVec.eq_of_getLsbD_eq
    intro i hi
    have a : m.toBitVec.getLsbD i = (m.toBitVec.getLsbD i || k.toBitVec.getLsbD i) := by rw [← BitVec.getLsbD_or, ← Int32.toBitVec_or, ← e2]
    have b : (m.toBitVec.getLsbD i && k.toBitVec.getLsbD i) = false := by
      rw [← BitVec.getLsbD_and, ← Int32.toBitVec_and, h]
      exact BitVec.getLsbD_zero
    rw [BitVec.getLsbD_zero]
    revert a b
    cases m.toBitVec.getLsbD i <;> cases k.toBitVec.getLsbD i <;> simp
  unfold nf_M
  omega
/-! ===== a byte read unsigned ===== -/
theorem bp_b (x : Int32) : x.toInt8.toInt32 &&& 255 = x &&& 255 := by
  apply Int32.toBitVec_inj.mp
  rw [Int32.toBitVec_and, Int32.toBitVec_and, Int8.toBitVec_toInt32, Int32.toBitVec_toInt8]
  apply BitVec.eq_of_getLsbD_eq
  intro i hi
  rw [BitVec.getLsbD_and, BitVec.getLsbD_and]
  have hm : ∀ i < 32, 8 ≤ i → (255 : Int32).toBitVec.getLsbD i = false := by decide
  rcases Nat.lt_or_ge i 8 with z | z
  · rw [BitVec.getLsbD_signExtend, BitVec.getLsbD_signExtend, if_pos z, if_pos hi]
    simp only [z, hi, decide_true, Bool.true_and]
  · rw [hm i hi z]; simp
/-! ===== the char cast and 65535 ===== -/
theorem em_w (v : Int32) : ∃ w : Nat, w < 65536 ∧ (v.toUInt32 % 65536).toInt32 = nI w ∧ v &&& 65535 = nI w := by
  have hr := lw_u16_r v
  have h0 : (0 : Int32).toInt = 0 := by decide
  obtain ⟨w, h1, h2⟩ := nI_of (x := lw_u16 v) (by rw [Int32.lt_iff_toInt_lt]; omega)
  have h3 : (v.toUInt32 % 65536).toInt32 = nI w := h2
  rw [h2, nI_toInt h1] at hr
  exact ⟨w, by omega, h3, by rw [← lg_i2c_mask, ← lg_i2c_nf, h3]⟩
/-! ===== Int64 as a set of bits: test, set, clear ===== -/
theorem ts_nf {x : Bool} (h : ¬ x = false) : x = true := by cases x <;> first | rfl | exact absurd rfl h
theorem ts_nt {x : Bool} (h : ¬ x = true) : x = false := by cases x <;> first | rfl | exact absurd rfl h
theorem ts_bit {w : Int64} {s : UInt64} {j : Nat} (hj : j < 64) (hs : s.toNat = j) : ((w.toUInt64 >>> s).toInt64 &&& 1) = 0 ↔ w.toBitVec.getLsbD j = false := by
  have e : (w.toUInt64 >>> s).toInt64.toBitVec = w.toBitVec >>> j := by
    apply BitVec.eq_of_toNat_eq
    show (w.toUInt64 >>> s).toNat = _
    rw [UInt64.toNat_shiftRight, hs, Nat.mod_eq_of_lt hj, BitVec.toNat_ushiftRight]
    rfl
  rw [← Int64.toBitVec_inj, Int64.toBitVec_and, e]
  show w.toBitVec >>> j &&& 1#64 = 0#64 ↔ _
  constructor
  · intro h
    have t := congrArg (fun x => x.getLsbD 0) h
    simpa using t
  · intro h
    apply BitVec.eq_of_getLsbD_eq
    intro i hi
    cases i with
    | zero => simp [h]
    | succ i => simp
theorem ts_or {w m : Int64} {j : Nat} (hj : j < 64) (hm : m.toBitVec = BitVec.twoPow 64 j) : (w ||| m) = w ↔ w.toBitVec.getLsbD j = true := by
  rw [← Int64.toBitVec_inj, Int64.toBitVec_or, hm]
  constructor
  · intro h
    have t := congrArg (fun x => x.getLsbD j) h
    simp only [BitVec.getLsbD_or, BitVec.getLsbD_twoPow] at t
    simpa [hj] using t.symm
  · intro h
    apply BitVec.eq_of_getLsbD_eq
    intro i hi
    rw [BitVec.getLsbD_or, BitVec.getLsbD_twoPow]
    by_cases e : j = i
    · subst e; rw [h, Bool.true_or]
    · simp [e]
theorem ts_and {w m : Int64} {j : Nat} (hj : j < 64) (hm : m.toBitVec = BitVec.twoPow 64 j) : (w &&& (m ^^^ (-1))) = w ↔ w.toBitVec.getLsbD j = false := by
  have ha : (-1 : Int64).toBitVec = BitVec.allOnes 64 := by decide
  rw [← Int64.toBitVec_inj, Int64.toBitVec_and, Int64.toBitVec_xor, hm, ha]
  constructor
  · intro h
    have t := congrArg (fun x => x.getLsbD j) h
    simp only [BitVec.getLsbD_and, BitVec.getLsbD_xor, BitVec.getLsbD_twoPow, BitVec.getLsbD_allOnes] at t
    simpa [hj] using t.symm
  · intro h
    apply BitVec.eq_of_getLsbD_eq
    intro i hi
    rw [BitVec.getLsbD_and, BitVec.getLsbD_xor, BitVec.getLsbD_twoPow, BitVec.getLsbD_allOnes]
    by_cases e : j = i
    · subst e; rw [h, Bool.false_and]
    · simp [e, hi]
/-! ===== lN n to 2^64: shifts, and, or, masks, one bit ===== -/
theorem wb_tb (n : Nat) : (lN n).toBitVec = BitVec.ofNat 64 n := rfl
theorem wb_inj {a b : Int64} (h : a.toBitVec = b.toBitVec) : a = b := Int64.toBitVec_inj.mp h
theorem wb_tn {n : Nat} (h : n < 2 ^ 64) : (lN n).toBitVec.toNat = n := by rw [wb_tb, BitVec.toNat_ofNat, Nat.mod_eq_of_lt h]
theorem wb_of (x : Int64) : ∃ n, n < 2 ^ 64 ∧ x = lN n := ⟨x.toBitVec.toNat, x.toBitVec.isLt, wb_inj (by rw [wb_tb]; simp)⟩
theorem wb_of32 (x : Int32) : ∃ n, n < 2 ^ 32 ∧ x = nI n := ⟨x.toBitVec.toNat, x.toBitVec.isLt, Int32.toBitVec_inj.mp (by show _ = BitVec.ofNat 32 _; simp)⟩
theorem wb_c : ∀ k, k < 64 → ((nI k).toInt64 &&& 63) = lN k := by decide +kernel
theorem wb_cu : ∀ k, k < 64 → ((nI k).toInt64.toUInt64 &&& Int64.toUInt64 63) = UInt64.ofNat k := by decide +kernel
theorem wb_sm : ∀ k, k < 64 → (BitVec.ofNat 64 k).smod 64 = BitVec.ofNat 64 k := by decide +kernel
theorem wb_pw {a b : Nat} (h : a ≤ b) : 2 ^ b = 2 ^ a * 2 ^ (b - a) := by rw [← Nat.pow_add]; congr 1; omega
theorem wb_lt2 {a b : Nat} (h : a < b) : 2 ^ a < 2 ^ b := Nat.pow_lt_pow_right (by decide) h
theorem wb_mod (n : Nat) : lN n = lN (n % 2 ^ 64) := wb_inj (by rw [wb_tb, wb_tb]; apply BitVec.eq_of_toNat_eq; rw [BitVec.toNat_ofNat, BitVec.toNat_ofNat, Nat.mod_mod])
theorem wb_shr {n k : Nat} (hn : n < 2 ^ 64) (hk : k < 64) : ((lN n).toUInt64 >>> ((nI k).toInt64.toUInt64 &&& Int64.toUInt64 63)).toInt64 = lN (n / 2 ^ k) := by
  rw [wb_cu k hk]
  apply wb_inj
  apply BitVec.eq_of_toNat_eq
  show ((lN n).toUInt64 >>> UInt64.ofNat k).toNat = (BitVec.ofNat 64 _).toNat
  have h1 : (UInt64.ofNat k).toNat = k := by
    show (BitVec.ofNat 64 k).toNat = k
    rw [BitVec.toNat_ofNat, Nat.mod_eq_of_lt (by omega)]
  have h2 : (lN n).toUInt64.toNat = n := wb_tn hn
  rw [UInt64.toNat_shiftRight, h1, h2, Nat.mod_eq_of_lt hk, Nat.shiftRight_eq_div_pow, BitVec.toNat_ofNat, Nat.mod_eq_of_lt (Nat.lt_of_le_of_lt (Nat.div_le_self _ _) hn)]
theorem wb_shl (n : Nat) {k : Nat} (hk : k < 64) : lN n <<< ((nI k).toInt64 &&& 63) = lN (n * 2 ^ k) := by
  rw [wb_c k hk]
  apply wb_inj
  rw [Int64.toBitVec_shiftLeft, wb_tb, wb_tb, wb_tb, wb_sm k hk]
  apply BitVec.eq_of_toNat_eq
  rw [BitVec.shiftLeft_eq', BitVec.toNat_shiftLeft, BitVec.toNat_ofNat, BitVec.toNat_ofNat, BitVec.toNat_ofNat, Nat.mod_eq_of_lt (show k < 2 ^ 64 by omega), Nat.shiftLeft_eq, Nat.mul_mod, Nat.mod_mod, ← Nat.mul_mod]
theorem wb_and {a b : Nat} (ha : a < 2 ^ 64) (hb : b < 2 ^ 64) : lN a &&& lN b = lN (a &&& b) := by
  apply wb_inj
  rw [Int64.toBitVec_and, wb_tb, wb_tb, wb_tb]
  apply BitVec.eq_of_toNat_eq
  rw [BitVec.toNat_and, BitVec.toNat_ofNat, BitVec.toNat_ofNat, BitVec.toNat_ofNat, Nat.mod_eq_of_lt ha, Nat.mod_eq_of_lt hb, Nat.mod_eq_of_lt (Nat.and_lt_two_pow _ hb)]
theorem wb_or {a b : Nat} (ha : a < 2 ^ 64) (hb : b < 2 ^ 64) : lN a ||| lN b = lN (a ||| b) := by
  apply wb_inj
  rw [Int64.toBitVec_or, wb_tb, wb_tb, wb_tb]
  apply BitVec.eq_of_toNat_eq
  rw [BitVec.toNat_or, BitVec.toNat_ofNat, BitVec.toNat_ofNat, BitVec.toNat_ofNat, Nat.mod_eq_of_lt ha, Nat.mod_eq_of_lt hb, Nat.mod_eq_of_lt (Nat.or_lt_two_pow ha hb)]
theorem wb_mask {n k : Nat} (hn : n < 2 ^ 64) (hk : k < 64) : lN n &&& lN (2 ^ k - 1) = lN (n % 2 ^ k) := by
  rw [wb_and hn (by have := wb_lt2 hk; omega), Nat.and_two_pow_sub_one_eq_mod]
theorem wb_a1 {n : Nat} (hn : n < 2 ^ 64) : lN n &&& 1 = lN (n % 2) := wb_mask (k := 1) hn (by decide)
theorem wb_bit {n k : Nat} (hn : n < 2 ^ 64) (hk : k < 64) : ((lN n).toUInt64 >>> ((nI k).toInt64.toUInt64 &&& Int64.toUInt64 63)).toInt64 &&& 1 = lN (n / 2 ^ k % 2) := by
  rw [wb_shr hn hk, wb_a1 (Nat.lt_of_le_of_lt (Nat.div_le_self _ _) hn)]
theorem wb_xor {q k : Nat} (hk : k < 63) (h : 2 ^ k ≤ q) (h2 : q < 2 ^ (k + 1)) : lN q ^^^ lN (2 ^ k) = lN (q - 2 ^ k) := by
  obtain ⟨r, rfl⟩ : ∃ r, q = 2 ^ k + r := ⟨q - 2 ^ k, by omega⟩
  have hr : r < 2 ^ k := by rw [Nat.pow_succ] at h2; omega
  have hx : (2 ^ k + r) ^^^ 2 ^ k = r := by
    apply Nat.eq_of_testBit_eq
    intro i
    rw [Nat.testBit_xor, Nat.testBit_two_pow]
    rcases Nat.lt_trichotomy i k with h | h | h
    · rw [Nat.testBit_two_pow_add_gt h]
      simp [show ¬ k = i by omega]
    · subst h
      rw [Nat.testBit_two_pow_add_eq]
      simp
    · have a1 : 2 ^ (k + 1) ≤ 2 ^ i := Nat.pow_le_pow_right (by decide) h
      rw [Nat.testBit_lt_two_pow (show 2 ^ k + r < 2 ^ i by omega), Nat.testBit_lt_two_pow (show r < 2 ^ i by omega)]
      simp [show ¬ k = i by omega]
  have b1 := wb_lt2 (show k + 1 < 64 by omega)
  have b2 := wb_lt2 (show k < 64 by omega)
  apply wb_inj
  rw [Int64.toBitVec_xor, wb_tb, wb_tb, wb_tb]
  apply BitVec.eq_of_toNat_eq
  rw [BitVec.toNat_xor, BitVec.toNat_ofNat, BitVec.toNat_ofNat, BitVec.toNat_ofNat, Nat.mod_eq_of_lt (by omega : 2 ^ k + r < 2 ^ 64), Nat.mod_eq_of_lt b2, hx, Nat.add_sub_cancel_left, Nat.mod_eq_of_lt (by omega)]
/-! ===== lN: masks, 'or' of parts that don't overlap is a sum ===== -/
theorem u_tn {n : Nat} (h : n < 2 ^ 64) : (UInt64.ofNat n).toNat = n := Nat.mod_eq_of_lt h
theorem g_and {a b c : Nat} (ha : a < 2 ^ 64) (hb : b < 2 ^ 64) (hc : a &&& b = c) : lN a &&& lN b = lN c := by
  subst hc
  have h : UInt64.ofNat a &&& UInt64.ofNat b = UInt64.ofNat (a &&& b) := UInt64.toNat_inj.mp (by rw [UInt64.toNat_and, u_tn ha, u_tn hb, u_tn (Nat.and_lt_two_pow a hb)])
  have h2 := congrArg UInt64.toInt64 h
  exact h2
theorem g_and1 {a : Nat} (ha : a < 2 ^ 64) : lN a &&& 1 = lN (a % 2) := g_and (b := 1) ha (by decide) (Nat.and_two_pow_sub_one_eq_mod a 1)
theorem g_mask {a s p : Nat} (hp : 2 ^ s = p) (hs : s < 64) (ha : a < 2 ^ 64) : lN a &&& lN (p - 1) = lN (a % p) := by
  subst hp
  have := Nat.pow_lt_pow_right (show 1 < 2 by decide) hs
  exact g_and ha (by omega) (Nat.and_two_pow_sub_one_eq_mod a s)
theorem g_or {k p a b : Nat} (hp : 2 ^ k = p) (ha : a < p) (h : b * p + a < 2 ^ 64) : lN (b * p) ||| lN a = lN (b * p + a) := by
  subst hp
  have h1 : b * 2 ^ k ||| a = b * 2 ^ k + a := by rw [← Nat.shiftLeft_eq, Nat.shiftLeft_add_eq_or_of_lt ha]
  have h3 : UInt64.ofNat (b * 2 ^ k) ||| UInt64.ofNat a = UInt64.ofNat (b * 2 ^ k + a) := UInt64.toNat_inj.mp (by rw [UInt64.toNat_or, u_tn (by omega), u_tn (by omega), u_tn h, h1])
  have h2 := congrArg UInt64.toInt64 h3
  exact h2
theorem g_or' {k p a b : Nat} (hp : 2 ^ k = p) (ha : a < p) (h : a + b * p < 2 ^ 64) : lN a ||| lN (b * p) = lN (a + b * p) := by
  rw [Int64.or_comm, g_or hp ha (by omega), Nat.add_comm]
theorem g_ushr {a k p : Nat} {y : UInt64} (hy : y = UInt64.ofNat k) (hk : k < 64) (hp : 2 ^ k = p) (ha : a < 2 ^ 64) : ((lN a).toUInt64 >>> y).toInt64 = lN (a / p) := by
  subst hy hp
  have h : UInt64.ofNat a >>> UInt64.ofNat k = UInt64.ofNat (a / 2 ^ k) := UInt64.toNat_inj.mp (by rw [UInt64.toNat_shiftRight, u_tn ha, u_tn (by omega), u_tn (Nat.lt_of_le_of_lt (Nat.div_le_self _ _) ha), Nat.mod_eq_of_lt hk, Nat.shiftRight_eq_div_pow])
  have h2 := congrArg UInt64.toInt64 h
  exact h2
theorem g_shl {a k p : Nat} {y : Int64} (hy : y.toBitVec.smod 64 = BitVec.ofNat 64 k) (hk : k < 64) (hp : 2 ^ k = p) (ha : a < 2 ^ 64) : lN a <<< y = lN (a * p) := by
  subst hp
  apply Int64.toBitVec_inj.mp
  rw [Int64.toBitVec_shiftLeft, hy]
  apply BitVec.eq_of_toNat_eq
  have hb : (lN a).toBitVec.toNat = a := Nat.mod_eq_of_lt ha
  have hk' : (BitVec.ofNat 64 k).toNat = k := Nat.mod_eq_of_lt (by omega)
  have h : ((lN a).toBitVec <<< BitVec.ofNat 64 k).toNat = (a * 2 ^ k) % 2 ^ 64 := by simp only [BitVec.shiftLeft_eq', BitVec.toNat_shiftLeft, hb, hk', Nat.shiftLeft_eq]
  exact h
/-! ===== lN to 2^62 under >> and >>> ===== -/
theorem pf_lI {a : Nat} (h : a < 2 ^ 63) : (lN a).toInt = (a : Int) := lg_ofNat_toInt h
theorem pf_shr {a d : Nat} {D : Int64} (hD : (D.toBitVec.smod 64).toNat = d) (h : a < 2 ^ 62) : lN a >>> D = lN (a / 2 ^ d) := by
  have hd : a / 2 ^ d ≤ a := Nat.div_le_self _ _
  apply Int64.toInt_inj.mp
  have e : (lN a >>> D).toInt = (lN a).toInt >>> d := by
    rw [← hD]
    exact BitVec.toInt_sshiftRight ..
  rw [e, Int.shiftRight_eq_div_pow, pf_lI (by omega), pf_lI (by omega)]
  rfl
theorem pf_ushr {a d : Nat} {D : UInt64} (hD : D.toNat % 64 = d) (h : a < 2 ^ 62) : ((lN a).toUInt64 >>> D).toInt64 = lN (a / 2 ^ d) := by
  have hd : a / 2 ^ d ≤ a := Nat.div_le_self _ _
  have e : (lN a).toUInt64 >>> D = UInt64.ofNat (a / 2 ^ d) := UInt64.toNat_inj.mp (by
    rw [UInt64.toNat_shiftRight, hD, Nat.shiftRight_eq_div_pow, UInt64.toNat_ofNat']
    show (UInt64.ofNat a).toNat / 2 ^ d = _
    rw [UInt64.toNat_ofNat', Nat.mod_eq_of_lt (by omega), Nat.mod_eq_of_lt (by omega)])
  rw [e]
  rfl
theorem pf_andw (x : Int64) : ∃ m, m < 2 ^ 32 ∧ x &&& 4294967295 = lN m := ⟨x.toBitVec.toNat % 2 ^ 32, Nat.mod_lt _ (by decide), Int64.toBitVec_inj.mp (BitVec.eq_of_toNat_eq (by
  show (x.toBitVec &&& 4294967295#64).toNat = (BitVec.ofNat 64 (x.toBitVec.toNat % 2 ^ 32)).toNat
  rw [BitVec.toNat_and, show (4294967295#64).toNat = 2 ^ 32 - 1 from by decide, Nat.and_two_pow_sub_one_eq_mod, BitVec.toNat_ofNat]
  omega))⟩
/-! ===== Int64 as an unsigned number: uN x ===== -/
def uN (x : Int64) : Nat := x.toUInt64.toNat
theorem uN_lt (x : Int64) : uN x < 18446744073709551616 := x.toUInt64.toNat_lt
theorem uN_inj {x y : Int64} (h : uN x = uN y) : x = y := congrArg UInt64.toInt64 (UInt64.toNat_inj.mp h)
theorem uN_add (x y : Int64) : uN (x + y) = (uN x + uN y) % 18446744073709551616 := by
  show (x.toUInt64 + y.toUInt64).toNat = _
  exact UInt64.toNat_add _ _
theorem uN_mul (x y : Int64) : uN (x * y) = (uN x * uN y) % 18446744073709551616 := by
  show (x.toUInt64 * y.toUInt64).toNat = _
  exact UInt64.toNat_mul _ _
theorem uN_shl (x : Int64) : uN (x <<< ((1 : Int32).toInt64 &&& 63)) = (2 * uN x) % 18446744073709551616 := by
  have h : (((1 : Int32).toInt64 &&& 63).toBitVec.smod 64).toNat = 1 := by decide
  show (x.toBitVec <<< (((1 : Int32).toInt64 &&& 63).toBitVec.smod 64).toNat).toNat = _
  rw [h, BitVec.toNat_shiftLeft, Nat.shiftLeft_eq, Nat.mul_comm]
  rfl
theorem uN_shr (x : Int64) (s : UInt64) : uN (x.toUInt64 >>> s).toInt64 = uN x / 2 ^ (s.toNat % 64) := by
  show (x.toUInt64 >>> s).toNat = _
  rw [UInt64.toNat_shiftRight, Nat.shiftRight_eq_div_pow]
  rfl
theorem uN_s32 (x : Int64) : uN (x.toUInt64 >>> ((32 : Int32).toInt64.toUInt64 &&& Int64.toUInt64 63)).toInt64 = uN x / 4294967296 := by
  have h : ((32 : Int32).toInt64.toUInt64 &&& Int64.toUInt64 63).toNat % 64 = 32 := by decide
  rw [uN_shr, h]
theorem uN_s63 (x : Int64) : uN (x.toUInt64 >>> ((63 : Int32).toInt64.toUInt64 &&& Int64.toUInt64 63)).toInt64 = uN x / 9223372036854775808 := by
  have h : ((63 : Int32).toInt64.toUInt64 &&& Int64.toUInt64 63).toNat % 64 = 63 := by decide
  rw [uN_shr, h]
theorem uN_lo (x : Int64) : uN (x &&& 4294967295) = uN x % 4294967296 := by
  show (x.toUInt64 &&& Int64.toUInt64 4294967295).toNat = _
  rw [UInt64.toNat_and]
  exact Nat.and_two_pow_sub_one_eq_mod _ 32
theorem uN_bit (x : Int64) : (x &&& 1) = 0 ↔ uN x % 2 = 0 := by
  have h : uN (x &&& 1) = uN x % 2 := by
    show (x.toUInt64 &&& Int64.toUInt64 1).toNat = _
    rw [UInt64.toNat_and]
    exact Nat.and_two_pow_sub_one_eq_mod _ 1
  rw [← h]
  exact ⟨fun z => by rw [z]; rfl, fun z => uN_inj (z.trans rfl)⟩
theorem uN_or {x y : Int64} (hy : uN y < 2) : uN ((x <<< ((1 : Int32).toInt64 &&& 63)) ||| y) = (2 * uN x) % 18446744073709551616 + uN y := by
  have h1 : uN ((x <<< ((1 : Int32).toInt64 &&& 63)) ||| y) = uN (x <<< ((1 : Int32).toInt64 &&& 63)) ||| uN y := UInt64.toNat_or _ _
  have h2 : (2 * uN x) % 18446744073709551616 = 2 ^ 1 * (uN x % 9223372036854775808) := by omega
  rw [h1, uN_shl, h2]
  exact (Nat.two_pow_add_eq_or_of_lt (i := 1) hy _).symm
theorem nat_xor {a : Nat} (h : a < 18446744073709551616) : a ^^^ 2 ^ 63 = (a + 9223372036854775808) % 18446744073709551616 := by
  have h1 : (a ^^^ 2 ^ 63) % 2 ^ 63 = a % 2 ^ 63 := by rw [Nat.xor_mod_two_pow, Nat.mod_self, Nat.xor_zero]
  have h2 : (a ^^^ 2 ^ 63) / 2 ^ 63 = (a / 2 ^ 63) ^^^ 1 := by rw [Nat.xor_div_two_pow, Nat.div_self (Nat.two_pow_pos 63)]
  have h3 : a / 2 ^ 63 = 0 ∨ a / 2 ^ 63 = 1 := by omega
  generalize a ^^^ 2 ^ 63 = t at h1 h2
  rcases h3 with h3 | h3
  · rw [h3] at h2
    have h2 : t / 2 ^ 63 = 1 := h2
    omega
  · rw [h3] at h2
    have h2 : t / 2 ^ 63 = 0 := h2
    omega
theorem uN_xor (x : Int64) : uN (x ^^^ (-9223372036854775808)) = (uN x + 9223372036854775808) % 18446744073709551616 := by
  rw [← nat_xor (uN_lt x)]
  exact UInt64.toNat_xor _ _
theorem uN_int (x : Int64) : x.toInt = if 2 * uN x < 18446744073709551616 then (uN x : Int) else (uN x : Int) - 18446744073709551616 := BitVec.toInt_eq_toNat_cond _
theorem uN_le (x y : Int64) : (x ^^^ (-9223372036854775808)) ≤ (y ^^^ (-9223372036854775808)) ↔ uN x ≤ uN y := by
  have hx := uN_lt x
  have hy := uN_lt y
  rw [Int64.le_iff_toInt_le, uN_int, uN_int, uN_xor, uN_xor]
  omega
theorem uN_sk (x : Int64) {k : Nat} (hk : k < 64) : uN (x.toUInt64 >>> ((nI k).toInt64.toUInt64 &&& Int64.toUInt64 63)).toInt64 = uN x / 2 ^ k := by
  have h : ((nI k).toInt64.toUInt64 &&& Int64.toUInt64 63).toNat % 64 = k := by
    rw [nI_l (by omega), UInt64.toNat_and]
    have e : (lN k).toUInt64.toNat = k % 2 ^ 64 := rfl
    have e2 : (Int64.toUInt64 63).toNat = 2 ^ 6 - 1 := by decide
    rw [e, e2, Nat.and_two_pow_sub_one_eq_mod]
    omega
  rw [uN_shr, h]
/-! ===== unsigned comparison by xor with the least ===== -/
theorem lN_bv (n : Nat) : (lN n).toBitVec = BitVec.ofNat 64 n := rfl
theorem lN_nat {n : Nat} (h : n < 2 ^ 64) : (lN n).toBitVec.toNat = n := by rw [lN_bv, BitVec.toNat_ofNat]; exact Nat.mod_eq_of_lt h
theorem lN_xor (a b : Nat) : lN a ^^^ lN b = lN (a ^^^ b) := by
  apply Int64.toBitVec_inj.mp; rw [Int64.toBitVec_xor, lN_bv, lN_bv, lN_bv]; apply BitVec.eq_of_getLsbD_eq; intro i hi; simp [BitVec.getLsbD_ofNat, Nat.testBit_xor, hi]
theorem lN_ti {m : Nat} (h : m < 2 ^ 64) : (lN m).toInt = if m < 2 ^ 63 then (m : Int) else (m : Int) - 2 ^ 64 := by
  have c := BitVec.toInt_eq_toNat_cond (lN m).toBitVec
  rw [lN_nat h] at c
  show (lN m).toBitVec.toInt = _
  rw [c]
  split <;> split <;> omega
theorem xor63 {x : Nat} (h : x < 2 ^ 63) : x ^^^ 2 ^ 63 = 2 ^ 63 + x := by
  apply Nat.eq_of_testBit_eq
  intro i
  rw [Nat.testBit_xor, Nat.testBit_two_pow]
  rcases Nat.lt_trichotomy i 63 with z | z | z
  · rw [Nat.testBit_two_pow_add_gt z, decide_eq_false (by omega)]; simp
  · subst z; rw [Nat.testBit_two_pow_add_eq]; simp
  · have hp : 2 ^ 64 ≤ 2 ^ i := Nat.pow_le_pow_right (by decide) z
    rw [Nat.testBit_lt_two_pow (show x < 2 ^ i by omega), Nat.testBit_lt_two_pow (show 2 ^ 63 + x < 2 ^ i by omega), decide_eq_false (by omega)]; rfl
theorem xorS {a : Nat} (h : a < 2 ^ 64) : (lN a ^^^ (-9223372036854775808)).toInt = (a : Int) - 2 ^ 63 := by
  rw [show (-9223372036854775808 : Int64) = lN (2 ^ 63) from by decide +kernel, lN_xor]
  rcases Nat.lt_or_ge a (2 ^ 63) with z | z
  · rw [xor63 z, lN_ti (by omega), if_neg (by omega)]; omega
  · obtain ⟨x, rfl⟩ : ∃ x, a = 2 ^ 63 + x := ⟨a - 2 ^ 63, by omega⟩
    rw [← xor63 (by omega), Nat.xor_assoc, Nat.xor_self, Nat.xor_zero, lN_ti (by omega), if_pos (by omega), xor63 (by omega)]; omega
theorem ultL {a b : Nat} (ha : a < 2 ^ 64) (hb : b < 2 ^ 64) : ((lN b ^^^ (-9223372036854775808)) ≤ (lN a ^^^ (-9223372036854775808))) ↔ b ≤ a := by
  rw [Int64.le_iff_toInt_le, xorS ha, xorS hb]; omega
/-! ===== Int64 masks of n low bits ===== -/
theorem cr_bits (W U M : BitVec 64) : ((W &&& U) &&& (U &&& (M ^^^ BitVec.allOnes 64))) = 0#64 ↔ (W &&& U) &&& M = W &&& U := by
  constructor
  · intro h
    apply BitVec.eq_of_getLsbD_eq
    intro i hi
    have e := congrArg (fun x => BitVec.getLsbD x i) h
    simp only [BitVec.getLsbD_and, BitVec.getLsbD_xor, BitVec.getLsbD_allOnes, BitVec.getLsbD_zero, hi, decide_true] at e ⊢
    revert e
    cases W.getLsbD i <;> cases U.getLsbD i <;> cases M.getLsbD i <;> decide
  · intro h
    apply BitVec.eq_of_getLsbD_eq
    intro i hi
    have e := congrArg (fun x => BitVec.getLsbD x i) h
    simp only [BitVec.getLsbD_and, BitVec.getLsbD_xor, BitVec.getLsbD_allOnes, BitVec.getLsbD_zero, hi, decide_true] at e ⊢
    revert e
    cases W.getLsbD i <;> cases U.getLsbD i <;> cases M.getLsbD i <;> decide
theorem cr_mask (w U m : Int64) (n : Nat) (hm : m.toBitVec.toNat = 2 ^ n - 1) : ((w &&& U) &&& (U &&& (m ^^^ (-1)))) = 0 ↔ (w &&& U).toBitVec.toNat < 2 ^ n := by
  have e0 : (-1 : Int64).toBitVec = BitVec.allOnes 64 := by decide
  have z0 : (0 : Int64).toBitVec = 0#64 := by decide
  rw [← Int64.toBitVec_inj, z0, Int64.toBitVec_and, Int64.toBitVec_and, Int64.toBitVec_and, Int64.toBitVec_xor, e0, cr_bits]
  generalize w.toBitVec &&& U.toBitVec = T
  rw [← BitVec.toNat_inj, BitVec.toNat_and, hm, Nat.and_two_pow_sub_one_eq_mod]
  constructor
  · intro h
    have t := Nat.mod_lt T.toNat (Nat.two_pow_pos n)
    rw [h] at t
    exact t
  · exact Nat.mod_eq_of_lt
theorem cr_shr (t : Int64) (x : UInt64) (n : Nat) (hx : x.toNat % 64 = n) : (t.toUInt64 >>> x).toInt64 = 0 ↔ t.toBitVec.toNat < 2 ^ n := by
  rw [← Int64.toBitVec_inj, ← BitVec.toNat_inj]
  show (t.toUInt64 >>> x).toNat = 0 ↔ t.toUInt64.toNat < 2 ^ n
  rw [UInt64.toNat_shiftRight, hx, Nat.shiftRight_eq_div_pow]
  constructor
  · intro h
    have d : t.toUInt64.toNat / 2 ^ n < 1 := by
      rw [h]
      decide
    have e := (Nat.div_lt_iff_lt_mul (Nat.two_pow_pos n)).mp d
    rw [Nat.one_mul] at e
    exact e
  · exact Nat.div_eq_of_lt
theorem cr_amt (s : Int64) : ∃ n, n < 64 ∧ s &&& 63 = lN n ∧ (s.toUInt64 &&& Int64.toUInt64 63).toNat % 64 = n := by
  have e : (s.toUInt64 &&& Int64.toUInt64 63).toNat = s.toUInt64.toNat % 2 ^ 6 := by
    rw [UInt64.toNat_and, show (Int64.toUInt64 63).toNat = 2 ^ 6 - 1 from by decide, Nat.and_two_pow_sub_one_eq_mod]
  refine ⟨s.toUInt64.toNat % 2 ^ 6, by omega, ?_, by omega⟩
  rw [← Int64.toBitVec_inj, ← BitVec.toNat_inj]
  show (s.toUInt64 &&& Int64.toUInt64 63).toNat = (BitVec.ofNat 64 (s.toUInt64.toNat % 2 ^ 6)).toNat
  rw [e, BitVec.toNat_ofNat]
  omega
end
section
/-! the ring of words modulo 2^W, sums, linear functionals, closures -/
def ra_pi (W : Nat) (x : Int32) : BitVec W := x.toBitVec.setWidth W
theorem ra_pi_add {W : Nat} (h : W ≤ 32) (x y : Int32) : ra_pi W (x + y) = ra_pi W x + ra_pi W y := by
  unfold ra_pi; rw [Int32.toBitVec_add, BitVec.setWidth_add _ _ h]
theorem ra_pi_mul {W : Nat} (h : W ≤ 32) (x y : Int32) : ra_pi W (x * y) = ra_pi W x * ra_pi W y := by
  unfold ra_pi; rw [Int32.toBitVec_mul, BitVec.setWidth_mul _ _ h]
theorem ra_pi_sub {W : Nat} (h : W ≤ 32) (x y : Int32) : ra_pi W (x - y) = ra_pi W x - ra_pi W y := by
  have e : (x - y) + y = x := by grind
  have e2 : ra_pi W (x - y) + ra_pi W y = ra_pi W x := by rw [← ra_pi_add h, e]
  rw [← e2]; grind
theorem ra_pi_nI {W : Nat} (h : W ≤ 32) (m : Nat) : ra_pi W (nI m) = BitVec.ofNat W m := by
  show (BitVec.ofNat 32 m).setWidth W = _
  rw [BitVec.setWidth_ofNat_of_le h]
theorem ra_pi_0 {W : Nat} (h : W ≤ 32) : ra_pi W 0 = 0 := ra_pi_nI h 0
theorem ra_pi_1 {W : Nat} (h : W ≤ 32) : ra_pi W 1 = 1 := ra_pi_nI h 1
theorem ra_ofmod (W a : Nat) : BitVec.ofNat W (a % 2 ^ W) = BitVec.ofNat W a := by
  apply BitVec.eq_of_toNat_eq
  rw [BitVec.toNat_ofNat, BitVec.toNat_ofNat, Nat.mod_mod]
theorem ra_ofmul (W a b : Nat) : BitVec.ofNat W (a * b) = BitVec.ofNat W a * BitVec.ofNat W b := by
  apply BitVec.eq_of_toNat_eq
  rw [BitVec.toNat_mul, BitVec.toNat_ofNat, BitVec.toNat_ofNat, BitVec.toNat_ofNat, ← Nat.mul_mod]
theorem ra_ofinj {W a b : Nat} (ha : a < 2 ^ W) (hb : b < 2 ^ W) (h : BitVec.ofNat W a = BitVec.ofNat W b) : a = b := by
  have h2 := congrArg BitVec.toNat h
  rw [BitVec.toNat_ofNat, BitVec.toNat_ofNat, Nat.mod_eq_of_lt ha, Nat.mod_eq_of_lt hb] at h2
  exact h2
def ra_rg (W : Nat) (x : Int32) : Prop := ∃ m : Nat, m < 2 ^ W ∧ x = nI m
theorem ra_pw {W : Nat} (h : W ≤ 4) : 2 ^ W ≤ 16 := Nat.pow_le_pow_right (n := 2) (by omega) h
theorem ra_mk {W : Nat} (h : W ≤ 4) (x : Int32) : x &&& nI (2 ^ W - 1) = nI (x.toBitVec.toNat % 2 ^ W) :=
  pk_and x W (pk_tn (by have := ra_pw h; omega))
theorem ra_rg_and {W : Nat} (h : W ≤ 4) (x : Int32) : ra_rg W (x &&& nI (2 ^ W - 1)) :=
  ⟨_, Nat.mod_lt _ (Nat.two_pow_pos W), ra_mk h x⟩
theorem ra_pi_and {W : Nat} (h : W ≤ 4) (x : Int32) : ra_pi W (x &&& nI (2 ^ W - 1)) = ra_pi W x := by
  rw [ra_mk h, ra_pi_nI (by omega), ra_ofmod, BitVec.ofNat_toNat]; rfl
theorem ra_rg_0 (W : Nat) : ra_rg W 0 := ⟨0, Nat.two_pow_pos W, rfl⟩
theorem ra_rg_1 {W : Nat} (h : 1 ≤ W) : ra_rg W 1 := ⟨1, Nat.one_lt_two_pow (by omega), rfl⟩
theorem ra_inj {W : Nat} (h : W ≤ 4) {x y : Int32} (hx : ra_rg W x) (hy : ra_rg W y) (e : ra_pi W x = ra_pi W y) : x = y := by
  obtain ⟨a, ha, rfl⟩ := hx
  obtain ⟨b, hb, rfl⟩ := hy
  rw [ra_pi_nI (by omega), ra_pi_nI (by omega)] at e
  rw [ra_ofinj ha hb e]
theorem ra_z {W : Nat} (h : W ≤ 4) {x : Int32} (hx : ra_rg W x) : ra_pi W x = 0 ↔ x = 0 :=
  ⟨fun e => ra_inj h hx (ra_rg_0 W) (e.trans (ra_pi_0 (by omega)).symm), fun e => by rw [e]; exact ra_pi_0 (by omega)⟩
/-! sums -/
def ra_sm {W : Nat} : Nat → (Nat → BitVec W) → BitVec W
  | 0, _ => 0
  | n + 1, f => ra_sm n f + f n
theorem ra_sm_add {W : Nat} (n : Nat) (f g : Nat → BitVec W) : ra_sm n (fun i => f i + g i) = ra_sm n f + ra_sm n g := by
  induction n with
  | zero => simp only [ra_sm]; grind
  | succ n ih => simp only [ra_sm]; rw [ih]; grind
theorem ra_sm_mul {W : Nat} (n : Nat) (a : BitVec W) (f : Nat → BitVec W) : ra_sm n (fun i => a * f i) = a * ra_sm n f := by
  induction n with
  | zero => simp only [ra_sm]; grind
  | succ n ih => simp only [ra_sm]; rw [ih]; grind
theorem ra_sm_mulr {W : Nat} (n : Nat) (a : BitVec W) (f : Nat → BitVec W) : ra_sm n (fun i => f i * a) = ra_sm n f * a := by
  induction n with
  | zero => simp only [ra_sm]; grind
  | succ n ih => simp only [ra_sm]; rw [ih]; grind
theorem ra_sm_congr {W : Nat} {n : Nat} {f g : Nat → BitVec W} (h : ∀ i, i < n → f i = g i) : ra_sm n f = ra_sm n g := by
  induction n with
  | zero => rfl
  | succ n ih => simp only [ra_sm]; rw [ih (fun i hi => h i (by omega)), h n (by omega)]
theorem ra_sm_zero {W : Nat} {n : Nat} {f : Nat → BitVec W} (h : ∀ i, i < n → f i = 0) : ra_sm n f = 0 := by
  induction n with
  | zero => rfl
  | succ n ih => simp only [ra_sm]; rw [ih (fun i hi => h i (by omega)), h n (by omega)]; grind
theorem ra_sm_swap {W : Nat} (n m : Nat) (f : Nat → Nat → BitVec W) : ra_sm n (fun i => ra_sm m (fun j => f i j)) = ra_sm m (fun j => ra_sm n (fun i => f i j)) := by
  induction n with
  | zero => simp only [ra_sm]; exact (ra_sm_zero (fun _ _ => rfl)).symm
  | succ n ih => simp only [ra_sm]; rw [ih, ← ra_sm_add]
theorem ra_sm_delta {W : Nat} {n k : Nat} (hk : k < n) (a : BitVec W) (f : Nat → BitVec W) : ra_sm n (fun i => (if i = k then a else 0) * f i) = a * f k := by
  induction n with
  | zero => omega
  | succ n ih =>
    simp only [ra_sm]
    by_cases e : k = n
    · subst e
      rw [ra_sm_zero (fun i hi => by rw [if_neg (by omega)]; grind), if_pos rfl]; grind
    · rw [ih (by omega), if_neg (by omega)]; grind
theorem ra_sm_front {W : Nat} (n : Nat) (f : Nat → BitVec W) : ra_sm (n + 1) f = f 0 + ra_sm n (fun i => f (i + 1)) := by
  induction n with
  | zero => simp only [ra_sm]; grind
  | succ n ih => rw [show ra_sm (n + 1 + 1) f = ra_sm (n + 1) f + f (n + 1) from rfl, ih]; simp only [ra_sm]; grind
/-! linear functionals and closures -/
def ra_L {W : Nat} (F : (Nat → BitVec W) → BitVec W) : Prop :=
  (∀ u v : Nat → BitVec W, F (fun i => u i + v i) = F u + F v) ∧ (∀ (a : BitVec W) (u : Nat → BitVec W), F (fun i => a * u i) = a * F u)
theorem ra_L_0 {W : Nat} {F : (Nat → BitVec W) → BitVec W} (h : ra_L F) : F (fun _ => 0) = 0 := by
  have e : F (fun i => (0 : BitVec W) * (fun _ => (0 : BitVec W)) i) = 0 * F (fun _ => 0) := h.2 0 (fun _ => 0)
  have e2 : (fun i : Nat => (0 : BitVec W) * (fun _ => (0 : BitVec W)) i) = (fun _ => 0) := by funext i; grind
  rw [e2] at e; rw [e]; grind
theorem ra_L_lin {W : Nat} {F : (Nat → BitVec W) → BitVec W} (h : ra_L F) (a : BitVec W) (u w : Nat → BitVec W) : F (fun c => u c - a * w c) = F u - a * F w := by
  have e : (fun c => u c - a * w c) = (fun c => u c + (fun c => (-a) * w c) c) := by funext c; grind
  rw [e, h.1, h.2]; grind
theorem ra_L_at {W : Nat} (k : Nat) : ra_L (fun v : Nat → BitVec W => v k) := ⟨fun _ _ => rfl, fun _ _ => rfl⟩
theorem ra_L_sm {W : Nat} (n : Nat) (b : Nat → BitVec W) : ra_L (fun v : Nat → BitVec W => ra_sm n (fun i => b i * v i)) := by
  constructor
  · intro u v
    show ra_sm n (fun i => b i * (u i + v i)) = _
    rw [← ra_sm_add]; exact ra_sm_congr (fun i _ => by grind)
  · intro a u
    show ra_sm n (fun i => b i * (a * u i)) = _
    rw [← ra_sm_mul]; exact ra_sm_congr (fun i _ => by grind)
theorem ra_L_sc {W : Nat} {F : (Nat → BitVec W) → BitVec W} (h : ra_L F) (a : BitVec W) : ra_L (fun v => a * F v) := by
  constructor
  · intro u v; show a * F _ = _; rw [h.1]; grind
  · intro b u; show a * F _ = _; rw [h.2]; grind
theorem ra_L_add {W : Nat} {F G : (Nat → BitVec W) → BitVec W} (h : ra_L F) (g : ra_L G) : ra_L (fun v => F v + G v) := by
  constructor
  · intro u v; show F _ + G _ = _; rw [h.1, g.1]; grind
  · intro b u; show F _ + G _ = _; rw [h.2, g.2]; grind
def ra_cl {W : Nat} (P : (Nat → BitVec W) → Prop) (v : Nat → BitVec W) : Prop :=
  ∀ F : (Nat → BitVec W) → BitVec W, ra_L F → (∀ u, P u → F u = 0) → F v = 0
theorem ra_cl_of {W : Nat} {P : (Nat → BitVec W) → Prop} {v : Nat → BitVec W} (h : P v) : ra_cl P v := fun _ _ k => k v h
theorem ra_cl_0 {W : Nat} (P : (Nat → BitVec W) → Prop) : ra_cl P (fun _ => 0) := fun _ L _ => ra_L_0 L
theorem ra_cl_tr {W : Nat} {P Q : (Nat → BitVec W) → Prop} {v : Nat → BitVec W} (h : ra_cl P v) (k : ∀ u, P u → ra_cl Q u) : ra_cl Q v :=
  fun F L z => h F L (fun u hu => k u hu F L z)
/-! products -/
def ra_cell {W : Nat} (C : Nat) (v : Nat → BitVec W) (l j : Nat) : BitVec W :=
  if l = 0 then (if j = 0 then v 0 else 0) else v (1 + (l - 1) * C + j)
theorem ra_cell_add {W : Nat} (C : Nat) (u v : Nat → BitVec W) (l j : Nat) : ra_cell C (fun i => u i + v i) l j = ra_cell C u l j + ra_cell C v l j := by
  unfold ra_cell; split
  · split
    · rfl
    · grind
  · rfl
theorem ra_cell_mul {W : Nat} (C : Nat) (a : BitVec W) (u : Nat → BitVec W) (l j : Nat) : ra_cell C (fun i => a * u i) l j = a * ra_cell C u l j := by
  unfold ra_cell; split
  · split
    · rfl
    · grind
  · rfl
def ra_mul {W : Nat} (V C : Nat) (A v : Nat → BitVec W) : Nat → BitVec W := fun x =>
  if x < 1 + V * C then
    (if x = 0 then A 0 * v 0 else ra_sm (V + 1) (fun l => A (1 + (x - 1) / C * (V + 1) + l) * ra_cell C v l ((x - 1) % C)))
  else 0
theorem ra_mul_addr {W : Nat} (V C : Nat) (A u v : Nat → BitVec W) : ra_mul V C A (fun i => u i + v i) = fun x => ra_mul V C A u x + ra_mul V C A v x := by
  funext x; unfold ra_mul; split
  · split
    · grind
    · rw [← ra_sm_add]; exact ra_sm_congr (fun i _ => by rw [ra_cell_add]; grind)
  · grind
theorem ra_mul_scr {W : Nat} (V C : Nat) (a : BitVec W) (A u : Nat → BitVec W) : ra_mul V C A (fun i => a * u i) = fun x => a * ra_mul V C A u x := by
  funext x; unfold ra_mul; split
  · split
    · grind
    · rw [← ra_sm_mul]; exact ra_sm_congr (fun i _ => by rw [ra_cell_mul]; grind)
  · grind
theorem ra_mul_addl {W : Nat} (V C : Nat) (A B v : Nat → BitVec W) : ra_mul V C (fun i => A i + B i) v = fun x => ra_mul V C A v x + ra_mul V C B v x := by
  funext x; unfold ra_mul; split
  · split
    · grind
    · rw [← ra_sm_add]; exact ra_sm_congr (fun i _ => by grind)
  · grind
theorem ra_mul_scl {W : Nat} (V C : Nat) (a : BitVec W) (A v : Nat → BitVec W) : ra_mul V C (fun i => a * A i) v = fun x => a * ra_mul V C A v x := by
  funext x; unfold ra_mul; split
  · split
    · grind
    · rw [← ra_sm_mul]; exact ra_sm_congr (fun i _ => by grind)
  · grind
theorem ra_mul_0r {W : Nat} (V C : Nat) (A : Nat → BitVec W) : ra_mul V C A (fun _ => 0) = fun _ => 0 := by
  have h := ra_mul_scr V C (0 : BitVec W) A (fun _ => 0)
  have e : (fun _ : Nat => (0 : BitVec W) * 0) = fun _ => 0 := by funext i; grind
  have e2 : (fun x => (0 : BitVec W) * ra_mul V C A (fun _ => 0) x) = fun _ => 0 := by funext i; grind
  rw [e, e2] at h; exact h
theorem ra_mul_0l {W : Nat} (V C : Nat) (v : Nat → BitVec W) : ra_mul V C (fun _ => 0) v = fun _ => 0 := by
  have h := ra_mul_scl V C (0 : BitVec W) (fun _ => 0) v
  have e : (fun _ : Nat => (0 : BitVec W) * 0) = fun _ => 0 := by funext i; grind
  have e2 : (fun x => (0 : BitVec W) * ra_mul V C (fun _ => 0) v x) = fun _ => 0 := by funext i; grind
  rw [e, e2] at h; exact h
theorem ra_L_mulr {W : Nat} {F : (Nat → BitVec W) → BitVec W} (h : ra_L F) (V C : Nat) (A : Nat → BitVec W) : ra_L (fun v => F (ra_mul V C A v)) := by
  constructor
  · intro u v; show F _ = _; rw [ra_mul_addr, h.1]
  · intro a u; show F _ = _; rw [ra_mul_scr, h.2]
theorem ra_L_mull {W : Nat} {F : (Nat → BitVec W) → BitVec W} (h : ra_L F) (V C : Nat) (v : Nat → BitVec W) : ra_L (fun A => F (ra_mul V C A v)) := by
  constructor
  · intro A B; show F _ = _; rw [ra_mul_addl, h.1]
  · intro a A; show F _ = _; rw [ra_mul_scl, h.2]
theorem ra_cl_mul {W : Nat} {V C : Nat} {P Q T : (Nat → BitVec W) → Prop} {A v : Nat → BitVec W} (hA : ra_cl P A) (hv : ra_cl Q v)
    (h : ∀ A' v', P A' → Q v' → ra_cl T (ra_mul V C A' v')) : ra_cl T (ra_mul V C A v) := by
  intro F L z
  refine hA (fun A => F (ra_mul V C A v)) (ra_L_mull L V C v) (fun A' hA' => ?_)
  exact hv (fun v => F (ra_mul V C A' v)) (ra_L_mulr L V C A') (fun v' hv' => h A' v' hA' hv' F L z)
/-! indices -/
theorem ra_dv {i m l : Nat} (h : l < m) : (i * m + l) / m = i := by
  rw [Nat.add_comm, Nat.add_mul_div_right _ _ (by omega), Nat.div_eq_of_lt h]; omega
theorem ra_md {i m l : Nat} (h : l < m) : (i * m + l) % m = l := by
  rw [Nat.add_comm, Nat.add_mul_mod_self_right, Nat.mod_eq_of_lt h]
theorem ra_ixlt {i n c m : Nat} (hi : i < m) (hc : c < n) : i * n + c < m * n := by
  have h : (i + 1) * n ≤ m * n := Nat.mul_le_mul_right n hi
  rw [Nat.add_mul] at h; omega
theorem ra_ixinj {i i' n c c' : Nat} (hc : c < n) (hc' : c' < n) (h : i * n + c = i' * n + c') : i = i' ∧ c = c' := by
  have h1 : (i * n + c) / n = (i' * n + c') / n := by rw [h]
  have h2 : (i * n + c) % n = (i' * n + c') % n := by rw [h]
  rw [ra_dv hc, ra_dv hc'] at h1
  rw [ra_md hc, ra_md hc'] at h2
  exact ⟨h1, h2⟩
/-! matrices and their action on states -/
theorem ra_mul_at {W : Nat} {V C : Nat} (A v : Nat → BitVec W) {i j : Nat} (hi : i < V) (hj : j < C) :
    ra_mul V C A v (1 + i * C + j) = ra_sm (V + 1) (fun l => A (1 + i * (V + 1) + l) * ra_cell C v l j) := by
  have h1 : 1 + i * C + j < 1 + V * C := by have := ra_ixlt hi hj; omega
  have h2 : 1 + i * C + j - 1 = i * C + j := by omega
  unfold ra_mul
  rw [if_pos h1, if_neg (by omega), h2, ra_dv hj, ra_md hj]
theorem ra_mul_hd {W : Nat} (V C : Nat) (A v : Nat → BitVec W) : ra_mul V C A v 0 = A 0 * v 0 := by
  unfold ra_mul; rw [if_pos (by omega), if_pos rfl]
theorem ra_mul_out {W : Nat} (V C : Nat) (A v : Nat → BitVec W) {x : Nat} (h : 1 + V * C ≤ x) : ra_mul V C A v x = 0 := by
  unfold ra_mul; rw [if_neg (by omega)]
theorem ra_mul1 {W : Nat} {V : Nat} (B v : Nat → BitVec W) {k : Nat} (hk : k ≤ V) :
    ra_mul V 1 B v k = ra_sm (V + 1) (fun l => ra_cell (V + 1) B k l * v l) := by
  by_cases h0 : k = 0
  · subst h0
    rw [ra_mul_hd]
    have e : ra_sm (V + 1) (fun l => ra_cell (V + 1) B 0 l * v l) = ra_sm (V + 1) (fun l => (if l = 0 then B 0 else 0) * v l) :=
      ra_sm_congr (fun l _ => by unfold ra_cell; rw [if_pos rfl])
    rw [e, ra_sm_delta (by omega)]
  · obtain ⟨i, rfl⟩ : ∃ i, k = i + 1 := ⟨k - 1, by omega⟩
    have h := ra_mul_at (V := V) (C := 1) B v (i := i) (j := 0) (by omega) (by omega)
    rw [show 1 + i * 1 + 0 = i + 1 from by omega] at h
    rw [h]
    refine ra_sm_congr (fun l _ => ?_)
    have e1 : ra_cell (V + 1) B (i + 1) l = B (1 + i * (V + 1) + l) := by unfold ra_cell; rw [if_neg (by omega), Nat.add_sub_cancel]
    have e2 : ra_cell 1 v l 0 = v l := by
      unfold ra_cell
      by_cases hl : l = 0
      · subst hl; rw [if_pos rfl, if_pos rfl]
      · rw [if_neg hl, show 1 + (l - 1) * 1 + 0 = l from by omega]
    rw [e1, e2]
theorem ra_mul_cell {W : Nat} {V : Nat} (A B : Nat → BitVec W) {k l : Nat} (hk : k ≤ V) (hl : l ≤ V) :
    ra_cell (V + 1) (ra_mul V (V + 1) A B) k l = ra_sm (V + 1) (fun i => ra_cell (V + 1) A k i * ra_cell (V + 1) B i l) := by
  by_cases h0 : k = 0
  · subst h0
    have e : ra_sm (V + 1) (fun i => ra_cell (V + 1) A 0 i * ra_cell (V + 1) B i l) = ra_sm (V + 1) (fun i => (if i = 0 then A 0 else 0) * ra_cell (V + 1) B i l) :=
      ra_sm_congr (fun l _ => by rw [show ra_cell (V + 1) A 0 l = if l = 0 then A 0 else 0 from if_pos rfl])
    rw [e, ra_sm_delta (by omega)]
    unfold ra_cell
    rw [if_pos rfl, if_pos rfl, ra_mul_hd]
    split
    · rfl
    · grind
  · obtain ⟨i, rfl⟩ : ∃ i, k = i + 1 := ⟨k - 1, by omega⟩
    have h := ra_mul_at (V := V) (C := V + 1) A B (i := i) (j := l) (by omega) (by omega)
    rw [show ra_cell (V + 1) (ra_mul V (V + 1) A B) (i + 1) l = ra_mul V (V + 1) A B (1 + i * (V + 1) + l) from by unfold ra_cell; rw [if_neg (by omega), Nat.add_sub_cancel]]
    rw [h]
    refine ra_sm_congr (fun m _ => ?_)
    rw [show ra_cell (V + 1) A (i + 1) m = A (1 + i * (V + 1) + m) from by unfold ra_cell; rw [if_neg (by omega), Nat.add_sub_cancel]]
theorem ra_assoc {W : Nat} (V : Nat) (A B v : Nat → BitVec W) : ra_mul V 1 (ra_mul V (V + 1) A B) v = ra_mul V 1 A (ra_mul V 1 B v) := by
  funext k
  by_cases hk : k ≤ V
  · rw [ra_mul1 _ _ hk, ra_mul1 _ _ hk]
    have e : ∀ l, l < V + 1 → ra_cell (V + 1) (ra_mul V (V + 1) A B) k l * v l = ra_sm (V + 1) (fun i => ra_cell (V + 1) A k i * ra_cell (V + 1) B i l * v l) := by
      intro l hl; rw [ra_mul_cell A B hk (by omega), ← ra_sm_mulr]
    rw [ra_sm_congr e, ra_sm_swap]
    refine ra_sm_congr (fun i hi => ?_)
    rw [ra_mul1 _ _ (by omega : i ≤ V), ← ra_sm_mul]
    exact ra_sm_congr (fun l _ => by grind)
  · rw [ra_mul_out _ _ _ _ (by omega), ra_mul_out _ _ _ _ (by omega)]
def ra_mat {W : Nat} (V : Nat) (M : Nat → Nat → BitVec W) : Nat → BitVec W := fun x =>
  if x < 1 + V * (V + 1) then (if x = 0 then 1 else M (1 + (x - 1) / (V + 1)) ((x - 1) % (V + 1))) else 0
theorem ra_mat_at {W : Nat} {V : Nat} (M : Nat → Nat → BitVec W) {i l : Nat} (hi : i < V) (hl : l ≤ V) : ra_mat V M (1 + i * (V + 1) + l) = M (1 + i) l := by
  have h1 : 1 + i * (V + 1) + l < 1 + V * (V + 1) := by have := ra_ixlt hi (show l < V + 1 by omega); omega
  have h2 : 1 + i * (V + 1) + l - 1 = i * (V + 1) + l := by omega
  unfold ra_mat
  rw [if_pos h1, if_neg (by omega), h2, ra_dv (by omega), ra_md (by omega)]
theorem ra_mat_hd {W : Nat} (V : Nat) (M : Nat → Nat → BitVec W) : ra_mat V M 0 = 1 := by
  unfold ra_mat; rw [if_pos (by omega), if_pos rfl]
def ra_id {W : Nat} : Nat → Nat → BitVec W := fun i l => if l = i then 1 else 0
def ra_as {W : Nat} (x : Nat) (c : Nat → BitVec W) : Nat → Nat → BitVec W := fun i l => if i = x then c l else if l = i then 1 else 0
def ra_kn {W : Nat} (x : Nat) (w : BitVec W) : Nat → Nat → BitVec W := fun i l => if i = x then (if l = 0 then w else 0) else if l = i then 1 else 0
/-- the constants 0 and 1 give all the others -/
theorem ra_kn_lin {W : Nat} (V x : Nat) (w : BitVec W) : ra_mat V (ra_kn x w) = fun c => (fun i => (1 - w) * ra_mat V (ra_kn x 0) i) c + (fun i => w * ra_mat V (ra_kn x 1) i) c := by
  funext c
  show _ = (1 - w) * ra_mat V (ra_kn x 0) c + w * ra_mat V (ra_kn x 1) c
  unfold ra_mat ra_kn
  split
  · split
    · grind
    · split
      · split <;> grind
      · split <;> grind
  · grind
theorem ra_kn_cl {W : Nat} {P : (Nat → BitVec W) → Prop} (V x : Nat) (w : BitVec W) (h0 : ra_cl P (ra_mat V (ra_kn x 0))) (h1 : ra_cl P (ra_mat V (ra_kn x 1))) : ra_cl P (ra_mat V (ra_kn x w)) := by
  intro F L z
  rw [ra_kn_lin, L.1, L.2, L.2, h0 F L z, h1 F L z]; grind
end
section
/-! valuations: small tables -/
def ra_vl : Nat → Nat → Nat
  | 0, _ => 0
  | W + 1, a => if a % 2 = 0 then ra_vl W (a / 2) + 1 else 0
theorem ra_t1 : ∀ W, W < 5 → ∀ a, a < 16 → a < 2 ^ W → (ra_vl W a ≤ W ∧ a / 2 ^ ra_vl W a * 2 ^ ra_vl W a = a ∧ (ra_vl W a < W → a / 2 ^ ra_vl W a % 2 = 1)) := by decide +kernel
theorem ra_t2 : ∀ W, W < 5 → ∀ k, k < 5 → k ≤ W → ra_vl W (2 ^ k % 2 ^ W) = k := by decide +kernel
theorem ra_t3f : ∀ (W : Fin 5) (a : Fin 16) (k : Fin 5), a.val < 2 ^ W.val → k.val ≤ W.val → (BitVec.ofNat W.val (2 ^ (W.val - k.val)) * BitVec.ofNat W.val a.val = 0 ↔ k.val ≤ ra_vl W.val a.val) := by decide +kernel
theorem ra_t3 : ∀ W, W < 5 → ∀ a, a < 16 → ∀ k, k < 5 → a < 2 ^ W → k ≤ W → (BitVec.ofNat W (2 ^ (W - k)) * BitVec.ofNat W a = 0 ↔ k ≤ ra_vl W a) := fun W hW a ha k hk => ra_t3f ⟨W, hW⟩ ⟨a, ha⟩ ⟨k, hk⟩
theorem ra_t4f : ∀ (W : Fin 5) (a : Fin 16) (k : Fin 5), a.val < 2 ^ W.val → k.val ≤ W.val → (a.val % 2 ^ k.val = 0 ↔ k.val ≤ ra_vl W.val a.val) := by decide +kernel
theorem ra_t4 : ∀ W, W < 5 → ∀ a, a < 16 → ∀ k, k < 5 → a < 2 ^ W → k ≤ W → (a % 2 ^ k = 0 ↔ k ≤ ra_vl W a) := fun W hW a ha k hk => ra_t4f ⟨W, hW⟩ ⟨a, ha⟩ ⟨k, hk⟩
theorem ra_t5f : ∀ (W : Fin 5) (a : Fin 16) (k : Fin 5), a.val < 2 ^ W.val → k.val ≤ W.val → (∀ i, i < k.val → a.val / 2 ^ i % 2 = 0) → (k.val = W.val ∨ a.val / 2 ^ k.val % 2 = 1) → ra_vl W.val a.val = k.val := by decide +kernel
theorem ra_t5 : ∀ W, W < 5 → ∀ a, a < 16 → ∀ k, k < 5 → a < 2 ^ W → k ≤ W → (∀ i, i < k → a / 2 ^ i % 2 = 0) → (k = W ∨ a / 2 ^ k % 2 = 1) → ra_vl W a = k := fun W hW a ha k hk => ra_t5f ⟨W, hW⟩ ⟨a, ha⟩ ⟨k, hk⟩
theorem ra_t6 : ∀ W, W < 5 → ∀ a, a < 16 → a % 2 = 1 → BitVec.ofNat W a * (BitVec.ofNat W a * (2 - BitVec.ofNat W a * BitVec.ofNat W a)) = 1 := by decide +kernel
theorem ra_t7 : ∀ W, W < 5 → ∀ k, k < 5 → k ≤ W → 2 ^ k % 2 ^ W = 0 → k = W := by decide +kernel
theorem ra_vl_le {W a : Nat} (hW : W ≤ 4) (ha : a < 2 ^ W) : ra_vl W a ≤ W := (ra_t1 W (by omega) a (by have := ra_pw hW; omega) ha).1
theorem ra_vl_div {W a : Nat} (hW : W ≤ 4) (ha : a < 2 ^ W) {k : Nat} (hk : k ≤ ra_vl W a) : a / 2 ^ k * 2 ^ k = a := by
  have h := ra_vl_le hW ha
  have h4 := (ra_t4 W (by omega) a (by have := ra_pw hW; omega) k (by omega) ha (by omega)).mpr hk
  have := Nat.div_add_mod' a (2 ^ k); omega
/-! a matrix in triangular form, closed under annihilating multiples -/
def ra_hp {W : Nat} (n : Nat) (m : Nat → Nat → BitVec W) (k : Nat → Nat) : Prop :=
  ∀ i, i < n → k i ≤ W ∧ (∀ c, c < i → m i c = 0) ∧ m i i = BitVec.ofNat W (2 ^ k i) ∧ (k i = W → m i = fun _ => 0)
def ra_hd {W : Nat} (n : Nat) (m : Nat → Nat → BitVec W) (k : Nat → Nat) (j : Nat) (v : Nat → BitVec W) : Prop :=
  ∀ i, i < n → ∀ F : (Nat → BitVec W) → BitVec W, ra_L F → (∀ i', i < i' → i' < n → F (m i') = 0) → (i < j → F v = 0) → BitVec.ofNat W (2 ^ (W - k i)) * F (m i) = 0
def ra_an {W : Nat} (n : Nat) (m : Nat → Nat → BitVec W) (v : Nat → BitVec W) (F : (Nat → BitVec W) → BitVec W) : Prop :=
  (∀ i, i < n → F (m i) = 0) ∧ F v = 0
/-- the step that only takes a multiple of row j away -/
theorem ra_keep {W n : Nat} {m : Nat → Nat → BitVec W} {k : Nat → Nat} {j : Nat} {v : Nat → BitVec W} (hj : j < n) (f : BitVec W) (D : ra_hd n m k j v) :
    ra_hd n m k (j + 1) (fun c => v c - f * m j c) ∧ ∀ F, ra_L F → (ra_an n m (fun c => v c - f * m j c) F ↔ ra_an n m v F) := by
  constructor
  · intro i hi F L z zv
    refine D i hi F L z (fun hij => ?_)
    have e := zv (by omega)
    rw [ra_L_lin L, z j hij hj] at e
    rw [← e]; grind
  · intro F L
    constructor
    · intro h
      refine ⟨h.1, ?_⟩
      have e := h.2
      rw [ra_L_lin L, h.1 j hj] at e
      rw [← e]; grind
    · intro h
      refine ⟨h.1, ?_⟩
      rw [ra_L_lin L, h.1 j hj, h.2]; grind
/-- the step that puts a unit's multiple of the vector in row j -/
theorem ra_swap {W n : Nat} {m : Nat → Nat → BitVec W} {k : Nat → Nat} {j o : Nat} {v : Nat → BitVec W} (hj : j < n) (s s' : BitVec W) (hs : s' * s = 1)
    (ho : o < k j) (hk : k j ≤ W) (D : ra_hd n m k j v) :
    ra_hd n (fun i => if i = j then (fun c => s * v c) else m i) (fun i => if i = j then o else k i) (j + 1) (fun c => m j c - BitVec.ofNat W (2 ^ (k j - o)) * (s * v c)) ∧
    ∀ F, ra_L F → (ra_an n (fun i => if i = j then (fun c => s * v c) else m i) (fun c => m j c - BitVec.ofNat W (2 ^ (k j - o)) * (s * v c)) F ↔ ra_an n m v F) := by
  have q : ∀ F, ra_L F → F (fun c => m j c - BitVec.ofNat W (2 ^ (k j - o)) * (s * v c)) = F (m j) - BitVec.ofNat W (2 ^ (k j - o)) * (s * F v) := by
    intro F L
    have e := ra_L_lin L (BitVec.ofNat W (2 ^ (k j - o))) (m j) (fun c => s * v c)
    rw [L.2] at e; exact e
  have u : ∀ x : BitVec W, s * x = 0 → x = 0 := by
    intro x h
    have e : x = s' * (s * x) := by
      have e1 : s' * (s * x) = (s' * s) * x := by grind
      rw [e1, hs]; grind
    rw [e, h]; grind
  constructor
  · intro i hi F L z zv
    by_cases e : i = j
    · subst e
      have e1 := zv (by omega)
      rw [q F L] at e1
      have e2 := D i hi F L (fun i' h1 h2 => by have := z i' h1 h2; dsimp only at this; rw [if_neg (by omega)] at this; exact this) (fun h => by omega)
      show BitVec.ofNat W (2 ^ (W - if i = i then o else k i)) * F (if i = i then (fun c => s * v c) else m i) = 0
      rw [if_pos rfl, if_pos rfl, L.2]
      have e3 : W - o = (W - k i) + (k i - o) := by omega
      rw [e3, Nat.pow_add, ra_ofmul]
      have e4 : F (m i) = BitVec.ofNat W (2 ^ (k i - o)) * (s * F v) := by grind
      rw [e4] at e2
      grind
    · have e2 : ∀ hij : i < j, F v = 0 ∧ F (m j) = 0 := by
        intro hij
        have h1 := z j hij hj
        dsimp only at h1
        rw [if_pos rfl, L.2] at h1
        have h2 := u _ h1
        have h3 := zv (by omega)
        rw [q F L, h2] at h3
        exact ⟨h2, by rw [← h3]; grind⟩
      show BitVec.ofNat W (2 ^ (W - if i = j then o else k i)) * F (if i = j then (fun c => s * v c) else m i) = 0
      rw [if_neg e, if_neg e]
      refine D i hi F L (fun i' h1 h2 => ?_) (fun hij => (e2 hij).1)
      by_cases e3 : i' = j
      · subst e3; exact (e2 h1).2
      · have := z i' h1 h2; dsimp only at this; rw [if_neg e3] at this; exact this
  · intro F L
    constructor
    · intro h
      have h1 := h.1 j hj
      dsimp only at h1
      rw [if_pos rfl, L.2] at h1
      have h2 := u _ h1
      have h3 := h.2
      rw [q F L, h2] at h3
      refine ⟨fun i hi => ?_, h2⟩
      by_cases e : i = j
      · subst e; rw [← h3]; grind
      · have := h.1 i hi; dsimp only at this; rw [if_neg e] at this; exact this
    · intro h
      refine ⟨fun i hi => ?_, ?_⟩
      · by_cases e : i = j
        · subst e; dsimp only; rw [if_pos rfl, L.2, h.2]; grind
        · dsimp only; rw [if_neg e]; exact h.1 i hi
      · rw [q F L, h.2, h.1 j hj]; grind
/-! natural sums and counts -/
def ra_ns : Nat → (Nat → Nat) → Nat
  | 0, _ => 0
  | n + 1, f => ra_ns n f + f n
theorem ra_ns_congr {n : Nat} {f g : Nat → Nat} (h : ∀ i, i < n → f i = g i) : ra_ns n f = ra_ns n g := by
  induction n with
  | zero => rfl
  | succ n ih => simp only [ra_ns]; rw [ih (fun i hi => h i (by omega)), h n (by omega)]
theorem ra_ns_le {n : Nat} {f : Nat → Nat} {B : Nat} (h : ∀ i, i < n → f i ≤ B) : ra_ns n f ≤ n * B := by
  induction n with
  | zero => simp [ra_ns]
  | succ n ih =>
    simp only [ra_ns]; have := ih (fun i hi => h i (by omega)); have := h n (by omega); rw [Nat.add_mul]; omega
theorem ra_ns_ch {n : Nat} {f g : Nat → Nat} {j : Nat} (hj : j < n) (h : ∀ i, i < n → i ≠ j → f i = g i) : ra_ns n f + g j = ra_ns n g + f j := by
  induction n with
  | zero => omega
  | succ n ih =>
    simp only [ra_ns]
    by_cases e : j = n
    · subst e
      have := ra_ns_congr (n := j) (f := f) (g := g) (fun i hi => h i (by omega) (by omega)); omega
    · have := ih (by omega) (fun i hi => h i (by omega)); have := h n (by omega) (by omega); omega
def ra_ct (n : Nat) (f : Nat → Bool) : Nat := ra_ns n (fun i => if f i = true then 1 else 0)
theorem ra_ct_le (n : Nat) (f : Nat → Bool) : ra_ct n f ≤ n := by
  have := ra_ns_le (n := n) (f := fun i => if f i = true then 1 else 0) (B := 1) (fun i _ => by split <;> omega)
  unfold ra_ct; omega
theorem ra_ct_mono {n : Nat} {f g : Nat → Bool} (h : ∀ i, i < n → f i = true → g i = true) : ra_ct n f ≤ ra_ct n g := by
  induction n with
  | zero => exact Nat.le_refl _
  | succ n ih =>
    have h1 := ih (fun i hi => h i (by omega))
    have h2 := h n (by omega)
    unfold ra_ct at *
    simp only [ra_ns]
    by_cases e : f n = true
    · rw [if_pos e, if_pos (h2 e)]; omega
    · rw [if_neg e]; omega
theorem ra_ct_lt {n : Nat} {f g : Nat → Bool} {j : Nat} (hj : j < n) (h : ∀ i, i < n → f i = true → g i = true) (hf : f j = false) (hg : g j = true) : ra_ct n f < ra_ct n g := by
  induction n with
  | zero => omega
  | succ n ih =>
    have h2 := h n (by omega)
    by_cases e : j = n
    · subst e
      have h1 := ra_ct_mono (n := j) (f := f) (g := g) (fun i hi => h i (by omega))
      unfold ra_ct at *
      simp only [ra_ns]
      rw [if_pos hg, if_neg (by rw [hf]; exact Bool.false_ne_true)]; omega
    · have h1 := ih (by omega) (fun i hi => h i (by omega))
      unfold ra_ct at *
      simp only [ra_ns]
      by_cases e : f n = true
      · rw [if_pos e, if_pos (h2 e)]; omega
      · rw [if_neg e]; omega
end
section
/-! runs of stores -/
def xr_f (a0 g : Nat → Int32) (lo hi : Nat) : Nat → Int32 := fun c => if lo ≤ c ∧ c < hi then g c else a0 c
theorem xr_0 {a0 g : Nat → Int32} {lo : Nat} : xr_f a0 g lo lo = a0 := by funext c; exact if_neg (by omega)
theorem xr_at {a0 g : Nat → Int32} {lo i : Nat} : xr_f a0 g lo i i = a0 i := if_neg (by omega)
theorem xr_in {a0 g : Nat → Int32} {lo hi c : Nat} (h1 : lo ≤ c) (h2 : c < hi) : xr_f a0 g lo hi c = g c := if_pos ⟨h1, h2⟩
theorem xr_out {a0 g : Nat → Int32} {lo hi c : Nat} (h : c < lo ∨ hi ≤ c) : xr_f a0 g lo hi c = a0 c := if_neg (by omega)
theorem xr_s {a0 g : Nat → Int32} {lo i x : Nat} {y : Int32} (h : lo ≤ i) (hx : x = i) (hy : y = g i) : upd (xr_f a0 g lo i) x y = xr_f a0 g lo (i + 1) := by
  subst hx hy
  funext c
  unfold upd xr_f
  by_cases e : c = x
  · subst e; rw [if_pos rfl, if_pos ⟨h, by omega⟩]
  · rw [if_neg e]
    by_cases e2 : lo ≤ c ∧ c < x
    · rw [if_pos e2, if_pos ⟨e2.1, by omega⟩]
    · rw [if_neg e2, if_neg (by omega)]
/-! rows of a module, the vector, the valuations of the pivots -/
def xi_rv (W n b : Nat) (st : Nat → Int32) (i : Nat) : Nat → BitVec W := fun c => if c < n then ra_pi W (st (b + i * n + c)) else 0
def xi_vv (W n : Nat) (ve : Nat → Int32) : Nat → BitVec W := fun c => if c < n then ra_pi W (ve c) else 0
def xi_kk (W n b : Nat) (st : Nat → Int32) (i : Nat) : Nat := ra_vl W (st (b + i * n + i)).toNatClampNeg
theorem xi_rv_in {W n b : Nat} {st : Nat → Int32} {i c : Nat} (h : c < n) : xi_rv W n b st i c = ra_pi W (st (b + i * n + c)) := if_pos h
theorem xi_rv_out {W n b : Nat} {st : Nat → Int32} {i c : Nat} (h : ¬ c < n) : xi_rv W n b st i c = 0 := if_neg h
theorem xi_vv_in {W n : Nat} {ve : Nat → Int32} {c : Nat} (h : c < n) : xi_vv W n ve c = ra_pi W (ve c) := if_pos h
theorem xi_vv_out {W n : Nat} {ve : Nat → Int32} {c : Nat} (h : ¬ c < n) : xi_vv W n ve c = 0 := if_neg h
def xi_iv (W n b : Nat) (st0 ve0 st ve : Nat → Int32) (j g : Nat) : Prop :=
  (∀ x, (x < b ∨ b + n * n ≤ x) → st x = st0 x) ∧
  ((∀ i c, i < n → c < n → ra_rg W (st (b + i * n + c))) ∧ (∀ c, c < n → ra_rg W (ve c))) ∧
  (∀ c, c < j → ve c = 0) ∧
  ra_hp n (xi_rv W n b st) (xi_kk W n b st) ∧
  ra_hd n (xi_rv W n b st) (xi_kk W n b st) j (xi_vv W n ve) ∧
  (∀ F, ra_L F → (ra_an n (xi_rv W n b st) (xi_vv W n ve) F ↔ ra_an n (xi_rv W n b st0) (xi_vv W n ve0) F)) ∧
  ((g = 0 ∧ st = st0) ∨ (g = 1 ∧ ra_ns n (xi_kk W n b st) < ra_ns n (xi_kk W n b st0)))
theorem xi_piv {W n b : Nat} {st : Nat → Int32} (hW : W ≤ 4) {j : Nat} (hj : j < n) (hr : ra_rg W (st (b + j * n + j))) (hp : ra_hp n (xi_rv W n b st) (xi_kk W n b st)) :
    st (b + j * n + j) = nI (2 ^ xi_kk W n b st j % 2 ^ W) := by
  have h := (hp j hj).2.2.1
  rw [xi_rv_in hj] at h
  refine ra_inj hW hr ⟨_, Nat.mod_lt _ (Nat.two_pow_pos W), rfl⟩ ?_
  rw [h, ra_pi_nI (by omega), ra_ofmod]
theorem xi_val {W : Nat} (hW : W ≤ 4) {x : Int32} (hr : ra_rg W x) : x = nI x.toNatClampNeg ∧ x.toNatClampNeg < 2 ^ W := by
  obtain ⟨m, hm, rfl⟩ := hr
  have := ra_pw hW
  rw [nI_clamp (by omega)]; exact ⟨rfl, hm⟩
/-- nothing to put in row j: a multiple of it is taken away -/
theorem xi_keep {W n b : Nat} {st0 ve0 st ve : Nat → Int32} {j g : Nat} (hW : W ≤ 4) (hj : j < n) (I : xi_iv W n b st0 ve0 st ve j g)
    {a : Nat} (ha : a < 2 ^ W) (hv : ve j = nI a) (hk : xi_kk W n b st j ≤ ra_vl W a) {f : Int32} (hf : f = nI (a / 2 ^ xi_kk W n b st j)) :
    xi_iv W n b st0 ve0 st (xr_f ve (fun c => (ve c - f * st (b + j * n + c)) &&& nI (2 ^ W - 1)) j n) (j + 1) g := by
  obtain ⟨I1, ⟨I2, I3⟩, I4, I5, I6, I7, I8⟩ := I
  have hW' : W ≤ 32 := by omega
  have ev : xi_vv W n (xr_f ve (fun c => (ve c - f * st (b + j * n + c)) &&& nI (2 ^ W - 1)) j n) = fun c => xi_vv W n ve c - ra_pi W f * xi_rv W n b st j c := by
    funext c
    by_cases hc : c < n
    · rw [xi_vv_in hc, xi_vv_in hc, xi_rv_in hc]
      by_cases hcj : j ≤ c
      · rw [xr_in hcj hc, ra_pi_and hW, ra_pi_sub hW', ra_pi_mul hW']
      · have h0 := (I5 j hj).2.1 c (by omega)
        rw [xi_rv_in hc] at h0
        rw [xr_out (by omega), h0, I4 c (by omega)]; grind
    · rw [xi_vv_out hc, xi_vv_out hc, xi_rv_out hc]; grind
  obtain ⟨K1, K2⟩ := ra_keep hj (ra_pi W f) I6
  rw [← ev] at K1 K2
  refine ⟨I1, ⟨I2, ?_⟩, ?_, I5, K1, fun F L => (K2 F L).trans (I7 F L), I8⟩
  · intro c hc
    by_cases hcj : j ≤ c
    · rw [xr_in hcj hc]; exact ra_rg_and hW _
    · rw [xr_out (by omega)]; exact I3 c hc
  · intro c hc
    by_cases hcj : c = j
    · subst hcj
      rw [xr_in (Nat.le_refl _) hj]
      refine (ra_z hW (ra_rg_and hW _)).mp ?_
      have hp := (I5 c hj).2.2.1
      rw [xi_rv_in hj] at hp
      rw [ra_pi_and hW, ra_pi_sub hW', ra_pi_mul hW', hp, hv, hf, ra_pi_nI hW', ra_pi_nI hW', ← ra_ofmul, ra_vl_div hW ha hk]
      grind
    · rw [xr_out (by omega)]; exact I4 c (by omega)
theorem xi_row {W n b : Nat} {st : Nat → Int32} {g : Nat → Int32} {i j : Nat} (hj : j < n) (hi : i < n) (hij : i ≠ j) :
    xi_rv W n b (xr_f st g (b + j * n) (b + j * n + n)) i = xi_rv W n b st i := by
  funext c
  by_cases hc : c < n
  · rw [xi_rv_in hc, xi_rv_in hc, xr_out]
    rcases Nat.lt_or_ge i j with h | h
    · have h2 := Nat.mul_le_mul_right n (show i + 1 ≤ j from h)
      rw [Nat.add_mul] at h2; omega
    · have h2 := Nat.mul_le_mul_right n (show j + 1 ≤ i by omega)
      rw [Nat.add_mul] at h2; omega
  · rw [xi_rv_out hc, xi_rv_out hc]
theorem xi_kkrow {W n b : Nat} {st : Nat → Int32} {g : Nat → Int32} {i j : Nat} (hj : j < n) (hi : i < n) (hij : i ≠ j) :
    xi_kk W n b (xr_f st g (b + j * n) (b + j * n + n)) i = xi_kk W n b st i := by
  unfold xi_kk
  rw [xr_out]
  rcases Nat.lt_or_ge i j with h | h
  · have h2 := Nat.mul_le_mul_right n (show i + 1 ≤ j from h)
    rw [Nat.add_mul] at h2; omega
  · have h2 := Nat.mul_le_mul_right n (show j + 1 ≤ i by omega)
    rw [Nat.add_mul] at h2; omega
/-- the vector, made a power of two in column j, goes into row j; what is left of the old row goes on -/
theorem xi_swap {W n b : Nat} {st0 ve0 st ve : Nat → Int32} {j g : Nat} (hW : W ≤ 4) (hj : j < n) (I : xi_iv W n b st0 ve0 st ve j g)
    {a : Nat} (ha : a < 2 ^ W) (hv : ve j = nI a) (hk : ra_vl W a < xi_kk W n b st j) {inv f : Int32}
    (hi : inv = nI (a / 2 ^ ra_vl W a) * (2 - nI (a / 2 ^ ra_vl W a) * nI (a / 2 ^ ra_vl W a))) (hf : f = nI (2 ^ (xi_kk W n b st j - ra_vl W a)))
    {ve1 ve2 st' ve3 : Nat → Int32} (h1 : ve1 = xr_f ve (fun c => (ve c * inv) &&& nI (2 ^ W - 1)) j n)
    (hs : st' = xr_f st (fun x => ve1 (x - (b + j * n))) (b + j * n) (b + j * n + n)) (h2 : ve2 = xr_f ve1 (fun c => st (b + j * n + c)) 0 n)
    (h3 : ve3 = xr_f ve2 (fun c => (ve2 c - f * st' (b + j * n + c)) &&& nI (2 ^ W - 1)) j n) :
    xi_iv W n b st0 ve0 st' ve3 (j + 1) 1 := by
  obtain ⟨I1, ⟨I2, I3⟩, I4, I5, I6, I7, I8⟩ := I
  have hW' : W ≤ 32 := by omega
  have ha16 : a < 16 := by have := ra_pw hW; omega
  obtain ⟨t1, t2, t3⟩ := ra_t1 W (by omega) a ha16 ha
  have hkW : xi_kk W n b st j ≤ W := (I5 j hj).1
  have hodd := t3 (by omega)
  generalize ho : ra_vl W a = o at *
  generalize hq : a / 2 ^ o = q at *
  have hq16 : q < 16 := by rw [← hq]; exact Nat.lt_of_le_of_lt (Nat.div_le_self _ _) ha16
  -- the unit
  have ei : ra_pi W inv = BitVec.ofNat W q * (2 - BitVec.ofNat W q * BitVec.ofNat W q) := by
    rw [hi, ra_pi_mul hW', ra_pi_sub hW', ra_pi_mul hW', ra_pi_nI hW']
    exact congrArg (fun z => BitVec.ofNat W q * (z - BitVec.ofNat W q * BitVec.ofNat W q)) (ra_pi_nI hW' 2)
  have eu : BitVec.ofNat W q * ra_pi W inv = 1 := by rw [ei]; exact ra_t6 W (by omega) q hq16 hodd
  -- the cells
  have c1 : ∀ c, c < n → ra_rg W (ve1 c) ∧ ra_pi W (ve1 c) = ra_pi W inv * ra_pi W (ve c) := by
    intro c hc
    rw [h1]
    by_cases hcj : j ≤ c
    · rw [xr_in hcj hc]; exact ⟨ra_rg_and hW _, by rw [ra_pi_and hW, ra_pi_mul hW']; grind⟩
    · rw [xr_out (by omega), I4 c (by omega), ra_pi_0 hW']; exact ⟨ra_rg_0 W, by grind⟩
  have cs : ∀ c, c < n → st' (b + j * n + c) = ve1 c := by
    intro c hc
    rw [hs, xr_in (by omega) (by omega), Nat.add_sub_cancel_left]
  have c2 : ∀ c, c < n → ve2 c = st (b + j * n + c) := by
    intro c hc; rw [h2, xr_in (by omega) hc]
  have er : ∀ i, i < n → xi_rv W n b st' i = if i = j then (fun c => ra_pi W inv * xi_vv W n ve c) else xi_rv W n b st i := by
    intro i hi'
    by_cases e : i = j
    · subst e
      rw [if_pos rfl]
      funext c
      by_cases hc : c < n
      · rw [xi_rv_in hc, xi_vv_in hc, cs c hc, (c1 c hc).2]
      · rw [xi_rv_out hc, xi_vv_out hc]; grind
    · rw [if_neg e, hs]; exact xi_row hj hi' e
  have pj : ra_pi W (ve1 j) = BitVec.ofNat W (2 ^ o) := by
    rw [(c1 j hj).2, hv, ra_pi_nI hW']
    have e : BitVec.ofNat W a = BitVec.ofNat W q * BitVec.ofNat W (2 ^ o) := by rw [← ra_ofmul, t2]
    rw [e]
    have e2 : ra_pi W inv * (BitVec.ofNat W q * BitVec.ofNat W (2 ^ o)) = (BitVec.ofNat W q * ra_pi W inv) * BitVec.ofNat W (2 ^ o) := by grind
    rw [e2, eu]; grind
  have ek : ∀ i, i < n → xi_kk W n b st' i = if i = j then o else xi_kk W n b st i := by
    intro i hi'
    by_cases e : i = j
    · subst e
      rw [if_pos rfl]
      unfold xi_kk
      rw [cs i hj]
      have e1 : ve1 i = nI (2 ^ o % 2 ^ W) := ra_inj hW (c1 i hj).1 ⟨_, Nat.mod_lt _ (Nat.two_pow_pos W), rfl⟩ (by rw [pj, ra_pi_nI hW', ra_ofmod])
      rw [e1, nI_clamp (by have := ra_pw hW; have := Nat.mod_lt (2 ^ o) (Nat.two_pow_pos W); omega)]
      exact ra_t2 W (by omega) o (by omega) (by omega)
    · rw [if_neg e, hs]; exact xi_kkrow hj hi' e
  have ev : xi_vv W n ve3 = fun c => xi_rv W n b st j c - BitVec.ofNat W (2 ^ (xi_kk W n b st j - o)) * (ra_pi W inv * xi_vv W n ve c) := by
    funext c
    by_cases hc : c < n
    · rw [xi_vv_in hc, xi_vv_in hc, xi_rv_in hc, h3]
      by_cases hcj : j ≤ c
      · rw [xr_in hcj hc, ra_pi_and hW, ra_pi_sub hW', ra_pi_mul hW', c2 c hc, cs c hc, (c1 c hc).2, hf, ra_pi_nI hW']
      · have h0 := (I5 j hj).2.1 c (by omega)
        rw [xi_rv_in hc] at h0
        rw [xr_out (by omega), c2 c hc, h0, I4 c (by omega), ra_pi_0 hW']; grind
    · rw [xi_vv_out hc, xi_vv_out hc, xi_rv_out hc]; grind
  obtain ⟨K1, K2⟩ := ra_swap (o := o) hj (ra_pi W inv) (BitVec.ofNat W q) eu hk hkW I6
  rw [← ev] at K1 K2
  refine ⟨?_, ⟨?_, ?_⟩, ?_, ?_, ?_, ?_, Or.inr ⟨rfl, ?_⟩⟩
  · intro x hx
    rw [hs, xr_out]
    · exact I1 x hx
    · have := ra_ixlt hj (show n - 1 < n by omega)
      omega
  · intro i c hi' hc
    by_cases e : i = j
    · subst e; rw [cs c hc]; exact (c1 c hc).1
    · have h4 := I2 i c hi' hc
      rw [hs, xr_out]
      · exact h4
      · rcases Nat.lt_or_ge i j with h | h
        · have h2 := Nat.mul_le_mul_right n (show i + 1 ≤ j from h)
          rw [Nat.add_mul] at h2; omega
        · have h2 := Nat.mul_le_mul_right n (show j + 1 ≤ i by omega)
          rw [Nat.add_mul] at h2; omega
  · intro c hc
    rw [h3]
    by_cases hcj : j ≤ c
    · rw [xr_in hcj hc]; exact ra_rg_and hW _
    · rw [xr_out (by omega), c2 c hc]; exact I2 j c hj hc
  · intro c hc
    have hcn : c < n := by omega
    rw [h3]
    by_cases hcj : c = j
    · subst hcj
      rw [xr_in (Nat.le_refl _) hj]
      refine (ra_z hW (ra_rg_and hW _)).mp ?_
      have hp := (I5 c hj).2.2.1
      rw [xi_rv_in hj] at hp
      rw [ra_pi_and hW, ra_pi_sub hW', ra_pi_mul hW', c2 c hj, cs c hj, hp, pj, hf, ra_pi_nI hW', ← ra_ofmul, ← Nat.pow_add, show xi_kk W n b st c - o + o = xi_kk W n b st c by omega]
      grind
    · have h0 := (I5 j hj).2.1 c (by omega)
      rw [xi_rv_in hcn] at h0
      rw [xr_out (by omega), c2 c hcn]
      exact (ra_z hW (I2 j c hj hcn)).mp h0
  · intro i hi'
    rw [er i hi', ek i hi']
    by_cases e : i = j
    · subst e
      rw [if_pos rfl, if_pos rfl]
      refine ⟨by omega, ?_, ?_, fun z => by omega⟩
      · intro c hc
        show ra_pi W inv * xi_vv W n ve c = 0
        rw [xi_vv_in (by omega), I4 c hc, ra_pi_0 hW']; grind
      · show ra_pi W inv * xi_vv W n ve i = _
        rw [xi_vv_in hj, ← (c1 i hj).2, pj]
    · rw [if_neg e, if_neg e]; exact I5 i hi'
  · intro i hi' F L z zv
    have := K1 i hi' F L (fun i' g1 g2 => by have := z i' g1 g2; rw [er i' g2] at this; exact this) zv
    rw [er i hi', ek i hi']; exact this
  · intro F L
    refine Iff.trans ?_ ((K2 F L).trans (I7 F L))
    constructor
    · intro h; exact ⟨fun i hi' => by have := h.1 i hi'; rw [er i hi'] at this; exact this, h.2⟩
    · intro h; exact ⟨fun i hi' => by rw [er i hi']; exact h.1 i hi', h.2⟩
  · have g1 := ra_ns_ch (f := xi_kk W n b st') (g := xi_kk W n b st) hj (fun i hi' e => by rw [ek i hi', if_neg e])
    rw [ek j hj, if_pos rfl] at g1
    rcases I8 with ⟨_, h⟩ | ⟨_, h⟩
    · rw [← h]; omega
    · omega
end
section
/-! X: valuation, normalise, swapRow, insert -/
section
variable {V W Q S E rd qh qc C : Nat} {fo ek ef et eo ec st ve qu qd : Nat → Int32}
theorem xw_bit {a k : Nat} (ha : a < 16) (hk : k < 32) : ((nI a >>> (nI k &&& 31)) &&& 1) = nI (a / 2 ^ k % 2) := by
  rw [pk_shrN (by omega) (nI k &&& 31) k (s_l k hk)]
  exact pk_andN (Nat.lt_of_le_of_lt (Nat.div_le_self _ _) (by omega)) 1 (by decide)
theorem xw_val_l {post : Int32 → Prop} {a : Nat} (hW : W ≤ 4) (ha : a < 2 ^ W) (hp : post (nI (ra_vl W a))) :
    ∀ n k, k ≤ W → W < n + k → (∀ i, i < k → a / 2 ^ i % 2 = 0) → wX_valuation_2 post (nI a) (nI V) (nI W) (nI Q) (nI S) (nI (Q * S)) (nI (2 ^ W - 1)) (nI E) (nI rd) (nI qh) (nI qc) (nI C) fo ek ef et eo ec st ve qu qd n (nI k) := by
  have ha16 : a < 16 := by have := ra_pw hW; omega
  intro n
  induction n with
  | zero => intro k h1 h2; omega
  | succ n ih =>
    intro k h1 h2 hz
    refine pk_le W k (fun h => ?_) (fun h => ?_)
    · have e : ra_vl W a = k := ra_t5 W (by omega) a ha16 k (by omega) ha (by omega) hz (Or.inl (by omega))
      rw [e] at hp; exact hp
    · have hb := xw_bit (a := a) (k := k) ha16 (by omega)
      by_cases z : a / 2 ^ k % 2 = 0
      · refine br_t (by rw [hb, z]; rfl) (nm_r (nI_1 k) (ih (k + 1) (by omega) (by omega) ?_))
        intro i hi
        by_cases e : i = k
        · rw [e]; exact z
        · exact hz i (by omega)
      · have z1 : a / 2 ^ k % 2 = 1 := by omega
        have e : ra_vl W a = k := ra_t5 W (by omega) a ha16 k (by omega) ha (by omega) hz (Or.inr z1)
        rw [e] at hp
        exact br_f (by rw [hb, z1]; decide) hp
theorem xw_val {post : Int32 → Prop} {a : Nat} {x : Int32} (hW : W ≤ 4) (ha : a < 2 ^ W) (hx : x = nI a) (hp : post (nI (ra_vl W a))) : wpX_valuation post (nI V, nI W, nI Q, nI S, nI (Q * S), nI (2 ^ W - 1), nI E, nI rd, nI qh, nI qc, nI C, fo, ek, ef, et, eo, ec, st, ve, qu, qd) x := by
  subst hx
  exact Exists.intro (W + 1) (xw_val_l hW ha hp (W + 1) 0 (by omega) (by omega) (fun i hi => by omega))
theorem xw_norm_l {post : SX → Prop} {m j : Nat} {inv : Int32} (hm : m ≤ 13) (hp : post (nI V, nI W, nI Q, nI S, nI (Q * S), nI (2 ^ W - 1), nI E, nI rd, nI qh, nI qc, nI C, fo, ek, ef, et, eo, ec, st, xr_f ve (fun c => (ve c * inv) &&& nI (2 ^ W - 1)) j m, qu, qd)) :
    ∀ n i, j ≤ i → i ≤ m → m < n + i → wX_normalise_25 post (nI m) inv (nI V) (nI W) (nI Q) (nI S) (nI (Q * S)) (nI (2 ^ W - 1)) (nI E) (nI rd) (nI qh) (nI qc) (nI C) n (nI i) fo ek ef et eo ec st (xr_f ve (fun c => (ve c * inv) &&& nI (2 ^ W - 1)) j i) qu qd := by
  intro n
  induction n with
  | zero => intro i _ h1 h2; omega
  | succ n ih =>
    intro i h0 h1 h2
    have hc : (nI i).toNatClampNeg = i := nI_clamp (by omega)
    refine pk_le m i (fun h => ?_) (fun h => ?_)
    · have e : i = m := by omega
      subst e; exact hp
    · exact ⟨vp_in_nI (by omega) (by omega), vp_in_nI (by omega) (by omega), nm_r (xr_s h0 hc (by rw [hc, xr_at])) (nm_r (nI_1 i) (ih (i + 1) (by omega) (by omega) (by omega)))⟩
theorem xw_norm {post : SX → Prop} {m j a o : Nat} (hm : m ≤ 13) (hj : j < m) (ha : a < 16) (ho : o < 5) (hv : ve j = nI a)
    (hp : post (nI V, nI W, nI Q, nI S, nI (Q * S), nI (2 ^ W - 1), nI E, nI rd, nI qh, nI qc, nI C, fo, ek, ef, et, eo, ec, st, xr_f ve (fun c => (ve c * (nI (a / 2 ^ o) * (2 - nI (a / 2 ^ o) * nI (a / 2 ^ o)))) &&& nI (2 ^ W - 1)) j m, qu, qd)) :
    wpX_normalise post (nI V, nI W, nI Q, nI S, nI (Q * S), nI (2 ^ W - 1), nI E, nI rd, nI qh, nI qc, nI C, fo, ek, ef, et, eo, ec, st, ve, qu, qd) (nI j) (nI m) (nI o) := by
  have hc : (nI j).toNatClampNeg = j := nI_clamp (by omega)
  refine And.intro (vp_in_nI (by omega) (by omega)) (nm_r (e' := nI (a / 2 ^ o)) ?_ (nm_e (Exists.intro (m + 1) ?_)))
  · rw [hc, hv]; exact pk_shrN (by omega) (nI o &&& 31) o (s_l o (by omega))
  · have h := xw_norm_l (ve := ve) hm hp (m + 1) j (Nat.le_refl _) (by omega) (by omega)
    rw [xr_0] at h; exact h
theorem xw_swap_l {post : SX → Prop} {m row : Nat} (hm : m ≤ 13) (hrow : row + m ≤ 2775)
    (hp : post (nI V, nI W, nI Q, nI S, nI (Q * S), nI (2 ^ W - 1), nI E, nI rd, nI qh, nI qc, nI C, fo, ek, ef, et, eo, ec, xr_f st (fun x => ve (x - row)) row (row + m), xr_f ve (fun c => st (row + c)) 0 m, qu, qd)) :
    ∀ n i, i ≤ m → m < n + i → wX_swapRow_2 post (nI row) (nI m) (nI V) (nI W) (nI Q) (nI S) (nI (Q * S)) (nI (2 ^ W - 1)) (nI E) (nI rd) (nI qh) (nI qc) (nI C) n (nI i) fo ek ef et eo ec (xr_f st (fun x => ve (x - row)) row (row + i)) (xr_f ve (fun c => st (row + c)) 0 i) qu qd := by
  intro n
  induction n with
  | zero => intro i h1 h2; omega
  | succ n ih =>
    intro i h1 h2
    have hc : (nI i).toNatClampNeg = i := nI_clamp (by omega)
    have hr : (nI row + nI i).toNatClampNeg = row + i := pk_cl (row + i) (nI_add row i)
    refine pk_le m i (fun h => ?_) (fun h => ?_)
    · have e : i = m := by omega
      subst e; exact hp
    · have hin : vp_in (nI row + nI i) 2775 := pk_in (row + i) 2775 (by omega) (nI_add row i)
      have hin2 : vp_in (nI i) 13 := vp_in_nI (by omega) (by omega)
      exact ⟨hin, nm_r (e' := st (row + i)) (by rw [hr, xr_at]) ⟨hin2, hin, nm_r (xr_s (by omega) hr (by rw [hc, xr_at, Nat.add_sub_cancel_left])) ⟨hin2, nm_r (xr_s (by omega) hc rfl) (nm_r (nI_1 i) (ih (i + 1) (by omega) (by omega)))⟩⟩⟩
theorem xw_swap {post : SX → Prop} {m row : Nat} (hm : m ≤ 13) (hrow : row + m ≤ 2775)
    (hp : post (nI V, nI W, nI Q, nI S, nI (Q * S), nI (2 ^ W - 1), nI E, nI rd, nI qh, nI qc, nI C, fo, ek, ef, et, eo, ec, xr_f st (fun x => ve (x - row)) row (row + m), xr_f ve (fun c => st (row + c)) 0 m, qu, qd)) : wpX_swapRow post (nI V, nI W, nI Q, nI S, nI (Q * S), nI (2 ^ W - 1), nI E, nI rd, nI qh, nI qc, nI C, fo, ek, ef, et, eo, ec, st, ve, qu, qd) (nI row) (nI m) := by
  refine Exists.intro (m + 1) ?_
  have h := xw_swap_l (ve := ve) (st := st) hm hrow hp (m + 1) 0 (by omega) (by omega)
  simp only [Nat.add_zero, xr_0] at h; exact h
theorem xw_elim_l {post : Int32 → SX → Prop} {J : Int32 → Int32 → Int32 → Int32 → Int32 → Int32 → Int32 → Int32 → Int32 → Int32 → Int32 → Int32 → Int32 → (Nat → Int32) → (Nat → Int32) → (Nat → Int32) → (Nat → Int32) → (Nat → Int32) → (Nat → Int32) → (Nat → Int32) → (Nat → Int32) → (Nat → Int32) → (Nat → Int32) → Prop}
    {m row j : Nat} {b g f : Int32} (hm : m ≤ 13) (hrow : row + m ≤ 2775) (hp : J g (nI (j + 1)) (nI V) (nI W) (nI Q) (nI S) (nI (Q * S)) (nI (2 ^ W - 1)) (nI E) (nI rd) (nI qh) (nI qc) (nI C) fo ek ef et eo ec st (xr_f ve (fun c => (ve c - f * st (row + c)) &&& nI (2 ^ W - 1)) j m) qu qd) :
    ∀ n i, j ≤ i → i ≤ m → m < n + i → wX_insert_98 post J b (nI m) g (nI j) (nI row) f (nI V) (nI W) (nI Q) (nI S) (nI (Q * S)) (nI (2 ^ W - 1)) (nI E) (nI rd) (nI qh) (nI qc) (nI C) n (nI i) fo ek ef et eo ec st (xr_f ve (fun c => (ve c - f * st (row + c)) &&& nI (2 ^ W - 1)) j i) qu qd := by
  intro n
  induction n with
  | zero => intro i _ h1 h2; omega
  | succ n ih =>
    intro i h0 h1 h2
    have hc : (nI i).toNatClampNeg = i := nI_clamp (by omega)
    have hr : (nI row + nI i).toNatClampNeg = row + i := pk_cl (row + i) (nI_add row i)
    refine pk_le m i (fun h => ?_) (fun h => ?_)
    · have e : i = m := by omega
      subst e; exact nm_r (nI_1 j) hp
    · have hin : vp_in (nI row + nI i) 2775 := pk_in (row + i) 2775 (by omega) (nI_add row i)
      have hin2 : vp_in (nI i) 13 := vp_in_nI (by omega) (by omega)
      exact ⟨hin2, hin, hin2, nm_r (xr_s h0 hc (by rw [hc, xr_at, hr])) (nm_r (nI_1 i) (ih (i + 1) (by omega) (by omega) (by omega)))⟩
theorem xw_elim {post : Int32 → SX → Prop} {J : Int32 → Int32 → Int32 → Int32 → Int32 → Int32 → Int32 → Int32 → Int32 → Int32 → Int32 → Int32 → Int32 → (Nat → Int32) → (Nat → Int32) → (Nat → Int32) → (Nat → Int32) → (Nat → Int32) → (Nat → Int32) → (Nat → Int32) → (Nat → Int32) → (Nat → Int32) → (Nat → Int32) → Prop}
    {m row j : Nat} {b g f : Int32} (hm : m ≤ 13) (hj : j ≤ m) (hrow : row + m ≤ 2775) (hp : J g (nI (j + 1)) (nI V) (nI W) (nI Q) (nI S) (nI (Q * S)) (nI (2 ^ W - 1)) (nI E) (nI rd) (nI qh) (nI qc) (nI C) fo ek ef et eo ec st (xr_f ve (fun c => (ve c - f * st (row + c)) &&& nI (2 ^ W - 1)) j m) qu qd) :
    ∃ n, wX_insert_98 post J b (nI m) g (nI j) (nI row) f (nI V) (nI W) (nI Q) (nI S) (nI (Q * S)) (nI (2 ^ W - 1)) (nI E) (nI rd) (nI qh) (nI qc) (nI C) n (nI j) fo ek ef et eo ec st ve qu qd := by
  refine ⟨m + 1, ?_⟩
  have h := xw_elim_l (post := post) (b := b) (ve := ve) (st := st) hm hrow hp (m + 1) j (Nat.le_refl _) hj (by omega)
  rw [xr_0] at h; exact h
theorem xw_ins_l {post : Int32 → SX → Prop} {b m : Nat} {st0 ve0 : Nat → Int32} (hW : W ≤ 4) (hm : m ≤ 13) (hb : b + m * m ≤ 2775)
    (hp : ∀ g st ve, xi_iv W m b st0 ve0 st ve m g → post (nI g) (nI V, nI W, nI Q, nI S, nI (Q * S), nI (2 ^ W - 1), nI E, nI rd, nI qh, nI qc, nI C, fo, ek, ef, et, eo, ec, st, ve, qu, qd)) :
    ∀ n j g st ve, j ≤ m → m < n + j → xi_iv W m b st0 ve0 st ve j g → wX_insert_5 post (nI b) (nI m) n (nI g) (nI j) (nI V) (nI W) (nI Q) (nI S) (nI (Q * S)) (nI (2 ^ W - 1)) (nI E) (nI rd) (nI qh) (nI qc) (nI C) fo ek ef et eo ec st ve qu qd := by
  intro n
  induction n with
  | zero => intro j g st ve h1 h2; omega
  | succ n ih =>
    intro j g st ve h1 h2 I
    have hg : g = 0 ∨ g = 1 := by rcases I.2.2.2.2.2.2 with h | h; exact Or.inl h.1; exact Or.inr h.1
    refine pk_le m j (fun h => ?_) (fun h => ?_)
    · have e : j = m := by omega
      subst e
      refine ⟨?_, hp g st ve I⟩
      rcases hg with rfl | rfl <;> rfl
    · have hjm := ra_ixlt h (show m - 1 < m by omega)
      have hjj := ra_ixlt h h
      have ej : nI b + nI j * nI m = nI (b + j * m) := by rw [pk_mul, nI_add]
      have ep : nI (b + j * m) + nI j = nI (b + j * m + j) := nI_add _ _
      have hc : (nI j).toNatClampNeg = j := nI_clamp (by omega)
      have hcp : (nI (b + j * m) + nI j).toNatClampNeg = b + j * m + j := pk_cl _ ep
      have hin2 : vp_in (nI j) 13 := vp_in_nI (by omega) (by omega)
      have hpw := ra_pw hW
      have r1 := I.2.1.1 j j h h
      obtain ⟨e1, e2⟩ := xi_val hW r1
      obtain ⟨a, ha, hv⟩ := I.2.1.2 j h
      have hkW : xi_kk W m b st j ≤ W := (I.2.2.2.1 j h).1
      have hoW := ra_vl_le hW ha
      refine nm_r ej (And.intro (pk_in _ 2775 (by omega) ep) (xw_val hW e2 (by rw [hcp]; exact e1) ?_))
      show vp_in (nI j) 13 ∧ _
      refine And.intro hin2 (xw_val hW ha (by rw [hc]; exact hv) ?_)
      show vp_in (nI j) 13 ∧ _
      refine And.intro hin2 (nm_r (e' := nI (a / 2 ^ xi_kk W m b st j)) ?_ ?_)
      · rw [hc, hv]; exact pk_shrN (by omega) (nI (xi_kk W m b st j) &&& 31) _ (s_l _ (by omega))
      · refine pk_le (xi_kk W m b st j) (ra_vl W a) (fun hk => ?_) (fun hk => ?_)
        · exact xw_elim hm (by omega) (by omega) (ih (j + 1) g st _ (by omega) (by omega) (xi_keep hW h I ha hv hk rfl))
        · refine xw_norm hm h (by omega) (by omega) hv ?_
          refine xw_swap hm (by omega) ?_
          refine nm_r (e' := nI (2 ^ (xi_kk W m b st j - ra_vl W a))) ?_ ?_
          · refine (congrArg (fun z => (1 : Int32) <<< (z &&& 31)) (pk_sub (a := xi_kk W m b st j) (b := ra_vl W a) (by omega))).trans ?_
            have hs := pk_shlN (n := 1) (nI (xi_kk W m b st j - ra_vl W a) &&& 31) (xi_kk W m b st j - ra_vl W a) (s_l _ (by omega)) (by
              have := Nat.pow_le_pow_right (n := 2) (by omega) (show xi_kk W m b st j - ra_vl W a ≤ 4 by omega); omega)
            rw [Nat.one_mul] at hs; exact hs
          · exact xw_elim hm (by omega) (by omega) (ih (j + 1) 1 _ _ (by omega) (by omega) (xi_swap hW h I ha hv hk rfl rfl rfl rfl rfl rfl))
theorem xw_insert {post : Int32 → SX → Prop} {b m : Nat} (hW : W ≤ 4) (hm : m ≤ 13) (hb : b + m * m ≤ 2775)
    (hr : ∀ i c, i < m → c < m → ra_rg W (st (b + i * m + c))) (hv : ∀ c, c < m → ra_rg W (ve c)) (h5 : ra_hp m (xi_rv W m b st) (xi_kk W m b st))
    (h6 : ∀ v, ra_hd m (xi_rv W m b st) (xi_kk W m b st) 0 v)
    (hp : ∀ g st' ve', xi_iv W m b st ve st' ve' m g → post (nI g) (nI V, nI W, nI Q, nI S, nI (Q * S), nI (2 ^ W - 1), nI E, nI rd, nI qh, nI qc, nI C, fo, ek, ef, et, eo, ec, st', ve', qu, qd)) : wpX_insert post (nI V, nI W, nI Q, nI S, nI (Q * S), nI (2 ^ W - 1), nI E, nI rd, nI qh, nI qc, nI C, fo, ek, ef, et, eo, ec, st, ve, qu, qd) (nI b) (nI m) := by
  refine Exists.intro (m + 1) ?_
  exact xw_ins_l hW hm hb hp (m + 1) 0 0 st ve (by omega) (by omega) ⟨fun _ _ => rfl, ⟨hr, hv⟩, fun c hc => by omega, h5, h6 _, fun F L => Iff.rfl, Or.inl ⟨rfl, rfl⟩⟩
end
end
section
/-! edges as products, the least closed families, the tasks of the worklist -/
def xe_pl {W : Nat} (V : Nat) (kK kO : Nat → Nat) (kc : Nat → Nat → BitVec W) (e : Nat) (A : Nat → BitVec W) : Prop :=
  (kK e = 0 ∧ A = ra_mat V ra_id) ∨ (kK e = 1 ∧ A = ra_mat V (ra_as (kO e) (kc e))) ∨ (kK e = 2 ∧ ∃ w, A = ra_mat V (ra_kn (kO e) w))
def xe_cs {W : Nat} (V S E C : Nat) (kK kF kT kO : Nat → Nat) (kc : Nat → Nat → BitVec W) (RL ini R : Nat → (Nat → BitVec W) → Prop) : Prop :=
  (∀ p v, ini p v → R p v) ∧
  (∀ e A v, e < E → (xe_pl V kK kO kc e A ∨ (kK e = 3 ∧ RL (kO e * S + S - 1) A)) → R (kF e) v → R (kT e) (ra_mul V C A v)) ∧
  (C = 1 → ∀ e v, e < E → kK e = 3 → R (kF e) v → R (kO e * S) v)
def xe_iL {W : Nat} (V Q S : Nat) (p : Nat) (v : Nat → BitVec W) : Prop := (∃ q, q < Q ∧ p = q * S) ∧ v = ra_mat V ra_id
def xe_iR {W : Nat} (p : Nat) (v : Nat → BitVec W) : Prop := p = 0 ∧ v = fun i => if i = 0 then 1 else 0
/-- the matrices of the level runs -/
def xe_L {W : Nat} (V Q S E : Nat) (kK kF kT kO : Nat → Nat) (kc : Nat → Nat → BitVec W) (p : Nat) (v : Nat → BitVec W) : Prop :=
  ∀ R : Nat → (Nat → BitVec W) → Prop, xe_cs V S E (V + 1) kK kF kT kO kc R (xe_iL V Q S) R → R p v
/-- the reached states -/
def xe_R {W : Nat} (V Q S E : Nat) (kK kF kT kO : Nat → Nat) (kc : Nat → Nat → BitVec W) (p : Nat) (v : Nat → BitVec W) : Prop :=
  ∀ R : Nat → (Nat → BitVec W) → Prop, xe_cs V S E 1 kK kF kT kO kc (xe_L V Q S E kK kF kT kO kc) xe_iR R → R p v
theorem xe_L_cs {W : Nat} {V Q S E : Nat} (hV : 1 ≤ V) {kK kF kT kO : Nat → Nat} {kc : Nat → Nat → BitVec W} :
    xe_cs V S E (V + 1) kK kF kT kO kc (xe_L V Q S E kK kF kT kO kc) (xe_iL V Q S) (xe_L V Q S E kK kF kT kO kc) := by
  refine ⟨fun p v h R hR => hR.1 p v h, ?_, fun h => by omega⟩
  intro e A v he hA hv R hR
  refine hR.2.1 e A v he ?_ (hv R hR)
  rcases hA with h | h
  · exact Or.inl h
  · exact Or.inr ⟨h.1, h.2 R hR⟩
theorem xe_R_cs {W : Nat} {V Q S E : Nat} {kK kF kT kO : Nat → Nat} {kc : Nat → Nat → BitVec W} :
    xe_cs V S E 1 kK kF kT kO kc (xe_L V Q S E kK kF kT kO kc) xe_iR (xe_R V Q S E kK kF kT kO kc) := by
  refine ⟨fun p v h R hR => hR.1 p v h, ?_, ?_⟩
  · intro e A v he hA hv R hR; exact hR.2.1 e A v he hA (hv R hR)
  · intro h e v he hk hv R hR; exact hR.2.2 h e v he hk (hv R hR)
def xe_rs (W n b : Nat) (st : Nat → Int32) (u : Nat → BitVec W) : Prop := ∃ i, i < n ∧ u = xi_rv W n b st i
def xe_md (W n b : Nat) (st : Nat → Int32) : Prop :=
  (∀ i c, i < n → c < n → ra_rg W (st (b + i * n + c))) ∧ ra_hp n (xi_rv W n b st) (xi_kk W n b st) ∧ ra_hd n (xi_rv W n b st) (xi_kk W n b st) 0 (fun _ => 0)
/-- what an insertion gives -/
theorem xi_fin {W n b : Nat} {st ve st' ve' : Nat → Int32} {g : Nat} (hW : W ≤ 4) (I : xi_iv W n b st ve st' ve' n g) :
    xe_md W n b st' ∧ (∀ u, ra_cl (xe_rs W n b st) u → ra_cl (xe_rs W n b st') u) ∧ ra_cl (xe_rs W n b st') (xi_vv W n ve) ∧
    (∀ P : (Nat → BitVec W) → Prop, (∀ i, i < n → ra_cl P (xi_rv W n b st i)) → ra_cl P (xi_vv W n ve) → ∀ i, i < n → ra_cl P (xi_rv W n b st' i)) := by
  obtain ⟨I1, ⟨I2, I3⟩, I4, I5, I6, I7, I8⟩ := I
  have ev : xi_vv W n ve' = fun _ => 0 := by
    funext c
    by_cases hc : c < n
    · rw [xi_vv_in hc, I4 c hc, ra_pi_0 (by omega)]
    · rw [xi_vv_out hc]
  have ez : ∀ F, ra_L F → F (xi_vv W n ve') = 0 := fun F L => by rw [ev]; exact ra_L_0 L
  have eo : ∀ F, ra_L F → (∀ u, xe_rs W n b st' u → F u = 0) → ra_an n (xi_rv W n b st) (xi_vv W n ve) F :=
    fun F L h => (I7 F L).mp ⟨fun i hi => h _ ⟨i, hi, rfl⟩, ez F L⟩
  refine ⟨⟨I2, I5, fun i hi F L z _ => I6 i hi F L z (fun _ => ez F L)⟩, ?_, ?_, ?_⟩
  · intro u hu F L h
    refine hu F L (fun w hw => ?_)
    obtain ⟨i, hi, rfl⟩ := hw
    exact (eo F L h).1 i hi
  · intro F L h; exact (eo F L h).2
  · intro P h1 h2 i hi F L z
    exact ((I7 F L).mpr ⟨fun i hi => h1 i hi F L z, h2 F L z⟩).1 i hi
/-! the layout of the store -/
def xp_bs (C p : Nat) : Nat := if C = 1 then 2535 + p * 16 else p * 169
theorem xp_n {V C n : Nat} (hV : 1 ≤ V ∧ V ≤ 3) (hC : C = 1 ∨ C = V + 1) (hn : n = 1 + V * C) : 2 ≤ n ∧ n ≤ 13 ∧ n * n ≤ 169 ∧ (C = 1 → n ≤ 4 ∧ n * n ≤ 16) ∧ 1 ≤ C ∧ C ≤ 4 := by
  obtain ⟨h1, h2⟩ := hV
  have : V = 1 ∨ V = 2 ∨ V = 3 := by omega
  rcases this with rfl | rfl | rfl <;> rcases hC with rfl | rfl <;> subst hn <;> decide
theorem xp_bs_le {V C n p : Nat} (hV : 1 ≤ V ∧ V ≤ 3) (hC : C = 1 ∨ C = V + 1) (hn : n = 1 + V * C) (hp : p < 15) : xp_bs C p + n * n ≤ 2775 := by
  obtain ⟨_, _, h3, h4, _⟩ := xp_n hV hC hn
  unfold xp_bs; split
  · have := h4 (by assumption); omega
  · omega
theorem xp_bs_ne {V C n p q : Nat} (hV : 1 ≤ V ∧ V ≤ 3) (hC : C = 1 ∨ C = V + 1) (hn : n = 1 + V * C) (h : p ≠ q) : xp_bs C p + n * n ≤ xp_bs C q ∨ xp_bs C q + n * n ≤ xp_bs C p := by
  obtain ⟨_, _, h3, h4, _⟩ := xp_n hV hC hn
  unfold xp_bs; split
  · have := h4 (by assumption); omega
  · omega
theorem xp_lv_ne {V C n p q : Nat} (hV : 1 ≤ V ∧ V ≤ 3) (hC : C = 1 ∨ C = V + 1) (hn : n = 1 + V * C) (hp : p < 15) (h : C = 1 ∨ p ≠ q) :
    p * 169 + (1 + V * (V + 1)) * (1 + V * (V + 1)) ≤ xp_bs C q ∨ xp_bs C q + n * n ≤ p * 169 := by
  obtain ⟨_, _, h3, h4, _⟩ := xp_n hV hC hn
  obtain ⟨_, _, g3, _⟩ := xp_n hV (Or.inr rfl) (rfl : 1 + V * (V + 1) = 1 + V * (V + 1))
  generalize (1 + V * (V + 1)) * (1 + V * (V + 1)) = z at *
  unfold xp_bs; split
  · omega
  · omega
theorem xp_rv_same {W m b2 lo hi : Nat} {st st' : Nat → Int32} (h : ∀ x, (x < lo ∨ hi ≤ x) → st' x = st x) (hd : b2 + m * m ≤ lo ∨ hi ≤ b2) {i : Nat} (hi' : i < m) :
    xi_rv W m b2 st' i = xi_rv W m b2 st i := by
  funext c
  by_cases hc : c < m
  · rw [xi_rv_in hc, xi_rv_in hc, h]
    have := ra_ixlt hi' hc; omega
  · rw [xi_rv_out hc, xi_rv_out hc]
theorem xp_kk_same {W m b2 lo hi : Nat} {st st' : Nat → Int32} (h : ∀ x, (x < lo ∨ hi ≤ x) → st' x = st x) (hd : b2 + m * m ≤ lo ∨ hi ≤ b2) {i : Nat} (hi' : i < m) :
    xi_kk W m b2 st' i = xi_kk W m b2 st i := by
  unfold xi_kk
  rw [h]
  have := ra_ixlt hi' hi'; omega
theorem xp_md_same {W m b2 : Nat} {st st' : Nat → Int32} (h : ∀ x, b2 ≤ x → x < b2 + m * m → st' x = st x) (M : xe_md W m b2 st) : xe_md W m b2 st' := by
  have e1 : ∀ i, i < m → xi_rv W m b2 st' i = xi_rv W m b2 st i := by
    intro i hi; funext c
    by_cases hc : c < m
    · rw [xi_rv_in hc, xi_rv_in hc, h _ (by omega)]
      have := ra_ixlt hi hc; omega
    · rw [xi_rv_out hc, xi_rv_out hc]
  have e2 : ∀ i, i < m → xi_kk W m b2 st' i = xi_kk W m b2 st i := by
    intro i hi; unfold xi_kk; rw [h _ (by omega)]
    have := ra_ixlt hi hi; omega
  refine ⟨?_, ?_, ?_⟩
  · intro i c hi hc
    rw [h _ (by omega) (by have := ra_ixlt hi hc; omega)]; exact M.1 i c hi hc
  · intro i hi; rw [e1 i hi, e2 i hi]; exact M.2.1 i hi
  · intro i hi F L z zv
    rw [e1 i hi, e2 i hi]
    exact M.2.2 i hi F L (fun i' h1 h2 => by have := z i' h1 h2; rw [e1 i' h2] at this; exact this) zv
/-! tasks -/
def xe_gn {W : Nat} (V S : Nat) (kK kO : Nat → Nat) (kc : Nat → Nat → BitVec W) (st : Nat → Int32) (e k : Nat) : Nat → BitVec W :=
  if kK e = 0 then ra_mat V ra_id else if kK e = 1 then ra_mat V (ra_as (kO e) (kc e)) else if kK e = 2 then ra_mat V (ra_kn (kO e) (if k = 0 then 0 else 1))
  else xi_rv W (1 + V * (V + 1)) ((kO e * S + S - 1) * 169) st k
def xe_tk {W : Nat} (V S C n : Nat) (kK kF kT kO : Nat → Nat) (kc : Nat → Nat → BitVec W) (st : Nat → Int32) (e r k : Nat) : Prop :=
  if k < 1 + V * (V + 1) then ra_cl (xe_rs W n (xp_bs C (kT e)) st) (ra_mul V C (xe_gn V S kK kO kc st e k) (xi_rv W n (xp_bs C (kF e)) st r))
  else (C = 1 → kK e = 3 → ra_cl (xe_rs W n (xp_bs C (kO e * S)) st) (xi_rv W n (xp_bs C (kF e)) st r))
/-- the edge's rows are as before -/
def xe_sm (W V S C n : Nat) (kK kF kO : Nat → Nat) (st st' : Nat → Int32) (e : Nat) : Prop :=
  (∀ r, r < n → xi_rv W n (xp_bs C (kF e)) st' r = xi_rv W n (xp_bs C (kF e)) st r) ∧
  (kK e = 3 → ∀ k, k < 1 + V * (V + 1) → xi_rv W (1 + V * (V + 1)) ((kO e * S + S - 1) * 169) st' k = xi_rv W (1 + V * (V + 1)) ((kO e * S + S - 1) * 169) st k)
theorem xe_gn_sm {W V S C n : Nat} {kK kF kO : Nat → Nat} {kc : Nat → Nat → BitVec W} {st st' : Nat → Int32} {e k : Nat} (hK : kK e ≤ 3) (h : xe_sm W V S C n kK kF kO st st' e) (hk : k < 1 + V * (V + 1)) :
    xe_gn V S kK kO kc st' e k = xe_gn V S kK kO kc st e k := by
  unfold xe_gn
  by_cases h0 : kK e = 0
  · rw [if_pos h0, if_pos h0]
  · by_cases h1 : kK e = 1
    · rw [if_neg h0, if_neg h0, if_pos h1, if_pos h1]
    · by_cases h2 : kK e = 2
      · rw [if_neg h0, if_neg h0, if_neg h1, if_neg h1, if_pos h2, if_pos h2]
      · rw [if_neg h0, if_neg h0, if_neg h1, if_neg h1, if_neg h2, if_neg h2]
        exact h.2 (by omega) k hk
theorem xe_tk_mono {W V S C n : Nat} {kK kF kT kO : Nat → Nat} {kc : Nat → Nat → BitVec W} {st st' : Nat → Int32} {e r k : Nat} (hK : kK e ≤ 3) (hr : r < n)
    (h : xe_sm W V S C n kK kF kO st st' e) (hm : ∀ q u, (q = kT e ∨ (kK e = 3 ∧ q = kO e * S)) → ra_cl (xe_rs W n (xp_bs C q) st) u → ra_cl (xe_rs W n (xp_bs C q) st') u)
    (T : xe_tk V S C n kK kF kT kO kc st e r k) : xe_tk V S C n kK kF kT kO kc st' e r k := by
  unfold xe_tk at *
  by_cases hk : k < 1 + V * (V + 1)
  · rw [if_pos hk] at *
    rw [xe_gn_sm hK h hk, h.1 r hr]
    exact hm _ _ (Or.inl rfl) T
  · rw [if_neg hk] at *
    intro h1 h3
    rw [h.1 r hr]
    exact hm _ _ (Or.inr ⟨h3, rfl⟩) (T h1 h3)
/-! the phase's completeness: all tasks done -/
theorem xe_complete {W V S E C n : Nat} {kK kF kT kO : Nat → Nat} {kc : Nat → Nat → BitVec W} {st : Nat → Int32} {RL ini : Nat → (Nat → BitVec W) → Prop}
    (hV : 1 ≤ V) (hK : ∀ e, e < E → kK e ≤ 3)
    (hT : ∀ e r k, e < E → r < n → k ≤ 1 + V * (V + 1) → xe_tk V S C n kK kF kT kO kc st e r k)
    (hi : ∀ p v, ini p v → ra_cl (xe_rs W n (xp_bs C p) st) v)
    (hL : ∀ e A, e < E → kK e = 3 → RL (kO e * S + S - 1) A → ra_cl (xe_rs W (1 + V * (V + 1)) ((kO e * S + S - 1) * 169) st) A) :
    xe_cs V S E C kK kF kT kO kc RL ini (fun p v => ra_cl (xe_rs W n (xp_bs C p) st) v) := by
  have hnL : 2 ≤ 1 + V * (V + 1) := by have := Nat.mul_le_mul hV (show 1 ≤ V + 1 by omega); omega
  refine ⟨hi, ?_, ?_⟩
  · intro e A v he hA hv
    have hA2 : ra_cl (fun B => ∃ k, k < 1 + V * (V + 1) ∧ B = xe_gn V S kK kO kc st e k) A := by
      rcases hA with h | ⟨h3, h⟩
      · rcases h with ⟨h0, rfl⟩ | ⟨h1, rfl⟩ | ⟨h2, w, rfl⟩
        · exact ra_cl_of ⟨0, by omega, by unfold xe_gn; rw [if_pos h0]⟩
        · exact ra_cl_of ⟨0, by omega, by unfold xe_gn; rw [if_neg (by omega), if_pos h1]⟩
        · refine ra_kn_cl V (kO e) w (ra_cl_of ⟨0, by omega, ?_⟩) (ra_cl_of ⟨1, by omega, ?_⟩)
          · unfold xe_gn; rw [if_neg (by omega), if_neg (by omega), if_pos h2, if_pos rfl]
          · unfold xe_gn; rw [if_neg (by omega), if_neg (by omega), if_pos h2, if_neg (by omega)]
      · refine ra_cl_tr (hL e A he h3 h) (fun u hu => ?_)
        obtain ⟨k, hk, rfl⟩ := hu
        exact ra_cl_of ⟨k, hk, by unfold xe_gn; rw [if_neg (by omega), if_neg (by omega), if_neg (by omega)]⟩
    refine ra_cl_mul hA2 hv ?_
    rintro A' v' ⟨k, hk, rfl⟩ ⟨r, hr, rfl⟩
    have h := hT e r k he hr (by omega)
    unfold xe_tk at h; rw [if_pos hk] at h; exact h
  · intro h1 e v he h3 hv
    refine ra_cl_tr hv (fun u hu => ?_)
    obtain ⟨r, hr, rfl⟩ := hu
    have h := hT e r (1 + V * (V + 1)) he hr (Nat.le_refl _)
    unfold xe_tk at h; rw [if_neg (by omega)] at h; exact h h1 h3
/-- soundness of a task's vector -/
theorem xe_sound {W V S E C n : Nat} {kK kF kT kO : Nat → Nat} {kc : Nat → Nat → BitVec W} {st : Nat → Int32} {RL ini Con : Nat → (Nat → BitVec W) → Prop}
    (hc : xe_cs V S E C kK kF kT kO kc RL ini Con) {e r k : Nat} (he : e < E) (hK : kK e ≤ 3) (hk : k < 1 + V * (V + 1))
    (hr : ra_cl (Con (kF e)) (xi_rv W n (xp_bs C (kF e)) st r))
    (hL : kK e = 3 → ra_cl (RL (kO e * S + S - 1)) (xi_rv W (1 + V * (V + 1)) ((kO e * S + S - 1) * 169) st k)) :
    ra_cl (Con (kT e)) (ra_mul V C (xe_gn V S kK kO kc st e k) (xi_rv W n (xp_bs C (kF e)) st r)) := by
  have hA : ra_cl (fun A => xe_pl V kK kO kc e A ∨ (kK e = 3 ∧ RL (kO e * S + S - 1) A)) (xe_gn V S kK kO kc st e k) := by
    unfold xe_gn
    by_cases h0 : kK e = 0
    · rw [if_pos h0]; exact ra_cl_of (Or.inl (Or.inl ⟨h0, rfl⟩))
    · rw [if_neg h0]
      by_cases h1 : kK e = 1
      · rw [if_pos h1]; exact ra_cl_of (Or.inl (Or.inr (Or.inl ⟨h1, rfl⟩)))
      · rw [if_neg h1]
        by_cases h2 : kK e = 2
        · rw [if_pos h2]; exact ra_cl_of (Or.inl (Or.inr (Or.inr ⟨h2, _, rfl⟩)))
        · rw [if_neg h2]
          exact ra_cl_tr (hL (by omega)) (fun u hu => ra_cl_of (Or.inr ⟨by omega, hu⟩))
  exact ra_cl_mul hA hr (fun A' v' hA' hv' => ra_cl_of (hc.2.1 e A' v' he hA' hv'))
end
section
/-! the ring of waiting edges -/
def xq_ok (E qh qc : Nat) (qu qd : Nat → Int32) : Prop :=
  qh < 16 ∧ qc = ra_ct 16 (fun e => decide (qd e = 1)) ∧ (∀ e, e < 16 → qd e = 0 ∨ qd e = 1) ∧
  (∀ i, i < qc → ∃ e, e < E ∧ qu ((qh + i) % 16) = nI e ∧ qd e = 1) ∧
  (∀ i j, i < j → j < qc → qu ((qh + i) % 16) ≠ qu ((qh + j) % 16))
theorem xq_le {E qh qc : Nat} {qu qd : Nat → Int32} (h : xq_ok E qh qc qu qd) : qc ≤ 16 := by rw [h.2.1]; exact ra_ct_le _ _
theorem xq_ct {qd : Nat → Int32} {e : Nat} {x : Int32} (he : e < 16) : ra_ct 16 (fun i => decide (upd qd e x i = 1)) + (if qd e = 1 then 1 else 0) = ra_ct 16 (fun i => decide (qd i = 1)) + (if x = 1 then 1 else 0) := by
  have h := ra_ns_ch (n := 16) (f := fun i => if decide (upd qd e x i = 1) = true then 1 else 0) (g := fun i => if decide (qd i = 1) = true then 1 else 0) (j := e) he (fun i _ hne => by
    show (if decide (upd qd e x i = 1) = true then 1 else 0) = _
    rw [pk_un hne])
  rw [pk_us] at h
  simp only [decide_eq_true_eq] at h
  unfold ra_ct
  simp only [decide_eq_true_eq]
  exact h
theorem xq_put {E qh qc e : Nat} {qu qd : Nat → Int32} (hE : E ≤ 16) (he : e < E) (K : xq_ok E qh qc qu qd) (h0 : qd e = 0) :
    qc < 16 ∧ xq_ok E qh (qc + 1) (upd qu ((qh + qc) % 16) (nI e)) (upd qd e 1) := by
  obtain ⟨k1, k2, k3, k4, k5⟩ := K
  have h10 : ¬ (0 : Int32) = 1 := by decide
  have hlt : qc < 16 := by
    have := ra_ct_lt (n := 16) (f := fun e => decide (qd e = 1)) (g := fun _ => true) (j := e) (by omega) (fun _ _ _ => rfl) (by rw [h0]; decide) rfl
    have := ra_ct_le 16 (fun _ => true); omega
  refine ⟨hlt, k1, ?_, ?_, ?_, ?_⟩
  · have h := xq_ct (qd := qd) (x := 1) (show e < 16 by omega)
    rw [h0, if_neg h10, if_pos rfl] at h; omega
  · intro i hi
    by_cases ei : i = e
    · rw [ei, pk_us]; exact Or.inr rfl
    · rw [pk_un ei]; exact k3 i hi
  · intro i hi
    by_cases ei : i = qc
    · refine ⟨e, he, ?_, pk_us⟩
      rw [ei, pk_us]
    · obtain ⟨e', g1, g2, g3⟩ := k4 i (by omega)
      refine ⟨e', g1, ?_, ?_⟩
      · rw [pk_un (by omega)]; exact g2
      · by_cases ee : e' = e
        · rw [ee, pk_us]
        · rw [pk_un ee]; exact g3
  · intro i j hij hj
    by_cases ej : j = qc
    · obtain ⟨e', g1, g2, g3⟩ := k4 i (by omega)
      rw [ej, pk_us, pk_un (by omega), g2]
      intro z
      rw [nI_eq (by omega) (by omega)] at z
      rw [z, h0] at g3; exact h10 g3
    · rw [pk_un (by omega), pk_un (by omega)]; exact k5 i j hij (by omega)
theorem xq_take {E qh qc : Nat} {qu qd : Nat → Int32} (hE : E ≤ 16) (K : xq_ok E qh qc qu qd) (h : 0 < qc) :
    ∃ e, e < E ∧ qu qh = nI e ∧ qd e = 1 ∧ xq_ok E ((qh + 1) % 16) (qc - 1) qu (upd qd e 0) := by
  obtain ⟨k1, k2, k3, k4, k5⟩ := K
  have h10 : ¬ (0 : Int32) = 1 := by decide
  obtain ⟨e, g1, g2, g3⟩ := k4 0 h
  rw [Nat.add_zero, Nat.mod_eq_of_lt k1] at g2
  refine ⟨e, g1, g2, g3, by omega, ?_, ?_, ?_, ?_⟩
  · have h := xq_ct (qd := qd) (x := 0) (show e < 16 by omega)
    rw [g3, if_neg h10, if_pos rfl] at h; omega
  · intro i hi
    by_cases ei : i = e
    · rw [ei, pk_us]; exact Or.inl rfl
    · rw [pk_un ei]; exact k3 i hi
  · intro i hi
    obtain ⟨e', f1, f2, f3⟩ := k4 (i + 1) (by omega)
    have hx : ((qh + 1) % 16 + i) % 16 = (qh + (i + 1)) % 16 := by omega
    refine ⟨e', f1, by rw [hx]; exact f2, ?_⟩
    rw [pk_un]
    · exact f3
    · intro z
      have := k5 0 (i + 1) (by omega) (by omega)
      rw [Nat.add_zero, Nat.mod_eq_of_lt k1, g2, f2, z] at this
      exact this rfl
  · intro i j hij hj
    rw [show ((qh + 1) % 16 + i) % 16 = (qh + (i + 1)) % 16 by omega, show ((qh + 1) % 16 + j) % 16 = (qh + (j + 1)) % 16 by omega]
    exact k5 (i + 1) (j + 1) (by omega) (by omega)
/-! the edges' arrays as naturals -/
def xe_wf (V Q S E : Nat) (ek ef et eo : Nat → Int32) (kK kF kT kO : Nat → Nat) : Prop :=
  ∀ e, e < E → ek e = nI (kK e) ∧ ef e = nI (kF e) ∧ et e = nI (kT e) ∧ eo e = nI (kO e) ∧ kK e ≤ 3 ∧ kF e < Q * S ∧ kT e < Q * S ∧ kO e ≤ 3 ∧
    ((kK e = 1 ∨ kK e = 2) → 1 ≤ kO e ∧ kO e ≤ V) ∧ (kK e = 3 → kO e < Q)
theorem xe_exit {Q S o : Nat} (h : o < Q) (hS : 2 ≤ S) : o * S + S - 1 < Q * S ∧ o * S < Q * S := by
  have := ra_ixlt h (show S - 1 < S by omega); omega
/-! the phase -/
def xp_ph (W P C n : Nat) (st : Nat → Int32) : Nat := ra_ns P (fun p => ra_ns n (xi_kk W n (xp_bs C p) st))
def xp_iv (W V S E P C n : Nat) (kK kF kT kO : Nat → Nat) (kc : Nat → Nat → BitVec W) (Con : Nat → (Nat → BitVec W) → Prop) (st0 : Nat → Int32) (B : Nat)
    (st : Nat → Int32) (qh qc : Nat) (qu qd : Nat → Int32) (D : Nat → Nat → Nat → Prop) : Prop :=
  ((∀ x, (∀ p, p < P → x < xp_bs C p ∨ xp_bs C p + n * n ≤ x) → st x = st0 x) ∧ (∀ p u, p < P → ra_cl (xe_rs W n (xp_bs C p) st0) u → ra_cl (xe_rs W n (xp_bs C p) st) u)) ∧
  (∀ p, p < P → xe_md W n (xp_bs C p) st) ∧
  (∀ p i, p < P → i < n → ra_cl (Con p) (xi_rv W n (xp_bs C p) st i)) ∧
  xq_ok E qh qc qu qd ∧
  qc + 16 * xp_ph W P C n st ≤ B ∧
  (∀ e, e < E → qd e = 1 ∨ ∀ r k, r < n → D e r k → xe_tk V S C n kK kF kT kO kc st e r k)
section
variable {V W Q S E rd qh qc C n : Nat} {fo ek ef et eo ec st ve qu qd : Nat → Int32} {kK kF kT kO : Nat → Nat} {kc : Nat → Nat → BitVec W} {Con : Nat → (Nat → BitVec W) → Prop} {st0 : Nat → Int32} {B : Nat} {D : Nat → Nat → Nat → Prop}
theorem xw_enq {post : SX → Prop} {e : Nat} (hE : E ≤ 16) (he : e < E) (K : xq_ok E qh qc qu qd)
    (hp : ∀ qc' qu' qd', xq_ok E qh qc' qu' qd' → qd' e = 1 → (∀ e', qd e' = 1 → qd' e' = 1) → post (nI V, nI W, nI Q, nI S, nI (Q * S), nI (2 ^ W - 1), nI E, nI rd, nI qh, nI qc', nI C, fo, ek, ef, et, eo, ec, st, ve, qu', qd')) : wpX_enqueue post (nI V, nI W, nI Q, nI S, nI (Q * S), nI (2 ^ W - 1), nI E, nI rd, nI qh, nI qc, nI C, fo, ek, ef, et, eo, ec, st, ve, qu, qd) (nI e) := by
  have hc : (nI e).toNatClampNeg = e := nI_clamp (by omega)
  have h16 := xq_le K
  have hin : vp_in (nI e) 16 := vp_in_nI (by omega) (by omega)
  have hqh := K.1
  rcases K.2.2.1 e (by omega) with h0 | h1
  · obtain ⟨hlt, K'⟩ := xq_put hE he K h0
    have er : nI qh + nI qc - (nI qh + nI qc) / 16 * 16 = nI ((qh + qc) % 16) := by
      rw [nI_add]; exact pk_rem (d := 16) (by omega) (by omega) (by omega)
    refine And.intro hin (br_t (by rw [hc]; exact h0) (br_f (nI_ge (b := 16) hlt (by omega)) ⟨by decide, ?_⟩))
    refine ⟨pk_in _ 16 (by omega) er, nm_r (e' := upd qu ((qh + qc) % 16) (nI e)) ?_ (nm_r (nI_1 qc) ⟨hin, nm_r (e' := upd qd e 1) ?_ ?_⟩)⟩
    · rw [pk_cl _ er]
    · rw [hc]; rfl
    · refine hp _ _ _ K' pk_us (fun e' h => ?_)
      by_cases ee : e' = e
      · rw [ee, pk_us]
      · rw [pk_un ee]; exact h
  · exact And.intro hin (br_f (by rw [hc, h1]; decide) (hp _ _ _ K h1 (fun _ h => h)))
theorem xw_exit {post : Int32 → Prop} {o : Nat} (hS : 2 ≤ S) (hp : post (nI (o * S + S - 1))) : wpX_exitOf post (nI V, nI W, nI Q, nI S, nI (Q * S), nI (2 ^ W - 1), nI E, nI rd, nI qh, nI qc, nI C, fo, ek, ef, et, eo, ec, st, ve, qu, qd) (nI o) := by
  have e : nI o * nI S + nI S - 1 = nI (o * S + S - 1) := by
    rw [pk_mul, nI_add]; exact pk_sub (b := 1) (by omega)
  show post (nI o * nI S + nI S - 1)
  rw [e]; exact hp
theorem xw_wake_l {post : SX → Prop} {p : Nat} (hS : 2 ≤ S) (hE : E ≤ 16) (hP : Q * S ≤ 15) (hw : xe_wf V Q S E ek ef et eo kK kF kT kO) (hpp : p < Q * S) 
    (hp : ∀ qc' qu' qd', xq_ok E qh qc' qu' qd' → (∀ e, e < E → (kF e = p ∨ (kK e = 3 ∧ kO e * S + S - 1 = p)) → qd' e = 1) → (∀ e', qd e' = 1 → qd' e' = 1) → post (nI V, nI W, nI Q, nI S, nI (Q * S), nI (2 ^ W - 1), nI E, nI rd, nI qh, nI qc', nI C, fo, ek, ef, et, eo, ec, st, ve, qu', qd')) :
    ∀ n i qc1 qu1 qd1, i ≤ E → E < n + i → xq_ok E qh qc1 qu1 qd1 → (∀ e, e < i → (kF e = p ∨ (kK e = 3 ∧ kO e * S + S - 1 = p)) → qd1 e = 1) → (∀ e', qd e' = 1 → qd1 e' = 1) →
      wX_wake_2 post (nI p) n (nI i) (nI V) (nI W) (nI Q) (nI S) (nI (Q * S)) (nI (2 ^ W - 1)) (nI E) (nI rd) (nI qh) (nI qc1) (nI C) fo ek ef et eo ec st ve qu1 qd1 := by
  intro n
  induction n with
  | zero => intro i _ _ _ h1 h2; omega
  | succ n ih =>
    intro i qc1 qu1 qd1 h1 h2 K H1 H2
    have hc : (nI i).toNatClampNeg = i := nI_clamp (by omega)
    have hin : i < E → vp_in (nI i) 16 := fun _ => vp_in_nI (by omega) (by omega)
    refine pk_le E i (fun h => ?_) (fun h => ?_)
    · have e : i = E := by omega
      subst e; exact hp _ _ _ K H1 H2
    · obtain ⟨w1, w2, w3, w4, w5, w6, w7, w8, w9, w10⟩ := hw i h
      have hx : kO i * S + S - 1 < 100 := by
        have h5 : S ≤ 15 := Nat.le_trans (Nat.le_mul_of_pos_left S (by
          rcases Nat.eq_zero_or_pos Q with z | z
          · rw [z, Nat.zero_mul] at hpp; omega
          · exact z)) hP
        have := Nat.mul_le_mul w8 h5; omega
      have go : ∀ (qc2 : Nat) (qu2 qd2 : Nat → Int32), xq_ok E qh qc2 qu2 qd2 → qd2 i = 1 → (∀ e', qd1 e' = 1 → qd2 e' = 1) → wX_wake_2 post (nI p) n (nI (i + 1)) (nI V) (nI W) (nI Q) (nI S) (nI (Q * S)) (nI (2 ^ W - 1)) (nI E) (nI rd) (nI qh) (nI qc2) (nI C) fo ek ef et eo ec st ve qu2 qd2 := by
        intro qc2 qu2 qd2 K2 g1 g2
        refine ih (i + 1) qc2 qu2 qd2 (by omega) (by omega) K2 ?_ (fun e' he' => g2 e' (H2 e' he'))
        intro e he hh
        by_cases ee : e = i
        · rw [ee]; exact g1
        · exact g2 e (H1 e (by omega) hh)
      have skip : ¬ (kF i = p ∨ (kK i = 3 ∧ kO i * S + S - 1 = p)) → wX_wake_2 post (nI p) n (nI (i + 1)) (nI V) (nI W) (nI Q) (nI S) (nI (Q * S)) (nI (2 ^ W - 1)) (nI E) (nI rd) (nI qh) (nI qc1) (nI C) fo ek ef et eo ec st ve qu1 qd1 := by
        intro hh
        refine ih (i + 1) qc1 qu1 qd1 (by omega) (by omega) K ?_ H2
        intro e he hh2
        by_cases ee : e = i
        · rw [ee] at hh2; exact absurd hh2 hh
        · exact H1 e (by omega) hh2
      have enq : wX_wake_46 post (wX_wake_2 post (nI p) n) (nI p) (nI i) (nI V) (nI W) (nI Q) (nI S) (nI (Q * S)) (nI (2 ^ W - 1)) (nI E) (nI rd) (nI qh) (nI qc1) (nI C) fo ek ef et eo ec st ve qu1 qd1 := by
        unfold wX_wake_46
        exact xw_enq hE h K (fun qc2 qu2 qd2 K2 g1 g2 => nm_r (nI_1 i) (go qc2 qu2 qd2 K2 g1 g2))
      refine ⟨hin h, ?_⟩
      rw [hc, w4]
      refine xw_exit hS ?_
      refine ⟨hin h, pk_eq (kF i) p (fun g => enq) (fun g => ⟨hin h, pk_eq (kK i) 3 (fun g3 => pk_eq (kO i * S + S - 1) p (fun g4 => enq) (fun g4 => nm_r (nI_1 i) (skip (by omega))) rfl rfl (by omega) (by omega)) (fun g3 => nm_r (nI_1 i) (skip (by omega))) w1 rfl (by omega) (by omega)⟩) w2 rfl (by omega) (by omega)⟩
theorem xw_wake {post : SX → Prop} {p : Nat} (hS : 2 ≤ S) (hE : E ≤ 16) (hP : Q * S ≤ 15) (hw : xe_wf V Q S E ek ef et eo kK kF kT kO) (hpp : p < Q * S) (K : xq_ok E qh qc qu qd)
    (hp : ∀ qc' qu' qd', xq_ok E qh qc' qu' qd' → (∀ e, e < E → (kF e = p ∨ (kK e = 3 ∧ kO e * S + S - 1 = p)) → qd' e = 1) → (∀ e', qd e' = 1 → qd' e' = 1) → post (nI V, nI W, nI Q, nI S, nI (Q * S), nI (2 ^ W - 1), nI E, nI rd, nI qh, nI qc', nI C, fo, ek, ef, et, eo, ec, st, ve, qu', qd')) : wpX_wake post (nI V, nI W, nI Q, nI S, nI (Q * S), nI (2 ^ W - 1), nI E, nI rd, nI qh, nI qc, nI C, fo, ek, ef, et, eo, ec, st, ve, qu, qd) (nI p) :=
  Exists.intro (E + 1) (xw_wake_l hS hE hP hw hpp hp (E + 1) 0 qc qu qd (by omega) (by omega) K (fun e he => by omega) (fun _ h => h))
theorem xw_pb {post : Int32 → Prop} {p : Nat} (hC : C ≤ 4) (hp : post (nI (xp_bs C p))) : wpX_phaseBase post (nI V, nI W, nI Q, nI S, nI (Q * S), nI (2 ^ W - 1), nI E, nI rd, nI qh, nI qc, nI C, fo, ek, ef, et, eo, ec, st, ve, qu, qd) (nI p) := by
  refine pk_eq C 1 (fun h => ?_) (fun h => ?_) rfl rfl (by omega) (by omega)
  · show post (2535 + nI p * 16)
    have e : 2535 + nI p * 16 = nI (xp_bs C p) := by
      unfold xp_bs; rw [if_pos h]
      exact (congrArg (fun z => 2535 + z) (pk_mul p 16)).trans (nI_add 2535 (p * 16))
    rw [e]; exact hp
  · show post (nI p * 169)
    have e : nI p * 169 = nI (xp_bs C p) := by
      unfold xp_bs; rw [if_neg h]
      exact pk_mul p 169
    rw [e]; exact hp
end
end
section
section
variable {V W Q S E rd qh qc C n : Nat} {fo ek ef et eo ec st ve qu qd : Nat → Int32} {kK kF kT kO : Nat → Nat} {kc : Nat → Nat → BitVec W} {Con : Nat → (Nat → BitVec W) → Prop} {st0 : Nat → Int32} {B : Nat} {D : Nat → Nat → Nat → Prop}
/-- what an insertion into module q leaves of the phase's facts -/
theorem xp_ins (hV : 1 ≤ V ∧ V ≤ 3) (hW : 1 ≤ W ∧ W ≤ 4) (hS : 2 ≤ S) (hP : Q * S ≤ 15) (hE : E ≤ 16) (hC : C = 1 ∨ C = V + 1) (hn : n = 1 + V * C) (hw : xe_wf V Q S E ek ef et eo kK kF kT kO) {q g : Nat} {st' ve' : Nat → Int32} (hq : q < Q * S) (I : xp_iv W V S E (Q * S) C n kK kF kT kO kc Con st0 B st qh qc qu qd D) (hs : ra_cl (Con q) (xi_vv W n ve))
    (J : xi_iv W n (xp_bs C q) st ve st' ve' n g) {qc' : Nat} {qu' qd' : Nat → Int32} (K : xq_ok E qh qc' qu' qd')
    (h1 : ∀ e', qd e' = 1 → qd' e' = 1) (h2 : g = 0 → qc' = qc) (h3 : g = 1 → ∀ e, e < E → (kF e = q ∨ (kK e = 3 ∧ kO e * S + S - 1 = q)) → qd' e = 1) :
    xp_iv W V S E (Q * S) C n kK kF kT kO kc Con st0 B st' qh qc' qu' qd' D ∧ (∀ p u, p < Q * S → ra_cl (xe_rs W n (xp_bs C p) st) u → ra_cl (xe_rs W n (xp_bs C p) st') u) ∧
    ra_cl (xe_rs W n (xp_bs C q) st') (xi_vv W n ve) ∧ (∀ e, e < E → qd' e = 1 ∨ xe_sm W V S C n kK kF kO st st' e) := by
  obtain ⟨I1, I2, I3, I4, I5, I6⟩ := I
  obtain ⟨F1, F2, F3, F4⟩ := xi_fin hW.2 J
  have fr := J.1
  have rows : ∀ p i, p ≠ q → i < n → xi_rv W n (xp_bs C p) st' i = xi_rv W n (xp_bs C p) st i :=
    fun p i hpq hi => xp_rv_same fr (xp_bs_ne hV hC hn hpq) hi
  have mono : ∀ p u, p < Q * S → ra_cl (xe_rs W n (xp_bs C p) st) u → ra_cl (xe_rs W n (xp_bs C p) st') u := by
    intro p u hp hu
    by_cases e : p = q
    · rw [e] at hu ⊢; exact F2 u hu
    · refine ra_cl_tr hu (fun w hw' => ?_)
      obtain ⟨i, hi, rfl⟩ := hw'
      exact ra_cl_of ⟨i, hi, (rows p i e hi).symm⟩
  have sm : ∀ e, e < E → qd' e = 1 ∨ xe_sm W V S C n kK kF kO st st' e := by
    intro e he
    rcases J.2.2.2.2.2.2 with ⟨hg, hst⟩ | ⟨hg, _⟩
    · right; rw [hst]; exact ⟨fun _ _ => rfl, fun _ _ _ => rfl⟩
    · by_cases hh : kF e = q ∨ (kK e = 3 ∧ kO e * S + S - 1 = q)
      · exact Or.inl (h3 hg e he hh)
      · right
        refine ⟨fun r hr => rows _ r (fun z => hh (Or.inl z)) hr, fun hk k hkk => ?_⟩
        have hx := (xe_exit ((hw e he).2.2.2.2.2.2.2.2.2 hk) hS).1
        exact xp_rv_same fr (xp_lv_ne hV hC hn (by omega) (Or.inr (fun z => hh (Or.inr ⟨hk, z⟩)))) hkk
  refine ⟨⟨?_, ?_, ?_, K, ?_, ?_⟩, mono, F3, sm⟩
  · exact ⟨fun x hx => by rw [fr x (hx q hq)]; exact I1.1 x hx, fun p u hp hu => mono p u hp (I1.2 p u hp hu)⟩
  · intro p hp
    by_cases e : p = q
    · rw [e]; exact F1
    · refine xp_md_same (fun x hx1 hx2 => fr x ?_) (I2 p hp)
      have := xp_bs_ne hV hC hn e; omega
  · intro p i hp hi
    by_cases e : p = q
    · rw [e]; exact F4 (Con q) (fun i hi => I3 q i hq hi) hs i hi
    · rw [rows p i e hi]; exact I3 p i hp hi
  · rcases J.2.2.2.2.2.2 with ⟨hg, hst⟩ | ⟨hg, hlt⟩
    · rw [hst, h2 hg]; exact I5
    · have c := ra_ns_ch (n := Q * S) (f := fun p => ra_ns n (xi_kk W n (xp_bs C p) st')) (g := fun p => ra_ns n (xi_kk W n (xp_bs C p) st)) hq
        (fun p _ e => ra_ns_congr (fun i hi => xp_kk_same fr (xp_bs_ne hV hC hn e) hi))
      have := xq_le K
      unfold xp_ph at *
      omega
  · intro e he
    rcases sm e he with h | h
    · exact Or.inl h
    · rcases I6 e he with h' | h'
      · exact Or.inl (h1 e h')
      · right
        intro r k hr hD
        obtain ⟨w1, w2, w3, w4, w5, w6, w7, w8, w9, w10⟩ := hw e he
        refine xe_tk_mono w5 hr h (fun q' u hq' hu => mono q' u ?_ hu) (h' r k hr hD)
        rcases hq' with z | ⟨z1, z2⟩
        · rw [z]; exact w7
        · rw [z2]; exact (xe_exit (w10 z1) hS).2
theorem xw_ctr {post : SX → Prop} (hV : 1 ≤ V ∧ V ≤ 3) (hW : 1 ≤ W ∧ W ≤ 4) (hS : 2 ≤ S) (hP : Q * S ≤ 15) (hE : E ≤ 16) (hC : C = 1 ∨ C = V + 1) (hn : n = 1 + V * C) (hw : xe_wf V Q S E ek ef et eo kK kF kT kO) {q : Nat} (hq : q < Q * S) (I : xp_iv W V S E (Q * S) C n kK kF kT kO kc Con st0 B st qh qc qu qd D) (hv : ∀ c, c < n → ra_rg W (ve c)) (hs : ra_cl (Con q) (xi_vv W n ve))
    (hp : ∀ st' ve' qc' qu' qd', xp_iv W V S E (Q * S) C n kK kF kT kO kc Con st0 B st' qh qc' qu' qd' D → (∀ p u, p < Q * S → ra_cl (xe_rs W n (xp_bs C p) st) u → ra_cl (xe_rs W n (xp_bs C p) st') u) →
      ra_cl (xe_rs W n (xp_bs C q) st') (xi_vv W n ve) → (∀ e, e < E → qd' e = 1 ∨ xe_sm W V S C n kK kF kO st st' e) → post (nI V, nI W, nI Q, nI S, nI (Q * S), nI (2 ^ W - 1), nI E, nI rd, nI qh, nI qc', nI C, fo, ek, ef, et, eo, ec, st', ve', qu', qd')) :
    wpX_contribute post (nI V, nI W, nI Q, nI S, nI (Q * S), nI (2 ^ W - 1), nI E, nI rd, nI qh, nI qc, nI C, fo, ek, ef, et, eo, ec, st, ve, qu, qd) (nI q) := by
  obtain ⟨n1, n2, n3, n4, n5, n6⟩ := xp_n hV hC hn
  have en : (1 : Int32) + nI V * nI C = nI n := by rw [hn, pk_mul]; exact nI_add 1 (V * C)
  have M := I.2.1 q hq
  refine xw_pb n6 ?_
  show wpX_insert _ _ _ (1 + nI V * nI C)
  rw [en]
  refine xw_insert hW.2 n2 (xp_bs_le hV hC hn (by omega)) M.1 hv M.2.1 (fun v i hi F L z _ => M.2.2 i hi F L z (fun h => by omega)) ?_
  intro g st' ve' J
  rcases J.2.2.2.2.2.2 with ⟨hg, hst⟩ | ⟨hg, _⟩
  · obtain ⟨a, b, c, d⟩ := xp_ins hV hW hS hP hE hC hn hw hq I hs J I.2.2.2.1 (fun _ h => h) (fun _ => rfl) (fun z => by omega)
    subst hg
    exact br_t rfl (hp st' ve' qc qu qd a b c d)
  · subst hg
    refine br_f (by decide) (xw_wake hS hE hP hw hq I.2.2.2.1 (fun qc' qu' qd' K k1 k2 => ?_))
    obtain ⟨a, b, c, d⟩ := xp_ins hV hW hS hP hE hC hn hw hq I hs J K k2 (fun z => by omega) (fun _ => k1)
    exact hp st' ve' qc' qu' qd' a b c d
/-- a task done: the contributed vector was the task's -/
theorem xp_add (hV : 1 ≤ V ∧ V ≤ 3) (hW : 1 ≤ W ∧ W ≤ 4) (hS : 2 ≤ S) (hP : Q * S ≤ 15) (hE : E ≤ 16) (hC : C = 1 ∨ C = V + 1) (hn : n = 1 + V * C) (hw : xe_wf V Q S E ek ef et eo kK kF kT kO) {st' : Nat → Int32} {qc' : Nat} {qu' qd' : Nat → Int32} {v : Nat → BitVec W} {q e0 r0 k0 : Nat} (he0 : e0 < E) (hr0 : r0 < n) 
    (I : xp_iv W V S E (Q * S) C n kK kF kT kO kc Con st0 B st' qh qc' qu' qd' D) (hn' : ra_cl (xe_rs W n (xp_bs C q) st') v) (h4 : qd' e0 = 1 ∨ xe_sm W V S C n kK kF kO st st' e0)
    (ht : (k0 < 1 + V * (V + 1) ∧ q = kT e0 ∧ v = ra_mul V C (xe_gn V S kK kO kc st e0 k0) (xi_rv W n (xp_bs C (kF e0)) st r0)) ∨
      (¬ k0 < 1 + V * (V + 1) ∧ q = kO e0 * S ∧ v = xi_rv W n (xp_bs C (kF e0)) st r0)) :
    xp_iv W V S E (Q * S) C n kK kF kT kO kc Con st0 B st' qh qc' qu' qd' (fun e r k => D e r k ∨ (e = e0 ∧ r = r0 ∧ k = k0)) := by
  obtain ⟨I1, I2, I3, I4, I5, I6⟩ := I
  refine ⟨I1, I2, I3, I4, I5, ?_⟩
  intro e he
  by_cases ee : e = e0
  · rcases h4 with h | h
    · left; rw [ee]; exact h
    · rcases I6 e he with h' | h'
      · exact Or.inl h'
      · right
        intro r k hr hD
        rcases hD with hD | ⟨_, hr', hk'⟩
        · exact h' r k hr hD
        · subst ee hr' hk'
          unfold xe_tk
          rcases ht with ⟨t1, t2, t3⟩ | ⟨t1, t2, t3⟩
          · rw [if_pos t1, xe_gn_sm (hw e he).2.2.2.2.1 h t1, h.1 r hr, ← t3, ← t2]; exact hn'
          · rw [if_neg t1]; intro _ _; rw [h.1 r hr, ← t3, ← t2]; exact hn'
  · rcases I6 e he with h' | h'
    · exact Or.inl h'
    · right
      intro r k hr hD
      rcases hD with hD | ⟨z, _, _⟩
      · exact h' r k hr hD
      · exact absurd z ee
/-- a task of a zero row, or by a zero generator -/
theorem xp_add0 (hV : 1 ≤ V ∧ V ≤ 3) (hW : 1 ≤ W ∧ W ≤ 4) (hS : 2 ≤ S) (hP : Q * S ≤ 15) (hE : E ≤ 16) (hC : C = 1 ∨ C = V + 1) (hn : n = 1 + V * C) (hw : xe_wf V Q S E ek ef et eo kK kF kT kO) {e0 r0 : Nat} {Kp : Nat → Prop} (he0 : e0 < E) (I : xp_iv W V S E (Q * S) C n kK kF kT kO kc Con st0 B st qh qc qu qd D)
    (ht : ∀ k, Kp k → ((k < 1 + V * (V + 1) ∧ xe_gn V S kK kO kc st e0 k = fun _ => 0) ∨ (xi_rv W n (xp_bs C (kF e0)) st r0 = fun _ => 0) ∨ (¬ k < 1 + V * (V + 1) ∧ ¬ (C = 1 ∧ kK e0 = 3)))) :
    xp_iv W V S E (Q * S) C n kK kF kT kO kc Con st0 B st qh qc qu qd (fun e r k => D e r k ∨ (e = e0 ∧ r = r0 ∧ Kp k)) := by
  obtain ⟨I1, I2, I3, I4, I5, I6⟩ := I
  refine ⟨I1, I2, I3, I4, I5, ?_⟩
  intro e he
  rcases I6 e he with h' | h'
  · exact Or.inl h'
  · right
    intro r k hr hD
    rcases hD with hD | ⟨z1, z2, hk'⟩
    · exact h' r k hr hD
    · subst z1 z2
      unfold xe_tk
      rcases ht k hk' with ⟨t1, t2⟩ | t | ⟨t1, t2⟩
      · rw [if_pos t1, t2, ra_mul_0l]; exact ra_cl_0 _
      · rw [t, ra_mul_0r]
        split
        · exact ra_cl_0 _
        · intro _ _; exact ra_cl_0 _
      · rw [if_neg t1]; intro a b; exact absurd ⟨a, b⟩ t2
theorem xp_weak {D' : Nat → Nat → Nat → Prop} (I : xp_iv W V S E (Q * S) C n kK kF kT kO kc Con st0 B st qh qc qu qd D) (h : ∀ e r k, e < E → r < n → D' e r k → D e r k) : xp_iv W V S E (Q * S) C n kK kF kT kO kc Con st0 B st qh qc qu qd D' := by
  obtain ⟨I1, I2, I3, I4, I5, I6⟩ := I
  refine ⟨I1, I2, I3, I4, I5, fun e he => ?_⟩
  rcases I6 e he with h' | h'
  · exact Or.inl h'
  · exact Or.inr (fun r k hr hD => h' r k hr (h e r k he hr hD))
end
end
section
/-! products by the edges' matrices, cell by cell -/
theorem ra_ix {V C x : Nat} (h : x < 1 + V * C) (h0 : x ≠ 0) : ∃ i j, i < V ∧ j < C ∧ x = 1 + i * C + j := by
  have hC : 0 < C := by
    rcases Nat.eq_zero_or_pos C with z | z
    · rw [z] at h; omega
    · exact z
  refine ⟨(x - 1) / C, (x - 1) % C, ?_, Nat.mod_lt _ hC, ?_⟩
  · rw [Nat.div_lt_iff_lt_mul hC]; omega
  · have := Nat.div_add_mod' (x - 1) C; omega
theorem ra_mul_mat {W V C : Nat} (M : Nat → Nat → BitVec W) (v : Nat → BitVec W) {i j : Nat} (hi : i < V) (hj : j < C) :
    ra_mul V C (ra_mat V M) v (1 + i * C + j) = ra_sm (V + 1) (fun l => M (1 + i) l * ra_cell C v l j) := by
  rw [ra_mul_at _ _ hi hj]
  exact ra_sm_congr (fun l hl => by rw [ra_mat_at M hi (by omega)])
theorem ra_cell_s {W : Nat} (C : Nat) (v : Nat → BitVec W) (i j : Nat) : ra_cell C v (1 + i) j = v (1 + i * C + j) := by
  unfold ra_cell; rw [if_neg (by omega), Nat.add_sub_cancel_left]
theorem ra_mul_dl {W V C : Nat} (v : Nat → BitVec W) {i j : Nat} (hi : i < V) : ra_sm (V + 1) (fun l => (if l = 1 + i then (1 : BitVec W) else 0) * ra_cell C v l j) = v (1 + i * C + j) := by
  rw [ra_sm_delta (by omega), ra_cell_s]; grind
theorem ra_mul_id {W V C : Nat} (v : Nat → BitVec W) (hv : ∀ x, 1 + V * C ≤ x → v x = 0) : ra_mul V C (ra_mat V ra_id) v = v := by
  funext x
  by_cases h : x < 1 + V * C
  · by_cases h0 : x = 0
    · rw [h0, ra_mul_hd, ra_mat_hd]; grind
    · obtain ⟨i, j, hi, hj, rfl⟩ := ra_ix h h0
      rw [ra_mul_mat _ _ hi hj]; exact ra_mul_dl v hi
  · rw [ra_mul_out _ _ _ _ (by omega), hv x (by omega)]
theorem ra_mul_as {W V C o : Nat} (c : Nat → BitVec W) (v : Nat → BitVec W) {i j : Nat} (hi : i < V) (hj : j < C) :
    ra_mul V C (ra_mat V (ra_as o c)) v (1 + i * C + j) = if 1 + i = o then ra_sm (V + 1) (fun l => c l * ra_cell C v l j) else v (1 + i * C + j) := by
  rw [ra_mul_mat _ _ hi hj]
  by_cases e : 1 + i = o
  · rw [if_pos e]; exact ra_sm_congr (fun l _ => by unfold ra_as; rw [if_pos e])
  · rw [if_neg e, ← ra_mul_dl v hi]; exact ra_sm_congr (fun l _ => by unfold ra_as; rw [if_neg e])
theorem ra_mul_kn {W V C o : Nat} (w : BitVec W) (v : Nat → BitVec W) {i j : Nat} (hi : i < V) (hj : j < C) :
    ra_mul V C (ra_mat V (ra_kn o w)) v (1 + i * C + j) = if 1 + i = o then (if j = 0 then w * v 0 else 0) else v (1 + i * C + j) := by
  rw [ra_mul_mat _ _ hi hj]
  by_cases e : 1 + i = o
  · rw [if_pos e]
    have e2 : ra_sm (V + 1) (fun l => ra_kn o w (1 + i) l * ra_cell C v l j) = ra_sm (V + 1) (fun l => (if l = 0 then w else 0) * ra_cell C v l j) :=
      ra_sm_congr (fun l _ => by unfold ra_kn; rw [if_pos e])
    rw [e2, ra_sm_delta (by omega)]
    unfold ra_cell; rw [if_pos rfl]
    split
    · rfl
    · grind
  · rw [if_neg e, ← ra_mul_dl v hi]; exact ra_sm_congr (fun l _ => by unfold ra_kn; rw [if_neg e])
/-- the row at an offset -/
def xi_ro (W n row : Nat) (st : Nat → Int32) : Nat → BitVec W := fun c => if c < n then ra_pi W (st (row + c)) else 0
theorem xi_ro_rv (W n b i : Nat) (st : Nat → Int32) : xi_ro W n (b + i * n) st = xi_rv W n b st i := rfl
theorem xi_ro_in {W n row c : Nat} {st : Nat → Int32} (h : c < n) : xi_ro W n row st c = ra_pi W (st (row + c)) := if_pos h
theorem xi_ro_out {W n row c : Nat} {st : Nat → Int32} (h : ¬ c < n) : xi_ro W n row st c = 0 := if_neg h
theorem xi_ro_cell {W V C n row : Nat} {st : Nat → Int32} (hn : n = 1 + V * C) {l j : Nat} (hl : l ≤ V) (hj : j < C) :
    ra_cell C (xi_ro W n row st) l j = ra_cell C (fun c => ra_pi W (st (row + c))) l j := by
  unfold ra_cell
  by_cases h0 : l = 0
  · rw [if_pos h0, if_pos h0, xi_ro_in (by omega)]
  · rw [if_neg h0, if_neg h0]
    have := ra_ixlt (show l - 1 < V by omega) hj
    rw [xi_ro_in (by omega)]
section
variable {V W Q S E rd qh qc C n : Nat} {fo ek ef et eo ec st ve qu qd : Nat → Int32} {kK kF kT kO : Nat → Nat}
theorem xw_load_l {post : SX → Prop} {m row : Nat} (hm : m ≤ 13) (hrow : row + m ≤ 2775) (hp : post (nI V, nI W, nI Q, nI S, nI (Q * S), nI (2 ^ W - 1), nI E, nI rd, nI qh, nI qc, nI C, fo, ek, ef, et, eo, ec, st, xr_f ve (fun c => st (row + c)) 0 m, qu, qd)) :
    ∀ n i, i ≤ m → m < n + i → wX_load_14 post (nI row) (nI m) (nI V) (nI W) (nI Q) (nI S) (nI (Q * S)) (nI (2 ^ W - 1)) (nI E) (nI rd) (nI qh) (nI qc) (nI C) n (nI i) fo ek ef et eo ec st (xr_f ve (fun c => st (row + c)) 0 i) qu qd := by
  intro n
  induction n with
  | zero => intro i h1 h2; omega
  | succ n ih =>
    intro i h1 h2
    have hc : (nI i).toNatClampNeg = i := nI_clamp (by omega)
    have hr : (nI row + nI i).toNatClampNeg = row + i := pk_cl (row + i) (nI_add row i)
    refine pk_le m i (fun h => ?_) (fun h => ?_)
    · have e : i = m := by omega
      subst e; exact hp
    · exact ⟨pk_in (row + i) 2775 (by omega) (nI_add row i), vp_in_nI (by omega) (by omega), nm_r (xr_s (by omega) hc (by rw [hr])) (nm_r (nI_1 i) (ih (i + 1) (by omega) (by omega)))⟩
theorem xw_load {post : SX → Prop} {row : Nat} (hn : n = 1 + V * C) (hm : n ≤ 13) (hrow : row + n ≤ 2775) (hp : post (nI V, nI W, nI Q, nI S, nI (Q * S), nI (2 ^ W - 1), nI E, nI rd, nI qh, nI qc, nI C, fo, ek, ef, et, eo, ec, st, xr_f ve (fun c => st (row + c)) 0 n, qu, qd)) : wpX_load post (nI V, nI W, nI Q, nI S, nI (Q * S), nI (2 ^ W - 1), nI E, nI rd, nI qh, nI qc, nI C, fo, ek, ef, et, eo, ec, st, ve, qu, qd) (nI row) := by
  have en : (1 : Int32) + nI V * nI C = nI n := by rw [hn, pk_mul]; exact nI_add 1 (V * C)
  refine nm_r (P := fun x => ∃ n14 : Nat, wX_load_14 post (nI row) x (nI V) (nI W) (nI Q) (nI S) (nI (Q * S)) (nI (2 ^ W - 1)) (nI E) (nI rd) (nI qh) (nI qc) (nI C) n14 0 fo ek ef et eo ec st ve qu qd) en (Exists.intro (n + 1) ?_)
  have h := xw_load_l (ve := ve) hm hrow hp (n + 1) 0 (by omega) (by omega)
  rw [xr_0] at h; exact h
theorem xw_clearVec_l {post : SX → Prop} (hp : post (nI V, nI W, nI Q, nI S, nI (Q * S), nI (2 ^ W - 1), nI E, nI rd, nI qh, nI qc, nI C, fo, ek, ef, et, eo, ec, st, xr_f ve (fun _ => 0) 0 13, qu, qd)) : ∀ n i, i ≤ 13 → 13 < n + i → wX_clearVec_2 post (nI V) (nI W) (nI Q) (nI S) (nI (Q * S)) (nI (2 ^ W - 1)) (nI E) (nI rd) (nI qh) (nI qc) (nI C) n (nI i) fo ek ef et eo ec st (xr_f ve (fun _ => 0) 0 i) qu qd := by
  intro n
  induction n with
  | zero => intro i h1 h2; omega
  | succ n ih =>
    intro i h1 h2
    refine pk_le 13 i (fun h => ?_) (fun h => ?_)
    · have e : i = 13 := by omega
      subst e; exact hp
    · exact ⟨vp_in_nI h (by omega), nm_r (xr_s (by omega) (nI_clamp (by omega)) rfl) (nm_r (nI_1 i) (ih (i + 1) (by omega) (by omega)))⟩
theorem xw_clearVec {post : SX → Prop} (hp : post (nI V, nI W, nI Q, nI S, nI (Q * S), nI (2 ^ W - 1), nI E, nI rd, nI qh, nI qc, nI C, fo, ek, ef, et, eo, ec, st, xr_f ve (fun _ => 0) 0 13, qu, qd)) : wpX_clearVec post (nI V, nI W, nI Q, nI S, nI (Q * S), nI (2 ^ W - 1), nI E, nI rd, nI qh, nI qc, nI C, fo, ek, ef, et, eo, ec, st, ve, qu, qd) := by
  refine Exists.intro 14 ?_
  have h := xw_clearVec_l (ve := ve) hp 14 0 (by omega) (by omega)
  rw [xr_0] at h; exact h
theorem xw_cmb_store_l {post : Int32 → Prop} {at' row cols j : Nat} (hW : W ≤ 4) (hat : at' + V < 2775) (hrow : row + (1 + V * cols) ≤ 2775) (hj : j < cols)
    (hp : ∀ r, ra_rg W r → ra_pi W r = ra_sm (V + 1) (fun l => ra_pi W (st (at' + l)) * ra_cell cols (fun c => ra_pi W (st (row + c))) l j) → post r) :
    ∀ n l acc, 1 ≤ l → l ≤ V + 1 → V + 1 < n + l → ra_pi W acc = ra_sm l (fun l => ra_pi W (st (at' + l)) * ra_cell cols (fun c => ra_pi W (st (row + c))) l j) →
      wX_combine__store_24 post (nI at') (nI row) (nI cols) (nI j) (nI V) (nI W) (nI Q) (nI S) (nI (Q * S)) (nI (2 ^ W - 1)) (nI E) (nI rd) (nI qh) (nI qc) (nI C) fo ek ef et eo ec st ve qu qd n acc (nI l) := by
  intro n
  induction n with
  | zero => intro l acc h0 h1 h2; omega
  | succ n ih =>
    intro l acc h0 h1 h2 ha
    refine pk_lt V l (fun h => ?_) (fun h => ?_)
    · have e : l = V + 1 := by omega
      subst e
      exact hp _ (ra_rg_and hW _) (by rw [ra_pi_and hW, ha])
    · have hb := ra_ixlt (show l - 1 < V by omega) hj
      have e1 : nI at' + nI l = nI (at' + l) := nI_add _ _
      have e2 : nI row + 1 + (nI l - 1) * nI cols + nI j = nI (row + 1 + (l - 1) * cols + j) := by
        have e3 : nI l - 1 = nI (l - 1) := pk_sub (b := 1) h0
        have e4 : nI row + 1 = nI (row + 1) := nI_1 row
        rw [e3, e4, pk_mul, nI_add, nI_add]
      refine ⟨pk_in _ 2775 (by omega) e1, pk_in _ 2775 (by omega) e2, nm_e (nm_r (nI_1 l) (ih (l + 1) _ (by omega) (by omega) (by omega) ?_))⟩
      rw [pk_cl _ e1, pk_cl _ e2, ra_pi_add (by omega), ra_pi_mul (by omega), ha]
      show _ = ra_sm l _ + ra_pi W (st (at' + l)) * ra_cell cols (fun c => ra_pi W (st (row + c))) l j
      rw [show ra_cell cols (fun c => ra_pi W (st (row + c))) l j = ra_pi W (st (row + 1 + (l - 1) * cols + j)) from by
        unfold ra_cell; rw [if_neg (by omega)]
        show ra_pi W (st (row + (1 + (l - 1) * cols + j))) = _
        rw [show row + (1 + (l - 1) * cols + j) = row + 1 + (l - 1) * cols + j by omega]]
theorem xw_cmb_store {post : Int32 → Prop} {at' row cols j : Nat} (hW : W ≤ 4) (hV : 1 ≤ V) (hat : at' + V < 2775) (hrow : row + (1 + V * cols) ≤ 2775) (hj : j < cols)
    (hp : ∀ r, ra_rg W r → ra_pi W r = ra_sm (V + 1) (fun l => ra_pi W (st (at' + l)) * ra_cell cols (fun c => ra_pi W (st (row + c))) l j) → post r) :
    wpX_combine__store post (nI V, nI W, nI Q, nI S, nI (Q * S), nI (2 ^ W - 1), nI E, nI rd, nI qh, nI qc, nI C, fo, ek, ef, et, eo, ec, st, ve, qu, qd) (nI at') (nI row) (nI cols) (nI j) := by
  have hcol : 1 * cols ≤ V * cols := Nat.mul_le_mul_right cols hV
  refine pk_eq j 0 (fun h => ?_) (fun h => ?_) rfl rfl (by omega) (by omega)
  · refine ⟨vp_in_nI (by omega) (by omega), vp_in_nI (by omega) (by omega), nm_e (Exists.intro (V + 2) (xw_cmb_store_l hW hat hrow hj hp (V + 2) 1 _ (by omega) (by omega) (by omega) ?_))⟩
    rw [nI_clamp (by omega), nI_clamp (by omega), ra_pi_mul (by omega)]
    show _ = 0 + ra_pi W (st (at' + 0)) * ra_cell cols (fun c => ra_pi W (st (row + c))) 0 j
    rw [show ra_cell cols (fun c => ra_pi W (st (row + c))) 0 j = ra_pi W (st row) from by unfold ra_cell; rw [if_pos rfl, if_pos h]; rfl, Nat.add_zero]
    grind
  · refine Exists.intro (V + 2) (xw_cmb_store_l hW hat hrow hj hp (V + 2) 1 _ (by omega) (by omega) (by omega) ?_)
    rw [ra_pi_0 (by omega)]
    show _ = 0 + ra_pi W (st (at' + 0)) * ra_cell cols (fun c => ra_pi W (st (row + c))) 0 j
    rw [show ra_cell cols (fun c => ra_pi W (st (row + c))) 0 j = 0 from by unfold ra_cell; rw [if_pos rfl, if_neg h]]
    grind
theorem xw_cmb_edgeCoeff_l {post : Int32 → Prop} {at' row cols j : Nat} (hW : W ≤ 4) (hat : at' + V < 64) (hrow : row + (1 + V * cols) ≤ 2775) (hj : j < cols)
    (hp : ∀ r, ra_rg W r → ra_pi W r = ra_sm (V + 1) (fun l => ra_pi W (ec (at' + l)) * ra_cell cols (fun c => ra_pi W (st (row + c))) l j) → post r) :
    ∀ n l acc, 1 ≤ l → l ≤ V + 1 → V + 1 < n + l → ra_pi W acc = ra_sm l (fun l => ra_pi W (ec (at' + l)) * ra_cell cols (fun c => ra_pi W (st (row + c))) l j) →
      wX_combine__edgeCoeff_24 post (nI at') (nI row) (nI cols) (nI j) (nI V) (nI W) (nI Q) (nI S) (nI (Q * S)) (nI (2 ^ W - 1)) (nI E) (nI rd) (nI qh) (nI qc) (nI C) fo ek ef et eo ec st ve qu qd n acc (nI l) := by
  intro n
  induction n with
  | zero => intro l acc h0 h1 h2; omega
  | succ n ih =>
    intro l acc h0 h1 h2 ha
    refine pk_lt V l (fun h => ?_) (fun h => ?_)
    · have e : l = V + 1 := by omega
      subst e
      exact hp _ (ra_rg_and hW _) (by rw [ra_pi_and hW, ha])
    · have hb := ra_ixlt (show l - 1 < V by omega) hj
      have e1 : nI at' + nI l = nI (at' + l) := nI_add _ _
      have e2 : nI row + 1 + (nI l - 1) * nI cols + nI j = nI (row + 1 + (l - 1) * cols + j) := by
        have e3 : nI l - 1 = nI (l - 1) := pk_sub (b := 1) h0
        have e4 : nI row + 1 = nI (row + 1) := nI_1 row
        rw [e3, e4, pk_mul, nI_add, nI_add]
      refine ⟨pk_in _ 64 (by omega) e1, pk_in _ 2775 (by omega) e2, nm_e (nm_r (nI_1 l) (ih (l + 1) _ (by omega) (by omega) (by omega) ?_))⟩
      rw [pk_cl _ e1, pk_cl _ e2, ra_pi_add (by omega), ra_pi_mul (by omega), ha]
      show _ = ra_sm l _ + ra_pi W (ec (at' + l)) * ra_cell cols (fun c => ra_pi W (st (row + c))) l j
      rw [show ra_cell cols (fun c => ra_pi W (st (row + c))) l j = ra_pi W (st (row + 1 + (l - 1) * cols + j)) from by
        unfold ra_cell; rw [if_neg (by omega)]
        show ra_pi W (st (row + (1 + (l - 1) * cols + j))) = _
        rw [show row + (1 + (l - 1) * cols + j) = row + 1 + (l - 1) * cols + j by omega]]
theorem xw_cmb_edgeCoeff {post : Int32 → Prop} {at' row cols j : Nat} (hW : W ≤ 4) (hV : 1 ≤ V) (hat : at' + V < 64) (hrow : row + (1 + V * cols) ≤ 2775) (hj : j < cols)
    (hp : ∀ r, ra_rg W r → ra_pi W r = ra_sm (V + 1) (fun l => ra_pi W (ec (at' + l)) * ra_cell cols (fun c => ra_pi W (st (row + c))) l j) → post r) :
    wpX_combine__edgeCoeff post (nI V, nI W, nI Q, nI S, nI (Q * S), nI (2 ^ W - 1), nI E, nI rd, nI qh, nI qc, nI C, fo, ek, ef, et, eo, ec, st, ve, qu, qd) (nI at') (nI row) (nI cols) (nI j) := by
  have hcol : 1 * cols ≤ V * cols := Nat.mul_le_mul_right cols hV
  refine pk_eq j 0 (fun h => ?_) (fun h => ?_) rfl rfl (by omega) (by omega)
  · refine ⟨vp_in_nI (by omega) (by omega), vp_in_nI (by omega) (by omega), nm_e (Exists.intro (V + 2) (xw_cmb_edgeCoeff_l hW hat hrow hj hp (V + 2) 1 _ (by omega) (by omega) (by omega) ?_))⟩
    rw [nI_clamp (by omega), nI_clamp (by omega), ra_pi_mul (by omega)]
    show _ = 0 + ra_pi W (ec (at' + 0)) * ra_cell cols (fun c => ra_pi W (st (row + c))) 0 j
    rw [show ra_cell cols (fun c => ra_pi W (st (row + c))) 0 j = ra_pi W (st row) from by unfold ra_cell; rw [if_pos rfl, if_pos h]; rfl, Nat.add_zero]
    grind
  · refine Exists.intro (V + 2) (xw_cmb_edgeCoeff_l hW hat hrow hj hp (V + 2) 1 _ (by omega) (by omega) (by omega) ?_)
    rw [ra_pi_0 (by omega)]
    show _ = 0 + ra_pi W (ec (at' + 0)) * ra_cell cols (fun c => ra_pi W (st (row + c))) 0 j
    rw [show ra_cell cols (fun c => ra_pi W (st (row + c))) 0 j = 0 from by unfold ra_cell; rw [if_pos rfl, if_neg h]]
    grind
theorem xw_cmb_form_l {post : Int32 → Prop} {at' row cols j : Nat} (hW : W ≤ 4) (hat : at' + V < 7) (hrow : row + (1 + V * cols) ≤ 2775) (hj : j < cols)
    (hp : ∀ r, ra_rg W r → ra_pi W r = ra_sm (V + 1) (fun l => ra_pi W (fo (at' + l)) * ra_cell cols (fun c => ra_pi W (st (row + c))) l j) → post r) :
    ∀ n l acc, 1 ≤ l → l ≤ V + 1 → V + 1 < n + l → ra_pi W acc = ra_sm l (fun l => ra_pi W (fo (at' + l)) * ra_cell cols (fun c => ra_pi W (st (row + c))) l j) →
      wX_combine__form_24 post (nI at') (nI row) (nI cols) (nI j) (nI V) (nI W) (nI Q) (nI S) (nI (Q * S)) (nI (2 ^ W - 1)) (nI E) (nI rd) (nI qh) (nI qc) (nI C) fo ek ef et eo ec st ve qu qd n acc (nI l) := by
  intro n
  induction n with
  | zero => intro l acc h0 h1 h2; omega
  | succ n ih =>
    intro l acc h0 h1 h2 ha
    refine pk_lt V l (fun h => ?_) (fun h => ?_)
    · have e : l = V + 1 := by omega
      subst e
      exact hp _ (ra_rg_and hW _) (by rw [ra_pi_and hW, ha])
    · have hb := ra_ixlt (show l - 1 < V by omega) hj
      have e1 : nI at' + nI l = nI (at' + l) := nI_add _ _
      have e2 : nI row + 1 + (nI l - 1) * nI cols + nI j = nI (row + 1 + (l - 1) * cols + j) := by
        have e3 : nI l - 1 = nI (l - 1) := pk_sub (b := 1) h0
        have e4 : nI row + 1 = nI (row + 1) := nI_1 row
        rw [e3, e4, pk_mul, nI_add, nI_add]
      refine ⟨pk_in _ 7 (by omega) e1, pk_in _ 2775 (by omega) e2, nm_e (nm_r (nI_1 l) (ih (l + 1) _ (by omega) (by omega) (by omega) ?_))⟩
      rw [pk_cl _ e1, pk_cl _ e2, ra_pi_add (by omega), ra_pi_mul (by omega), ha]
      show _ = ra_sm l _ + ra_pi W (fo (at' + l)) * ra_cell cols (fun c => ra_pi W (st (row + c))) l j
      rw [show ra_cell cols (fun c => ra_pi W (st (row + c))) l j = ra_pi W (st (row + 1 + (l - 1) * cols + j)) from by
        unfold ra_cell; rw [if_neg (by omega)]
        show ra_pi W (st (row + (1 + (l - 1) * cols + j))) = _
        rw [show row + (1 + (l - 1) * cols + j) = row + 1 + (l - 1) * cols + j by omega]]
theorem xw_cmb_form {post : Int32 → Prop} {at' row cols j : Nat} (hW : W ≤ 4) (hV : 1 ≤ V) (hat : at' + V < 7) (hrow : row + (1 + V * cols) ≤ 2775) (hj : j < cols)
    (hp : ∀ r, ra_rg W r → ra_pi W r = ra_sm (V + 1) (fun l => ra_pi W (fo (at' + l)) * ra_cell cols (fun c => ra_pi W (st (row + c))) l j) → post r) :
    wpX_combine__form post (nI V, nI W, nI Q, nI S, nI (Q * S), nI (2 ^ W - 1), nI E, nI rd, nI qh, nI qc, nI C, fo, ek, ef, et, eo, ec, st, ve, qu, qd) (nI at') (nI row) (nI cols) (nI j) := by
  have hcol : 1 * cols ≤ V * cols := Nat.mul_le_mul_right cols hV
  refine pk_eq j 0 (fun h => ?_) (fun h => ?_) rfl rfl (by omega) (by omega)
  · refine ⟨vp_in_nI (by omega) (by omega), vp_in_nI (by omega) (by omega), nm_e (Exists.intro (V + 2) (xw_cmb_form_l hW hat hrow hj hp (V + 2) 1 _ (by omega) (by omega) (by omega) ?_))⟩
    rw [nI_clamp (by omega), nI_clamp (by omega), ra_pi_mul (by omega)]
    show _ = 0 + ra_pi W (fo (at' + 0)) * ra_cell cols (fun c => ra_pi W (st (row + c))) 0 j
    rw [show ra_cell cols (fun c => ra_pi W (st (row + c))) 0 j = ra_pi W (st row) from by unfold ra_cell; rw [if_pos rfl, if_pos h]; rfl, Nat.add_zero]
    grind
  · refine Exists.intro (V + 2) (xw_cmb_form_l hW hat hrow hj hp (V + 2) 1 _ (by omega) (by omega) (by omega) ?_)
    rw [ra_pi_0 (by omega)]
    show _ = 0 + ra_pi W (fo (at' + 0)) * ra_cell cols (fun c => ra_pi W (st (row + c))) 0 j
    rw [show ra_cell cols (fun c => ra_pi W (st (row + c))) 0 j = 0 from by unfold ra_cell; rw [if_pos rfl, if_neg h]]
    grind
end
end
section
/-! X: the vectors of the tasks -/
theorem xv_eq {W n : Nat} {ve : Nat → Int32} {v : Nat → BitVec W} (h : ∀ x, x < n → ra_pi W (ve x) = v x) (h2 : ∀ x, n ≤ x → v x = 0) : xi_vv W n ve = v := by
  funext x
  by_cases hx : x < n
  · rw [xi_vv_in hx, h x hx]
  · rw [xi_vv_out hx, h2 x (by omega)]
section
variable {V W Q S E rd qh qc C n : Nat} {fo ek ef et eo ec st ve qu qd : Nat → Int32} {kK kF kT kO : Nat → Nat}
theorem xw_mul_51 {post : SX → Prop} {J : Int32 → (Nat → Int32) → (Nat → Int32) → (Nat → Int32) → (Nat → Int32) → (Nat → Int32) → (Nat → Int32) → (Nat → Int32) → (Nat → Int32) → (Nat → Int32) → (Nat → Int32) → Prop} {i sm row : Nat} (hV : 1 ≤ V ∧ V ≤ 3) (hW : W ≤ 4) (hn : n = 1 + V * C) (hn13 : n ≤ 13) (hi : i < V)
    (hsm : sm + (1 + V * (V + 1)) ≤ 2775) (hrow : row + n ≤ 2775)
    (hp : ∀ ve', (∀ x, x < 1 + (i + 1) * C → ra_rg W (ve' x) ∧ ra_pi W (ve' x) = ra_mul V C (xi_ro W (1 + V * (V + 1)) sm st) (xi_ro W n row st) x) → J (nI (i + 1)) fo ek ef et eo ec st ve' qu qd) :
    ∀ m j ve, j ≤ C → C < m + j → (∀ x, x < 1 + i * C + j → ra_rg W (ve x) ∧ ra_pi W (ve x) = ra_mul V C (xi_ro W (1 + V * (V + 1)) sm st) (xi_ro W n row st) x) →
      wX_multiply_51 post J (nI sm) (nI row) (nI i) (nI (sm + 1 + i * (V + 1))) (nI V) (nI W) (nI Q) (nI S) (nI (Q * S)) (nI (2 ^ W - 1)) (nI E) (nI rd) (nI qh) (nI qc) (nI C) m (nI j) fo ek ef et eo ec st ve qu qd := by
  intro m
  induction m with
  | zero => intro j ve h1 h2; omega
  | succ m ih =>
    intro j ve h1 h2 H
    have hiC : (i + 1) * C ≤ V * C := Nat.mul_le_mul_right C hi
    have hiC2 : (i + 1) * C = i * C + C := by rw [Nat.add_mul]; omega
    refine pk_le C j (fun h => ?_) (fun h => ?_) rfl rfl (by omega) (by omega)
    · have e : j = C := by omega
      subst e
      refine nm_r (nI_1 i) (hp ve (fun x hx => H x (by omega)))
    · have hb := ra_ixlt hi h
      have hb2 := ra_ixlt hi (show V < V + 1 by omega)
      refine xw_cmb_store (at' := sm + 1 + i * (V + 1)) hW hV.1 (by omega) (by omega) h ?_
      intro r hr1 hr2
      have e1 : (1 : Int32) + nI i * nI C + nI j = nI (1 + i * C + j) := by
        rw [pk_mul, show (1 : Int32) + nI (i * C) = nI (1 + i * C) from nI_add 1 (i * C), nI_add]
      refine ⟨pk_in _ 13 (by omega) e1, nm_r (e' := upd ve (1 + i * C + j) r) (by rw [pk_cl _ e1]) (nm_r (nI_1 j) (ih (j + 1) _ (by omega) (by omega) ?_))⟩
      intro x hx
      by_cases ex : x = 1 + i * C + j
      · rw [ex, pk_us]
        refine ⟨hr1, ?_⟩
        rw [hr2, ra_mul_at _ _ hi h]
        refine ra_sm_congr (fun l hl => ?_)
        have hb3 := ra_ixlt hi hl
        rw [xi_ro_in (by omega), xi_ro_cell hn (by omega) h, show sm + (1 + i * (V + 1) + l) = sm + 1 + i * (V + 1) + l by omega]
      · rw [pk_un ex]; exact H x (by omega)
theorem xw_mul_26 {post : SX → Prop} {sm row : Nat} (hV : 1 ≤ V ∧ V ≤ 3) (hW : W ≤ 4) (hn : n = 1 + V * C) (hn13 : n ≤ 13) (hC : 1 ≤ C) 
    (hsm : sm + (1 + V * (V + 1)) ≤ 2775) (hrow : row + n ≤ 2775)
    (hp : ∀ ve', (∀ c, c < n → ra_rg W (ve' c)) → xi_vv W n ve' = ra_mul V C (xi_ro W (1 + V * (V + 1)) sm st) (xi_ro W n row st) → post (nI V, nI W, nI Q, nI S, nI (Q * S), nI (2 ^ W - 1), nI E, nI rd, nI qh, nI qc, nI C, fo, ek, ef, et, eo, ec, st, ve', qu, qd)) :
    ∀ m i ve, i ≤ V → V < m + i → (∀ x, x < 1 + i * C → ra_rg W (ve x) ∧ ra_pi W (ve x) = ra_mul V C (xi_ro W (1 + V * (V + 1)) sm st) (xi_ro W n row st) x) →
      wX_multiply_26 post (nI sm) (nI row) (nI V) (nI W) (nI Q) (nI S) (nI (Q * S)) (nI (2 ^ W - 1)) (nI E) (nI rd) (nI qh) (nI qc) (nI C) m (nI i) fo ek ef et eo ec st ve qu qd := by
  intro m
  induction m with
  | zero => intro i ve h1 h2; omega
  | succ m ih =>
    intro i ve h1 h2 H
    refine pk_le V i (fun h => ?_) (fun h => ?_)
    · have e : i = V := by omega
      subst e
      exact hp ve (fun c hc => (H c (by omega)).1) (xv_eq (fun x hx => (H x (by omega)).2) (fun x hx => ra_mul_out _ _ _ _ (by omega)))
    · have e1 : nI sm + 1 + nI i * (nI V + 1) = nI (sm + 1 + i * (V + 1)) := by
        rw [nI_1, nI_1, pk_mul, nI_add]
      refine nm_r e1 (Exists.intro (C + 1) ?_)
      exact xw_mul_51 hV hW hn hn13 h hsm hrow (fun ve' H' => ih (i + 1) ve' (by omega) (by omega) H') (C + 1) 0 ve (by omega) (by omega) H
theorem xw_mul {post : SX → Prop} {sm row : Nat} (hV : 1 ≤ V ∧ V ≤ 3) (hW : W ≤ 4) (hn : n = 1 + V * C) (hn13 : n ≤ 13) (hC : 1 ≤ C) 
    (hsm : sm + (1 + V * (V + 1)) ≤ 2775) (hrow : row + n ≤ 2775)
    (hp : ∀ ve', (∀ c, c < n → ra_rg W (ve' c)) → xi_vv W n ve' = ra_mul V C (xi_ro W (1 + V * (V + 1)) sm st) (xi_ro W n row st) → post (nI V, nI W, nI Q, nI S, nI (Q * S), nI (2 ^ W - 1), nI E, nI rd, nI qh, nI qc, nI C, fo, ek, ef, et, eo, ec, st, ve', qu, qd)) : wpX_multiply post (nI V, nI W, nI Q, nI S, nI (Q * S), nI (2 ^ W - 1), nI E, nI rd, nI qh, nI qc, nI C, fo, ek, ef, et, eo, ec, st, ve, qu, qd) (nI sm) (nI row) := by
  have hz : (nI sm).toNatClampNeg = sm := nI_clamp (by omega)
  have hz2 : (nI row).toNatClampNeg = row := nI_clamp (by omega)
  refine And.intro (vp_in_nI (by omega) (by omega)) ⟨vp_in_nI (by omega) (by omega), nm_e (Exists.intro (V + 1) ?_)⟩
  refine xw_mul_26 hV hW hn hn13 hC hsm hrow hp (V + 1) 0 _ (by omega) (by omega) ?_
  intro x hx
  have e : x = 0 := by omega
  subst e
  rw [pk_us, hz, hz2]
  refine ⟨ra_rg_and hW _, ?_⟩
  rw [ra_pi_and hW, ra_pi_mul (by omega), ra_mul_hd, xi_ro_in (by omega), xi_ro_in (by omega), Nat.add_zero, Nat.add_zero]
/-! the assignment's line -/
theorem xw_asl_l {post : SX → Prop} {i e row : Nat} (hV : 1 ≤ V ∧ V ≤ 3) (hW : W ≤ 4) (hn : n = 1 + V * C) (hn13 : n ≤ 13) (hi : i < V) (he : e < 16) (hrow : row + n ≤ 2775)
    (hp : ∀ ve', (∀ c, c < n → ra_rg W (ve' c)) → xi_vv W n ve' = ra_mul V C (ra_mat V (ra_as (1 + i) (fun l => ra_pi W (ec (e * 4 + l))))) (xi_ro W n row st) → post (nI V, nI W, nI Q, nI S, nI (Q * S), nI (2 ^ W - 1), nI E, nI rd, nI qh, nI qc, nI C, fo, ek, ef, et, eo, ec, st, ve', qu, qd)) :
    ∀ m j ve, j ≤ C → C < m + j → (∀ x, x < n → ra_rg W (ve x) ∧ ra_pi W (ve x) = if 1 + i * C ≤ x ∧ x < 1 + i * C + j then ra_mul V C (ra_mat V (ra_as (1 + i) (fun l => ra_pi W (ec (e * 4 + l))))) (xi_ro W n row st) x else xi_ro W n row st x) →
      wX_assignLine_19 post (nI e) (nI row) (nI (1 + i * C)) (nI V) (nI W) (nI Q) (nI S) (nI (Q * S)) (nI (2 ^ W - 1)) (nI E) (nI rd) (nI qh) (nI qc) (nI C) m (nI j) fo ek ef et eo ec st ve qu qd := by
  intro m
  induction m with
  | zero => intro j ve h1 h2; omega
  | succ m ih =>
    intro j ve h1 h2 H
    have hiC : (i + 1) * C ≤ V * C := Nat.mul_le_mul_right C hi
    have hiC2 : (i + 1) * C = i * C + C := by rw [Nat.add_mul]; omega
    refine pk_le C j (fun h => ?_) (fun h => ?_) rfl rfl (by omega) (by omega)
    · have e : j = C := by omega
      refine hp ve (fun c hc => (H c hc).1) (xv_eq (fun x hx => ?_) (fun x hx => ra_mul_out _ _ _ _ (by omega)))
      rw [(H x hx).2]
      by_cases hh : 1 + i * C ≤ x ∧ x < 1 + i * C + j
      · rw [if_pos hh]
      · rw [if_neg hh]
        by_cases hx0 : x = 0
        · rw [hx0, ra_mul_hd, ra_mat_hd]; grind
        · obtain ⟨i', j', hi', hj', rfl⟩ := ra_ix (show x < 1 + V * C by omega) hx0
          rw [ra_mul_as _ _ hi' hj', if_neg]
          intro z
          have z2 : i' = i := by omega
          subst z2; omega
    · have hb := ra_ixlt hi h
      have e4 : nI e * 4 = nI (e * 4) := pk_mul e 4
      rw [e4]
      refine xw_cmb_edgeCoeff (at' := e * 4) hW hV.1 (by omega) (by omega) h ?_
      intro r hr1 hr2
      have e1 : nI (1 + i * C) + nI j = nI (1 + i * C + j) := nI_add _ _
      refine ⟨pk_in _ 13 (by omega) e1, nm_r (e' := upd ve (1 + i * C + j) r) (by rw [pk_cl _ e1]) (nm_r (nI_1 j) ?_)⟩
      have := ih (j + 1) (upd ve (1 + i * C + j) r) (by omega) (by omega) (by
        intro x hx
        by_cases ex : x = 1 + i * C + j
        · rw [ex, pk_us, if_pos (by omega), ra_mul_as _ _ hi h, if_pos rfl]
          refine ⟨hr1, ?_⟩
          rw [hr2]
          exact ra_sm_congr (fun l hl => by rw [xi_ro_cell hn (by omega) h])
        · rw [pk_un ex]
          refine ⟨(H x hx).1, ?_⟩
          rw [(H x hx).2]
          by_cases hh : 1 + i * C ≤ x ∧ x < 1 + i * C + j
          · rw [if_pos hh, if_pos (by omega)]
          · rw [if_neg hh, if_neg (by omega)])
      exact this
theorem xw_asl {post : SX → Prop} {o e row : Nat} (hV : 1 ≤ V ∧ V ≤ 3) (hW : W ≤ 4) (hn : n = 1 + V * C) (hn13 : n ≤ 13) (ho : 1 ≤ o ∧ o ≤ V) (he : e < 16) (heo : eo e = nI o) (hrow : row + n ≤ 2775)
    (hl : ∀ x, x < n → ra_rg W (ve x) ∧ ra_pi W (ve x) = xi_ro W n row st x)
    (hp : ∀ ve', (∀ c, c < n → ra_rg W (ve' c)) → xi_vv W n ve' = ra_mul V C (ra_mat V (ra_as o (fun l => ra_pi W (ec (e * 4 + l))))) (xi_ro W n row st) → post (nI V, nI W, nI Q, nI S, nI (Q * S), nI (2 ^ W - 1), nI E, nI rd, nI qh, nI qc, nI C, fo, ek, ef, et, eo, ec, st, ve', qu, qd)) :
    wpX_assignLine post (nI V, nI W, nI Q, nI S, nI (Q * S), nI (2 ^ W - 1), nI E, nI rd, nI qh, nI qc, nI C, fo, ek, ef, et, eo, ec, st, ve, qu, qd) (nI e) (nI row) := by
  obtain ⟨i, rfl⟩ : ∃ i, o = 1 + i := ⟨o - 1, by omega⟩
  have e1 : (1 : Int32) + (eo (nI e).toNatClampNeg - 1) * nI C = nI (1 + i * C) := by
    rw [nI_clamp (by omega), heo, show nI (1 + i) - 1 = nI (1 + i - 1) from pk_sub (b := 1) (by omega), Nat.add_sub_cancel_left, pk_mul]
    exact nI_add 1 (i * C)
  refine And.intro (vp_in_nI (by omega) (by omega)) (nm_r e1 (Exists.intro (C + 1) ?_))
  refine xw_asl_l hV hW hn hn13 (by omega) he hrow hp (C + 1) 0 ve (by omega) (by omega) ?_
  intro x hx
  rw [if_neg (by omega)]; exact hl x hx
/-! the constant's line -/
theorem xw_kn_l {post : SX → Prop} {i : Nat} {z : Int32} (hn : n = 1 + V * C) (hn13 : n ≤ 13) (hi : i < V)
    (hp : post (nI V, nI W, nI Q, nI S, nI (Q * S), nI (2 ^ W - 1), nI E, nI rd, nI qh, nI qc, nI C, fo, ek, ef, et, eo, ec, st, upd (xr_f ve (fun _ => 0) (1 + i * C) (1 + i * C + C)) (1 + i * C) ((z * ve 0) &&& nI (2 ^ W - 1)), qu, qd)) :
    ∀ m j, j ≤ C → C < m + j → wX_constantLine_14 post z (nI (1 + i * C)) (nI V) (nI W) (nI Q) (nI S) (nI (Q * S)) (nI (2 ^ W - 1)) (nI E) (nI rd) (nI qh) (nI qc) (nI C) m (nI j) fo ek ef et eo ec st (xr_f ve (fun _ => 0) (1 + i * C) (1 + i * C + j)) qu qd := by
  have hiC : (i + 1) * C ≤ V * C := Nat.mul_le_mul_right C hi
  have hiC2 : (i + 1) * C = i * C + C := by rw [Nat.add_mul]; omega
  intro m
  induction m with
  | zero => intro j h1 h2; omega
  | succ m ih =>
    intro j h1 h2
    refine pk_le C j (fun h => ?_) (fun h => ?_) rfl rfl (by omega) (by omega)
    · have e : j = C := by omega
      subst e
      have hc : (nI (1 + i * j)).toNatClampNeg = 1 + i * j := nI_clamp (by omega)
      have h0 : xr_f ve (fun _ => 0) (1 + i * j) (1 + i * j + j) 0 = ve 0 := xr_out (by omega)
      refine ⟨?_, nm_r ?_ hp⟩
      · rcases Nat.eq_zero_or_pos j with z | z
        · exact vp_in_nI (by rw [z]; omega) (by omega)
        · exact vp_in_nI (by omega) (by omega)
      · rw [hc, h0]
    · have e1 : nI (1 + i * C) + nI j = nI (1 + i * C + j) := nI_add _ _
      exact ⟨pk_in _ 13 (by omega) e1, nm_r (xr_s (by omega) (pk_cl _ e1) rfl) (nm_r (nI_1 j) (ih (j + 1) (by omega) (by omega)))⟩
theorem xw_kn {post : SX → Prop} {o row : Nat} {z : Int32} (hW : W ≤ 4) (hC : 1 ≤ C) (hn : n = 1 + V * C) (hn13 : n ≤ 13) (ho : 1 ≤ o ∧ o ≤ V)
    (hl : ∀ x, x < n → ra_rg W (ve x) ∧ ra_pi W (ve x) = xi_ro W n row st x)
    (hp : ∀ ve', (∀ c, c < n → ra_rg W (ve' c)) → xi_vv W n ve' = ra_mul V C (ra_mat V (ra_kn o (ra_pi W z))) (xi_ro W n row st) → post (nI V, nI W, nI Q, nI S, nI (Q * S), nI (2 ^ W - 1), nI E, nI rd, nI qh, nI qc, nI C, fo, ek, ef, et, eo, ec, st, ve', qu, qd)) :
    wpX_constantLine post (nI V, nI W, nI Q, nI S, nI (Q * S), nI (2 ^ W - 1), nI E, nI rd, nI qh, nI qc, nI C, fo, ek, ef, et, eo, ec, st, ve, qu, qd) (nI o) z := by
  obtain ⟨i, rfl⟩ : ∃ i, o = 1 + i := ⟨o - 1, by omega⟩
  have hiC : (i + 1) * C ≤ V * C := Nat.mul_le_mul_right C (show i + 1 ≤ V by omega)
  have hiC2 : (i + 1) * C = i * C + C := by rw [Nat.add_mul]; omega
  have e1 : (1 : Int32) + (nI (1 + i) - 1) * nI C = nI (1 + i * C) := by
    rw [show nI (1 + i) - 1 = nI (1 + i - 1) from pk_sub (b := 1) (by omega), Nat.add_sub_cancel_left, pk_mul]
    exact nI_add 1 (i * C)
  refine nm_r (P := fun x => ∃ n14 : Nat, wX_constantLine_14 post z x (nI V) (nI W) (nI Q) (nI S) (nI (Q * S)) (nI (2 ^ W - 1)) (nI E) (nI rd) (nI qh) (nI qc) (nI C) n14 0 fo ek ef et eo ec st ve qu qd) e1 (Exists.intro (C + 1) ?_)
  have key := xw_kn_l (st := st) (ve := ve) (post := post) (z := z) hn hn13 (show i < V by omega) (hp _ ?_ ?_) (C + 1) 0 (by omega) (by omega)
  · simp only [Nat.add_zero, xr_0] at key; exact key
  · intro c hc
    by_cases ec' : c = 1 + i * C
    · rw [ec', pk_us]; exact ra_rg_and hW _
    · rw [pk_un ec']
      by_cases hh : 1 + i * C ≤ c ∧ c < 1 + i * C + C
      · rw [xr_in hh.1 hh.2]; exact ra_rg_0 W
      · rw [xr_out (by omega)]; exact (hl c hc).1
  · refine xv_eq (fun x hx => ?_) (fun x hx => ra_mul_out _ _ _ _ (by omega))
    by_cases hx0 : x = 0
    · subst hx0
      rw [pk_un (by omega), xr_out (by omega), (hl 0 hx).2, ra_mul_hd, ra_mat_hd]; grind
    · obtain ⟨i', j', hi', hj', rfl⟩ := ra_ix (show x < 1 + V * C by omega) hx0
      rw [ra_mul_kn _ _ hi' hj']
      by_cases ei : 1 + i' = 1 + i
      · have ei2 : i' = i := by omega
        subst ei2
        rw [if_pos rfl]
        by_cases hj0 : j' = 0
        · subst hj0
          rw [if_pos rfl, Nat.add_zero, pk_us, ra_pi_and hW, ra_pi_mul (by omega), (hl 0 (by omega)).2]
        · rw [if_neg hj0, pk_un (by omega), xr_in (by omega) (by omega), ra_pi_0 (by omega)]
      · rw [if_neg ei]
        have hne : ¬ (1 + i * C ≤ 1 + i' * C + j' ∧ 1 + i' * C + j' < 1 + i * C + C) := by
          rintro ⟨z1, z2⟩
          rcases Nat.lt_or_ge i' i with h | h
          · have h2 := Nat.mul_le_mul_right C (show i' + 1 ≤ i from h)
            rw [Nat.add_mul] at h2; omega
          · have h2 := Nat.mul_le_mul_right C (show i + 1 ≤ i' by omega)
            rw [Nat.add_mul] at h2; omega
        rw [pk_un (by omega), xr_out (by omega), (hl _ hx).2]
end
end
section
theorem xe_zero {W n b : Nat} {st : Nat → Int32} (hW : W ≤ 4) (M : xe_md W n b st) {i : Nat} (hi : i < n) (h : st (b + i * n + i) = 0) : xi_rv W n b st i = fun _ => 0 := by
  obtain ⟨h1, h2, h3, h4⟩ := M.2.1 i hi
  rw [xi_rv_in hi, h, ra_pi_0 (by omega)] at h3
  have h5 : BitVec.ofNat W 0 = BitVec.ofNat W (2 ^ xi_kk W n b st i % 2 ^ W) := by rw [ra_ofmod]; exact h3
  have h6 := ra_ofinj (Nat.two_pow_pos W) (Nat.mod_lt _ (Nat.two_pow_pos W)) h5
  exact h4 (ra_t7 W (by omega) _ (by omega) h1 h6.symm)
section
variable {V W Q S E rd qh qc C n : Nat} {fo ek ef et eo ec st ve qu qd : Nat → Int32} {kK kF kT kO : Nat → Nat} {kc : Nat → Nat → BitVec W} {Con RL ini : Nat → (Nat → BitVec W) → Prop} {st0 : Nat → Int32} {B : Nat} {D : Nat → Nat → Nat → Prop}
/-- one task: the vector is the task's, it is contributed to the edge's target -/
theorem xw_task {post : SX → Prop} (hV : 1 ≤ V ∧ V ≤ 3) (hW : 1 ≤ W ∧ W ≤ 4) (hS : 2 ≤ S) (hP : Q * S ≤ 15) (hE : E ≤ 16) (hC : C = 1 ∨ C = V + 1) (hn : n = 1 + V * C) (hw : xe_wf V Q S E ek ef et eo kK kF kT kO) (hkc : kc = fun e l => ra_pi W (ec (e * 4 + l))) (hcon : xe_cs V S E C kK kF kT kO kc RL ini Con) (hlv : ∀ B st qh qc qu qd D, xp_iv W V S E (Q * S) C n kK kF kT kO kc Con st0 B st qh qc qu qd D → ∀ p, p < Q * S → xe_md W (1 + V * (V + 1)) (p * 169) st ∧ ∀ k, k < (1 + V * (V + 1)) → ra_cl (RL p) (xi_rv W (1 + V * (V + 1)) (p * 169) st k)) {e r k : Nat} (he : e < E) (hr : r < n) (hk : k < (1 + V * (V + 1))) (I : xp_iv W V S E (Q * S) C n kK kF kT kO kc Con st0 B st qh qc qu qd D) (hv : ∀ c, c < n → ra_rg W (ve c))
    (ht : xi_vv W n ve = ra_mul V C (xe_gn V S kK kO kc st e k) (xi_rv W n (xp_bs C (kF e)) st r))
    (hp : ∀ st' ve' qc' qu' qd', xp_iv W V S E (Q * S) C n kK kF kT kO kc Con st0 B st' qh qc' qu' qd' (fun e' r' k' => D e' r' k' ∨ (e' = e ∧ r' = r ∧ k' = k)) → post (nI V, nI W, nI Q, nI S, nI (Q * S), nI (2 ^ W - 1), nI E, nI rd, nI qh, nI qc', nI C, fo, ek, ef, et, eo, ec, st', ve', qu', qd')) :
    wpX_contribute post (nI V, nI W, nI Q, nI S, nI (Q * S), nI (2 ^ W - 1), nI E, nI rd, nI qh, nI qc, nI C, fo, ek, ef, et, eo, ec, st, ve, qu, qd) (nI (kT e)) := by
  obtain ⟨w1, w2, w3, w4, w5, w6, w7, w8, w9, w10⟩ := hw e he
  refine xw_ctr hV hW hS hP hE hC hn hw w7 I hv ?_ ?_
  · rw [ht]
    exact xe_sound hcon he w5 hk (I.2.2.1 _ r w6 hr) (fun h3 => (hlv _ _ _ _ _ _ _ I _ (xe_exit (w10 h3) hS).1).2 k hk)
  · intro st' ve' qc' qu' qd' I' _ hnew h4
    exact hp st' ve' qc' qu' qd' (xp_add hV hW hS hP hE hC hn hw he hr I' hnew (h4 e he) (Or.inl ⟨hk, rfl, ht⟩))
/-- the task of a call's entry -/
theorem xw_taske {post : SX → Prop} (hV : 1 ≤ V ∧ V ≤ 3) (hW : 1 ≤ W ∧ W ≤ 4) (hS : 2 ≤ S) (hP : Q * S ≤ 15) (hE : E ≤ 16) (hC : C = 1 ∨ C = V + 1) (hn : n = 1 + V * C) (hw : xe_wf V Q S E ek ef et eo kK kF kT kO) (hkc : kc = fun e l => ra_pi W (ec (e * 4 + l))) (hcon : xe_cs V S E C kK kF kT kO kc RL ini Con) (hlv : ∀ B st qh qc qu qd D, xp_iv W V S E (Q * S) C n kK kF kT kO kc Con st0 B st qh qc qu qd D → ∀ p, p < Q * S → xe_md W (1 + V * (V + 1)) (p * 169) st ∧ ∀ k, k < (1 + V * (V + 1)) → ra_cl (RL p) (xi_rv W (1 + V * (V + 1)) (p * 169) st k)) {e r : Nat} (he : e < E) (hr : r < n) (hC1 : C = 1) (h3 : kK e = 3) (I : xp_iv W V S E (Q * S) C n kK kF kT kO kc Con st0 B st qh qc qu qd D) (hv : ∀ c, c < n → ra_rg W (ve c))
    (ht : xi_vv W n ve = xi_rv W n (xp_bs C (kF e)) st r)
    (hp : ∀ st' ve' qc' qu' qd', xp_iv W V S E (Q * S) C n kK kF kT kO kc Con st0 B st' qh qc' qu' qd' (fun e' r' k' => D e' r' k' ∨ (e' = e ∧ r' = r ∧ k' = (1 + V * (V + 1)))) → post (nI V, nI W, nI Q, nI S, nI (Q * S), nI (2 ^ W - 1), nI E, nI rd, nI qh, nI qc', nI C, fo, ek, ef, et, eo, ec, st', ve', qu', qd')) :
    wpX_contribute post (nI V, nI W, nI Q, nI S, nI (Q * S), nI (2 ^ W - 1), nI E, nI rd, nI qh, nI qc, nI C, fo, ek, ef, et, eo, ec, st, ve, qu, qd) (nI (kO e * S)) := by
  obtain ⟨w1, w2, w3, w4, w5, w6, w7, w8, w9, w10⟩ := hw e he
  refine xw_ctr hV hW hS hP hE hC hn hw (xe_exit (w10 h3) hS).2 I hv ?_ ?_
  · rw [ht]
    exact ra_cl_tr (I.2.2.1 _ r w6 hr) (fun u hu => ra_cl_of (hcon.2.2 hC1 e u he h3 hu))
  · intro st' ve' qc' qu' qd' I' _ hnew h4
    exact hp st' ve' qc' qu' qd' (xp_add hV hW hS hP hE hC hn hw he hr I' hnew (h4 e he) (Or.inr ⟨by omega, rfl, ht⟩))
/-- a plain edge has one generator, or two -/
theorem xp_fill {e r : Nat} {D1 : Nat → Nat → Nat → Prop} (h3 : kK e ≠ 3) (I : xp_iv W V S E (Q * S) C n kK kF kT kO kc Con st0 B st qh qc qu qd D1) (hD : ∀ e' r' k', D e' r' k' → D1 e' r' k')
    (h : ∀ k, k < (1 + V * (V + 1)) → ∃ k', k' < (1 + V * (V + 1)) ∧ D1 e r k' ∧ xe_gn V S kK kO kc st e k' = xe_gn V S kK kO kc st e k) : xp_iv W V S E (Q * S) C n kK kF kT kO kc Con st0 B st qh qc qu qd (fun e' r' k' => D e' r' k' ∨ (e' = e ∧ r' = r ∧ k' ≤ (1 + V * (V + 1)))) := by
  obtain ⟨I1, I2, I3, I4, I5, I6⟩ := I
  refine ⟨I1, I2, I3, I4, I5, fun e' he' => ?_⟩
  rcases I6 e' he' with h' | h'
  · exact Or.inl h'
  · right
    intro r' k' hr' hD'
    rcases hD' with hD' | ⟨z1, z2, _⟩
    · exact h' r' k' hr' (hD _ _ _ hD')
    · subst z1 z2
      by_cases hk : k' < (1 + V * (V + 1))
      · obtain ⟨k2, g1, g2, g3⟩ := h k' hk
        have := h' r' k2 hr' g2
        unfold xe_tk at this ⊢
        rw [if_pos g1, g3] at this
        rw [if_pos hk]; exact this
      · unfold xe_tk; rw [if_neg hk]; intro _ z; exact absurd z h3
theorem xl_ok {row : Nat} (hr : ∀ c, c < n → ra_rg W (st (row + c))) : ∀ x, x < n → ra_rg W (xr_f ve (fun c => st (row + c)) 0 n x) ∧ ra_pi W (xr_f ve (fun c => st (row + c)) 0 n x) = xi_ro W n row st x := by
  intro x hx
  rw [xr_in (by omega) hx, xi_ro_in hx]; exact ⟨hr x hx, rfl⟩
theorem xw_plain {post : SX → Prop} (hV : 1 ≤ V ∧ V ≤ 3) (hW : 1 ≤ W ∧ W ≤ 4) (hS : 2 ≤ S) (hP : Q * S ≤ 15) (hE : E ≤ 16) (hC : C = 1 ∨ C = V + 1) (hn : n = 1 + V * C) (hw : xe_wf V Q S E ek ef et eo kK kF kT kO) (hkc : kc = fun e l => ra_pi W (ec (e * 4 + l))) (hcon : xe_cs V S E C kK kF kT kO kc RL ini Con) (hlv : ∀ B st qh qc qu qd D, xp_iv W V S E (Q * S) C n kK kF kT kO kc Con st0 B st qh qc qu qd D → ∀ p, p < Q * S → xe_md W (1 + V * (V + 1)) (p * 169) st ∧ ∀ k, k < (1 + V * (V + 1)) → ra_cl (RL p) (xi_rv W (1 + V * (V + 1)) (p * 169) st k)) {e r : Nat} (he : e < E) (hr : r < n) (h3 : kK e ≠ 3) (I : xp_iv W V S E (Q * S) C n kK kF kT kO kc Con st0 B st qh qc qu qd D)
    (hp : ∀ st' ve' qc' qu' qd', xp_iv W V S E (Q * S) C n kK kF kT kO kc Con st0 B st' qh qc' qu' qd' (fun e' r' k' => D e' r' k' ∨ (e' = e ∧ r' = r ∧ k' ≤ (1 + V * (V + 1)))) → post (nI V, nI W, nI Q, nI S, nI (Q * S), nI (2 ^ W - 1), nI E, nI rd, nI qh, nI qc', nI C, fo, ek, ef, et, eo, ec, st', ve', qu', qd')) :
    wpX_passPlain post (nI V, nI W, nI Q, nI S, nI (Q * S), nI (2 ^ W - 1), nI E, nI rd, nI qh, nI qc, nI C, fo, ek, ef, et, eo, ec, st, ve, qu, qd) (nI e) (nI (xp_bs C (kF e) + r * n)) := by
  obtain ⟨w1, w2, w3, w4, w5, w6, w7, w8, w9, w10⟩ := hw e he
  obtain ⟨n1, n2, n3, n4, n5, n6⟩ := xp_n hV hC hn
  have hnL : 2 ≤ (1 + V * (V + 1)) := by have := Nat.mul_le_mul hV.1 (show 1 ≤ V + 1 by omega); omega
  have hb := xp_bs_le hV hC hn (show kF e < 15 by omega)
  have hrn := ra_ixlt hr (show n - 1 < n by omega)
  have hrow : xp_bs C (kF e) + r * n + n ≤ 2775 := by omega
  have hc : (nI e).toNatClampNeg = e := nI_clamp (by omega)
  have hin : vp_in (nI e) 16 := vp_in_nI (by omega) (by omega)
  have rg : ∀ c, c < n → ra_rg W (st (xp_bs C (kF e) + r * n + c)) := fun c hcc => (I.2.1 _ w6).1 r c hr hcc
  have zO : ∀ v : Nat → BitVec W, ∀ x, n ≤ x → xi_rv W n (xp_bs C (kF e)) st r x = 0 := fun _ x hx => xi_rv_out (by omega)
  refine xw_load hn n2 hrow ?_
  refine ⟨hin, ?_⟩
  rw [hc]
  have fin : ∀ ve1, (∀ c, c < n → ra_rg W (ve1 c)) → ∀ st1 qc1 qu1 qd1 D1 k, k < (1 + V * (V + 1)) → xp_iv W V S E (Q * S) C n kK kF kT kO kc Con st0 B st1 qh qc1 qu1 qd1 D1 →
      xi_vv W n ve1 = ra_mul V C (xe_gn V S kK kO kc st1 e k) (xi_rv W n (xp_bs C (kF e)) st1 r) → (∀ e' r' k', D e' r' k' → D1 e' r' k') →
      (∀ st', ∀ k2, k2 < (1 + V * (V + 1)) → ∃ k', k' < (1 + V * (V + 1)) ∧ (D1 e r k' ∨ k' = k) ∧ xe_gn V S kK kO kc st' e k' = xe_gn V S kK kO kc st' e k2) →
      wX_passPlain_71 post (nI e) (nI V) (nI W) (nI Q) (nI S) (nI (Q * S)) (nI (2 ^ W - 1)) (nI E) (nI rd) (nI qh) (nI qc1) (nI C) fo ek ef et eo ec st1 ve1 qu1 qd1 := by
    intro ve1 g1 st1 qc1 qu1 qd1 D1 k hk I1 g2 g3 g4
    refine And.intro hin ?_
    rw [hc, w3]
    refine xw_task hV hW hS hP hE hC hn hw hkc hcon hlv he hr hk I1 g1 g2 ?_
    intro st' ve' qc' qu' qd' I'
    refine hp st' ve' qc' qu' qd' (xp_fill h3 I' (fun e' r' k' z => Or.inl (g3 e' r' k' z)) ?_)
    intro k2 hk2
    obtain ⟨k', a1, a2, a3⟩ := g4 st' k2 hk2
    refine ⟨k', a1, ?_, a3⟩
    rcases a2 with a2 | a2
    · exact Or.inl a2
    · exact Or.inr ⟨rfl, rfl, a2⟩
  refine pk_eq (kK e) 1 (fun h1 => ?_) (fun h1 => ⟨hin, pk_eq (kK e) 2 (fun h2 => ?_) (fun h2 => ?_) w1 rfl (by omega) (by omega)⟩) w1 rfl (by omega) (by omega)
  · refine xw_asl hV hW.2 hn n2 (w9 (Or.inl h1)) (by omega) w4 hrow (xl_ok rg) ?_
    intro ve1 g1 g2
    refine fin ve1 g1 st qc qu qd D 0 (by omega) I ?_ (fun _ _ _ z => z) (fun st' k2 hk2 => ⟨0, by omega, Or.inr rfl, ?_⟩)
    · rw [g2, xi_ro_rv]
      unfold xe_gn; rw [if_neg (by omega), if_pos h1, hkc]
    · have a0 : ¬ kK e = 0 := by omega
      unfold xe_gn; rw [if_neg a0, if_neg a0, if_pos h1, if_pos h1]
  · refine ⟨hin, ?_⟩
    rw [w4]
    refine xw_kn hW.2 n5 hn n2 (w9 (Or.inr h2)) (xl_ok rg) ?_
    intro ve1 g1 g2
    refine ⟨hin, ?_⟩
    rw [w3]
    refine xw_task hV hW hS hP hE hC hn hw hkc hcon hlv he hr (k := 0) (by omega) I g1 ?_ ?_
    · rw [g2, xi_ro_rv, ra_pi_0 (by omega)]
      unfold xe_gn; rw [if_neg (by omega), if_neg (by omega), if_pos h2, if_pos rfl]
    · intro st1 ve2 qc1 qu1 qd1 I1
      have rg1 : ∀ c, c < n → ra_rg W (st1 (xp_bs C (kF e) + r * n + c)) := fun c hcc => (I1.2.1 _ w6).1 r c hr hcc
      refine xw_load hn n2 hrow ?_
      refine ⟨hin, ?_⟩
      rw [w4]
      refine xw_kn hW.2 n5 hn n2 (w9 (Or.inr h2)) (xl_ok rg1) ?_
      intro ve3 g3 g4
      refine fin ve3 g3 st1 qc1 qu1 qd1 _ 1 (by omega) I1 ?_ (fun _ _ _ z => Or.inl z) (fun st' k2 hk2 => ?_)
      · rw [g4, xi_ro_rv, ra_pi_1 (by omega)]
        unfold xe_gn; rw [if_neg (by omega), if_neg (by omega), if_pos h2, if_neg (by omega)]
      · by_cases hk0 : k2 = 0
        · exact ⟨0, by omega, Or.inl (Or.inr ⟨rfl, rfl, rfl⟩), by rw [hk0]⟩
        · refine ⟨1, by omega, Or.inr rfl, ?_⟩
          unfold xe_gn
          rw [if_neg (show ¬ (1 : Nat) = 0 by omega), if_neg hk0, if_pos h2, if_pos h2]
  · refine fin _ (fun c hcc => (xl_ok rg c hcc).1) st qc qu qd D 0 (by omega) I ?_ (fun _ _ _ z => z) (fun st' k2 hk2 => ⟨0, by omega, Or.inr rfl, ?_⟩)
    · have h0 : kK e = 0 := by omega
      have e1 : xe_gn V S kK kO kc st e 0 = ra_mat V ra_id := by unfold xe_gn; rw [if_pos h0]
      rw [e1, ra_mul_id]
      · exact xv_eq (fun x hx => (xl_ok rg x hx).2) (fun x hx => xi_rv_out (by omega))
      · intro x hx; exact xi_rv_out (by omega)
    · have h0 : kK e = 0 := by omega
      unfold xe_gn; rw [if_pos h0, if_pos h0]
end
end
section
section
variable {V W Q S E rd qh qc C n : Nat} {fo ek ef et eo ec st ve qu qd : Nat → Int32} {kK kF kT kO : Nat → Nat} {kc : Nat → Nat → BitVec W} {Con RL ini : Nat → (Nat → BitVec W) → Prop} {st0 : Nat → Int32} {B : Nat} {D : Nat → Nat → Nat → Prop}
theorem xw_entry {post : Int32 → Prop} {o : Nat} (hp : post (nI (o * S))) : wpX_entryOf post (nI V, nI W, nI Q, nI S, nI (Q * S), nI (2 ^ W - 1), nI E, nI rd, nI qh, nI qc, nI C, fo, ek, ef, et, eo, ec, st, ve, qu, qd) (nI o) := by
  show post (nI o * nI S)
  rw [pk_mul]; exact hp
theorem xw_call_66 {post : SX → Prop} (hV : 1 ≤ V ∧ V ≤ 3) (hW : 1 ≤ W ∧ W ≤ 4) (hS : 2 ≤ S) (hP : Q * S ≤ 15) (hE : E ≤ 16) (hC : C = 1 ∨ C = V + 1) (hn : n = 1 + V * C) (hw : xe_wf V Q S E ek ef et eo kK kF kT kO) (hkc : kc = fun e l => ra_pi W (ec (e * 4 + l))) (hcon : xe_cs V S E C kK kF kT kO kc RL ini Con) (hlv : ∀ B st qh qc qu qd D, xp_iv W V S E (Q * S) C n kK kF kT kO kc Con st0 B st qh qc qu qd D → ∀ p, p < Q * S → xe_md W (1 + V * (V + 1)) (p * 169) st ∧ ∀ k, k < (1 + V * (V + 1)) → ra_cl (RL p) (xi_rv W (1 + V * (V + 1)) (p * 169) st k)) {e r : Nat} (he : e < E) (hr : r < n) (h3 : kK e = 3)
    (hp : ∀ st' ve' qc' qu' qd', xp_iv W V S E (Q * S) C n kK kF kT kO kc Con st0 B st' qh qc' qu' qd' (fun e' r' k' => D e' r' k' ∨ (e' = e ∧ r' = r ∧ k' ≤ (1 + V * (V + 1)))) → post (nI V, nI W, nI Q, nI S, nI (Q * S), nI (2 ^ W - 1), nI E, nI rd, nI qh, nI qc', nI C, fo, ek, ef, et, eo, ec, st', ve', qu', qd')) :
    ∀ m k st ve qc qu qd, k ≤ (1 + V * (V + 1)) → (1 + V * (V + 1)) < m + k → xp_iv W V S E (Q * S) C n kK kF kT kO kc Con st0 B st qh qc qu qd (fun e' r' k' => D e' r' k' ∨ (e' = e ∧ r' = r ∧ (k' < k ∨ k' = (1 + V * (V + 1))))) →
      wX_passCall_66 post (nI e) (nI (xp_bs C (kF e) + r * n)) (nI ((kO e * S + S - 1) * 169)) (nI (1 + V * (V + 1))) m (nI k) (nI V) (nI W) (nI Q) (nI S) (nI (Q * S)) (nI (2 ^ W - 1)) (nI E) (nI rd) (nI qh) (nI qc) (nI C) fo ek ef et eo ec st ve qu qd := by
  obtain ⟨w1, w2, w3, w4, w5, w6, w7, w8, w9, w10⟩ := hw e he
  obtain ⟨n1, n2, n3, n4, n5, n6⟩ := xp_n hV hC hn
  obtain ⟨l1, l2, l3, _, _, _⟩ := xp_n hV (Or.inr rfl) (rfl : (1 + V * (V + 1)) = (1 + V * (V + 1)))
  have hx := (xe_exit (w10 h3) hS).1
  have hb := xp_bs_le hV hC hn (show kF e < 15 by omega)
  have hrn := ra_ixlt hr (show n - 1 < n by omega)
  have hc : (nI e).toNatClampNeg = e := nI_clamp (by omega)
  have hin : vp_in (nI e) 16 := vp_in_nI (by omega) (by omega)
  intro m
  induction m with
  | zero => intro k st ve qc qu qd h1 h2; omega
  | succ m ih =>
    intro k st ve qc qu qd h1 h2 I
    refine pk_le (1 + V * (V + 1)) k (fun h => ?_) (fun h => ?_) rfl rfl (by omega) (by omega)
    · refine hp st ve qc qu qd (xp_weak I ?_)
      intro e' r' k' _ _ hd
      rcases hd with hd | ⟨z1, z2, z3⟩
      · exact Or.inl hd
      · exact Or.inr ⟨z1, z2, by omega⟩
    · obtain ⟨M, _⟩ := hlv _ _ _ _ _ _ _ I _ hx
      have hkn := ra_ixlt h (show (1 + V * (V + 1)) - 1 < (1 + V * (V + 1)) by omega)
      have hkk := ra_ixlt h h
      have e1 : nI ((kO e * S + S - 1) * 169) + nI k * nI (1 + V * (V + 1)) = nI ((kO e * S + S - 1) * 169 + k * (1 + V * (V + 1))) := by rw [pk_mul, nI_add]
      have e2 : nI ((kO e * S + S - 1) * 169 + k * (1 + V * (V + 1))) + nI k = nI ((kO e * S + S - 1) * 169 + k * (1 + V * (V + 1)) + k) := nI_add _ _
      refine nm_r e1 ⟨pk_in _ 2775 (by omega) e2, ?_⟩
      rw [pk_cl _ e2]
      have weak : ∀ st1 qc1 qu1 qd1, xp_iv W V S E (Q * S) C n kK kF kT kO kc Con st0 B st1 qh qc1 qu1 qd1 (fun e' r' k' => (fun e' r' k' => D e' r' k' ∨ (e' = e ∧ r' = r ∧ (k' < k ∨ k' = (1 + V * (V + 1))))) e' r' k' ∨ (e' = e ∧ r' = r ∧ k' = k)) → xp_iv W V S E (Q * S) C n kK kF kT kO kc Con st0 B st1 qh qc1 qu1 qd1 (fun e' r' k' => D e' r' k' ∨ (e' = e ∧ r' = r ∧ (k' < k + 1 ∨ k' = (1 + V * (V + 1))))) := by
        intro st1 qc1 qu1 qd1 I1
        refine xp_weak I1 ?_
        intro e' r' k' _ _ hd
        rcases hd with hd | ⟨z1, z2, z3⟩
        · exact Or.inl (Or.inl hd)
        · by_cases hk' : k' = k
          · exact Or.inr ⟨z1, z2, hk'⟩
          · exact Or.inl (Or.inr ⟨z1, z2, by omega⟩)
      have eg : xe_gn V S kK kO kc st e k = xi_rv W (1 + V * (V + 1)) ((kO e * S + S - 1) * 169) st k := by
        unfold xe_gn; rw [if_neg (by omega), if_neg (by omega), if_neg (by omega)]
      refine br_c (fun hz => ?_) (fun hz => ?_)
      · refine nm_r (nI_1 k) (ih (k + 1) st ve qc qu qd (by omega) (by omega) (weak _ _ _ _ ?_))
        refine xp_add0 hV hW hS hP hE hC hn hw (Kp := fun k' => k' = k) he I ?_
        intro k' hk'
        left
        rw [hk']
        exact ⟨h, by rw [eg]; exact xe_zero hW.2 M h hz⟩
      · refine xw_mul (sm := (kO e * S + S - 1) * 169 + k * (1 + V * (V + 1))) hV hW.2 hn n2 n5 (by omega) (by omega) ?_
        intro ve1 g1 g2
        refine ⟨hin, ?_⟩
        rw [hc, w3]
        refine xw_task hV hW hS hP hE hC hn hw hkc hcon hlv he hr h I g1 ?_ ?_
        · rw [g2, eg]; rfl
        · intro st' ve' qc' qu' qd' I'
          exact nm_r (nI_1 k) (ih (k + 1) st' ve' qc' qu' qd' (by omega) (by omega) (weak _ _ _ _ I'))
theorem xw_call_33 {post : SX → Prop} (hV : 1 ≤ V ∧ V ≤ 3) (hW : 1 ≤ W ∧ W ≤ 4) (hS : 2 ≤ S) (hP : Q * S ≤ 15) (hE : E ≤ 16) (hC : C = 1 ∨ C = V + 1) (hn : n = 1 + V * C) (hw : xe_wf V Q S E ek ef et eo kK kF kT kO) (hkc : kc = fun e l => ra_pi W (ec (e * 4 + l))) (hcon : xe_cs V S E C kK kF kT kO kc RL ini Con) (hlv : ∀ B st qh qc qu qd D, xp_iv W V S E (Q * S) C n kK kF kT kO kc Con st0 B st qh qc qu qd D → ∀ p, p < Q * S → xe_md W (1 + V * (V + 1)) (p * 169) st ∧ ∀ k, k < (1 + V * (V + 1)) → ra_cl (RL p) (xi_rv W (1 + V * (V + 1)) (p * 169) st k)) {e r : Nat} (he : e < E) (hr : r < n) (h3 : kK e = 3) (I : xp_iv W V S E (Q * S) C n kK kF kT kO kc Con st0 B st qh qc qu qd (fun e' r' k' => D e' r' k' ∨ (e' = e ∧ r' = r ∧ k' = (1 + V * (V + 1)))))
    (hp : ∀ st' ve' qc' qu' qd', xp_iv W V S E (Q * S) C n kK kF kT kO kc Con st0 B st' qh qc' qu' qd' (fun e' r' k' => D e' r' k' ∨ (e' = e ∧ r' = r ∧ k' ≤ (1 + V * (V + 1)))) → post (nI V, nI W, nI Q, nI S, nI (Q * S), nI (2 ^ W - 1), nI E, nI rd, nI qh, nI qc', nI C, fo, ek, ef, et, eo, ec, st', ve', qu', qd')) :
    wX_passCall_33 post (nI e) (nI (xp_bs C (kF e) + r * n)) (nI (kO e)) (nI V) (nI W) (nI Q) (nI S) (nI (Q * S)) (nI (2 ^ W - 1)) (nI E) (nI rd) (nI qh) (nI qc) (nI C) fo ek ef et eo ec st ve qu qd := by
  unfold wX_passCall_33
  refine xw_exit hS ?_
  have e1 : nI (kO e * S + S - 1) * 169 = nI ((kO e * S + S - 1) * 169) := pk_mul _ 169
  have e2 : (1 : Int32) + nI V * (nI V + 1) = nI (1 + V * (V + 1)) := by rw [nI_1, pk_mul]; exact nI_add 1 _
  show ∀ x : Int32, x = 1 + nI V * (nI V + 1) → _
  refine nm_r e2 (Exists.intro ((1 + V * (V + 1)) + 1) ?_)
  rw [e1]
  refine xw_call_66 hV hW hS hP hE hC hn hw hkc hcon hlv he hr h3 hp ((1 + V * (V + 1)) + 1) 0 st ve qc qu qd (by omega) (by omega) (xp_weak I ?_)
  intro e' r' k' _ _ hd
  rcases hd with hd | ⟨z1, z2, z3⟩
  · exact Or.inl hd
  · exact Or.inr ⟨z1, z2, by omega⟩
theorem xw_call {post : SX → Prop} (hV : 1 ≤ V ∧ V ≤ 3) (hW : 1 ≤ W ∧ W ≤ 4) (hS : 2 ≤ S) (hP : Q * S ≤ 15) (hE : E ≤ 16) (hC : C = 1 ∨ C = V + 1) (hn : n = 1 + V * C) (hw : xe_wf V Q S E ek ef et eo kK kF kT kO) (hkc : kc = fun e l => ra_pi W (ec (e * 4 + l))) (hcon : xe_cs V S E C kK kF kT kO kc RL ini Con) (hlv : ∀ B st qh qc qu qd D, xp_iv W V S E (Q * S) C n kK kF kT kO kc Con st0 B st qh qc qu qd D → ∀ p, p < Q * S → xe_md W (1 + V * (V + 1)) (p * 169) st ∧ ∀ k, k < (1 + V * (V + 1)) → ra_cl (RL p) (xi_rv W (1 + V * (V + 1)) (p * 169) st k)) {e r : Nat} (he : e < E) (hr : r < n) (h3 : kK e = 3) (I : xp_iv W V S E (Q * S) C n kK kF kT kO kc Con st0 B st qh qc qu qd D)
    (hp : ∀ st' ve' qc' qu' qd', xp_iv W V S E (Q * S) C n kK kF kT kO kc Con st0 B st' qh qc' qu' qd' (fun e' r' k' => D e' r' k' ∨ (e' = e ∧ r' = r ∧ k' ≤ (1 + V * (V + 1)))) → post (nI V, nI W, nI Q, nI S, nI (Q * S), nI (2 ^ W - 1), nI E, nI rd, nI qh, nI qc', nI C, fo, ek, ef, et, eo, ec, st', ve', qu', qd')) :
    wpX_passCall post (nI V, nI W, nI Q, nI S, nI (Q * S), nI (2 ^ W - 1), nI E, nI rd, nI qh, nI qc, nI C, fo, ek, ef, et, eo, ec, st, ve, qu, qd) (nI e) (nI (xp_bs C (kF e) + r * n)) := by
  obtain ⟨w1, w2, w3, w4, w5, w6, w7, w8, w9, w10⟩ := hw e he
  obtain ⟨n1, n2, n3, n4, n5, n6⟩ := xp_n hV hC hn
  have hb := xp_bs_le hV hC hn (show kF e < 15 by omega)
  have hrn := ra_ixlt hr (show n - 1 < n by omega)
  have hc : (nI e).toNatClampNeg = e := nI_clamp (by omega)
  refine And.intro (vp_in_nI (by omega) (by omega)) (nm_r (e' := nI (kO e)) (by rw [hc, w4]) ?_)
  refine pk_eq C 1 (fun h => ?_) (fun h => ?_) rfl rfl (by omega) (by omega)
  · refine xw_load hn n2 (by omega) ?_
    refine xw_entry ?_
    have rg : ∀ c, c < n → ra_rg W (st (xp_bs C (kF e) + r * n + c)) := fun c hcc => (I.2.1 _ w6).1 r c hr hcc
    refine xw_taske hV hW hS hP hE hC hn hw hkc hcon hlv he hr h h3 I (fun c hcc => (xl_ok rg c hcc).1) ?_ ?_
    · exact xv_eq (fun x hx => (xl_ok rg x hx).2) (fun x hx => xi_rv_out (by omega))
    · intro st' ve' qc' qu' qd' I'
      exact xw_call_33 hV hW hS hP hE hC hn hw hkc hcon hlv he hr h3 I' hp
  · refine xw_call_33 hV hW hS hP hE hC hn hw hkc hcon hlv he hr h3 ?_ hp
    refine xp_add0 hV hW hS hP hE hC hn hw (Kp := fun k' => k' = (1 + V * (V + 1))) he I ?_
    intro k' hk'
    right; right
    exact ⟨by omega, fun z => h z.1⟩
theorem xw_pass_26 {post : SX → Prop} (hV : 1 ≤ V ∧ V ≤ 3) (hW : 1 ≤ W ∧ W ≤ 4) (hS : 2 ≤ S) (hP : Q * S ≤ 15) (hE : E ≤ 16) (hC : C = 1 ∨ C = V + 1) (hn : n = 1 + V * C) (hw : xe_wf V Q S E ek ef et eo kK kF kT kO) (hkc : kc = fun e l => ra_pi W (ec (e * 4 + l))) (hcon : xe_cs V S E C kK kF kT kO kc RL ini Con) (hlv : ∀ B st qh qc qu qd D, xp_iv W V S E (Q * S) C n kK kF kT kO kc Con st0 B st qh qc qu qd D → ∀ p, p < Q * S → xe_md W (1 + V * (V + 1)) (p * 169) st ∧ ∀ k, k < (1 + V * (V + 1)) → ra_cl (RL p) (xi_rv W (1 + V * (V + 1)) (p * 169) st k)) {e : Nat} (he : e < E)
    (hp : ∀ st' ve' qc' qu' qd', xp_iv W V S E (Q * S) C n kK kF kT kO kc Con st0 B st' qh qc' qu' qd' (fun _ _ k' => k' ≤ (1 + V * (V + 1))) → post (nI V, nI W, nI Q, nI S, nI (Q * S), nI (2 ^ W - 1), nI E, nI rd, nI qh, nI qc', nI C, fo, ek, ef, et, eo, ec, st', ve', qu', qd')) :
    ∀ m r st ve qc qu qd, r ≤ n → n < m + r → xp_iv W V S E (Q * S) C n kK kF kT kO kc Con st0 B st qh qc qu qd (fun e' r' k' => k' ≤ (1 + V * (V + 1)) ∧ (e' = e → r' < r)) →
      wX_passEdge_26 post (nI e) (nI (xp_bs C (kF e))) (nI n) m (nI r) (nI V) (nI W) (nI Q) (nI S) (nI (Q * S)) (nI (2 ^ W - 1)) (nI E) (nI rd) (nI qh) (nI qc) (nI C) fo ek ef et eo ec st ve qu qd := by
  obtain ⟨w1, w2, w3, w4, w5, w6, w7, w8, w9, w10⟩ := hw e he
  obtain ⟨n1, n2, n3, n4, n5, n6⟩ := xp_n hV hC hn
  have hb := xp_bs_le hV hC hn (show kF e < 15 by omega)
  have hc : (nI e).toNatClampNeg = e := nI_clamp (by omega)
  have hin : vp_in (nI e) 16 := vp_in_nI (by omega) (by omega)
  intro m
  induction m with
  | zero => intro r st ve qc qu qd h1 h2; omega
  | succ m ih =>
    intro r st ve qc qu qd h1 h2 I
    refine pk_le n r (fun h => ?_) (fun h => ?_) rfl rfl (by omega) (by omega)
    · refine hp st ve qc qu qd (xp_weak I ?_)
      intro e' r' k' _ hr' hd
      exact ⟨hd, fun _ => by omega⟩
    · have hrr := ra_ixlt h h
      have e1 : nI (xp_bs C (kF e)) + nI r * nI n = nI (xp_bs C (kF e) + r * n) := by rw [pk_mul, nI_add]
      have e2 : nI (xp_bs C (kF e) + r * n) + nI r = nI (xp_bs C (kF e) + r * n + r) := nI_add _ _
      refine nm_r e1 ⟨pk_in _ 2775 (by omega) e2, ?_⟩
      rw [pk_cl _ e2]
      have next : ∀ st1 ve1 qc1 qu1 qd1, xp_iv W V S E (Q * S) C n kK kF kT kO kc Con st0 B st1 qh qc1 qu1 qd1 (fun e' r' k' => (fun e' r' k' => k' ≤ (1 + V * (V + 1)) ∧ (e' = e → r' < r)) e' r' k' ∨ (e' = e ∧ r' = r ∧ k' ≤ (1 + V * (V + 1)))) → wX_passEdge_26 post (nI e) (nI (xp_bs C (kF e))) (nI n) m (nI (r + 1)) (nI V) (nI W) (nI Q) (nI S) (nI (Q * S)) (nI (2 ^ W - 1)) (nI E) (nI rd) (nI qh) (nI qc1) (nI C) fo ek ef et eo ec st1 ve1 qu1 qd1 := by
        intro st1 ve1 qc1 qu1 qd1 I1
        refine ih (r + 1) st1 ve1 qc1 qu1 qd1 (by omega) (by omega) (xp_weak I1 ?_)
        intro e' r' k' _ _ hd
        by_cases hz : e' = e ∧ r' = r
        · exact Or.inr ⟨hz.1, hz.2, hd.1⟩
        · refine Or.inl ⟨hd.1, fun z => ?_⟩
          have := hd.2 z
          have h9 : r' ≠ r := fun y => hz ⟨z, y⟩
          omega
      refine br_c (fun hz => ?_) (fun hz => ⟨hin, ?_⟩)
      · refine nm_r (nI_1 r) (next st ve qc qu qd ?_)
        refine xp_add0 hV hW hS hP hE hC hn hw (Kp := fun k' => k' ≤ (1 + V * (V + 1))) he I ?_
        intro k' hk'
        exact Or.inr (Or.inl (xe_zero hW.2 (I.2.1 _ w6) h hz))
      · rw [hc]
        refine pk_eq (kK e) 3 (fun h3 => ?_) (fun h3 => ?_) w1 rfl (by omega) (by omega)
        · refine xw_call hV hW hS hP hE hC hn hw hkc hcon hlv he h h3 I ?_
          intro st' ve' qc' qu' qd' I'
          exact nm_r (nI_1 r) (next st' ve' qc' qu' qd' I')
        · refine xw_plain hV hW hS hP hE hC hn hw hkc hcon hlv he h h3 I ?_
          intro st' ve' qc' qu' qd' I'
          exact nm_r (nI_1 r) (next st' ve' qc' qu' qd' I')
theorem xw_pass {post : SX → Prop} (hV : 1 ≤ V ∧ V ≤ 3) (hW : 1 ≤ W ∧ W ≤ 4) (hS : 2 ≤ S) (hP : Q * S ≤ 15) (hE : E ≤ 16) (hC : C = 1 ∨ C = V + 1) (hn : n = 1 + V * C) (hw : xe_wf V Q S E ek ef et eo kK kF kT kO) (hkc : kc = fun e l => ra_pi W (ec (e * 4 + l))) (hcon : xe_cs V S E C kK kF kT kO kc RL ini Con) (hlv : ∀ B st qh qc qu qd D, xp_iv W V S E (Q * S) C n kK kF kT kO kc Con st0 B st qh qc qu qd D → ∀ p, p < Q * S → xe_md W (1 + V * (V + 1)) (p * 169) st ∧ ∀ k, k < (1 + V * (V + 1)) → ra_cl (RL p) (xi_rv W (1 + V * (V + 1)) (p * 169) st k)) {e : Nat} (he : e < E) (I : xp_iv W V S E (Q * S) C n kK kF kT kO kc Con st0 B st qh qc qu qd (fun e' _ k' => k' ≤ (1 + V * (V + 1)) ∧ e' ≠ e))
    (hp : ∀ st' ve' qc' qu' qd', xp_iv W V S E (Q * S) C n kK kF kT kO kc Con st0 B st' qh qc' qu' qd' (fun _ _ k' => k' ≤ (1 + V * (V + 1))) → post (nI V, nI W, nI Q, nI S, nI (Q * S), nI (2 ^ W - 1), nI E, nI rd, nI qh, nI qc', nI C, fo, ek, ef, et, eo, ec, st', ve', qu', qd')) : wpX_passEdge post (nI V, nI W, nI Q, nI S, nI (Q * S), nI (2 ^ W - 1), nI E, nI rd, nI qh, nI qc, nI C, fo, ek, ef, et, eo, ec, st, ve, qu, qd) (nI e) := by
  obtain ⟨w1, w2, w3, w4, w5, w6, w7, w8, w9, w10⟩ := hw e he
  obtain ⟨n1, n2, n3, n4, n5, n6⟩ := xp_n hV hC hn
  have hc : (nI e).toNatClampNeg = e := nI_clamp (by omega)
  have en : (1 : Int32) + nI V * nI C = nI n := by rw [hn, pk_mul]; exact nI_add 1 (V * C)
  refine And.intro (vp_in_nI (by omega) (by omega)) ?_
  rw [hc, w2]
  refine xw_pb n6 ?_
  refine nm_r en (Exists.intro (n + 1) ?_)
  refine xw_pass_26 hV hW hS hP hE hC hn hw hkc hcon hlv he hp (n + 1) 0 st ve qc qu qd (by omega) (by omega) (xp_weak I ?_)
  intro e' r' k' _ _ hd
  exact ⟨hd.1, fun z => absurd (hd.2 z) (by omega)⟩
theorem xw_drain_l {post : SX → Prop} (hV : 1 ≤ V ∧ V ≤ 3) (hW : 1 ≤ W ∧ W ≤ 4) (hS : 2 ≤ S) (hP : Q * S ≤ 15) (hE : E ≤ 16) (hC : C = 1 ∨ C = V + 1) (hn : n = 1 + V * C) (hw : xe_wf V Q S E ek ef et eo kK kF kT kO) (hkc : kc = fun e l => ra_pi W (ec (e * 4 + l))) (hcon : xe_cs V S E C kK kF kT kO kc RL ini Con) (hlv : ∀ B st qh qc qu qd D, xp_iv W V S E (Q * S) C n kK kF kT kO kc Con st0 B st qh qc qu qd D → ∀ p, p < Q * S → xe_md W (1 + V * (V + 1)) (p * 169) st ∧ ∀ k, k < (1 + V * (V + 1)) → ra_cl (RL p) (xi_rv W (1 + V * (V + 1)) (p * 169) st k))
    (hp : ∀ B st' ve' qh' qu' qd', xp_iv W V S E (Q * S) C n kK kF kT kO kc Con st0 B st' qh' 0 qu' qd' (fun _ _ k' => k' ≤ (1 + V * (V + 1))) → post (nI V, nI W, nI Q, nI S, nI (Q * S), nI (2 ^ W - 1), nI E, nI rd, nI qh', nI 0, nI C, fo, ek, ef, et, eo, ec, st', ve', qu', qd')) :
    ∀ m x B st ve qh qc qu qd, x + B ≤ 6240 → 6240 < m + x → xp_iv W V S E (Q * S) C n kK kF kT kO kc Con st0 B st qh qc qu qd (fun _ _ k' => k' ≤ (1 + V * (V + 1))) → wX_drain_2 post m (nI x) (nI V) (nI W) (nI Q) (nI S) (nI (Q * S)) (nI (2 ^ W - 1)) (nI E) (nI rd) (nI qh) (nI qc) (nI C) fo ek ef et eo ec st ve qu qd := by
  intro m
  induction m with
  | zero => intro x B st ve qh qc qu qd h1 h2 I; omega
  | succ m ih =>
    intro x B st ve qh qc qu qd h1 h2 I
    have h16 := xq_le I.2.2.2.1
    have hqh := I.2.2.2.1.1
    refine pk_le 6400 x (fun h => by omega) (fun h => ?_)
    refine pk_le qc 0 (fun h0 => ?_) (fun h0 => ?_)
    · have e0 : qc = 0 := by omega
      subst e0
      exact hp B st ve qh qu qd I
    · obtain ⟨e, t1, t2, t3, t4⟩ := xq_take hE I.2.2.2.1 h0
      have hc : (nI qh).toNatClampNeg = qh := nI_clamp (by omega)
      have hce : (nI e).toNatClampNeg = e := nI_clamp (by omega)
      have er : nI qh + 1 - (nI qh + 1) / 16 * 16 = nI ((qh + 1) % 16) := by
        rw [nI_1]; exact pk_rem (d := 16) (by omega) (by omega) (by omega)
      refine ⟨vp_in_nI hqh (by omega), nm_r (e' := nI e) (by rw [hc, t2]) ⟨by decide, nm_r er (nm_r (e' := nI (qc - 1)) (pk_sub (b := 1) (by omega)) ⟨vp_in_nI (by omega) (by omega), nm_r (e' := upd qd e 0) (by rw [hce]; rfl) ?_⟩)⟩⟩
      have I' : xp_iv W V S E (Q * S) C n kK kF kT kO kc Con st0 (B - 1) st ((qh + 1) % 16) (qc - 1) qu (upd qd e 0) (fun e' _ k' => k' ≤ (1 + V * (V + 1)) ∧ e' ≠ e) := by
        obtain ⟨I1, I2, I3, I4, I5, I6⟩ := I
        refine ⟨I1, I2, I3, t4, by omega, ?_⟩
        intro e' he'
        by_cases ee : e' = e
        · right; intro r k _ hd; exact absurd ee hd.2
        · rw [pk_un ee]
          rcases I6 e' he' with h' | h'
          · exact Or.inl h'
          · exact Or.inr (fun r k hr hd => h' r k hr hd.1)
      have hB : 1 ≤ B := by have := I.2.2.2.2.1; omega
      refine xw_pass hV hW hS hP hE hC hn hw hkc hcon hlv t1 I' ?_
      intro st' ve' qc' qu' qd' I2
      exact nm_r (nI_1 x) (ih (x + 1) (B - 1) st' ve' _ qc' qu' qd' (by omega) (by omega) I2)
theorem xw_drain {post : SX → Prop} (hV : 1 ≤ V ∧ V ≤ 3) (hW : 1 ≤ W ∧ W ≤ 4) (hS : 2 ≤ S) (hP : Q * S ≤ 15) (hE : E ≤ 16) (hC : C = 1 ∨ C = V + 1) (hn : n = 1 + V * C) (hw : xe_wf V Q S E ek ef et eo kK kF kT kO) (hkc : kc = fun e l => ra_pi W (ec (e * 4 + l))) (hcon : xe_cs V S E C kK kF kT kO kc RL ini Con) (hlv : ∀ B st qh qc qu qd D, xp_iv W V S E (Q * S) C n kK kF kT kO kc Con st0 B st qh qc qu qd D → ∀ p, p < Q * S → xe_md W (1 + V * (V + 1)) (p * 169) st ∧ ∀ k, k < (1 + V * (V + 1)) → ra_cl (RL p) (xi_rv W (1 + V * (V + 1)) (p * 169) st k)) (hB : B ≤ 6240) (I : xp_iv W V S E (Q * S) C n kK kF kT kO kc Con st0 B st qh qc qu qd (fun _ _ k' => k' ≤ (1 + V * (V + 1))))
    (hp : ∀ B st' ve' qh' qu' qd', xp_iv W V S E (Q * S) C n kK kF kT kO kc Con st0 B st' qh' 0 qu' qd' (fun _ _ k' => k' ≤ (1 + V * (V + 1))) → post (nI V, nI W, nI Q, nI S, nI (Q * S), nI (2 ^ W - 1), nI E, nI rd, nI qh', nI 0, nI C, fo, ek, ef, et, eo, ec, st', ve', qu', qd')) : wpX_drain post (nI V, nI W, nI Q, nI S, nI (Q * S), nI (2 ^ W - 1), nI E, nI rd, nI qh, nI qc, nI C, fo, ek, ef, et, eo, ec, st, ve, qu, qd) :=
  Exists.intro 6241 (xw_drain_l hV hW hS hP hE hC hn hw hkc hcon hlv hp 6241 0 B st ve qh qc qu qd (by omega) (by omega) I)
end
end
section
theorem ra_vl0 (W : Nat) : ra_vl W 0 = W := by
  induction W with
  | zero => rfl
  | succ W ih => unfold ra_vl; rw [if_pos (by omega), show 0 / 2 = 0 from rfl, ih]
theorem xz_md {W n b : Nat} {st : Nat → Int32} (hW : W ≤ 4) (h : ∀ x, b ≤ x → x < b + n * n → st x = 0) : xe_md W n b st ∧ (∀ i, i < n → xi_rv W n b st i = fun _ => 0) ∧ ∀ i, i < n → xi_kk W n b st i = W := by
  have e1 : ∀ i, i < n → xi_rv W n b st i = fun _ => 0 := by
    intro i hi; funext c
    by_cases hc : c < n
    · rw [xi_rv_in hc, h _ (by omega) (by have := ra_ixlt hi hc; omega), ra_pi_0 (by omega)]
    · rw [xi_rv_out hc]
  have e2 : ∀ i, i < n → xi_kk W n b st i = W := by
    intro i hi; unfold xi_kk
    rw [h _ (by omega) (by have := ra_ixlt hi hi; omega)]; exact ra_vl0 W
  refine ⟨⟨?_, ?_, ?_⟩, e1, e2⟩
  · intro i c hi hc; rw [h _ (by omega) (by have := ra_ixlt hi hc; omega)]; exact ra_rg_0 W
  · intro i hi
    rw [e1 i hi, e2 i hi]
    refine ⟨Nat.le_refl _, fun _ _ => rfl, ?_, fun _ => rfl⟩
    rw [← ra_ofmod, Nat.mod_self]; rfl
  · intro i hi F L _ _
    rw [e1 i hi, ra_L_0 L]; grind
theorem xq_empty {E qh : Nat} {qu qd : Nat → Int32} (K : xq_ok E qh 0 qu qd) : ∀ e, e < 16 → qd e = 0 := by
  intro e he
  rcases K.2.2.1 e he with h | h
  · exact h
  · have := ra_ct_lt (n := 16) (f := fun _ => false) (g := fun e => decide (qd e = 1)) (j := e) he (fun _ _ z => absurd z (by decide)) rfl (by rw [h]; rfl)
    have := K.2.1; omega
def xa_ph (W P C n : Nat) (Con : Nat → (Nat → BitVec W) → Prop) (st : Nat → Int32) : Prop :=
  ∀ p, p < P → xe_md W n (xp_bs C p) st ∧ (∀ i, i < n → ra_cl (Con p) (xi_rv W n (xp_bs C p) st i)) ∧ (∀ v, Con p v → ra_cl (xe_rs W n (xp_bs C p) st) v)
section
variable {V W Q S E rd qh qc C n : Nat} {fo ek ef et eo ec st ve qu qd : Nat → Int32} {kK kF kT kO : Nat → Nat} {kc : Nat → Nat → BitVec W} {Con RL ini : Nat → (Nat → BitVec W) → Prop} {st0 : Nat → Int32} {B : Nat} {D : Nat → Nat → Nat → Prop}
theorem xp_start (hV : 1 ≤ V ∧ V ≤ 3) (hW : 1 ≤ W ∧ W ≤ 4) (hS : 2 ≤ S) (hP : Q * S ≤ 15) (hE : E ≤ 16) (hC : C = 1 ∨ C = V + 1) (hn : n = 1 + V * C) (hw : xe_wf V Q S E ek ef et eo kK kF kT kO) (hVW : W + V ≤ 5) (hz : ∀ p x, p < Q * S → xp_bs C p ≤ x → x < xp_bs C p + n * n → st x = 0) (K : xq_ok E qh 0 qu qd) :
    xp_iv W V S E (Q * S) C n kK kF kT kO kc Con st 6240 st qh 0 qu qd (fun _ _ k' => k' ≤ (1 + V * (V + 1))) := by
  have M : ∀ p, p < Q * S → _ := fun p hp => xz_md (b := xp_bs C p) (n := n) hW.2 (fun x => hz p x hp)
  refine ⟨⟨fun _ _ => rfl, fun _ _ _ h => h⟩, fun p hp => (M p hp).1, fun p i hp hi => ?_, K, ?_, ?_⟩
  · rw [(M p hp).2.1 i hi]; exact ra_cl_0 _
  · have h1 : ∀ p, p < Q * S → ra_ns n (xi_kk W n (xp_bs C p) st) ≤ 26 := by
      intro p hp
      have h2 := ra_ns_le (n := n) (f := xi_kk W n (xp_bs C p) st) (B := W) (fun i hi => by rw [(M p hp).2.2 i hi]; exact Nat.le_refl _)
      have h3 : n * W ≤ 26 := by
        obtain ⟨v1, v2⟩ := hV
        obtain ⟨w1, w2⟩ := hW
        have hv : V = 1 ∨ V = 2 ∨ V = 3 := by omega
        rcases hv with rfl | rfl | rfl <;> rcases hC with rfl | rfl <;> subst hn <;> omega
      omega
    have h4 := ra_ns_le (n := Q * S) (f := fun p => ra_ns n (xi_kk W n (xp_bs C p) st)) (B := 26) h1
    unfold xp_ph; omega
  · intro e he
    right
    intro r k hr _
    obtain ⟨w1, w2, w3, w4, w5, w6, w7, w8, w9, w10⟩ := hw e he
    unfold xe_tk
    rw [(M _ w6).2.1 r hr, ra_mul_0r]
    split
    · exact ra_cl_0 _
    · intro _ _; exact ra_cl_0 _
theorem xp_rebase {B : Nat} (I : xp_iv W V S E (Q * S) C n kK kF kT kO kc Con st0 B st qh qc qu qd D) : xp_iv W V S E (Q * S) C n kK kF kT kO kc Con st B st qh qc qu qd D :=
  ⟨⟨fun _ _ => rfl, fun _ _ _ h => h⟩, I.2⟩
/-- the queue has run empty: the phase is complete -/
theorem xp_done (hV : 1 ≤ V ∧ V ≤ 3) (hW : 1 ≤ W ∧ W ≤ 4) (hS : 2 ≤ S) (hP : Q * S ≤ 15) (hE : E ≤ 16) (hC : C = 1 ∨ C = V + 1) (hn : n = 1 + V * C) (hw : xe_wf V Q S E ek ef et eo kK kF kT kO) {B : Nat} (I : xp_iv W V S E (Q * S) C n kK kF kT kO kc Con st0 B st qh 0 qu qd (fun _ _ k' => k' ≤ (1 + V * (V + 1)))) (hi : ∀ p v, ini p v → ra_cl (xe_rs W n (xp_bs C p) st) v)
    (hL : ∀ e A, e < E → kK e = 3 → RL (kO e * S + S - 1) A → ra_cl (xe_rs W (1 + V * (V + 1)) ((kO e * S + S - 1) * 169) st) A) :
    xe_cs V S E C kK kF kT kO kc RL ini (fun p v => ra_cl (xe_rs W n (xp_bs C p) st) v) := by
  refine xe_complete hV.1 (fun e he => (hw e he).2.2.2.2.1) ?_ hi hL
  intro e r k he hr hk
  rcases I.2.2.2.2.2 e he with h | h
  · rw [xq_empty I.2.2.2.1 e (by omega)] at h; exact absurd h (by decide)
  · exact h r k hr hk
/-! the levels -/
theorem xl_hlv (hV : 1 ≤ V ∧ V ≤ 3) (hC : C = V + 1) (hn : n = 1 + V * C) : ∀ B st qh qc qu qd D, xp_iv W V S E (Q * S) C n kK kF kT kO kc Con st0 B st qh qc qu qd D → ∀ p, p < Q * S → xe_md W (1 + V * (V + 1)) (p * 169) st ∧ ∀ k, k < (1 + V * (V + 1)) → ra_cl (Con p) (xi_rv W (1 + V * (V + 1)) (p * 169) st k) := by
  intro B st qh qc qu qd D I p hp
  subst hC
  have e : xp_bs (V + 1) p = p * 169 := by unfold xp_bs; rw [if_neg (by omega)]
  have h1 := I.2.1 p hp
  have h2 := I.2.2.1 p
  rw [e, hn] at h1
  refine ⟨h1, fun k hk => ?_⟩
  have h3 := h2 k hp (by omega)
  rw [e, hn] at h3; exact h3
theorem xw_sl_33 {post : SX → Prop} {J : Int32 → Int32 → Int32 → Int32 → Int32 → Int32 → Int32 → Int32 → Int32 → Int32 → Int32 → Int32 → (Nat → Int32) → (Nat → Int32) → (Nat → Int32) → (Nat → Int32) → (Nat → Int32) → (Nat → Int32) → (Nat → Int32) → (Nat → Int32) → (Nat → Int32) → (Nat → Int32) → Prop} (hV : 1 ≤ V ∧ V ≤ 3) (hW : 1 ≤ W ∧ W ≤ 4) (hS : 2 ≤ S) (hP : Q * S ≤ 15) (hE : E ≤ 16) (hC : C = 1 ∨ C = V + 1) (hn : n = 1 + V * C) (hw : xe_wf V Q S E ek ef et eo kK kF kT kO) (hCL : C = V + 1) {q : Nat} (hq : q < Q)
    (hcon : ∀ p v, xe_iL V Q S p v → Con p v) (I : xp_iv W V S E (Q * S) C n kK kF kT kO kc Con st0 B st qh qc qu qd D)
    (hp : ∀ st' ve' qc' qu' qd', xp_iv W V S E (Q * S) C n kK kF kT kO kc Con st0 B st' qh qc' qu' qd' D → (∀ p u, p < Q * S → ra_cl (xe_rs W n (xp_bs C p) st) u → ra_cl (xe_rs W n (xp_bs C p) st') u) →
      ra_cl (xe_rs W n (xp_bs C (q * S)) st') (ra_mat V ra_id) → J (nI (q + 1)) (nI V) (nI W) (nI Q) (nI S) (nI (Q * S)) (nI (2 ^ W - 1)) (nI E) (nI rd) (nI qh) (nI qc') (nI C) fo ek ef et eo ec st' ve' qu' qd') :
    ∀ m i ve, 1 ≤ i → i ≤ V + 1 → V + 1 < m + i → ve 0 = 1 → (∀ a l, a < V → l ≤ V → ve (1 + a * C + l) = if l = 1 + a ∧ 1 + a < i then 1 else 0) →
      wX_solveLevels_33 post J (nI q) (nI V) (nI W) (nI Q) (nI S) (nI (Q * S)) (nI (2 ^ W - 1)) (nI E) (nI rd) (nI qh) (nI qc) (nI C) m (nI i) fo ek ef et eo ec st ve qu qd := by
  obtain ⟨n1, n2, n3, n4, n5, n6⟩ := xp_n hV hC hn
  intro m
  induction m with
  | zero => intro i ve h0 h1 h2; omega
  | succ m ih =>
    intro i ve h0 h1 h2 g1 g2
    refine pk_lt V i (fun h => ?_) (fun h => ?_)
    · have e : i = V + 1 := by omega
      subst e
      refine xw_entry ?_
      have hid : xi_vv W n ve = ra_mat V ra_id ∧ ∀ c, c < n → ra_rg W (ve c) := by
        have key : ∀ x, x < n → ra_rg W (ve x) ∧ ra_pi W (ve x) = ra_mat V ra_id x := by
          intro x hx
          by_cases hx0 : x = 0
          · rw [hx0, g1, ra_mat_hd, ra_pi_1 (by omega)]; exact ⟨ra_rg_1 hW.1, rfl⟩
          · obtain ⟨a, l, ha, hl, rfl⟩ := ra_ix (show x < 1 + V * C by omega) hx0
            rw [g2 a l ha (by omega)]
            have e2 : ra_mat V (ra_id (W := W)) (1 + a * C + l) = if l = 1 + a then 1 else 0 := by
              rw [hCL]; exact ra_mat_at _ ha (by omega)
            rw [e2]
            by_cases hh : l = 1 + a
            · rw [if_pos ⟨hh, by omega⟩, if_pos hh, ra_pi_1 (by omega)]; exact ⟨ra_rg_1 hW.1, rfl⟩
            · rw [if_neg (fun z => hh z.1), if_neg hh, ra_pi_0 (by omega)]; exact ⟨ra_rg_0 W, rfl⟩
        refine ⟨xv_eq (fun x hx => (key x hx).2) (fun x hx => ?_), fun c hc => (key c hc).1⟩
        unfold ra_mat
        rw [if_neg]
        rw [hn, hCL] at hx; omega
      refine xw_ctr hV hW hS hP hE hC hn hw (by have := ra_ixlt hq (show 0 < S by omega); omega) I hid.2 ?_ ?_
      · rw [hid.1]; exact ra_cl_of (hcon _ _ ⟨⟨q, hq, rfl⟩, rfl⟩)
      · intro st' ve' qc' qu' qd' I' m1 m2 m3
        rw [hid.1] at m2
        exact nm_r (nI_1 q) (hp st' ve' qc' qu' qd' I' m1 m2)
    · have hb := ra_ixlt (show i - 1 < V by omega) (show i < C by omega)
      have e1 : (1 : Int32) + (nI i - 1) * nI C + nI i = nI (1 + (i - 1) * C + i) := by
        rw [show nI i - 1 = nI (i - 1) from pk_sub (b := 1) h0, pk_mul, show (1 : Int32) + nI ((i - 1) * C) = nI (1 + (i - 1) * C) from nI_add 1 _, nI_add]
      refine ⟨pk_in _ 13 (by omega) e1, nm_r (e' := upd ve (1 + (i - 1) * C + i) 1) (by rw [pk_cl _ e1]) (nm_r (nI_1 i) (ih (i + 1) _ (by omega) (by omega) (by omega) ?_ ?_))⟩
      · rw [pk_un (by omega)]; exact g1
      · intro a l ha hl
        by_cases ee : a = i - 1 ∧ l = i
        · rw [ee.1, ee.2, pk_us, if_pos (by omega)]
        · rw [pk_un, g2 a l ha hl]
          · by_cases hh : l = 1 + a ∧ 1 + a < i
            · rw [if_pos hh, if_pos (by omega)]
            · rw [if_neg hh, if_neg (by omega)]
          · intro z
            have := ra_ixinj (n := C) (i := a) (c := l) (i' := i - 1) (c' := i) (by omega) (by omega) (by omega)
            exact ee this
end
end
section
section
variable {V W Q S E rd qh qc C n : Nat} {fo ek ef et eo ec st ve qu qd : Nat → Int32} {kK kF kT kO : Nat → Nat} {kc : Nat → Nat → BitVec W} {Con RL ini : Nat → (Nat → BitVec W) → Prop} {st0 : Nat → Int32} {B : Nat} {D : Nat → Nat → Nat → Prop}
theorem xw_sl_12 {post : SX → Prop} (hV : 1 ≤ V ∧ V ≤ 3) (hW : 1 ≤ W ∧ W ≤ 4) (hVW : W + V ≤ 5) (hS : 2 ≤ S) (hQ : 1 ≤ Q) (hP : Q * S ≤ 15) (hE : E ≤ 16) (hw : xe_wf V Q S E ek ef et eo kK kF kT kO) (hkc : kc = fun e l => ra_pi W (ec (e * 4 + l)))
    (hp : ∀ st' ve' qh' qu' qd', (∀ x, 2535 ≤ x → st' x = st0 x) → xq_ok E qh' 0 qu' qd' → xa_ph W (Q * S) (V + 1) (1 + V * (V + 1)) (xe_L V Q S E kK kF kT kO kc) st' → post (nI V, nI W, nI Q, nI S, nI (Q * S), nI (2 ^ W - 1), nI E, nI rd, nI qh', nI 0, nI (V + 1), fo, ek, ef, et, eo, ec, st', ve', qu', qd')) :
    ∀ m q st ve qc qu qd, q ≤ Q → Q < m + q → xp_iv W V S E (Q * S) (V + 1) (1 + V * (V + 1)) kK kF kT kO kc (xe_L V Q S E kK kF kT kO kc) st0 6240 st qh qc qu qd (fun _ _ k' => k' ≤ (1 + V * (V + 1))) →
      (∀ q', q' < q → ra_cl (xe_rs W (1 + V * (V + 1)) (xp_bs (V + 1) (q' * S)) st) (ra_mat V ra_id)) → wX_solveLevels_12 post m (nI q) (nI V) (nI W) (nI Q) (nI S) (nI (Q * S)) (nI (2 ^ W - 1)) (nI E) (nI rd) (nI qh) (nI qc) (nI (V + 1)) fo ek ef et eo ec st ve qu qd := by
  have hC : V + 1 = 1 ∨ V + 1 = V + 1 := Or.inr rfl
  have hn : (1 + V * (V + 1)) = 1 + V * (V + 1) := rfl
  have hQ15 : Q ≤ 15 := Nat.le_trans (Nat.le_mul_of_pos_right Q (by omega)) hP
  intro m
  induction m with
  | zero => intro q st ve qc qu qd h1 h2; omega
  | succ m ih =>
    intro q st ve qc qu qd h1 h2 I H
    refine pk_le Q q (fun h => ?_) (fun h => ?_) rfl rfl (by omega) (by omega)
    · have e : q = Q := by omega
      subst e
      refine xw_drain hV hW hS hP hE hC hn hw hkc (xe_L_cs hV.1) (xl_hlv hV rfl rfl) (Nat.le_refl _) (xp_rebase I) ?_
      intro B st' ve' qh' qu' qd' I'
      refine hp st' ve' qh' qu' qd' ?_ I'.2.2.2.1 ?_
      · intro x hx
        have g : ∀ p, p < q * S → x < xp_bs (V + 1) p ∨ xp_bs (V + 1) p + (1 + V * (V + 1)) * (1 + V * (V + 1)) ≤ x := by
          intro p hp'
          obtain ⟨_, _, l3, _⟩ := xp_n hV hC hn
          have e : xp_bs (V + 1) p = p * 169 := by unfold xp_bs; rw [if_neg (by omega)]
          omega
        rw [I'.1.1 x g, I.1.1 x g]
      · have cs := xp_done (RL := fun p v => ra_cl (xe_rs W (1 + V * (V + 1)) (xp_bs (V + 1) p) st') v) (ini := xe_iL V q S) hV hW hS hP hE hC hn hw I' ?_ ?_
        · intro p hp'
          exact ⟨I'.2.1 p hp', fun i hi => I'.2.2.1 p i hp' hi, fun v hv => hv _ cs⟩
        · rintro p v ⟨⟨q', hq', rfl⟩, rfl⟩
          exact I'.1.2 _ _ (by have := ra_ixlt hq' (show 0 < S by omega); omega) (H q' hq')
        · intro e A he h3 hA
          have e : xp_bs (V + 1) (kO e * S + S - 1) = (kO e * S + S - 1) * 169 := by unfold xp_bs; rw [if_neg (by omega)]
          rw [e] at hA; exact hA
    · refine xw_clearVec ?_
      refine nm_e (Exists.intro (V + 2) ?_)
      refine xw_sl_33 hV hW hS hP hE hC hn hw rfl h (fun p v hv R hR => hR.1 p v hv) I ?_ (V + 2) 1 _ (by omega) (by omega) (by omega) pk_us ?_
      · intro st' ve' qc' qu' qd' I' m1 m2
        refine ih (q + 1) st' ve' qc' qu' qd' (by omega) (by omega) I' ?_
        intro q' hq'
        by_cases ee : q' = q
        · rw [ee]; exact m2
        · exact m1 _ _ (by have := ra_ixlt (show q' < Q by omega) (show 0 < S by omega); omega) (H q' (by omega))
      · intro a l ha hl
        have hb := ra_ixlt ha (show l < V + 1 by omega)
        obtain ⟨_, l2, _, _⟩ := xp_n hV hC hn
        rw [pk_un (by omega), xr_in (by omega) (by omega), if_neg (by omega)]
theorem xw_levels {post : SX → Prop} (hV : 1 ≤ V ∧ V ≤ 3) (hW : 1 ≤ W ∧ W ≤ 4) (hVW : W + V ≤ 5) (hS : 2 ≤ S) (hQ : 1 ≤ Q) (hP : Q * S ≤ 15) (hE : E ≤ 16) (hw : xe_wf V Q S E ek ef et eo kK kF kT kO) (hkc : kc = fun e l => ra_pi W (ec (e * 4 + l))) (hz : ∀ x, x < 2775 → st x = 0) (K : xq_ok E qh 0 qu qd)
    (hp : ∀ st' ve' qh' qu' qd', (∀ x, 2535 ≤ x → st' x = st x) → xq_ok E qh' 0 qu' qd' → xa_ph W (Q * S) (V + 1) (1 + V * (V + 1)) (xe_L V Q S E kK kF kT kO kc) st' → post (nI V, nI W, nI Q, nI S, nI (Q * S), nI (2 ^ W - 1), nI E, nI rd, nI qh', nI 0, nI (V + 1), fo, ek, ef, et, eo, ec, st', ve', qu', qd')) :
    wpX_solveLevels post (nI V, nI W, nI Q, nI S, nI (Q * S), nI (2 ^ W - 1), nI E, nI rd, nI qh, nI 0, nI C, fo, ek, ef, et, eo, ec, st, ve, qu, qd) := by
  have hC : V + 1 = 1 ∨ V + 1 = V + 1 := Or.inr rfl
  have hn : (1 + V * (V + 1)) = 1 + V * (V + 1) := rfl
  refine nm_r (P := fun x => ∃ n12 : Nat, wX_solveLevels_12 post n12 0 (nI V) (nI W) (nI Q) (nI S) (nI (Q * S)) (nI (2 ^ W - 1)) (nI E) (nI rd) (nI qh) (nI 0) x fo ek ef et eo ec st ve qu qd) (nI_1 V) (Exists.intro (Q + 1) ?_)
  refine xw_sl_12 hV hW hVW hS hQ hP hE hw hkc hp (Q + 1) 0 st ve 0 qu qd (by omega) (by omega) ?_ (fun q' hq' => by omega)
  refine xp_start hV hW hS hP hE hC hn hw hVW ?_ K
  intro p x hp' h1 h2
  have := xp_bs_le hV hC hn (show p < 15 by omega)
  exact hz x (by omega)
/-! the reached states -/
theorem xr_hlv (hV : 1 ≤ V ∧ V ≤ 3) (hP : Q * S ≤ 15) (hst : xa_ph W (Q * S) (V + 1) (1 + V * (V + 1)) RL st0) : ∀ B st qh qc qu qd D, xp_iv W V S E (Q * S) 1 (1 + V * 1) kK kF kT kO kc Con st0 B st qh qc qu qd D → ∀ p, p < Q * S → xe_md W (1 + V * (V + 1)) (p * 169) st ∧ ∀ k, k < (1 + V * (V + 1)) → ra_cl (RL p) (xi_rv W (1 + V * (V + 1)) (p * 169) st k) := by
  intro B st qh qc qu qd D I p hp
  have e : xp_bs (V + 1) p = p * 169 := by unfold xp_bs; rw [if_neg (by omega)]
  obtain ⟨h1, h2, h3⟩ := hst p hp
  rw [e] at h1 h2
  obtain ⟨_, _, l3, _⟩ := xp_n hV (Or.inr rfl) (rfl : (1 + V * (V + 1)) = (1 + V * (V + 1)))
  have fr : ∀ x, p * 169 ≤ x → x < p * 169 + (1 + V * (V + 1)) * (1 + V * (V + 1)) → st x = st0 x := by
    intro x hx1 hx2
    refine I.1.1 x (fun p' hp' => Or.inl ?_)
    unfold xp_bs; rw [if_pos rfl]; omega
  refine ⟨xp_md_same fr h1, fun k hk => ?_⟩
  have e2 : xi_rv W (1 + V * (V + 1)) (p * 169) st k = xi_rv W (1 + V * (V + 1)) (p * 169) st0 k := by
    funext c
    by_cases hc : c < (1 + V * (V + 1))
    · rw [xi_rv_in hc, xi_rv_in hc, fr _ (by omega) (by have := ra_ixlt hk hc; omega)]
    · rw [xi_rv_out hc, xi_rv_out hc]
  rw [e2]; exact h2 k hk
theorem xa_ph_same {P C n : Nat} {st' : Nat → Int32} (h : ∀ p x, p < P → xp_bs C p ≤ x → x < xp_bs C p + n * n → st' x = st x) (A : xa_ph W P C n Con st) : xa_ph W P C n Con st' := by
  intro p hp
  obtain ⟨h1, h2, h3⟩ := A p hp
  have e2 : ∀ k, k < n → xi_rv W n (xp_bs C p) st' k = xi_rv W n (xp_bs C p) st k := by
    intro k hk; funext c
    by_cases hc : c < n
    · rw [xi_rv_in hc, xi_rv_in hc, h p _ hp (by omega) (by have := ra_ixlt hk hc; omega)]
    · rw [xi_rv_out hc, xi_rv_out hc]
  refine ⟨xp_md_same (fun x => h p x hp) h1, fun i hi => by rw [e2 i hi]; exact h2 i hi, fun v hv => ra_cl_tr (h3 v hv) ?_⟩
  rintro u ⟨i, hi, rfl⟩
  exact ra_cl_of ⟨i, hi, (e2 i hi).symm⟩
theorem xw_reach {post : SX → Prop} (hV : 1 ≤ V ∧ V ≤ 3) (hW : 1 ≤ W ∧ W ≤ 4) (hVW : W + V ≤ 5) (hS : 2 ≤ S) (hQ : 1 ≤ Q) (hP : Q * S ≤ 15) (hE : E ≤ 16) (hw : xe_wf V Q S E ek ef et eo kK kF kT kO) (hkc : kc = fun e l => ra_pi W (ec (e * 4 + l))) (hz : ∀ x, 2535 ≤ x → x < 2775 → st x = 0) (K : xq_ok E qh 0 qu qd) (A : xa_ph W (Q * S) (V + 1) (1 + V * (V + 1)) (xe_L V Q S E kK kF kT kO kc) st)
    (hp : ∀ st' ve' qh' qu' qd', xq_ok E qh' 0 qu' qd' → xa_ph W (Q * S) (V + 1) (1 + V * (V + 1)) (xe_L V Q S E kK kF kT kO kc) st' → xa_ph W (Q * S) 1 (1 + V * 1) (xe_R V Q S E kK kF kT kO kc) st' → post (nI V, nI W, nI Q, nI S, nI (Q * S), nI (2 ^ W - 1), nI E, nI rd, nI qh', nI 0, nI 1, fo, ek, ef, et, eo, ec, st', ve', qu', qd')) :
    wpX_solveReached post (nI V, nI W, nI Q, nI S, nI (Q * S), nI (2 ^ W - 1), nI E, nI rd, nI qh, nI 0, nI C, fo, ek, ef, et, eo, ec, st, ve, qu, qd) := by
  have hC : 1 = 1 ∨ 1 = V + 1 := Or.inl rfl
  have hn : 1 + V * 1 = 1 + V * 1 := rfl
  have hQS : 0 < Q * S := by have := Nat.mul_le_mul hQ hS; omega
  obtain ⟨n1, n2, n3, n4, n5, n6⟩ := xp_n hV hC hn
  have hgeo : ∀ (stx : Nat → Int32), (∀ x, (∀ p, p < Q * S → x < xp_bs 1 p ∨ xp_bs 1 p + (1 + V * 1) * (1 + V * 1) ≤ x) → stx x = st x) → ∀ x, x < 2535 → stx x = st x := by
    intro stx h x hx
    exact h x (fun p _ => Or.inl (by unfold xp_bs; rw [if_pos rfl]; omega))
  have l3 := (xp_n hV (Or.inr rfl) (rfl : (1 + V * (V + 1)) = (1 + V * (V + 1)))).2.2.1
  have hlevel : ∀ (stx : Nat → Int32), (∀ x, x < 2535 → stx x = st x) → xa_ph W (Q * S) (V + 1) (1 + V * (V + 1)) (xe_L V Q S E kK kF kT kO kc) stx := by
    intro stx h
    refine xa_ph_same (fun p x hp' h1 h2 => h x ?_) A
    have e : xp_bs (V + 1) p = p * 169 := by unfold xp_bs; rw [if_neg (by omega)]
    omega
  have I0 : xp_iv W V S E (Q * S) 1 (1 + V * 1) kK kF kT kO kc (xe_R V Q S E kK kF kT kO kc) st 6240 st qh 0 qu qd (fun _ _ k' => k' ≤ (1 + V * (V + 1))) := by
    refine xp_start hV hW hS hP hE hC hn hw hVW ?_ K
    intro p x hp' h1 h2
    have := xp_bs_le hV hC hn (show p < 15 by omega)
    refine hz x ?_ (by omega)
    unfold xp_bs at h1; rw [if_pos rfl] at h1; omega
  refine xw_clearVec (C := 1) (qc := 0) ?_
  refine nm_e ?_
  have hid : xi_vv W (1 + V * 1) (upd (xr_f ve (fun _ => 0) 0 13) 0 1) = (fun i => if i = 0 then 1 else 0) ∧ ∀ c, c < 1 + V * 1 → ra_rg W (upd (xr_f ve (fun _ => 0) 0 13) 0 1 c) := by
    have key : ∀ x, x < 1 + V * 1 → ra_rg W (upd (xr_f ve (fun _ => 0) 0 13) 0 1 x) ∧ ra_pi W (upd (xr_f ve (fun _ => 0) 0 13) 0 1 x) = if x = 0 then 1 else 0 := by
      intro x hx
      by_cases hx0 : x = 0
      · rw [hx0, pk_us, if_pos rfl, ra_pi_1 (by omega)]; exact ⟨ra_rg_1 hW.1, rfl⟩
      · rw [pk_un hx0, xr_in (by omega) (by omega), if_neg hx0, ra_pi_0 (by omega)]; exact ⟨ra_rg_0 W, rfl⟩
    exact ⟨xv_eq (fun x hx => (key x hx).2) (fun x hx => if_neg (by omega)), fun c hc => (key c hc).1⟩
  refine xw_ctr (q := 0) (C := 1) (qc := 0) hV hW hS hP hE hC hn hw hQS I0 hid.2 ?_ ?_
  · rw [hid.1]; exact ra_cl_of (fun R hR => hR.1 0 _ ⟨rfl, rfl⟩)
  · intro st1 ve1 qc1 qu1 qd1 I1 _ m2 _
    rw [hid.1] at m2
    have f1 := hgeo st1 I1.1.1
    refine xw_drain (C := 1) hV hW hS hP hE hC hn hw hkc xe_R_cs (xr_hlv hV hP (hlevel st1 f1)) (Nat.le_refl _) (xp_rebase I1) ?_
    intro B st' ve' qh' qu' qd' I'
    have f2 : ∀ x, x < 2535 → st' x = st x := by
      intro x hx
      rw [← f1 x hx]
      exact I'.1.1 x (fun p _ => Or.inl (by unfold xp_bs; rw [if_pos rfl]; omega))
    have A' := hlevel st' f2
    refine hp st' ve' qh' qu' qd' I'.2.2.2.1 A' ?_
    have cs := xp_done (RL := (xe_L V Q S E kK kF kT kO kc)) (ini := xe_iR) hV hW hS hP hE hC hn hw I' ?_ ?_
    · intro p hp'
      exact ⟨I'.2.1 p hp', fun i hi => I'.2.2.1 p i hp' hi, fun v hv => hv _ cs⟩
    · rintro p v ⟨rfl, rfl⟩
      exact I'.1.2 _ _ hQS m2
    · intro e A2 he h3 hA
      have hx := (xe_exit ((hw e he).2.2.2.2.2.2.2.2.2 h3) hS).1
      have := (A' _ hx).2.2 A2 hA
      have e : xp_bs (V + 1) (kO e * S + S - 1) = (kO e * S + S - 1) * 169 := by unfold xp_bs; rw [if_neg (by omega)]
      rw [e] at this; exact this
end
end
section
def xa_ok {W : Nat} (V Q S E : Nat) (kK kF kT kO : Nat → Nat) (kc : Nat → Nat → BitVec W) (st : Nat → Int32) : Prop :=
  xa_ph W (Q * S) (V + 1) (1 + V * (V + 1)) (xe_L V Q S E kK kF kT kO kc) st ∧ xa_ph W (Q * S) 1 (1 + V * 1) (xe_R V Q S E kK kF kT kO kc) st
def xa_ct (P : Nat) (st : Nat → Int32) : Nat := ra_ct P (fun p => ! decide (st (2535 + p * 16) = 0))
theorem ra_cell1 {W : Nat} (v : Nat → BitVec W) (l : Nat) : ra_cell 1 v l 0 = v l := by
  unfold ra_cell
  by_cases hl : l = 0
  · subst hl; rw [if_pos rfl, if_pos rfl]
  · rw [if_neg hl, show 1 + (l - 1) * 1 + 0 = l from by omega]
section
variable {V W Q S E rd qh qc C n : Nat} {fo ek ef et eo ec st ve qu qd : Nat → Int32} {kK kF kT kO : Nat → Nat} {kc : Nat → Nat → BitVec W} {Con RL ini : Nat → (Nat → BitVec W) → Prop} {st0 : Nat → Int32} {B : Nat} {D : Nat → Nat → Nat → Prop}
theorem xw_isr {post : Int32 → Prop} {p : Nat} (hp' : p < 15) (h1 : ¬ st (2535 + p * 16) = 0 → post 1) (h0 : st (2535 + p * 16) = 0 → post 0) : wpX_isReached post (nI V, nI W, nI Q, nI S, nI (Q * S), nI (2 ^ W - 1), nI E, nI rd, nI qh, nI qc, nI C, fo, ek, ef, et, eo, ec, st, ve, qu, qd) (nI p) := by
  have e : 2535 + nI p * 16 = nI (2535 + p * 16) := (congrArg (fun z => 2535 + z) (pk_mul p 16)).trans (nI_add 2535 (p * 16))
  show vp_in (2535 + nI p * 16) 2775 ∧ _
  refine ⟨pk_in _ 2775 (by omega) e, ?_⟩
  rw [pk_cl _ e]
  exact br_c h0 h1
theorem xw_ct_l {post : Int32 → SX → Prop} (hP : Q * S ≤ 15) (hp : post (nI (xa_ct (Q * S) st)) (nI V, nI W, nI Q, nI S, nI (Q * S), nI (2 ^ W - 1), nI E, nI rd, nI qh, nI qc, nI C, fo, ek, ef, et, eo, ec, st, ve, qu, qd)) :
    ∀ m p, p ≤ Q * S → Q * S < m + p → wX_analyse_46 post (nI V) (nI W) (nI Q) (nI S) (nI (Q * S)) (nI (2 ^ W - 1)) (nI E) (nI rd) (nI qh) (nI qc) (nI C) fo ek ef et eo ec st ve qu qd m (nI (xa_ct p st)) (nI p) := by
  intro m
  induction m with
  | zero => intro p h1 h2; omega
  | succ m ih =>
    intro p h1 h2
    refine pk_le (Q * S) p (fun h => ?_) (fun h => ?_)
    · have e : p = Q * S := by omega
      rw [e]; exact hp
    · have key := ih (p + 1) (by omega) (by omega)
      refine xw_isr (by omega) (fun hz => ?_) (fun hz => ?_)
      · have e : xa_ct (p + 1) st = xa_ct p st + 1 := by
          unfold xa_ct ra_ct; simp only [ra_ns]; rw [if_pos (by simp [hz])]
        rw [e] at key
        exact br_f (by decide) (nm_r (nI_1 _) (nm_r (nI_1 p) key))
      · have e : xa_ct (p + 1) st = xa_ct p st := by
          unfold xa_ct ra_ct; simp only [ra_ns]; rw [if_neg (by simp [hz])]; rfl
        rw [e] at key
        exact br_t rfl (nm_r (nI_1 p) key)
theorem xw_ct {post : Int32 → SX → Prop} (hP : Q * S ≤ 15) (hp : post (nI (xa_ct (Q * S) st)) (nI V, nI W, nI Q, nI S, nI (Q * S), nI (2 ^ W - 1), nI E, nI rd, nI qh, nI qc, nI C, fo, ek, ef, et, eo, ec, st, ve, qu, qd)) : ∃ m, wX_analyse_46 post (nI V) (nI W) (nI Q) (nI S) (nI (Q * S)) (nI (2 ^ W - 1)) (nI E) (nI rd) (nI qh) (nI qc) (nI C) fo ek ef et eo ec st ve qu qd m 0 0 :=
  Exists.intro (Q * S + 1) (xw_ct_l hP hp (Q * S + 1) 0 (by omega) (by omega))
theorem xw_an9 {post : Int32 → SX → Prop} (hV : 1 ≤ V ∧ V ≤ 3) (hW : 1 ≤ W ∧ W ≤ 4) (hVW : W + V ≤ 5) (hS : 2 ≤ S) (hQ : 1 ≤ Q) (hP : Q * S ≤ 15) (hE : E ≤ 16) (hw : xe_wf V Q S E ek ef et eo kK kF kT kO) (hkc : kc = fun e l => ra_pi W (ec (e * 4 + l))) (K : xq_ok E qh 0 qu qd)
    (hp : ∀ st' ve' qh' qu' qd', xq_ok E qh' 0 qu' qd' → xa_ok V Q S E kK kF kT kO kc st' → post (nI (xa_ct (Q * S) st')) (nI V, nI W, nI Q, nI S, nI (Q * S), nI (2 ^ W - 1), nI E, nI 1, nI qh', nI 0, nI 1, fo, ek, ef, et, eo, ec, st', ve', qu', qd')) :
    ∀ m i, i ≤ 2775 → 2775 < m + i → wX_analyse_9 post (nI V) (nI W) (nI Q) (nI S) (nI (Q * S)) (nI (2 ^ W - 1)) (nI E) (nI rd) (nI qh) (nI 0) (nI C) m (nI i) fo ek ef et eo ec (xr_f st (fun _ => 0) 0 i) ve qu qd := by
  intro m
  induction m with
  | zero => intro i h1 h2; omega
  | succ m ih =>
    intro i h1 h2
    refine pk_le 2775 i (fun h => ?_) (fun h => ?_)
    · have e : i = 2775 := by omega
      subst e
      refine xw_levels hV hW hVW hS hQ hP hE hw hkc (fun x hx => xr_in (by omega) hx) K ?_
      intro st1 ve1 qh1 qu1 qd1 f1 K1 A1
      refine xw_reach (C := V + 1) hV hW hVW hS hQ hP hE hw hkc (fun x hx1 hx2 => ?_) K1 A1 ?_
      · rw [f1 x hx1]; exact xr_in (by omega) hx2
      · intro st2 ve2 qh2 qu2 qd2 K2 A2 A3
        exact xw_ct (rd := 1) (C := 1) hP (hp st2 ve2 qh2 qu2 qd2 K2 ⟨A2, A3⟩)
    · exact ⟨vp_in_nI h (by omega), nm_r (xr_s (by omega) (nI_clamp (by omega)) rfl) (nm_r (nI_1 i) (ih (i + 1) (by omega) (by omega)))⟩
theorem xw_analyse {post : Int32 → SX → Prop} (hV : 1 ≤ V ∧ V ≤ 3) (hW : 1 ≤ W ∧ W ≤ 4) (hVW : W + V ≤ 5) (hS : 2 ≤ S) (hQ : 1 ≤ Q) (hP : Q * S ≤ 15) (hE : E ≤ 16) (hw : xe_wf V Q S E ek ef et eo kK kF kT kO) (hkc : kc = fun e l => ra_pi W (ec (e * 4 + l))) (K : xq_ok E qh 0 qu qd) (hrd : rd ≤ 1) (hok : rd = 1 → xa_ok V Q S E kK kF kT kO kc st)
    (hp : ∀ C' st' ve' qh' qu' qd', xq_ok E qh' 0 qu' qd' → xa_ok V Q S E kK kF kT kO kc st' → post (nI (xa_ct (Q * S) st')) (nI V, nI W, nI Q, nI S, nI (Q * S), nI (2 ^ W - 1), nI E, nI 1, nI qh', nI 0, nI C', fo, ek, ef, et, eo, ec, st', ve', qu', qd')) :
    wpX_analyse post (nI V, nI W, nI Q, nI S, nI (Q * S), nI (2 ^ W - 1), nI E, nI rd, nI qh, nI 0, nI C, fo, ek, ef, et, eo, ec, st, ve, qu, qd) := by
  refine pk_eq rd 0 (fun h => ?_) (fun h => ?_)
  · refine Exists.intro 2776 ?_
    have key := xw_an9 (C := C) (rd := rd) (ve := ve) (st := st) hV hW hVW hS hQ hP hE hw hkc K (hp 1) 2776 0 (by omega) (by omega)
    rw [xr_0] at key; exact key
  · have e : rd = 1 := by omega
    subst e
    exact xw_ct (qc := 0) hP (hp C st ve qh qu qd K (hok rfl))
/-! the questions -/
theorem xw_cd_l {post : Int32 → Prop} {p : Nat} (hV : 1 ≤ V ∧ V ≤ 3) (hW : W ≤ 4) (hp' : p < 15)
    (hp : ∀ d, d ≤ W → (∀ k, k ≤ W → (k ≤ d ↔ ∀ r, r < V + 1 → BitVec.ofNat W (2 ^ (W - k)) * (fun v : Nat → BitVec W => ra_sm (V + 1) (fun l => ra_pi W (fo l) * v l)) (xi_rv W (1 + V * 1) (2535 + p * 16) st r) = 0)) → post (nI d)) :
    ∀ m r d, r ≤ V + 1 → V + 1 < m + r → d ≤ W → (∀ k, k ≤ W → (k ≤ d ↔ ∀ r', r' < r → BitVec.ofNat W (2 ^ (W - k)) * (fun v : Nat → BitVec W => ra_sm (V + 1) (fun l => ra_pi W (fo l) * v l)) (xi_rv W (1 + V * 1) (2535 + p * 16) st r') = 0)) →
      wX_commonDegree_22 post (nI (2535 + p * 16)) (nI (1 + V * 1)) (nI V) (nI W) (nI Q) (nI S) (nI (Q * S)) (nI (2 ^ W - 1)) (nI E) (nI rd) (nI qh) (nI qc) (nI C) fo ek ef et eo ec st ve qu qd m (nI d) (nI r) := by
  have hpw := ra_pw hW
  intro m
  induction m with
  | zero => intro r d h1 h2; omega
  | succ m ih =>
    intro r d h1 h2 hd H
    refine pk_le (1 + V * 1) r (fun h => ?_) (fun h => ?_)
    · have e : r = V + 1 := by omega
      subst e
      exact hp d hd H
    · have e1 : nI (2535 + p * 16) + nI r * nI (1 + V * 1) = nI (2535 + p * 16 + r * (1 + V * 1)) := by rw [pk_mul, nI_add]
      have hb := ra_ixlt h (show V * 1 < 1 + V * 1 by omega)
      obtain ⟨_, _, _, n4, _⟩ := xp_n hV (Or.inl rfl) (rfl : 1 + V * 1 = 1 + V * 1)
      have n5 := n4 rfl
      rw [e1]
      refine xw_cmb_form (at' := 0) (cols := 1) (j := 0) hW hV.1 (by omega) (by omega) (by omega) ?_
      intro x hx1 hx2
      obtain ⟨a, ha, rfl⟩ := hx1
      have ev : BitVec.ofNat W a = (fun v : Nat → BitVec W => ra_sm (V + 1) (fun l => ra_pi W (fo l) * v l)) (xi_rv W (1 + V * 1) (2535 + p * 16) st r) := by
        rw [ra_pi_nI (by omega)] at hx2
        rw [hx2]
        exact ra_sm_congr (fun l hl => by rw [ra_cell1, xi_rv_in (by omega), Nat.zero_add])
      refine xw_val hW ha rfl ?_
      have hvl := ra_vl_le hW ha
      have key : ∀ k, k ≤ W → (k ≤ ra_vl W a ↔ BitVec.ofNat W (2 ^ (W - k)) * (fun v : Nat → BitVec W => ra_sm (V + 1) (fun l => ra_pi W (fo l) * v l)) (xi_rv W (1 + V * 1) (2535 + p * 16) st r) = 0) := by
        intro k hk; rw [← ev]; exact (ra_t3 W (by omega) a (by omega) k (by omega) ha hk).symm
      refine pk_le d (ra_vl W a) (fun h3 => nm_r (nI_1 r) (ih (r + 1) d (by omega) (by omega) hd ?_)) (fun h3 => nm_r (nI_1 r) (ih (r + 1) (ra_vl W a) (by omega) (by omega) hvl ?_))
      · intro k hk
        constructor
        · intro hkd r' hr'
          by_cases er : r' = r
          · rw [er]; exact (key k hk).mp (by omega)
          · exact (H k hk).mp hkd r' (by omega)
        · intro hh; exact (H k hk).mpr (fun r' hr' => hh r' (by omega))
      · intro k hk
        constructor
        · intro hkd r' hr'
          by_cases er : r' = r
          · rw [er]; exact (key k hk).mp hkd
          · exact (H k hk).mp (by omega) r' (by omega)
        · intro hh; exact (key k hk).mpr (hh r (by omega))
theorem xw_cd {post : Int32 → Prop} {p : Nat} (hV : 1 ≤ V ∧ V ≤ 3) (hW : W ≤ 4) (hp' : p < 15)
    (hp : ∀ d, d ≤ W → (∀ k, k ≤ W → (k ≤ d ↔ ∀ r, r < V + 1 → BitVec.ofNat W (2 ^ (W - k)) * (fun v : Nat → BitVec W => ra_sm (V + 1) (fun l => ra_pi W (fo l) * v l)) (xi_rv W (1 + V * 1) (2535 + p * 16) st r) = 0)) → post (nI d)) : wpX_commonDegree post (nI V, nI W, nI Q, nI S, nI (Q * S), nI (2 ^ W - 1), nI E, nI rd, nI qh, nI qc, nI C, fo, ek, ef, et, eo, ec, st, ve, qu, qd) (nI p) := by
  have e : 2535 + nI p * 16 = nI (2535 + p * 16) := (congrArg (fun z => 2535 + z) (pk_mul p 16)).trans (nI_add 2535 (p * 16))
  have e2 : nI V + 1 = nI (1 + V * 1) := by rw [nI_1]; exact congrArg nI (by omega)
  show ∀ x : Int32, x = nI V + 1 → ∃ n22 : Nat, wX_commonDegree_22 post (2535 + nI p * 16) x (nI V) (nI W) (nI Q) (nI S) (nI (Q * S)) (nI (2 ^ W - 1)) (nI E) (nI rd) (nI qh) (nI qc) (nI C) fo ek ef et eo ec st ve qu qd n22 (nI W) 0
  rw [e]
  refine nm_r e2 (Exists.intro (V + 2) (xw_cd_l hV hW hp' hp (V + 2) 0 W (by omega) (by omega) (Nat.le_refl _) ?_))
  intro k hk
  exact ⟨fun _ r' hr' => by omega, fun _ => hk⟩
/-! from the entry -/
theorem xw_lvn_l {post : Int32 → Prop} {row : Nat} (hV : 1 ≤ V ∧ V ≤ 3) (hW : W ≤ 4) (hrow : row + (1 + V * (V + 1)) ≤ 2775)
    (h1 : (∀ j, j ≤ V → (fun v : Nat → BitVec W => ra_sm (V + 1) (fun l => ra_pi W (fo l) * ra_cell (V + 1) v l j) + (if j = 0 then 0 else v 0 * ra_pi W (fo (V + j)))) (xi_ro W (1 + V * (V + 1)) row st) = 0) → post 1) (h0 : ¬ (∀ j, j ≤ V → (fun v : Nat → BitVec W => ra_sm (V + 1) (fun l => ra_pi W (fo l) * ra_cell (V + 1) v l j) + (if j = 0 then 0 else v 0 * ra_pi W (fo (V + j)))) (xi_ro W (1 + V * (V + 1)) row st) = 0) → post 0) :
    ∀ m j, j ≤ V + 1 → V + 1 < m + j → (∀ j', j' < j → (fun j => (fun v : Nat → BitVec W => ra_sm (V + 1) (fun l => ra_pi W (fo l) * ra_cell (V + 1) v l j) + (if j = 0 then 0 else v 0 * ra_pi W (fo (V + j)))) (xi_ro W (1 + V * (V + 1)) row st)) j' = 0) → wX_longVanishes_2 post (nI row) (nI V) (nI W) (nI Q) (nI S) (nI (Q * S)) (nI (2 ^ W - 1)) (nI E) (nI rd) (nI qh) (nI qc) (nI C) fo ek ef et eo ec st ve qu qd m (nI j) := by
  have hW' : W ≤ 32 := by omega
  intro m
  induction m with
  | zero => intro j a1 a2; omega
  | succ m ih =>
    intro j a1 a2 H
    refine pk_lt V j (fun h => ?_) (fun h => ?_)
    · exact h1 (fun j' hj' => H j' (by omega))
    · have e2 : nI V + 1 = nI (V + 1) := nI_1 V
      rw [e2]
      refine xw_cmb_form (at' := 0) (cols := V + 1) hW hV.1 (by omega) hrow (by omega) ?_
      intro x hx1 hx2
      have ev : ra_pi W x = ra_sm (V + 1) (fun l => ra_pi W (fo l) * ra_cell (V + 1) (xi_ro W (1 + V * (V + 1)) row st) l j) := by
        rw [hx2]; exact ra_sm_congr (fun l hl => by rw [xi_ro_cell rfl (by omega) (by omega), Nat.zero_add])
      have test : ∀ y, ra_pi W y = (fun v : Nat → BitVec W => ra_sm (V + 1) (fun l => ra_pi W (fo l) * ra_cell (V + 1) v l j) + (if j = 0 then 0 else v 0 * ra_pi W (fo (V + j)))) (xi_ro W (1 + V * (V + 1)) row st) → wX_longVanishes_53 post (wX_longVanishes_2 post (nI row) (nI V) (nI W) (nI Q) (nI S) (nI (Q * S)) (nI (2 ^ W - 1)) (nI E) (nI rd) (nI qh) (nI qc) (nI C) fo ek ef et eo ec st ve qu qd m) (nI row) (nI j) y (nI V) (nI W) (nI Q) (nI S) (nI (Q * S)) (nI (2 ^ W - 1)) (nI E) (nI rd) (nI qh) (nI qc) (nI C) fo ek ef et eo ec st ve qu qd := by
        intro y hy
        refine br_c (fun hz => nm_r (nI_1 j) (ih (j + 1) (by omega) (by omega) ?_)) (fun hz => h0 ?_)
        · have h5 := (ra_z hW (ra_rg_and hW y)).mpr hz
          rw [ra_pi_and hW, hy] at h5
          intro j' hj'
          by_cases ej : j' = j
          · rw [ej]; exact h5
          · exact H j' (by omega)
        · intro hall
          refine hz ((ra_z hW (ra_rg_and hW y)).mp ?_)
          rw [ra_pi_and hW, hy]; exact hall j h
      refine pk_le j 0 (fun hj => ?_) (fun hj => ?_)
      · refine test x ?_
        rw [ev]; show _ = _ + (if j = 0 then 0 else _)
        rw [if_pos (by omega)]; grind
      · have e3 : nI V + nI j = nI (V + j) := nI_add _ _
        refine ⟨vp_in_nI (by omega) (by omega), pk_in _ 7 (by omega) e3, nm_e (test _ ?_)⟩
        rw [ra_pi_add hW', ra_pi_mul hW', ev, nI_clamp (by omega), pk_cl _ e3]
        show _ = _ + (if j = 0 then 0 else _)
        rw [if_neg (by omega), xi_ro_in (by omega)]; rfl
theorem xw_lvn {post : Int32 → Prop} {row : Nat} (hV : 1 ≤ V ∧ V ≤ 3) (hW : W ≤ 4) (hrow : row + (1 + V * (V + 1)) ≤ 2775)
    (h1 : (∀ j, j ≤ V → (fun v : Nat → BitVec W => ra_sm (V + 1) (fun l => ra_pi W (fo l) * ra_cell (V + 1) v l j) + (if j = 0 then 0 else v 0 * ra_pi W (fo (V + j)))) (xi_ro W (1 + V * (V + 1)) row st) = 0) → post 1) (h0 : ¬ (∀ j, j ≤ V → (fun v : Nat → BitVec W => ra_sm (V + 1) (fun l => ra_pi W (fo l) * ra_cell (V + 1) v l j) + (if j = 0 then 0 else v 0 * ra_pi W (fo (V + j)))) (xi_ro W (1 + V * (V + 1)) row st) = 0) → post 0) : wpX_longVanishes post (nI V, nI W, nI Q, nI S, nI (Q * S), nI (2 ^ W - 1), nI E, nI rd, nI qh, nI qc, nI C, fo, ek, ef, et, eo, ec, st, ve, qu, qd) (nI row) :=
  Exists.intro (V + 2) (xw_lvn_l hV hW hrow h1 h0 (V + 2) 0 (by omega) (by omega) (fun j' hj' => by omega))
theorem xw_hfe_l {post : Int32 → Prop} {p : Nat} (hV : 1 ≤ V ∧ V ≤ 3) (hW : W ≤ 4) (hp' : p < 15)
    (h1 : (∀ r j, r < (1 + V * (V + 1)) → j ≤ V → (fun v : Nat → BitVec W => ra_sm (V + 1) (fun l => ra_pi W (fo l) * ra_cell (V + 1) v l j) + (if j = 0 then 0 else v 0 * ra_pi W (fo (V + j)))) (xi_rv W (1 + V * (V + 1)) (p * 169) st r) = 0) → post 1) (h0 : ¬ (∀ r j, r < (1 + V * (V + 1)) → j ≤ V → (fun v : Nat → BitVec W => ra_sm (V + 1) (fun l => ra_pi W (fo l) * ra_cell (V + 1) v l j) + (if j = 0 then 0 else v 0 * ra_pi W (fo (V + j)))) (xi_rv W (1 + V * (V + 1)) (p * 169) st r) = 0) → post 0) :
    ∀ m r, r ≤ (1 + V * (V + 1)) → (1 + V * (V + 1)) < m + r → (∀ r' j, r' < r → j ≤ V → (fun v : Nat → BitVec W => ra_sm (V + 1) (fun l => ra_pi W (fo l) * ra_cell (V + 1) v l j) + (if j = 0 then 0 else v 0 * ra_pi W (fo (V + j)))) (xi_rv W (1 + V * (V + 1)) (p * 169) st r') = 0) → wX_holdsFromEntry_36 post (nI (p * 169)) (nI (1 + V * (V + 1))) (nI V) (nI W) (nI Q) (nI S) (nI (Q * S)) (nI (2 ^ W - 1)) (nI E) (nI rd) (nI qh) (nI qc) (nI C) fo ek ef et eo ec st ve qu qd m (nI r) := by
  obtain ⟨l1, l2, l3, _⟩ := xp_n hV (Or.inr rfl) (rfl : (1 + V * (V + 1)) = (1 + V * (V + 1)))
  intro m
  induction m with
  | zero => intro r a1 a2; omega
  | succ m ih =>
    intro r a1 a2 H
    refine pk_le (1 + V * (V + 1)) r (fun h => ?_) (fun h => ?_) rfl rfl (by omega) (by omega)
    · exact h1 (fun r' j hr' hj => H r' j (by omega) hj)
    · have hb := ra_ixlt h (show (1 + V * (V + 1)) - 1 < (1 + V * (V + 1)) by omega)
      have e1 : nI (p * 169) + nI r * nI (1 + V * (V + 1)) = nI (p * 169 + r * (1 + V * (V + 1))) := by rw [pk_mul, nI_add]
      rw [e1]
      refine xw_lvn hV hW (by omega) (fun hg => ?_) (fun hg => ?_)
      · refine br_f (by decide) (nm_r (nI_1 r) (ih (r + 1) (by omega) (by omega) ?_))
        intro r' j hr' hj
        by_cases er : r' = r
        · rw [er]; exact hg j hj
        · exact H r' j (by omega) hj
      · refine br_t rfl (h0 (fun hall => hg (fun j hj => hall r j h hj)))
theorem xw_hfe {post : Int32 → Prop} {p : Nat} (hV : 1 ≤ V ∧ V ≤ 3) (hW : W ≤ 4) (hp' : p < 15)
    (h1 : (∀ r j, r < (1 + V * (V + 1)) → j ≤ V → (fun v : Nat → BitVec W => ra_sm (V + 1) (fun l => ra_pi W (fo l) * ra_cell (V + 1) v l j) + (if j = 0 then 0 else v 0 * ra_pi W (fo (V + j)))) (xi_rv W (1 + V * (V + 1)) (p * 169) st r) = 0) → post 1) (h0 : ¬ (∀ r j, r < (1 + V * (V + 1)) → j ≤ V → (fun v : Nat → BitVec W => ra_sm (V + 1) (fun l => ra_pi W (fo l) * ra_cell (V + 1) v l j) + (if j = 0 then 0 else v 0 * ra_pi W (fo (V + j)))) (xi_rv W (1 + V * (V + 1)) (p * 169) st r) = 0) → post 0) :
    ∃ n36 : Nat, wX_holdsFromEntry_36 post (nI (p * 169)) (nI (1 + V * (V + 1))) (nI V) (nI W) (nI Q) (nI S) (nI (Q * S)) (nI (2 ^ W - 1)) (nI E) (nI rd) (nI qh) (nI qc) (nI C) fo ek ef et eo ec st ve qu qd n36 0 :=
  Exists.intro ((1 + V * (V + 1)) + 1) (xw_hfe_l hV hW hp' h1 h0 ((1 + V * (V + 1)) + 1) 0 (by omega) (by omega) (fun r' j hr' => by omega))
/-! the value -/
theorem xw_va_l {post : Int32 → Prop} {p x : Nat} {y : Int32} (hV : 1 ≤ V ∧ V ≤ 3) (hW : W ≤ 4) (hp' : p < 15) (hx : x ≤ V) 
    (h1 : (∀ r, 1 ≤ r → r < V + 1 → xi_rv W (1 + V * 1) (2535 + p * 16) st r x - ra_pi W y * xi_rv W (1 + V * 1) (2535 + p * 16) st r 0 = 0) → post y) (h0 : ¬ (∀ r, 1 ≤ r → r < V + 1 → xi_rv W (1 + V * 1) (2535 + p * 16) st r x - ra_pi W y * xi_rv W (1 + V * 1) (2535 + p * 16) st r 0 = 0) → post (-6)) :
    ∀ m r, r ≤ V + 1 → V + 1 < m + r → (∀ r', 1 ≤ r' → r' < r → xi_rv W (1 + V * 1) (2535 + p * 16) st r' x - ra_pi W y * xi_rv W (1 + V * 1) (2535 + p * 16) st r' 0 = 0) → 1 ≤ r → wX_valueAt_71 post (nI x) (nI (2535 + p * 16)) (nI (1 + V * 1)) y (nI V) (nI W) (nI Q) (nI S) (nI (Q * S)) (nI (2 ^ W - 1)) (nI E) (nI rd) (nI qh) (nI qc) (nI C) fo ek ef et eo ec st ve qu qd m (nI r) := by
  have hW' : W ≤ 32 := by omega
  obtain ⟨_, _, _, n4, _⟩ := xp_n hV (Or.inl rfl) (rfl : 1 + V * 1 = 1 + V * 1)
  have n5 := n4 rfl
  intro m
  induction m with
  | zero => intro r a1 a2; omega
  | succ m ih =>
    intro r a1 a2 H hr1
    refine pk_le (1 + V * 1) r (fun h => ?_) (fun h => ?_)
    · exact h1 (fun r' h1 h2 => H r' h1 (by omega))
    · have e1 : nI (2535 + p * 16) + nI r * nI (1 + V * 1) = nI (2535 + p * 16 + r * (1 + V * 1)) := by rw [pk_mul, nI_add]
      have hb := ra_ixlt h (show V * 1 < 1 + V * 1 by omega)
      have e2 : nI (2535 + p * 16 + r * (1 + V * 1)) + nI x = nI (2535 + p * 16 + r * (1 + V * 1) + x) := nI_add _ _
      refine nm_r e1 ⟨pk_in _ 2775 (by omega) e2, vp_in_nI (by omega) (by omega), ?_⟩
      rw [pk_cl _ e2, nI_clamp (by omega)]
      have ev : ra_pi W (st (2535 + p * 16 + r * (1 + V * 1) + x) - y * st (2535 + p * 16 + r * (1 + V * 1))) = xi_rv W (1 + V * 1) (2535 + p * 16) st r x - ra_pi W y * xi_rv W (1 + V * 1) (2535 + p * 16) st r 0 := by
        rw [ra_pi_sub hW', ra_pi_mul hW', xi_rv_in (by omega), xi_rv_in (by omega), Nat.add_zero]
      refine br_c (fun hz => nm_r (nI_1 r) (ih (r + 1) (by omega) (by omega) ?_ (by omega))) (fun hz => h0 ?_)
      · have h5 := (ra_z hW (ra_rg_and hW _)).mpr hz
        rw [ra_pi_and hW, ev] at h5
        intro r' g1 g2
        by_cases er : r' = r
        · rw [er]; exact h5
        · exact H r' g1 (by omega)
      · intro hall
        refine hz ((ra_z hW (ra_rg_and hW _)).mp ?_)
        rw [ra_pi_and hW, ev]; exact hall r hr1 (by omega)
theorem xw_va {post : Int32 → Prop} {p x : Nat} {y : Int32} (hV : 1 ≤ V ∧ V ≤ 3) (hW : W ≤ 4) (hp' : p < 15) (hx : x ≤ V) 
    (h1 : (∀ r, 1 ≤ r → r < V + 1 → xi_rv W (1 + V * 1) (2535 + p * 16) st r x - ra_pi W y * xi_rv W (1 + V * 1) (2535 + p * 16) st r 0 = 0) → post y) (h0 : ¬ (∀ r, 1 ≤ r → r < V + 1 → xi_rv W (1 + V * 1) (2535 + p * 16) st r x - ra_pi W y * xi_rv W (1 + V * 1) (2535 + p * 16) st r 0 = 0) → post (-6)) :
    ∃ n71 : Nat, wX_valueAt_71 post (nI x) (nI (2535 + p * 16)) (nI (1 + V * 1)) y (nI V) (nI W) (nI Q) (nI S) (nI (Q * S)) (nI (2 ^ W - 1)) (nI E) (nI rd) (nI qh) (nI qc) (nI C) fo ek ef et eo ec st ve qu qd n71 1 :=
  Exists.intro (V + 2) (xw_va_l hV hW hp' hx h1 h0 (V + 2) 1 (by omega) (by omega) (fun r' g1 g2 => by omega) (by omega))
/-! the count of relations -/
theorem xw_rc_l {post : Int32 → Prop} {p : Nat} (hV : 1 ≤ V ∧ V ≤ 3) (hW : W ≤ 4) (hVW : W + V ≤ 5) (hp' : p < 15) (M : xe_md W (1 + V * 1) (2535 + p * 16) st)
    (hp : post (nI (2 ^ ra_ns (V + 1) (xi_kk W (1 + V * 1) (2535 + p * 16) st)))) :
    ∀ m r, r ≤ V + 1 → V + 1 < m + r → wX_relationCount_32 post (nI (2535 + p * 16)) (nI (1 + V * 1)) (nI V) (nI W) (nI Q) (nI S) (nI (Q * S)) (nI (2 ^ W - 1)) (nI E) (nI rd) (nI qh) (nI qc) (nI C) fo ek ef et eo ec st ve qu qd m (nI (ra_ns r (xi_kk W (1 + V * 1) (2535 + p * 16) st))) (nI r) := by
  obtain ⟨_, _, _, n4, _⟩ := xp_n hV (Or.inl rfl) (rfl : 1 + V * 1 = 1 + V * 1)
  have n5 := n4 rfl
  have hk : ∀ r, r < V + 1 → xi_kk W (1 + V * 1) (2535 + p * 16) st r ≤ W := fun r hr => (M.2.1 r (by omega)).1
  intro m
  induction m with
  | zero => intro r a1 a2; omega
  | succ m ih =>
    intro r a1 a2
    refine pk_le (1 + V * 1) r (fun h => ?_) (fun h => ?_)
    · have e : r = V + 1 := by omega
      subst e
      have hb := ra_ns_le hk
      have hb2 : (V + 1) * W ≤ 4 * 4 := Nat.mul_le_mul (by omega) hW
      have hb3 := Nat.pow_le_pow_right (n := 2) (by omega) (show ra_ns (V + 1) (xi_kk W (1 + V * 1) (2535 + p * 16) st) ≤ 16 by omega)
      have hs := pk_shlN (n := 1) (nI (ra_ns (V + 1) (xi_kk W (1 + V * 1) (2535 + p * 16) st)) &&& 31) _ (s_l _ (by omega)) (by omega)
      rw [Nat.one_mul] at hs
      show post ((1 : Int32) <<< (nI _ &&& 31))
      rw [show (1 : Int32) = nI 1 from rfl, hs]; exact hp
    · have hb := ra_ixlt h (show V * 1 < 1 + V * 1 by omega)
      have hb2 := ra_ixlt h h
      have e1 : nI (2535 + p * 16) + nI r * nI (1 + V * 1) + nI r = nI (2535 + p * 16 + r * (1 + V * 1) + r) := by rw [pk_mul, nI_add, nI_add]
      obtain ⟨g1, g2⟩ := xi_val hW (M.1 r r h h)
      refine ⟨pk_in _ 2775 (by omega) e1, xw_val hW g2 (by rw [pk_cl _ e1]; exact g1) ?_⟩
      have key := ih (r + 1) (by omega) (by omega)
      refine nm_r (nI_add _ _) (nm_r (nI_1 r) key)
theorem xw_rc {post : Int32 → Prop} {p : Nat} (hV : 1 ≤ V ∧ V ≤ 3) (hW : W ≤ 4) (hVW : W + V ≤ 5) (hp' : p < 15) (M : xe_md W (1 + V * 1) (2535 + p * 16) st)
    (hp : post (nI (2 ^ ra_ns (V + 1) (xi_kk W (1 + V * 1) (2535 + p * 16) st)))) : ∃ n32 : Nat, wX_relationCount_32 post (nI (2535 + p * 16)) (nI (1 + V * 1)) (nI V) (nI W) (nI Q) (nI S) (nI (Q * S)) (nI (2 ^ W - 1)) (nI E) (nI rd) (nI qh) (nI qc) (nI C) fo ek ef et eo ec st ve qu qd n32 0 0 :=
  Exists.intro (V + 2) (xw_rc_l hV hW hVW hp' M hp (V + 2) 0 (by omega) (by omega))
end
end
section
/-! Y: states as numbers, sets of states as words -/
def yv_p (W t i : Nat) : Nat := t / 2 ^ (W * (i - 1)) % 2 ^ W
def yv_s (W o t w : Nat) : Nat := t % 2 ^ (W * (o - 1)) + w * 2 ^ (W * (o - 1)) + t / 2 ^ (W * o) * 2 ^ (W * o)
theorem yt_setf : ∀ (W : Fin 5) (o : Fin 4) (t : Fin 64) (w : Fin 16), 1 ≤ W.val → 1 ≤ o.val → W.val * o.val ≤ 6 → w.val < 2 ^ W.val →
    ((nI t.val &&& ((nI (2 ^ W.val - 1) <<< (nI (W.val * (o.val - 1)) &&& 31)) ^^^ (-1))) ||| (nI w.val <<< (nI (W.val * (o.val - 1)) &&& 31))) = nI (yv_s W.val o.val t.val w.val) := by decide +kernel
theorem yt_partf : ∀ (W : Fin 5) (o : Fin 4) (i : Fin 4), 1 ≤ W.val → 1 ≤ o.val → 1 ≤ i.val → W.val * o.val ≤ 6 → W.val * i.val ≤ 6 → ∀ (t : Fin 64) (w : Fin 16), w.val < 2 ^ W.val →
    yv_p W.val (yv_s W.val o.val t.val w.val) i.val = if i.val = o.val then w.val else yv_p W.val t.val i.val := by decide +kernel
theorem yt_bndf : ∀ (V : Fin 4) (W : Fin 5) (o : Fin 4), 1 ≤ V.val → 1 ≤ W.val → W.val + V.val ≤ 5 → 1 ≤ o.val → o.val ≤ V.val → ∀ (t : Fin 64) (w : Fin 16), t.val < 2 ^ (V.val * W.val) → w.val < 2 ^ W.val →
    yv_s W.val o.val t.val w.val < 2 ^ (V.val * W.val) := by decide +kernel
theorem yt_codef : ∀ (V : Fin 4) (W : Fin 5), 1 ≤ V.val → 1 ≤ W.val → W.val + V.val ≤ 5 → ∀ (t : Fin 64), t.val < 2 ^ (V.val * W.val) →
    t.val = yv_p W.val t.val 1 + (if 2 ≤ V.val then yv_p W.val t.val 2 * 2 ^ W.val else 0) + (if 3 ≤ V.val then yv_p W.val t.val 3 * 2 ^ (2 * W.val) else 0) := by decide +kernel
theorem yt_vwf : ∀ (V : Fin 4) (W : Fin 5), 1 ≤ V.val → 1 ≤ W.val → W.val + V.val ≤ 5 → V.val * W.val ≤ 6 ∧ 2 ^ (V.val * W.val) ≤ 64 ∧ W.val * (V.val + 1) ≤ 9 ∧ 2 ^ (W.val * (V.val + 1)) ≤ 512 := by decide +kernel
theorem yt_vw {V W : Nat} (hV : 1 ≤ V ∧ V ≤ 3) (hW : 1 ≤ W ∧ W ≤ 4) (h : W + V ≤ 5) : V * W ≤ 6 ∧ 2 ^ (V * W) ≤ 64 ∧ W * (V + 1) ≤ 9 ∧ 2 ^ (W * (V + 1)) ≤ 512 :=
  yt_vwf ⟨V, by omega⟩ ⟨W, by omega⟩ hV.1 hW.1 h
theorem yt_wo {V W o : Nat} (hV : 1 ≤ V ∧ V ≤ 3) (hW : 1 ≤ W ∧ W ≤ 4) (h : W + V ≤ 5) (ho : o ≤ V) : W * o ≤ 6 := by
  have h1 := (yt_vw hV hW h).1
  have h2 := Nat.mul_le_mul_left W ho
  rw [Nat.mul_comm V W] at h1; omega
theorem yt_part {V W o i t w : Nat} (hV : 1 ≤ V ∧ V ≤ 3) (hW : 1 ≤ W ∧ W ≤ 4) (h : W + V ≤ 5) (ho : 1 ≤ o ∧ o ≤ V) (hi : 1 ≤ i ∧ i ≤ V) (ht : t < 64) (hw : w < 2 ^ W) :
    yv_p W (yv_s W o t w) i = if i = o then w else yv_p W t i :=
  yt_partf ⟨W, by omega⟩ ⟨o, by omega⟩ ⟨i, by omega⟩ hW.1 ho.1 hi.1 (yt_wo hV hW h ho.2) (yt_wo hV hW h hi.2) ⟨t, ht⟩ ⟨w, by have := ra_pw hW.2; omega⟩ hw
theorem yt_bnd {V W o t w : Nat} (hV : 1 ≤ V ∧ V ≤ 3) (hW : 1 ≤ W ∧ W ≤ 4) (h : W + V ≤ 5) (ho : 1 ≤ o ∧ o ≤ V) (ht : t < 2 ^ (V * W)) (hw : w < 2 ^ W) : yv_s W o t w < 2 ^ (V * W) :=
  yt_bndf ⟨V, by omega⟩ ⟨W, by omega⟩ ⟨o, by omega⟩ hV.1 hW.1 h ho.1 ho.2 ⟨t, by have := (yt_vw hV hW h).2.1; omega⟩ ⟨w, by have := ra_pw hW.2; omega⟩ ht hw
theorem yt_set {V W o t w : Nat} (hV : 1 ≤ V ∧ V ≤ 3) (hW : 1 ≤ W ∧ W ≤ 4) (h : W + V ≤ 5) (ho : 1 ≤ o ∧ o ≤ V) (ht : t < 64) (hw : w < 2 ^ W) :
    ((nI t &&& ((nI (2 ^ W - 1) <<< (nI (W * (o - 1)) &&& 31)) ^^^ (-1))) ||| (nI w <<< (nI (W * (o - 1)) &&& 31))) = nI (yv_s W o t w) :=
  yt_setf ⟨W, by omega⟩ ⟨o, by omega⟩ ⟨t, ht⟩ ⟨w, by have := ra_pw hW.2; omega⟩ hW.1 ho.1 (yt_wo hV hW h ho.2) hw
theorem yv_p_lt (W t i : Nat) : yv_p W t i < 2 ^ W := Nat.mod_lt _ (Nat.two_pow_pos W)
/-- the state as a vector -/
def yv_v (W V t : Nat) : Nat → BitVec W := fun i => if i = 0 then 1 else if i ≤ V then BitVec.ofNat W (yv_p W t i) else 0
theorem yv_v_0 (W V t : Nat) : yv_v W V t 0 = 1 := if_pos rfl
theorem yv_v_in {W V t i : Nat} (h1 : 1 ≤ i) (h2 : i ≤ V) : yv_v W V t i = BitVec.ofNat W (yv_p W t i) := by
  unfold yv_v; rw [if_neg (by omega), if_pos h2]
theorem yv_v_out {W V t i : Nat} (h : V < i) : yv_v W V t i = 0 := by
  unfold yv_v; rw [if_neg (by omega), if_neg (by omega)]
theorem yv_v_inj {V W t t' : Nat} (hV : 1 ≤ V ∧ V ≤ 3) (hW : 1 ≤ W ∧ W ≤ 4) (h : W + V ≤ 5) (ht : t < 2 ^ (V * W)) (ht' : t' < 2 ^ (V * W)) (e : yv_v W V t = yv_v W V t') : t = t' := by
  have h64 := (yt_vw hV hW h).2.1
  have hi : ∀ i, 1 ≤ i → i ≤ V → yv_p W t i = yv_p W t' i := by
    intro i h1 h2
    have e2 := congrFun e i
    rw [yv_v_in h1 h2, yv_v_in h1 h2] at e2
    exact ra_ofinj (yv_p_lt _ _ _) (yv_p_lt _ _ _) e2
  have c1 := yt_codef ⟨V, by omega⟩ ⟨W, by omega⟩ hV.1 hW.1 h ⟨t, by omega⟩ ht
  have c2 := yt_codef ⟨V, by omega⟩ ⟨W, by omega⟩ hV.1 hW.1 h ⟨t', by omega⟩ ht'
  dsimp only at c1 c2
  rw [c1, c2, hi 1 (by omega) hV.1]
  by_cases h2 : 2 ≤ V
  · rw [if_pos h2, if_pos h2, hi 2 (by omega) h2]
    by_cases h3 : 3 ≤ V
    · rw [if_pos h3, if_pos h3, hi 3 (by omega) h3]
    · rw [if_neg h3, if_neg h3]
  · rw [if_neg h2, if_neg h2, if_neg (by omega), if_neg (by omega)]
theorem yv_v_set {V W o t : Nat} (hV : 1 ≤ V ∧ V ≤ 3) (hW : 1 ≤ W ∧ W ≤ 4) (h : W + V ≤ 5) (ho : 1 ≤ o ∧ o ≤ V) (ht : t < 64) (w : BitVec W) (i : Nat) :
    yv_v W V (yv_s W o t w.toNat) i = if i = o then w else yv_v W V t i := by
  by_cases h0 : i = 0
  · rw [h0, yv_v_0, yv_v_0, if_neg (by omega)]
  · by_cases hi : i ≤ V
    · rw [yv_v_in (by omega) hi, yv_v_in (by omega) hi, yt_part hV hW h ho ⟨by omega, hi⟩ ht w.isLt]
      by_cases e : i = o
      · rw [if_pos e, if_pos e]; simp
      · rw [if_neg e, if_neg e]
    · rw [yv_v_out (by omega), yv_v_out (by omega), if_neg (by omega)]
theorem ra_mul_v1 {W V : Nat} {f g : Nat → BitVec W} (h0 : f 0 = g 0) (h : ∀ i, 1 ≤ i → i ≤ V → f i = g i) (h2 : ∀ i, V < i → f i = g i) : f = g := by
  funext i
  by_cases e : i = 0
  · rw [e]; exact h0
  · by_cases e2 : i ≤ V
    · exact h i (by omega) e2
    · exact h2 i (by omega)
theorem yv_v_id {V W : Nat} (t : Nat) : ra_mul V 1 (ra_mat V ra_id) (yv_v W V t) = yv_v W V t := ra_mul_id _ (fun x hx => yv_v_out (by omega))
theorem yv_v_as {V W o t : Nat} (hV : 1 ≤ V ∧ V ≤ 3) (hW : 1 ≤ W ∧ W ≤ 4) (h : W + V ≤ 5) (ho : 1 ≤ o ∧ o ≤ V) (ht : t < 64) (c : Nat → BitVec W) :
    ra_mul V 1 (ra_mat V (ra_as o c)) (yv_v W V t) = yv_v W V (yv_s W o t (ra_sm (V + 1) (fun l => c l * yv_v W V t l)).toNat) := by
  refine ra_mul_v1 (V := V) ?_ ?_ ?_
  · rw [ra_mul_hd, ra_mat_hd, yv_v_0, yv_v_0]; grind
  · intro i h1 h2
    obtain ⟨a, rfl⟩ : ∃ a, i = 1 + a := ⟨i - 1, by omega⟩
    have e := ra_mul_as (W := W) (V := V) (C := 1) (o := o) c (yv_v W V t) (i := a) (j := 0) (by omega) (by omega)
    rw [show 1 + a * 1 + 0 = 1 + a by omega] at e
    rw [e, yv_v_set hV hW h ho ht]
    by_cases eo : 1 + a = o
    · rw [if_pos eo, if_pos eo]; exact ra_sm_congr (fun l _ => by rw [ra_cell1])
    · rw [if_neg eo, if_neg eo]
  · intro i hi
    rw [ra_mul_out _ _ _ _ (by omega), yv_v_out hi]
theorem yv_v_kn {V W o t : Nat} (hV : 1 ≤ V ∧ V ≤ 3) (hW : 1 ≤ W ∧ W ≤ 4) (h : W + V ≤ 5) (ho : 1 ≤ o ∧ o ≤ V) (ht : t < 64) (w : BitVec W) :
    ra_mul V 1 (ra_mat V (ra_kn o w)) (yv_v W V t) = yv_v W V (yv_s W o t w.toNat) := by
  refine ra_mul_v1 (V := V) ?_ ?_ ?_
  · rw [ra_mul_hd, ra_mat_hd, yv_v_0, yv_v_0]; grind
  · intro i h1 h2
    obtain ⟨a, rfl⟩ : ∃ a, i = 1 + a := ⟨i - 1, by omega⟩
    have e := ra_mul_kn (W := W) (V := V) (C := 1) (o := o) w (yv_v W V t) (i := a) (j := 0) (by omega) (by omega)
    rw [show 1 + a * 1 + 0 = 1 + a by omega] at e
    rw [e, yv_v_set hV hW h ho ht]
    by_cases eo : 1 + a = o
    · rw [if_pos eo, if_pos eo, if_pos rfl, yv_v_0]; grind
    · rw [if_neg eo, if_neg eo]
  · intro i hi
    rw [ra_mul_out _ _ _ _ (by omega), yv_v_out hi]
/-! bits -/
def yv_b (x : Int64) (t : Nat) : Bool := x.toBitVec.getLsbD t
theorem yb_ext {x y : Int64} (h : ∀ t, t < 64 → yv_b x t = yv_b y t) : x = y := wb_inj (BitVec.eq_of_getLsbD_eq (fun i hi => h i hi))
theorem yb_or (x y : Int64) (t : Nat) : yv_b (x ||| y) t = (yv_b x t || yv_b y t) := by
  unfold yv_b; rw [Int64.toBitVec_or, BitVec.getLsbD_or]
theorem yb_0 (t : Nat) : yv_b 0 t = false := by
  show (0#64).getLsbD t = false; simp
theorem yb_z {x : Int64} : x = 0 ↔ ∀ t, t < 64 → yv_b x t = false := by
  constructor
  · intro h t _; rw [h]; exact yb_0 t
  · intro h; exact yb_ext (fun t ht => by rw [h t ht, yb_0])
theorem yb_one {t i : Nat} (ht : t < 64) (hi : i < 64) : yv_b ((1 : Int64) <<< ((nI t).toInt64 &&& 63)) i = decide (i = t) := by
  rw [show (1 : Int64) = lN 1 from rfl, wb_shl 1 ht, Nat.one_mul]
  unfold yv_b
  rw [wb_tb, BitVec.getLsbD_ofNat, Nat.testBit_two_pow]
  by_cases e : i = t
  · simp [e, ht]
  · have e2 : ¬ t = i := fun z => e z.symm
    simp [e, e2]
theorem yb_oreq {x y : Int64} : (x ||| y) = x ↔ ∀ t, t < 64 → yv_b y t = true → yv_b x t = true := by
  constructor
  · intro h t _ hy
    have := congrArg (fun z => yv_b z t) h
    rw [yb_or, hy, Bool.or_true] at this
    exact this.symm
  · intro h
    refine yb_ext (fun t ht => ?_)
    rw [yb_or]
    cases hx : yv_b x t
    · cases hy : yv_b y t
      · rfl
      · rw [h t ht hy] at hx; exact absurd hx (by decide)
    · rfl
theorem yb_andn {x y : Int64} : (x &&& (y ^^^ (-1))) = 0 ↔ ∀ t, t < 64 → yv_b x t = true → yv_b y t = true := by
  have key : ∀ t, t < 64 → yv_b (x &&& (y ^^^ (-1))) t = (yv_b x t && ! yv_b y t) := by
    intro t ht
    unfold yv_b
    rw [Int64.toBitVec_and, Int64.toBitVec_xor, BitVec.getLsbD_and, BitVec.getLsbD_xor, show (-1 : Int64).toBitVec = BitVec.allOnes 64 from rfl, BitVec.getLsbD_allOnes]
    simp [ht]
  rw [yb_z]
  constructor
  · intro h t ht hx
    have := h t ht
    rw [key t ht, hx] at this
    cases hy : yv_b y t
    · rw [hy] at this; exact absurd this (by decide)
    · rfl
  · intro h t ht
    rw [key t ht]
    cases hx : yv_b x t
    · rfl
    · rw [h t ht hx]; rfl
end
section
/-! Y: the parts of a state, membership, the image of a state under an edge -/
/-- the plain edge's image -/
def yi_pl {W : Nat} (V : Nat) (kK kO : Nat → Nat) (kc : Nat → Nat → BitVec W) (e t t' : Nat) : Prop :=
  t' < 2 ^ (V * W) ∧ ∃ A, xe_pl V kK kO kc e A ∧ yv_v W V t' = ra_mul V 1 A (yv_v W V t)
section
variable {V W Q S E rd : Nat} {fo ek ef et eo ec : Nat → Int32} {lv rc : Nat → Int64} {kK kF kT kO : Nat → Nat} {kc : Nat → Nat → BitVec W}
theorem yw_part {post : Int32 → Prop} {t i : Nat} (hV : 1 ≤ V ∧ V ≤ 3) (hW : 1 ≤ W ∧ W ≤ 4) (hVW : W + V ≤ 5) (ht : t < 64) (hi : 1 ≤ i ∧ i ≤ V) (hp : post (nI (yv_p W t i))) : wpY_part post (nI V, nI W, nI Q, nI S, nI (2 ^ (V * W)), nI (2 ^ W - 1), nI E, nI rd, fo, ek, ef, et, eo, ec, lv, rc) (nI t) (nI i) := by
  have h1 : W * (i - 1) ≤ 6 := Nat.le_trans (Nat.mul_le_mul_left W (by omega)) (yt_wo hV hW hVW hi.2)
  have e1 : nI W * (nI i - 1) = nI (W * (i - 1)) := by
    rw [show nI i - 1 = nI (i - 1) from pk_sub (b := 1) hi.1, pk_mul]
  show post ((nI t >>> ((nI W * (nI i - 1)) &&& 31)) &&& nI (2 ^ W - 1))
  have hpw := ra_pw hW.2
  rw [e1, pk_shrN (by omega) (nI (W * (i - 1)) &&& 31) _ (s_l _ (by omega)), pk_andN (Nat.lt_of_le_of_lt (Nat.div_le_self _ _) (by omega)) W (pk_tn (by omega))]
  exact hp
theorem yw_has {post : Int32 → Prop} {t : Nat} {x : Int64} (ht : t < 64) (h1 : yv_b x t = true → post 1) (h0 : yv_b x t = false → post 0) : wpY_has post (nI V, nI W, nI Q, nI S, nI (2 ^ (V * W)), nI (2 ^ W - 1), nI E, nI rd, fo, ek, ef, et, eo, ec, lv, rc) x (nI t) := by
  have hb := ts_bit (w := x) (s := (nI t).toInt64.toUInt64 &&& Int64.toUInt64 63) ht (by rw [wb_cu t ht]; exact u_tn (by omega))
  refine br_c (fun h => h0 (hb.mp h)) (fun h => h1 ?_)
  cases hx : yv_b x t
  · exact absurd (hb.mpr hx) h
  · rfl
/-- the bits of the collected set -/
def yi_set (W o t : Nat) (G : Nat → Prop) (x : Int64) : Prop := ∀ t', t' < 64 → (yv_b x t' = true ↔ ∃ w, w < 2 ^ W ∧ G w ∧ t' = yv_s W o t w)
theorem yw_img_136 {post : Int64 → Prop} {e o t a : Nat} {s : Int32} (hV : 1 ≤ V ∧ V ≤ 3) (hW : 1 ≤ W ∧ W ≤ 4) (hVW : W + V ≤ 5) (hS : 2 ≤ S) (hQ : 1 ≤ Q) (hP : Q * S ≤ 15) (hE : E ≤ 16) (hw : xe_wf V Q S E ek ef et eo kK kF kT kO) (hkc : kc = fun e l => ra_pi W (ec (e * 4 + l))) (he : e < 16) (ho : 1 ≤ o ∧ o ≤ V) (ht : t < 2 ^ (V * W)) (ha : a < 2 ^ W) (hs : s &&& nI (2 ^ W - 1) = nI a) (hek : ek e = nI (kK e)) (hk3 : kK e ≤ 3)
    (hp : ∀ x, yi_set W o t (fun w => kK e = 2 ∨ w = a) x → post x) :
    ∀ m w x, w ≤ 2 ^ W → 2 ^ W < m + w → yi_set W o t (fun w' => w' < w ∧ (kK e = 2 ∨ w' = a)) x →
      wY_image_136 post (nI e) (nI (W * (o - 1))) (nI t &&& ((nI (2 ^ W - 1) <<< (nI (W * (o - 1)) &&& 31)) ^^^ (-1))) s (nI V) (nI W) (nI Q) (nI S) (nI (2 ^ (V * W))) (nI (2 ^ W - 1)) (nI E) (nI rd) fo ek ef et eo ec lv rc m x (nI w) := by
  have hpw := ra_pw hW.2
  have hpos := Nat.two_pow_pos W
  have h64 := (yt_vw hV hW hVW).2.1
  have hc : (nI e).toNatClampNeg = e := nI_clamp (by omega)
  intro m
  induction m with
  | zero => intro w x h1 h2; omega
  | succ m ih =>
    intro w x h1 h2 H
    refine pk_lt (2 ^ W - 1) w (fun h => ?_) (fun h => ⟨vp_in_nI (by omega) (by omega), ?_⟩)
    · refine hp x (fun t' ht' => (H t' ht').trans ?_)
      constructor
      · rintro ⟨w', g1, ⟨_, g2⟩, g3⟩; exact ⟨w', g1, g2, g3⟩
      · rintro ⟨w', g1, g2, g3⟩; exact ⟨w', g1, ⟨by omega, g2⟩, g3⟩
    · rw [hc, hek]
      have add : (kK e = 2 ∨ w = a) → wY_image_167 post (wY_image_136 post (nI e) (nI (W * (o - 1))) (nI t &&& ((nI (2 ^ W - 1) <<< (nI (W * (o - 1)) &&& 31)) ^^^ (-1))) s (nI V) (nI W) (nI Q) (nI S) (nI (2 ^ (V * W))) (nI (2 ^ W - 1)) (nI E) (nI rd) fo ek ef et eo ec lv rc m) (nI e) (nI (W * (o - 1))) (nI t &&& ((nI (2 ^ W - 1) <<< (nI (W * (o - 1)) &&& 31)) ^^^ (-1))) s x (nI w) (nI V) (nI W) (nI Q) (nI S) (nI (2 ^ (V * W))) (nI (2 ^ W - 1)) (nI E) (nI rd) fo ek ef et eo ec lv rc := by
        intro hg
        have hb := yt_bnd hV hW hVW ho ht (show w < 2 ^ W by omega)
        unfold wY_image_167
        rw [yt_set hV hW hVW ho (by omega) (show w < 2 ^ W by omega)]
        refine nm_e (nm_r (nI_1 w) (ih (w + 1) _ (by omega) (by omega) ?_))
        intro t' ht'
        rw [yb_or, yb_one (by omega) ht', Bool.or_eq_true, H t' ht', decide_eq_true_eq]
        constructor
        · rintro (⟨w', g1, ⟨g2, g3⟩, g4⟩ | g)
          · exact ⟨w', g1, ⟨by omega, g3⟩, g4⟩
          · exact ⟨w, by omega, ⟨by omega, hg⟩, g⟩
        · rintro ⟨w', g1, ⟨g2, g3⟩, g4⟩
          by_cases ew : w' = w
          · right; rw [← ew]; exact g4
          · left; exact ⟨w', g1, ⟨by omega, g3⟩, g4⟩
      have skip : ¬ (kK e = 2 ∨ w = a) → wY_image_136 post (nI e) (nI (W * (o - 1))) (nI t &&& ((nI (2 ^ W - 1) <<< (nI (W * (o - 1)) &&& 31)) ^^^ (-1))) s (nI V) (nI W) (nI Q) (nI S) (nI (2 ^ (V * W))) (nI (2 ^ W - 1)) (nI E) (nI rd) fo ek ef et eo ec lv rc m x (nI (w + 1)) := by
        intro hg
        refine ih (w + 1) x (by omega) (by omega) (fun t' ht' => (H t' ht').trans ?_)
        constructor
        · rintro ⟨w', g1, ⟨g2, g3⟩, g4⟩; exact ⟨w', g1, ⟨by omega, g3⟩, g4⟩
        · rintro ⟨w', g1, ⟨g2, g3⟩, g4⟩
          by_cases ew : w' = w
          · rw [ew] at g3; exact absurd g3 hg
          · exact ⟨w', g1, ⟨by omega, g3⟩, g4⟩
      refine pk_eq (kK e) 2 (fun h2 => add (Or.inl h2)) (fun h2 => ?_) rfl rfl (by omega) (by omega)
      rw [hs]
      exact pk_eq w a (fun h3 => add (Or.inr h3)) (fun h3 => nm_r (nI_1 w) (skip (by omega))) rfl rfl (by omega) (by omega)
theorem yw_img_91 {post : Int64 → Prop} {e t : Nat} {z3 z4 : Int32} (hV : 1 ≤ V ∧ V ≤ 3) (hW : 1 ≤ W ∧ W ≤ 4) (hVW : W + V ≤ 5) (hS : 2 ≤ S) (hQ : 1 ≤ Q) (hP : Q * S ≤ 15) (hE : E ≤ 16) (hw : xe_wf V Q S E ek ef et eo kK kF kT kO) (hkc : kc = fun e l => ra_pi W (ec (e * 4 + l))) (he : e < 16) (ht : t < 2 ^ (V * W))
    (hp : ∀ s, ra_pi W s = ra_sm (V + 1) (fun l => kc e l * yv_v W V t l) → ∃ m, wY_image_136 post (nI e) z3 z4 s (nI V) (nI W) (nI Q) (nI S) (nI (2 ^ (V * W))) (nI (2 ^ W - 1)) (nI E) (nI rd) fo ek ef et eo ec lv rc m 0 0) :
    ∀ m i s, 1 ≤ i → i ≤ V + 1 → V + 1 < m + i → ra_pi W s = ra_sm i (fun l => kc e l * yv_v W V t l) → wY_image_91 post (nI e) (nI t) z3 z4 (nI V) (nI W) (nI Q) (nI S) (nI (2 ^ (V * W))) (nI (2 ^ W - 1)) (nI E) (nI rd) fo ek ef et eo ec lv rc m s (nI i) := by
  have h64 := (yt_vw hV hW hVW).2.1
  intro m
  induction m with
  | zero => intro i s h0 h1 h2; omega
  | succ m ih =>
    intro i s h0 h1 h2 H
    refine pk_lt V i (fun h => ?_) (fun h => ?_)
    · have e2 : i = V + 1 := by omega
      subst e2
      exact hp s H
    · have e1 : nI e * 4 + nI i = nI (e * 4 + i) := by rw [show nI e * 4 = nI (e * 4) from pk_mul e 4, nI_add]
      refine ⟨pk_in _ 64 (by omega) e1, ?_⟩
      rw [pk_cl _ e1]
      refine yw_part hV hW hVW (by omega) ⟨h0, h⟩ (nm_e (nm_r (nI_1 i) (ih (i + 1) _ (by omega) (by omega) (by omega) ?_)))
      rw [ra_pi_add (by omega), ra_pi_mul (by omega), H, ra_pi_nI (by omega)]
      show _ = ra_sm i _ + kc e i * yv_v W V t i
      rw [yv_v_in h0 h, hkc]
theorem yw_img {post : Int64 → Prop} {e t : Nat} (hV : 1 ≤ V ∧ V ≤ 3) (hW : 1 ≤ W ∧ W ≤ 4) (hVW : W + V ≤ 5) (hS : 2 ≤ S) (hQ : 1 ≤ Q) (hP : Q * S ≤ 15) (hE : E ≤ 16) (hw : xe_wf V Q S E ek ef et eo kK kF kT kO) (hkc : kc = fun e l => ra_pi W (ec (e * 4 + l))) (he : e < E) (ht : t < 2 ^ (V * W))
    (hp : kK e ≠ 3 → ∀ x, (∀ t', t' < 64 → (yv_b x t' = true ↔ yi_pl V kK kO kc e t t')) → post x) (h3 : kK e = 3 → post (lv ((kO e * S + S - 1) * 64 + t))) : wpY_image post (nI V, nI W, nI Q, nI S, nI (2 ^ (V * W)), nI (2 ^ W - 1), nI E, nI rd, fo, ek, ef, et, eo, ec, lv, rc) (nI e) (nI t) := by
  obtain ⟨w1, w2, w3, w4, w5, w6, w7, w8, w9, w10⟩ := hw e he
  have h64 := (yt_vw hV hW hVW).2.1
  have hc : (nI e).toNatClampNeg = e := nI_clamp (by omega)
  have hin : vp_in (nI e) 16 := vp_in_nI (by omega) (by omega)
  refine And.intro hin ?_
  rw [hc, w1, w4]
  refine pk_eq (kK e) 0 (fun g0 => ?_) (fun g0 => ⟨hin, pk_eq (kK e) 3 (fun g3 => ?_) (fun g3 => ?_) rfl rfl (by omega) (by omega)⟩) rfl rfl (by omega) (by omega)
  · refine hp (by omega) _ (fun t' ht' => ?_)
    rw [yb_one (by omega) ht', decide_eq_true_eq]
    constructor
    · rintro rfl; exact ⟨ht, _, Or.inl ⟨g0, rfl⟩, (yv_v_id _).symm⟩
    · rintro ⟨a1, A, a2, a3⟩
      rcases a2 with ⟨_, rfl⟩ | ⟨z, _⟩ | ⟨z, _⟩
      · rw [yv_v_id] at a3; exact yv_v_inj hV hW hVW a1 ht a3
      · omega
      · omega
  · have hx := (xe_exit (w10 g3) hS).1
    have e1 : (nI (kO e) * nI S + nI S - 1) * 64 + nI t = nI ((kO e * S + S - 1) * 64 + t) := by
      rw [pk_mul, nI_add, show nI (kO e * S + S) - 1 = nI (kO e * S + S - 1) from pk_sub (b := 1) (by omega), show nI (kO e * S + S - 1) * 64 = nI ((kO e * S + S - 1) * 64) from pk_mul _ 64, nI_add]
    refine ⟨hin, pk_in _ 960 (by omega) e1, ?_⟩
    rw [pk_cl _ e1]; exact h3 g3
  · have ho := w9 (by omega)
    have hwo : W * (kO e - 1) ≤ 6 := Nat.le_trans (Nat.mul_le_mul_left W (by omega)) (yt_wo hV hW hVW ho.2)
    have e1 : nI W * (nI (kO e) - 1) = nI (W * (kO e - 1)) := by
      rw [show nI (kO e) - 1 = nI (kO e - 1) from pk_sub (b := 1) ho.1, pk_mul]
    have e2 : nI e * 4 = nI (e * 4) := pk_mul e 4
    refine ⟨hin, nm_r e1 (nm_e ⟨pk_in _ 64 (by omega) e2, nm_r (e' := ec (e * 4)) (by rw [pk_cl _ e2]) (Exists.intro (V + 2) ?_)⟩)⟩
    refine yw_img_91 hV hW hVW hS hQ hP hE hw hkc (by omega) ht ?_ (V + 2) 1 _ (by omega) (by omega) (by omega) ?_
    · intro s hs
      have hmk := ra_mk hW.2 s
      have hal := Nat.mod_lt s.toBitVec.toNat (Nat.two_pow_pos W)
      have hae : BitVec.ofNat W (s.toBitVec.toNat % 2 ^ W) = ra_sm (V + 1) (fun l => kc e l * yv_v W V t l) := by
        rw [← hs, ra_ofmod, BitVec.ofNat_toNat]; rfl
      generalize s.toBitVec.toNat % 2 ^ W = a at *
      refine Exists.intro (2 ^ W + 1) (yw_img_136 hV hW hVW hS hQ hP hE hw hkc (by omega) ho ht hal hmk w1 w5 ?_ (2 ^ W + 1) 0 0 (by omega) (by omega) ?_)
      · intro x hx
        refine hp (by omega) x (fun t' ht' => (hx t' ht').trans ?_)
        constructor
        · rintro ⟨w, q1, q2, rfl⟩
          refine ⟨yt_bnd hV hW hVW ho ht q1, ?_⟩
          by_cases k2 : kK e = 2
          · refine ⟨_, Or.inr (Or.inr ⟨k2, BitVec.ofNat W w, rfl⟩), ?_⟩
            rw [yv_v_kn hV hW hVW ho (by omega), BitVec.toNat_ofNat, Nat.mod_eq_of_lt q1]
          · have k1 : kK e = 1 := by omega
            refine ⟨_, Or.inr (Or.inl ⟨k1, rfl⟩), ?_⟩
            rw [yv_v_as hV hW hVW ho (by omega), ← hae, BitVec.toNat_ofNat, Nat.mod_eq_of_lt hal]
            rcases q2 with q2 | q2
            · exact absurd q2 k2
            · rw [q2]
        · rintro ⟨a1, A, a2, a3⟩
          rcases a2 with ⟨z, _⟩ | ⟨z, rfl⟩ | ⟨z, w, rfl⟩
          · exact absurd z g0
          · rw [yv_v_as hV hW hVW ho (by omega), ← hae, BitVec.toNat_ofNat, Nat.mod_eq_of_lt hal] at a3
            exact ⟨a, hal, Or.inr rfl, yv_v_inj hV hW hVW a1 (yt_bnd hV hW hVW ho ht hal) a3⟩
          · rw [yv_v_kn hV hW hVW ho (by omega)] at a3
            exact ⟨w.toNat, w.isLt, Or.inl z, yv_v_inj hV hW hVW a1 (yt_bnd hV hW hVW ho ht w.isLt) a3⟩
      · intro t' ht'
        rw [yb_0]
        constructor
        · intro z; exact absurd z (by decide)
        · rintro ⟨w, q1, ⟨q2, _⟩, _⟩; omega
    · show _ = 0 + kc e 0 * yv_v W V t 0
      rw [yv_v_0, hkc]
      show ra_pi W (ec (e * 4)) = 0 + ra_pi W (ec (e * 4 + 0)) * 1
      rw [Nat.add_zero]; grind
/-- every plain edge moves every state somewhere -/
theorem yi_ex (hV : 1 ≤ V ∧ V ≤ 3) (hW : 1 ≤ W ∧ W ≤ 4) (hVW : W + V ≤ 5) (hS : 2 ≤ S) (hQ : 1 ≤ Q) (hP : Q * S ≤ 15) (hE : E ≤ 16) (hw : xe_wf V Q S E ek ef et eo kK kF kT kO) (hkc : kc = fun e l => ra_pi W (ec (e * 4 + l))) {e t : Nat} {A : Nat → BitVec W} (he : e < E) (ht : t < 2 ^ (V * W)) (hA : xe_pl V kK kO kc e A) : ∃ t', t' < 2 ^ (V * W) ∧ yv_v W V t' = ra_mul V 1 A (yv_v W V t) := by
  obtain ⟨w1, w2, w3, w4, w5, w6, w7, w8, w9, w10⟩ := hw e he
  have h64 := (yt_vw hV hW hVW).2.1
  rcases hA with ⟨z, rfl⟩ | ⟨z, rfl⟩ | ⟨z, w, rfl⟩
  · exact ⟨t, ht, (yv_v_id _).symm⟩
  · have ho := w9 (Or.inl z)
    exact ⟨_, yt_bnd hV hW hVW ho ht (BitVec.isLt _), (yv_v_as hV hW hVW ho (by omega) _).symm⟩
  · have ho := w9 (Or.inr z)
    exact ⟨_, yt_bnd hV hW hVW ho ht (BitVec.isLt _), (yv_v_kn hV hW hVW ho (by omega) _).symm⟩
end
end
section
/-! Y: the level pairs as the least closed table -/
theorem yu_s {f : Nat → Int64} {k : Nat} {x : Int64} : vp_updL f k x k = x := pk_uLs
def yl_cs {W : Nat} (V Q S E : Nat) (kK kF kT kO : Nat → Nat) (kc : Nat → Nat → BitVec W) (R : Nat → Nat → Nat → Prop) : Prop :=
  (∀ p s, p < Q * S → p % S = 0 → s < 2 ^ (V * W) → R p s s) ∧
  (∀ e s t t', e < E → s < 2 ^ (V * W) → t < 2 ^ (V * W) → t' < 2 ^ (V * W) → R (kF e) s t → ((kK e ≠ 3 ∧ yi_pl V kK kO kc e t t') ∨ (kK e = 3 ∧ R (kO e * S + S - 1) t t')) → R (kT e) s t')
def yl_snd {W : Nat} (V Q S E : Nat) (kK kF kT kO : Nat → Nat) (kc : Nat → Nat → BitVec W) (lv : Nat → Int64) : Prop :=
  ∀ R, yl_cs V Q S E kK kF kT kO kc R → ∀ p s t, p < Q * S → s < 2 ^ (V * W) → t < 64 → yv_b (lv (p * 64 + s)) t = true → t < 2 ^ (V * W) ∧ R p s t
def yl_ini (V W Q S : Nat) (lv : Nat → Int64) : Prop := ∀ p s, p < Q * S → p % S = 0 → s < 2 ^ (V * W) → yv_b (lv (p * 64 + s)) s = true
def yl_im {W : Nat} (V S : Nat) (kK kO : Nat → Nat) (kc : Nat → Nat → BitVec W) (lv : Nat → Int64) (e t t' : Nat) : Prop :=
  (kK e ≠ 3 ∧ yi_pl V kK kO kc e t t') ∨ (kK e = 3 ∧ yv_b (lv ((kO e * S + S - 1) * 64 + t)) t' = true)
def yl_clo {W : Nat} (V S : Nat) (kK kF kT kO : Nat → Nat) (kc : Nat → Nat → BitVec W) (lv : Nat → Int64) (e t s : Nat) : Prop :=
  yv_b (lv (kF e * 64 + s)) t = true → ∀ t', t' < 64 → yl_im V S kK kO kc lv e t t' → yv_b (lv (kT e * 64 + s)) t' = true
def yl_ct (lv : Nat → Int64) : Nat := ra_ct 61440 (fun k => yv_b (lv (k / 64)) (k % 64))
def yl_ok {W : Nat} (V Q S E : Nat) (kK kF kT kO : Nat → Nat) (kc : Nat → Nat → BitVec W) (lv : Nat → Int64) : Prop :=
  yl_ini V W Q S lv ∧ yl_snd V Q S E kK kF kT kO kc lv ∧ ∀ e t s, e < E → t < 2 ^ (V * W) → s < 2 ^ (V * W) → yl_clo V S kK kF kT kO kc lv e t s
theorem yl_ct_up {lv lv' : Nat → Int64} (h : ∀ x t, yv_b (lv x) t = true → yv_b (lv' x) t = true) : yl_ct lv ≤ yl_ct lv' := ra_ct_mono (fun k _ hk => h _ _ hk)
theorem yl_up {lv : Nat → Int64} {x : Nat} {y : Int64} : ∀ z t, yv_b (lv z) t = true → yv_b (vp_updL lv x (lv x ||| y) z) t = true := by
  intro z t h
  by_cases e : z = x
  · rw [e, pk_uLs, yb_or]; rw [e] at h; rw [h]; rfl
  · rw [pk_uLn e]; exact h
theorem yl_ct_lt {lv : Nat → Int64} {x : Nat} {y : Int64} (hx : x < 960) (h : ¬ (lv x ||| y) = lv x) : yl_ct lv < yl_ct (vp_updL lv x (lv x ||| y)) := by
  have h2 : ∃ t, t < 64 ∧ yv_b y t = true ∧ yv_b (lv x) t = false := by
    refine Classical.byContradiction (fun hn => h (yb_oreq.mpr (fun t ht hy => ?_)))
    cases hl : yv_b (lv x) t
    · exact absurd ⟨t, ht, hy, hl⟩ hn
    · rfl
  obtain ⟨t, ht, hy, hl⟩ := h2
  refine ra_ct_lt (j := x * 64 + t) (by omega) (fun k _ hk => yl_up _ _ hk) ?_ ?_
  · rw [show (x * 64 + t) / 64 = x by omega, show (x * 64 + t) % 64 = t by omega]; exact hl
  · rw [show (x * 64 + t) / 64 = x by omega, show (x * 64 + t) % 64 = t by omega, pk_uLs, yb_or, hy, Bool.or_true]
def yr_iv {W : Nat} (V Q S E : Nat) (kK kF kT kO : Nat → Nat) (kc : Nat → Nat → BitVec W) (lv0 lv : Nat → Int64) (mr : Nat) (D : Nat → Nat → Nat → Prop) : Prop :=
  yl_snd V Q S E kK kF kT kO kc lv ∧ (∀ x t, yv_b (lv0 x) t = true → yv_b (lv x) t = true) ∧
  ((mr = 0 ∧ lv = lv0 ∧ ∀ e t s, e < E → t < 2 ^ (V * W) → s < 2 ^ (V * W) → D e t s → yl_clo V S kK kF kT kO kc lv0 e t s) ∨ (mr = 1 ∧ yl_ct lv0 < yl_ct lv))
section
variable {V W Q S E rd : Nat} {fo ek ef et eo ec : Nat → Int32} {lv rc : Nat → Int64} {kK kF kT kO : Nat → Nat} {kc : Nat → Nat → BitVec W}
theorem yw_114 {post : SY → Prop} {J68 J82 J93 : Int32 → Int32 → (Nat → Int32) → (Nat → Int32) → (Nat → Int32) → (Nat → Int32) → (Nat → Int32) → (Nat → Int32) → (Nat → Int64) → (Nat → Int64) → Prop} {x2 : Int32} {e t : Nat} {nx : Int64} {lv0 : Nat → Int64} {D : Nat → Nat → Nat → Prop} (hV : 1 ≤ V ∧ V ≤ 3) (hW : 1 ≤ W ∧ W ≤ 4) (hVW : W + V ≤ 5) (hS : 2 ≤ S) (hQ : 1 ≤ Q) (hP : Q * S ≤ 15) (hE : E ≤ 16) (hw : xe_wf V Q S E ek ef et eo kK kF kT kO) (hkc : kc = fun e l => ra_pi W (ec (e * 4 + l))) (he : e < E) (ht : t < 2 ^ (V * W))
    (nx1 : ∀ R, yl_cs V Q S E kK kF kT kO kc R → ∀ t', t' < 64 → yv_b nx t' = true → t' < 2 ^ (V * W) ∧ ((kK e ≠ 3 ∧ yi_pl V kK kO kc e t t') ∨ (kK e = 3 ∧ R (kO e * S + S - 1) t t')))
    (hp : ∀ mr lv, yr_iv V Q S E kK kF kT kO kc lv0 lv mr (fun e' t' s' => D e' t' s' ∨ (e' = e ∧ t' = t)) → J93 (nI mr) (nI (t + 1)) fo ek ef et eo ec lv rc) :
    ∀ m s mr lv, s ≤ 2 ^ (V * W) → 2 ^ (V * W) < m + s → (mr = 0 → ∀ t', t' < 64 → yl_im V S kK kO kc lv0 e t t' → yv_b nx t' = true) → yr_iv V Q S E kK kF kT kO kc lv0 lv mr (fun e' t' s' => D e' t' s' ∨ (e' = e ∧ t' = t ∧ s' < s)) →
      wY_findLevelPairs_114 post J68 J82 J93 x2 (nI e) (nI t) nx (nI V) (nI W) (nI Q) (nI S) (nI (2 ^ (V * W))) (nI (2 ^ W - 1)) (nI E) (nI rd) m (nI mr) (nI s) fo ek ef et eo ec lv rc := by
  obtain ⟨w1, w2, w3, w4, w5, w6, w7, w8, w9, w10⟩ := hw e he
  have h64 := (yt_vw hV hW hVW).2.1
  have hc : (nI e).toNatClampNeg = e := nI_clamp (by omega)
  have hin : vp_in (nI e) 16 := vp_in_nI (by omega) (by omega)
  intro m
  induction m with
  | zero => intro s mr lv h1 h2; omega
  | succ m ih =>
    intro s mr lv h1 h2 nx2 I
    refine pk_le (2 ^ (V * W)) s (fun h => ?_) (fun h => ?_)
    · refine nm_r (nI_1 t) (hp mr lv ?_)
      refine ⟨I.1, I.2.1, ?_⟩
      rcases I.2.2 with ⟨a1, a2, a3⟩ | a
      · refine Or.inl ⟨a1, a2, fun e' t' s' b1 b2 b3 b4 => a3 e' t' s' b1 b2 b3 ?_⟩
        rcases b4 with b4 | ⟨b4, b5⟩
        · exact Or.inl b4
        · exact Or.inr ⟨b4, b5, by omega⟩
      · exact Or.inr a
    · have e1 : nI (kT e) * 64 + nI s = nI (kT e * 64 + s) := by rw [show nI (kT e) * 64 = nI (kT e * 64) from pk_mul _ 64, nI_add]
      have e2 : nI (kF e) * 64 + nI s = nI (kF e * 64 + s) := by rw [show nI (kF e) * 64 = nI (kF e * 64) from pk_mul _ 64, nI_add]
      refine ⟨hin, ?_⟩
      rw [hc, w2, w3, e1, e2, nI_clamp (by omega), nI_clamp (by omega)]
      refine ⟨vp_in_nI (by omega) (by omega), nm_e ⟨hin, vp_in_nI (by omega) (by omega), yw_has (by omega) (fun hb => br_f (by decide) (br_c (fun ho => ?_) (fun ho => ?_))) (fun hb => br_t rfl ?_)⟩⟩
      · refine nm_r (nI_1 s) (ih (s + 1) mr lv (by omega) (by omega) nx2 ⟨I.1, I.2.1, ?_⟩)
        rcases I.2.2 with ⟨a1, a2, a3⟩ | a
        · refine Or.inl ⟨a1, a2, fun e' t' s' b1 b2 b3 b4 => ?_⟩
          rcases b4 with b4 | ⟨b4, b5, b6⟩
          · exact a3 e' t' s' b1 b2 b3 (Or.inl b4)
          · by_cases es : s' = s
            · subst b4 b5 es
              intro _ t2 ht2 him
              rw [← a2]
              exact yb_oreq.mp ho t2 ht2 (nx2 a1 t2 ht2 him)
            · exact a3 e' t' s' b1 b2 b3 (Or.inr ⟨b4, b5, by omega⟩)
        · exact Or.inr a
      · refine ⟨hin, vp_in_nI (by omega) (by omega), nm_e (nm_r (nI_1 s) (ih (s + 1) 1 _ (by omega) (by omega) (fun z => by omega) ⟨?_, fun x t' hx => yl_up _ _ (I.2.1 x t' hx), Or.inr ⟨rfl, ?_⟩⟩))⟩
        · intro R hR p s' t' hp' hs' ht' hb'
          by_cases ep : p * 64 + s' = kT e * 64 + s
          · rw [ep, pk_uLs, yb_or, Bool.or_eq_true] at hb'
            have ep1 : p = kT e := by omega
            have ep2 : s' = s := by omega
            rcases hb' with hb' | hb'
            · rw [← ep] at hb'; exact I.1 R hR p s' t' hp' hs' ht' hb'
            · obtain ⟨c1, c2⟩ := nx1 R hR t' ht' hb'
              refine ⟨c1, ?_⟩
              rw [ep1, ep2]
              exact hR.2 e s t t' he (by omega) ht c1 (I.1 R hR _ _ _ w6 (by omega) (by omega) hb).2 c2
          · rw [pk_uLn ep] at hb'; exact I.1 R hR p s' t' hp' hs' ht' hb'
        · have := yl_ct_lt (lv := lv) (x := kT e * 64 + s) (y := nx) (by omega) ho
          have := yl_ct_up I.2.1
          omega
      · refine nm_r (nI_1 s) (ih (s + 1) mr lv (by omega) (by omega) nx2 ⟨I.1, I.2.1, ?_⟩)
        rcases I.2.2 with ⟨a1, a2, a3⟩ | a
        · refine Or.inl ⟨a1, a2, fun e' t' s' b1 b2 b3 b4 => ?_⟩
          rcases b4 with b4 | ⟨b4, b5, b6⟩
          · exact a3 e' t' s' b1 b2 b3 (Or.inl b4)
          · by_cases es : s' = s
            · subst b4 b5 es
              intro hb2
              rw [← a2, hb] at hb2; exact absurd hb2 (by decide)
            · exact a3 e' t' s' b1 b2 b3 (Or.inr ⟨b4, b5, by omega⟩)
        · exact Or.inr a
theorem yw_93 {post : SY → Prop} {J68 J82 : Int32 → Int32 → (Nat → Int32) → (Nat → Int32) → (Nat → Int32) → (Nat → Int32) → (Nat → Int32) → (Nat → Int32) → (Nat → Int64) → (Nat → Int64) → Prop} {x2 : Int32} {e : Nat} {lv0 : Nat → Int64} {D : Nat → Nat → Nat → Prop} (hV : 1 ≤ V ∧ V ≤ 3) (hW : 1 ≤ W ∧ W ≤ 4) (hVW : W + V ≤ 5) (hS : 2 ≤ S) (hQ : 1 ≤ Q) (hP : Q * S ≤ 15) (hE : E ≤ 16) (hw : xe_wf V Q S E ek ef et eo kK kF kT kO) (hkc : kc = fun e l => ra_pi W (ec (e * 4 + l))) (he : e < E)
    (hp : ∀ mr lv, yr_iv V Q S E kK kF kT kO kc lv0 lv mr (fun e' t' s' => D e' t' s' ∨ e' = e) → J82 (nI mr) (nI (e + 1)) fo ek ef et eo ec lv rc) :
    ∀ m t mr lv, t ≤ 2 ^ (V * W) → 2 ^ (V * W) < m + t → yr_iv V Q S E kK kF kT kO kc lv0 lv mr (fun e' t' s' => D e' t' s' ∨ (e' = e ∧ t' < t)) →
      wY_findLevelPairs_93 post J68 J82 x2 (nI e) (nI V) (nI W) (nI Q) (nI S) (nI (2 ^ (V * W))) (nI (2 ^ W - 1)) (nI E) (nI rd) m (nI mr) (nI t) fo ek ef et eo ec lv rc := by
  have h64 := (yt_vw hV hW hVW).2.1
  intro m
  induction m with
  | zero => intro t mr lv h1 h2; omega
  | succ m ih =>
    intro t mr lv h1 h2 I
    refine pk_le (2 ^ (V * W)) t (fun h => ?_) (fun h => ?_)
    · refine nm_r (nI_1 e) (hp mr lv ⟨I.1, I.2.1, ?_⟩)
      rcases I.2.2 with ⟨a1, a2, a3⟩ | a
      · refine Or.inl ⟨a1, a2, fun e' t' s' b1 b2 b3 b4 => a3 e' t' s' b1 b2 b3 ?_⟩
        rcases b4 with b4 | b4
        · exact Or.inl b4
        · exact Or.inr ⟨b4, by omega⟩
      · exact Or.inr a
    · have hmr : mr = 0 → lv = lv0 := by
        intro z
        rcases I.2.2 with ⟨_, a2, _⟩ | ⟨a1, _⟩
        · exact a2
        · omega
      have go : ∀ nx : Int64, (∀ t', t' < 64 → (yv_b nx t' = true ↔ yl_im V S kK kO kc lv e t t')) → ∃ m', wY_findLevelPairs_114 post J68 J82 (wY_findLevelPairs_93 post J68 J82 x2 (nI e) (nI V) (nI W) (nI Q) (nI S) (nI (2 ^ (V * W))) (nI (2 ^ W - 1)) (nI E) (nI rd) m) x2 (nI e) (nI t) nx (nI V) (nI W) (nI Q) (nI S) (nI (2 ^ (V * W))) (nI (2 ^ W - 1)) (nI E) (nI rd) m' (nI mr) 0 fo ek ef et eo ec lv rc := by
        intro nx hnx
        refine Exists.intro (2 ^ (V * W) + 1) (yw_114 (lv0 := lv0) (D := fun e' t' s' => D e' t' s' ∨ (e' = e ∧ t' < t)) hV hW hVW hS hQ hP hE hw hkc he h ?_ ?_ (2 ^ (V * W) + 1) 0 mr lv (Nat.zero_le _) (by omega) ?_ ?_)
        · intro R hR t' ht' hb
          rcases (hnx t' ht').mp hb with ⟨b1, b2⟩ | ⟨b1, b2⟩
          · exact ⟨b2.1, Or.inl ⟨b1, b2⟩⟩
          · have hx := (xe_exit ((hw e he).2.2.2.2.2.2.2.2.2 b1) hS).1
            obtain ⟨c1, c2⟩ := I.1 R hR _ t t' hx h ht' b2
            exact ⟨c1, Or.inr ⟨b1, c2⟩⟩
        · intro mr' lv' I'
          refine ih (t + 1) mr' lv' (by omega) (by omega) ⟨I'.1, I'.2.1, ?_⟩
          rcases I'.2.2 with ⟨a1, a2, a3⟩ | a
          · refine Or.inl ⟨a1, a2, fun e' t' s' b1 b2 b3 b4 => a3 e' t' s' b1 b2 b3 ?_⟩
            rcases b4 with b4 | ⟨b4, b5⟩
            · exact Or.inl (Or.inl b4)
            · by_cases et : t' = t
              · exact Or.inr ⟨b4, et⟩
              · exact Or.inl (Or.inr ⟨b4, by omega⟩)
          · exact Or.inr a
        · intro z t' ht' him
          rw [← hmr z] at him
          exact (hnx t' ht').mpr him
        · refine ⟨I.1, I.2.1, ?_⟩
          rcases I.2.2 with ⟨a1, a2, a3⟩ | a
          · refine Or.inl ⟨a1, a2, fun e' t' s' b1 b2 b3 b4 => a3 e' t' s' b1 b2 b3 ?_⟩
            rcases b4 with b4 | ⟨_, _, b5⟩
            · exact b4
            · omega
          · exact Or.inr a
      refine yw_img hV hW hVW hS hQ hP hE hw hkc he h (fun h3 x hx => go x (fun t' ht' => (hx t' ht').trans ?_)) (fun h3 => go _ (fun t' ht' => ?_))
      · constructor
        · intro z; exact Or.inl ⟨h3, z⟩
        · rintro (⟨_, z⟩ | ⟨z, _⟩)
          · exact z
          · exact absurd z h3
      · constructor
        · intro z; exact Or.inr ⟨h3, z⟩
        · rintro (⟨z, _⟩ | ⟨_, z⟩)
          · exact absurd h3 z
          · exact z
theorem yw_82 {post : SY → Prop} {J68 : Int32 → Int32 → (Nat → Int32) → (Nat → Int32) → (Nat → Int32) → (Nat → Int32) → (Nat → Int32) → (Nat → Int32) → (Nat → Int64) → (Nat → Int64) → Prop} {r : Nat} {lv0 : Nat → Int64} (hV : 1 ≤ V ∧ V ≤ 3) (hW : 1 ≤ W ∧ W ≤ 4) (hVW : W + V ≤ 5) (hS : 2 ≤ S) (hQ : 1 ≤ Q) (hP : Q * S ≤ 15) (hE : E ≤ 16) (hw : xe_wf V Q S E ek ef et eo kK kF kT kO) (hkc : kc = fun e l => ra_pi W (ec (e * 4 + l)))
    (hp : ∀ mr lv, yr_iv V Q S E kK kF kT kO kc lv0 lv mr (fun _ _ _ => True) → J68 (nI mr) (nI (r + 1)) fo ek ef et eo ec lv rc) :
    ∀ m e mr lv, e ≤ E → E < m + e → yr_iv V Q S E kK kF kT kO kc lv0 lv mr (fun e' _ _ => e' < e) → wY_findLevelPairs_82 post J68 (nI r) (nI V) (nI W) (nI Q) (nI S) (nI (2 ^ (V * W))) (nI (2 ^ W - 1)) (nI E) (nI rd) m (nI mr) (nI e) fo ek ef et eo ec lv rc := by
  intro m
  induction m with
  | zero => intro e mr lv h1 h2; omega
  | succ m ih =>
    intro e mr lv h1 h2 I
    refine pk_le E e (fun h => ?_) (fun h => ?_)
    · refine nm_r (nI_1 r) (hp mr lv ⟨I.1, I.2.1, ?_⟩)
      rcases I.2.2 with ⟨a1, a2, a3⟩ | a
      · exact Or.inl ⟨a1, a2, fun e' t' s' b1 b2 b3 _ => a3 e' t' s' b1 b2 b3 (by omega)⟩
      · exact Or.inr a
    · refine Exists.intro (2 ^ (V * W) + 1) (yw_93 (lv0 := lv0) (D := fun e' _ _ => e' < e) hV hW hVW hS hQ hP hE hw hkc h ?_ (2 ^ (V * W) + 1) 0 mr lv (Nat.zero_le _) (by omega) ?_)
      · intro mr' lv' I'
        refine ih (e + 1) mr' lv' (by omega) (by omega) ⟨I'.1, I'.2.1, ?_⟩
        rcases I'.2.2 with ⟨a1, a2, a3⟩ | a
        · exact Or.inl ⟨a1, a2, fun e' t' s' b1 b2 b3 b4 => a3 e' t' s' b1 b2 b3 (by omega)⟩
        · exact Or.inr a
      · refine ⟨I.1, I.2.1, ?_⟩
        rcases I.2.2 with ⟨a1, a2, a3⟩ | a
        · exact Or.inl ⟨a1, a2, fun e' t' s' b1 b2 b3 b4 => a3 e' t' s' b1 b2 b3 (by omega)⟩
        · exact Or.inr a
theorem yw_68 {post : SY → Prop} (hV : 1 ≤ V ∧ V ≤ 3) (hW : 1 ≤ W ∧ W ≤ 4) (hVW : W + V ≤ 5) (hS : 2 ≤ S) (hQ : 1 ≤ Q) (hP : Q * S ≤ 15) (hE : E ≤ 16) (hw : xe_wf V Q S E ek ef et eo kK kF kT kO) (hkc : kc = fun e l => ra_pi W (ec (e * 4 + l))) (hp : ∀ lv, yl_ok V Q S E kK kF kT kO kc lv → post (nI V, nI W, nI Q, nI S, nI (2 ^ (V * W)), nI (2 ^ W - 1), nI E, nI rd, fo, ek, ef, et, eo, ec, lv, rc)) :
    ∀ m r mr lv, r ≤ 61441 → 61441 < m + r → yl_ini V W Q S lv → yl_snd V Q S E kK kF kT kO kc lv → ((mr = 0 ∧ ∀ e t s, e < E → t < 2 ^ (V * W) → s < 2 ^ (V * W) → yl_clo V S kK kF kT kO kc lv e t s) ∨ (mr = 1 ∧ r ≤ yl_ct lv)) →
      wY_findLevelPairs_68 post (nI V) (nI W) (nI Q) (nI S) (nI (2 ^ (V * W))) (nI (2 ^ W - 1)) (nI E) (nI rd) m (nI mr) (nI r) fo ek ef et eo ec lv rc := by
  intro m
  induction m with
  | zero => intro r mr lv h1 h2; omega
  | succ m ih =>
    intro r mr lv h1 h2 hi hs H
    have hmr : mr ≤ 1 := by rcases H with h | h <;> omega
    have hle : yl_ct lv ≤ 61440 := ra_ct_le _ _
    refine pk_eq mr 0 (fun h0 => ?_) (fun h0 => ?_)
    · rcases H with ⟨_, h⟩ | h
      · exact hp lv ⟨hi, hs, h⟩
      · omega
    · rcases H with h | ⟨_, hr⟩
      · exact absurd h.1 h0
      · refine pk_lt 61440 r (fun h => by omega) (fun h => ?_)
        refine Exists.intro (E + 1) (yw_82 (lv0 := lv) hV hW hVW hS hQ hP hE hw hkc ?_ (E + 1) 0 0 lv (by omega) (by omega) ⟨hs, fun _ _ z => z, Or.inl ⟨rfl, rfl, fun e' _ _ _ _ _ z => by omega⟩⟩)
        intro mr' lv' I'
        refine ih (r + 1) mr' lv' (by omega) (by omega) (fun p s b1 b2 b3 => I'.2.1 _ _ (hi p s b1 b2 b3)) I'.1 ?_
        rcases I'.2.2 with ⟨a1, a2, a3⟩ | ⟨a1, a2⟩
        · left; refine ⟨a1, fun e t s b1 b2 b3 => ?_⟩; rw [a2]; exact a3 e t s b1 b2 b3 trivial
        · exact Or.inr ⟨a1, by omega⟩
/-! the first table -/
def yl_in (S p s : Nat) : Int64 := if p % S = 0 then (1 : Int64) <<< ((nI s).toInt64 &&& 63) else 0
theorem yw_17 {post : SY → Prop} {J2 : Int32 → (Nat → Int32) → (Nat → Int32) → (Nat → Int32) → (Nat → Int32) → (Nat → Int32) → (Nat → Int32) → (Nat → Int64) → (Nat → Int64) → Prop} {p : Nat} (hV : 1 ≤ V ∧ V ≤ 3) (hW : 1 ≤ W ∧ W ≤ 4) (hVW : W + V ≤ 5) (hS : 2 ≤ S) (hQ : 1 ≤ Q) (hP : Q * S ≤ 15) (hE : E ≤ 16) (hw : xe_wf V Q S E ek ef et eo kK kF kT kO) (hkc : kc = fun e l => ra_pi W (ec (e * 4 + l))) (hp' : p < Q * S)
    (hp : ∀ lv, (∀ p' s, p' < p + 1 → s < 2 ^ (V * W) → lv (p' * 64 + s) = yl_in S p' s) → J2 (nI (p + 1)) fo ek ef et eo ec lv rc) :
    ∀ m s lv, s ≤ 2 ^ (V * W) → 2 ^ (V * W) < m + s → (∀ p' s', p' < p → s' < 2 ^ (V * W) → lv (p' * 64 + s') = yl_in S p' s') → (∀ s', s' < s → lv (p * 64 + s') = yl_in S p s') →
      wY_findLevelPairs_17 post J2 (nI p) (nI V) (nI W) (nI Q) (nI S) (nI (2 ^ (V * W))) (nI (2 ^ W - 1)) (nI E) (nI rd) m (nI s) fo ek ef et eo ec lv rc := by
  have h64 := (yt_vw hV hW hVW).2.1
  have hS15 : S ≤ 15 := Nat.le_trans (Nat.le_mul_of_pos_left S hQ) hP
  intro m
  induction m with
  | zero => intro s lv h1 h2; omega
  | succ m ih =>
    intro s lv h1 h2 H1 H2
    refine pk_le (2 ^ (V * W)) s (fun h => ?_) (fun h => ?_)
    · refine nm_r (nI_1 p) (hp lv (fun p' s' b1 b2 => ?_))
      by_cases ep : p' = p
      · rw [ep]; exact H2 s' (by omega)
      · exact H1 p' s' (by omega) b2
    · have e1 : nI p * 64 + nI s = nI (p * 64 + s) := by rw [show nI p * 64 = nI (p * 64) from pk_mul _ 64, nI_add]
      have er : nI p - nI p / nI S * nI S = nI (p % S) := pk_rem (by omega) (by omega) (by omega)
      have hlt := Nat.mod_lt p (show S > 0 by omega)
      refine ⟨by exact nI_ne0 (by omega) (by omega), ?_⟩
      have go : ∀ y : Int64, y = yl_in S p s → wY_findLevelPairs_17 post J2 (nI p) (nI V) (nI W) (nI Q) (nI S) (nI (2 ^ (V * W))) (nI (2 ^ W - 1)) (nI E) (nI rd) m (nI (s + 1)) fo ek ef et eo ec (vp_updL lv (p * 64 + s) y) rc := by
        intro y hy
        refine ih (s + 1) _ (by omega) (by omega) (fun p' s' b1 b2 => ?_) (fun s' b1 => ?_)
        · rw [pk_uLn (by omega)]; exact H1 p' s' b1 b2
        · by_cases es : s' = s
          · rw [es, pk_uLs]; exact hy
          · rw [pk_uLn (by omega)]; exact H2 s' (by omega)
      rw [er]
      refine pk_eq (p % S) 0 (fun h0 => ?_) (fun h0 => ?_) rfl rfl (by omega) (by omega)
      · exact ⟨pk_in _ 960 (by omega) e1, nm_r (by rw [pk_cl _ e1]) (nm_r (nI_1 s) (go _ (by unfold yl_in; rw [if_pos h0])))⟩
      · exact ⟨pk_in _ 960 (by omega) e1, nm_r (by rw [pk_cl _ e1]) (nm_r (nI_1 s) (go _ (by unfold yl_in; rw [if_neg h0])))⟩
theorem yw_2 {post : SY → Prop} (hV : 1 ≤ V ∧ V ≤ 3) (hW : 1 ≤ W ∧ W ≤ 4) (hVW : W + V ≤ 5) (hS : 2 ≤ S) (hQ : 1 ≤ Q) (hP : Q * S ≤ 15) (hE : E ≤ 16) (hw : xe_wf V Q S E ek ef et eo kK kF kT kO) (hkc : kc = fun e l => ra_pi W (ec (e * 4 + l))) (hp : ∀ lv, yl_ok V Q S E kK kF kT kO kc lv → post (nI V, nI W, nI Q, nI S, nI (2 ^ (V * W)), nI (2 ^ W - 1), nI E, nI rd, fo, ek, ef, et, eo, ec, lv, rc)) :
    ∀ m p lv, p ≤ Q * S → Q * S < m + p → (∀ p' s, p' < p → s < 2 ^ (V * W) → lv (p' * 64 + s) = yl_in S p' s) → wY_findLevelPairs_2 post (nI V) (nI W) (nI Q) (nI S) (nI (2 ^ (V * W))) (nI (2 ^ W - 1)) (nI E) (nI rd) m (nI p) fo ek ef et eo ec lv rc := by
  have h64 := (yt_vw hV hW hVW).2.1
  intro m
  induction m with
  | zero => intro p lv h1 h2; omega
  | succ m ih =>
    intro p lv h1 h2 H
    have e1 : nI Q * nI S = nI (Q * S) := pk_mul _ _
    refine pk_le (Q * S) p (fun h => ?_) (fun h => ?_) e1 rfl (by omega) (by omega)
    · refine Exists.intro 61442 (yw_68 hV hW hVW hS hQ hP hE hw hkc hp 61442 0 1 lv (by omega) (by omega) ?_ ?_ (Or.inr ⟨rfl, by omega⟩))
      · intro p' s b1 b2 b3
        rw [H p' s (by omega) b3]; unfold yl_in
        rw [if_pos b2, yb_one (by omega) (by omega)]; simp
      · intro R hR p' s t b1 b2 b3 hb
        rw [H p' s (by omega) b2] at hb
        unfold yl_in at hb
        by_cases hm : p' % S = 0
        · rw [if_pos hm, yb_one (by omega) b3, decide_eq_true_eq] at hb
          rw [hb]; exact ⟨b2, hR.1 p' s b1 hm b2⟩
        · rw [if_neg hm, yb_0] at hb; exact absurd hb (by decide)
    · exact Exists.intro (2 ^ (V * W) + 1) (yw_17 hV hW hVW hS hQ hP hE hw hkc h (fun lv' H' => ih (p + 1) lv' (by omega) (by omega) H') (2 ^ (V * W) + 1) 0 lv (Nat.zero_le _) (by omega) H (fun s' z => by omega))
theorem yw_levels {post : SY → Prop} (hV : 1 ≤ V ∧ V ≤ 3) (hW : 1 ≤ W ∧ W ≤ 4) (hVW : W + V ≤ 5) (hS : 2 ≤ S) (hQ : 1 ≤ Q) (hP : Q * S ≤ 15) (hE : E ≤ 16) (hw : xe_wf V Q S E ek ef et eo kK kF kT kO) (hkc : kc = fun e l => ra_pi W (ec (e * 4 + l))) (hp : ∀ lv, yl_ok V Q S E kK kF kT kO kc lv → post (nI V, nI W, nI Q, nI S, nI (2 ^ (V * W)), nI (2 ^ W - 1), nI E, nI rd, fo, ek, ef, et, eo, ec, lv, rc)) : wpY_findLevelPairs post (nI V, nI W, nI Q, nI S, nI (2 ^ (V * W)), nI (2 ^ W - 1), nI E, nI rd, fo, ek, ef, et, eo, ec, lv, rc) :=
  Exists.intro (Q * S + 1) (yw_2 hV hW hVW hS hQ hP hE hw hkc hp (Q * S + 1) 0 lv (by omega) (by omega) (fun p' s z => by omega))
end
end
section
/-! Y: the level pairs as the least closed table -/
/-! Y: the reached states as the least closed table -/
def yq_cs {W : Nat} (V Q S E : Nat) (kK kF kT kO : Nat → Nat) (kc : Nat → Nat → BitVec W) (lv : Nat → Int64) (R : Nat → Nat → Prop) : Prop :=
  R 0 0 ∧ (∀ e t t', e < E → t < 2 ^ (V * W) → t' < 64 → R (kF e) t → yl_im V S kK kO kc lv e t t' → R (kT e) t') ∧ (∀ e t, e < E → t < 2 ^ (V * W) → kK e = 3 → R (kF e) t → R (kO e * S) t)
def yq_snd {W : Nat} (V Q S E : Nat) (kK kF kT kO : Nat → Nat) (kc : Nat → Nat → BitVec W) (lv rc : Nat → Int64) : Prop :=
  ∀ R, yq_cs V Q S E kK kF kT kO kc lv R → ∀ p t, p < Q * S → t < 64 → yv_b (rc p) t = true → t < 2 ^ (V * W) ∧ R p t
def yq_clo {W : Nat} (V S : Nat) (kK kF kT kO : Nat → Nat) (kc : Nat → Nat → BitVec W) (lv rc : Nat → Int64) (e t : Nat) : Prop :=
  yv_b (rc (kF e)) t = true → (∀ t', t' < 64 → yl_im V S kK kO kc lv e t t' → yv_b (rc (kT e)) t' = true) ∧ (kK e = 3 → yv_b (rc (kO e * S)) t = true)
def yq_ct (rc : Nat → Int64) : Nat := ra_ct 960 (fun k => yv_b (rc (k / 64)) (k % 64))
def yq_ok {W : Nat} (V Q S E : Nat) (kK kF kT kO : Nat → Nat) (kc : Nat → Nat → BitVec W) (lv rc : Nat → Int64) : Prop :=
  yv_b (rc 0) 0 = true ∧ yq_snd V Q S E kK kF kT kO kc lv rc ∧ ∀ e t, e < E → t < 2 ^ (V * W) → yq_clo V S kK kF kT kO kc lv rc e t
theorem yq_ct_up {lv lv' : Nat → Int64} (h : ∀ x t, yv_b (lv x) t = true → yv_b (lv' x) t = true) : yq_ct lv ≤ yq_ct lv' := ra_ct_mono (fun k _ hk => h _ _ hk)
theorem yq_ct_lt {rc rc' : Nat → Int64} {x t : Nat} (hx : x < 15) (ht : t < 64) (h : ∀ x t, yv_b (rc x) t = true → yv_b (rc' x) t = true) (h0 : yv_b (rc x) t = false) (h1 : yv_b (rc' x) t = true) : yq_ct rc < yq_ct rc' := by
  refine ra_ct_lt (j := x * 64 + t) (by omega) (fun k _ hk => h _ _ hk) ?_ ?_
  · rw [show (x * 64 + t) / 64 = x by omega, show (x * 64 + t) % 64 = t by omega]; exact h0
  · rw [show (x * 64 + t) / 64 = x by omega, show (x * 64 + t) % 64 = t by omega]; exact h1
def yq_iv {W : Nat} (V Q S E : Nat) (kK kF kT kO : Nat → Nat) (kc : Nat → Nat → BitVec W) (lv rc0 rc : Nat → Int64) (mr : Nat) (D : Nat → Nat → Prop) : Prop :=
  yq_snd V Q S E kK kF kT kO kc lv rc ∧ (∀ x t, yv_b (rc0 x) t = true → yv_b (rc x) t = true) ∧
  ((mr = 0 ∧ rc = rc0 ∧ ∀ e t, e < E → t < 2 ^ (V * W) → D e t → yq_clo V S kK kF kT kO kc lv rc0 e t) ∨ (mr = 1 ∧ yq_ct rc0 < yq_ct rc))
section
variable {V W Q S E rd : Nat} {fo ek ef et eo ec : Nat → Int32} {lv rc : Nat → Int64} {kK kF kT kO : Nat → Nat} {kc : Nat → Nat → BitVec W}
theorem yw_183 {post : SY → Prop} {J40 J55 J66 : Int32 → Int32 → (Nat → Int32) → (Nat → Int32) → (Nat → Int32) → (Nat → Int32) → (Nat → Int32) → (Nat → Int32) → (Nat → Int64) → (Nat → Int64) → Prop} {x2 : Int32} {e t q mr : Nat} {nx en z0 : Int64} {rc0 : Nat → Int64} {D : Nat → Nat → Prop} (hV : 1 ≤ V ∧ V ≤ 3) (hW : 1 ≤ W ∧ W ≤ 4) (hVW : W + V ≤ 5) (hS : 2 ≤ S) (hQ : 1 ≤ Q) (hP : Q * S ≤ 15) (hE : E ≤ 16) (hw : xe_wf V Q S E ek ef et eo kK kF kT kO) (hkc : kc = fun e l => ra_pi W (ec (e * 4 + l))) (hl : yl_ok V Q S E kK kF kT kO kc lv) (he : e < E) (ht : t < 2 ^ (V * W)) (hq : q < Q * S)
    (hnx : ∀ t', t' < 64 → (yv_b nx t' = true ↔ yl_im V S kK kO kc lv e t t')) (hen : ∀ t', t' < 64 → (yv_b en t' = true ↔ (kK e = 3 ∧ t' = t))) (hq3 : kK e = 3 → q = kO e * S)
    (I : yq_iv V Q S E kK kF kT kO kc lv rc0 rc mr D)
    (hp : ∀ mr rc, yq_iv V Q S E kK kF kT kO kc lv rc0 rc mr (fun e' t' => D e' t' ∨ (e' = e ∧ t' = t)) → J66 (nI mr) (nI (t + 1)) fo ek ef et eo ec lv rc) :
    ∀ f : Nat, f ≤ 1 → (f = 0 → ∀ t', t' < 64 → (yv_b nx t' = true → yv_b (rc (kT e)) t' = true) ∧ (yv_b en t' = true → yv_b (rc q) t' = true)) →
      (f = 1 → ∃ t', t' < 64 ∧ ((yv_b nx t' = true ∧ yv_b (rc (kT e)) t' = false) ∨ (yv_b en t' = true ∧ yv_b (rc q) t' = false))) →
      wY_findReached_183 post J40 J55 J66 (nI mr) x2 (nI e) (nI t) nx (nI q) en (nI f) (nI V) (nI W) (nI Q) (nI S) (nI (2 ^ (V * W))) (nI (2 ^ W - 1)) (nI E) (nI rd) fo ek ef et eo ec lv rc := by
  intro f hf hf0 hf1
  obtain ⟨w1, w2, w3, w4, w5, w6, w7, w8, w9, w10⟩ := hw e he
  have h64 := (yt_vw hV hW hVW).2.1
  have hc : (nI e).toNatClampNeg = e := nI_clamp (by omega)
  have hin : vp_in (nI e) 16 := vp_in_nI (by omega) (by omega)
  unfold wY_findReached_183
  refine ⟨hin, ?_⟩
  rw [hc, w2, w3, nI_clamp (by omega), nI_clamp (by omega), nI_clamp (by omega)]
  refine ⟨vp_in_nI (by omega) (by omega), yw_has (by omega) (fun hb => br_f (by decide) (pk_eq f 0 (fun h0 => ?_) (fun h0 => ?_))) (fun hb => br_t rfl ?_)⟩
  · refine nm_r (nI_1 t) (hp mr rc ⟨I.1, I.2.1, ?_⟩)
    rcases I.2.2 with ⟨a1, a2, a3⟩ | a
    · refine Or.inl ⟨a1, a2, fun e' t' b1 b2 b3 => ?_⟩
      rcases b3 with b3 | ⟨b3, b4⟩
      · exact a3 e' t' b1 b2 b3
      · subst b3 b4
        intro _
        rw [← a2]
        refine ⟨fun t2 ht2 him => (hf0 h0 t2 ht2).1 ((hnx t2 ht2).mpr him), fun h3 => ?_⟩
        rw [← hq3 h3]
        exact (hf0 h0 t' (by omega)).2 ((hen t' (by omega)).mpr ⟨h3, rfl⟩)
    · exact Or.inr a
  · have mono1 : ∀ x t', yv_b (rc x) t' = true → yv_b (vp_updL (vp_updL rc (kT e) (rc (kT e) ||| nx)) q (vp_updL rc (kT e) (rc (kT e) ||| nx) q ||| en) x) t' = true :=
      fun x t' hx => yl_up _ _ (yl_up _ _ hx)
    refine ⟨hin, vp_in_nI (by omega) (by omega), vp_in_nI (by omega) (by omega), nm_e ⟨vp_in_nI (by omega) (by omega), vp_in_nI (by omega) (by omega), nm_e (nm_r (nI_1 t) (hp 1 _ ⟨?_, fun x t' hx => mono1 x t' (I.2.1 x t' hx), Or.inr ⟨rfl, ?_⟩⟩))⟩⟩
    · intro R hR p t' hp' ht' hb'
      have hRt := (I.1 R hR (kF e) t w6 (by omega) hb).2
      have hnx2 : ∀ t2, t2 < 64 → yv_b nx t2 = true → t2 < 2 ^ (V * W) ∧ R (kT e) t2 := by
        intro t2 ht2 hb2
        have him := (hnx t2 ht2).mp hb2
        refine ⟨?_, hR.2.1 e t t2 he ht ht2 hRt him⟩
        rcases him with ⟨_, g⟩ | ⟨g1, g2⟩
        · exact g.1
        · exact (hl.2.1 (fun _ _ _ => True) ⟨fun _ _ _ _ _ => trivial, fun _ _ _ _ _ _ _ _ _ _ => trivial⟩ _ t t2 (xe_exit (w10 g1) hS).1 ht ht2 g2).1
      have hmid : ∀ p2 t2, p2 < Q * S → t2 < 64 → yv_b (vp_updL rc (kT e) (rc (kT e) ||| nx) p2) t2 = true → t2 < 2 ^ (V * W) ∧ R p2 t2 := by
        intro p2 t2 hp2 ht2 hb2
        by_cases ep : p2 = kT e
        · rw [ep, pk_uLs, yb_or, Bool.or_eq_true] at hb2
          rcases hb2 with hb2 | hb2
          · rw [ep]; exact I.1 R hR _ t2 w7 ht2 hb2
          · rw [ep]; exact hnx2 t2 ht2 hb2
        · rw [pk_uLn ep] at hb2; exact I.1 R hR p2 t2 hp2 ht2 hb2
      by_cases ep : p = q
      · rw [ep, pk_uLs, yb_or, Bool.or_eq_true] at hb'
        rcases hb' with hb' | hb'
        · rw [ep]; exact hmid q t' hq ht' hb'
        · obtain ⟨g1, g2⟩ := (hen t' ht').mp hb'
          rw [ep, g2, hq3 g1]; exact ⟨ht, hR.2.2 e t he ht g1 hRt⟩
      · rw [pk_uLn ep] at hb'; exact hmid p t' hp' ht' hb'
    · have h1 := yq_ct_up I.2.1
      obtain ⟨t', g1, g2⟩ := hf1 (by omega)
      rcases g2 with ⟨g2, g3⟩ | ⟨g2, g3⟩
      · have := yq_ct_lt (x := kT e) (t := t') (by omega) g1 mono1 g3 (by
          refine yl_up _ _ ?_
          rw [pk_uLs, yb_or, g2, Bool.or_true])
        omega
      · have := yq_ct_lt (x := q) (t := t') (by omega) g1 mono1 g3 (by rw [pk_uLs, yb_or, g2, Bool.or_true])
        omega
  · refine nm_r (nI_1 t) (hp mr rc ⟨I.1, I.2.1, ?_⟩)
    rcases I.2.2 with ⟨a1, a2, a3⟩ | a
    · refine Or.inl ⟨a1, a2, fun e' t' b1 b2 b3 => ?_⟩
      rcases b3 with b3 | ⟨b3, b4⟩
      · exact a3 e' t' b1 b2 b3
      · subst b3 b4
        intro hb2
        rw [← a2, hb] at hb2; exact absurd hb2 (by decide)
    · exact Or.inr a
theorem yw_134 {post : SY → Prop} {J40 J55 J66 : Int32 → Int32 → (Nat → Int32) → (Nat → Int32) → (Nat → Int32) → (Nat → Int32) → (Nat → Int32) → (Nat → Int32) → (Nat → Int64) → (Nat → Int64) → Prop} {x2 : Int32} {e t q mr : Nat} {nx en : Int64} {rc0 : Nat → Int64} {D : Nat → Nat → Prop} (hV : 1 ≤ V ∧ V ≤ 3) (hW : 1 ≤ W ∧ W ≤ 4) (hVW : W + V ≤ 5) (hS : 2 ≤ S) (hQ : 1 ≤ Q) (hP : Q * S ≤ 15) (hE : E ≤ 16) (hw : xe_wf V Q S E ek ef et eo kK kF kT kO) (hkc : kc = fun e l => ra_pi W (ec (e * 4 + l))) (hl : yl_ok V Q S E kK kF kT kO kc lv) (he : e < E) (ht : t < 2 ^ (V * W)) (hq : q < Q * S)
    (hnx : ∀ t', t' < 64 → (yv_b nx t' = true ↔ yl_im V S kK kO kc lv e t t')) (hen : ∀ t', t' < 64 → (yv_b en t' = true ↔ (kK e = 3 ∧ t' = t))) (hq3 : kK e = 3 → q = kO e * S)
    (I : yq_iv V Q S E kK kF kT kO kc lv rc0 rc mr D)
    (hp : ∀ mr rc, yq_iv V Q S E kK kF kT kO kc lv rc0 rc mr (fun e' t' => D e' t' ∨ (e' = e ∧ t' = t)) → J66 (nI mr) (nI (t + 1)) fo ek ef et eo ec lv rc) :
    wY_findReached_134 post J40 J55 J66 (nI mr) x2 (nI e) (nI t) nx (nI q) en (nI V) (nI W) (nI Q) (nI S) (nI (2 ^ (V * W))) (nI (2 ^ W - 1)) (nI E) (nI rd) fo ek ef et eo ec lv rc := by
  obtain ⟨w1, w2, w3, w4, w5, w6, w7, w8, w9, w10⟩ := hw e he
  have hc : (nI e).toNatClampNeg = e := nI_clamp (by omega)
  have hin : vp_in (nI e) 16 := vp_in_nI (by omega) (by omega)
  have key := yw_183 (post := post) (J40 := J40) (J55 := J55) (x2 := x2) (z0 := 0) (fo := fo) (rd := rd) hV hW hVW hS hQ hP hE hw hkc hl he ht hq hnx hen hq3 I hp
  have wit : ∀ (x y : Int64), ¬ (x &&& (y ^^^ (-1))) = 0 → ∃ t', t' < 64 ∧ yv_b x t' = true ∧ yv_b y t' = false := by
    intro x y h
    refine Classical.byContradiction (fun hn => h (yb_andn.mpr (fun t' ht' hx => ?_)))
    cases hy : yv_b y t'
    · exact absurd ⟨t', ht', hx, hy⟩ hn
    · rfl
  unfold wY_findReached_134
  refine ⟨hin, ?_⟩
  rw [hc, w3, nI_clamp (by omega), nI_clamp (by omega)]
  refine ⟨vp_in_nI (by omega) (by omega), br_c (fun g1 => ⟨vp_in_nI (by omega) (by omega), br_c (fun g2 => ?_) (fun g2 => ?_)⟩) (fun g1 => ?_)⟩
  · exact key 0 (by omega) (fun _ t' ht' => ⟨yb_andn.mp g1 t' ht', yb_andn.mp g2 t' ht'⟩) (fun z => by omega)
  · obtain ⟨t', a1, a2, a3⟩ := wit _ _ g2
    exact key 1 (by omega) (fun z => by omega) (fun _ => ⟨t', a1, Or.inr ⟨a2, a3⟩⟩)
  · obtain ⟨t', a1, a2, a3⟩ := wit _ _ g1
    exact key 1 (by omega) (fun z => by omega) (fun _ => ⟨t', a1, Or.inl ⟨a2, a3⟩⟩)
theorem yw_114r {post : SY → Prop} {J40 J55 J66 : Int32 → Int32 → (Nat → Int32) → (Nat → Int32) → (Nat → Int32) → (Nat → Int32) → (Nat → Int32) → (Nat → Int32) → (Nat → Int64) → (Nat → Int64) → Prop} {x2 : Int32} {e t q mr : Nat} {nx : Int64} {rc0 : Nat → Int64} {D : Nat → Nat → Prop} (hV : 1 ≤ V ∧ V ≤ 3) (hW : 1 ≤ W ∧ W ≤ 4) (hVW : W + V ≤ 5) (hS : 2 ≤ S) (hQ : 1 ≤ Q) (hP : Q * S ≤ 15) (hE : E ≤ 16) (hw : xe_wf V Q S E ek ef et eo kK kF kT kO) (hkc : kc = fun e l => ra_pi W (ec (e * 4 + l))) (hl : yl_ok V Q S E kK kF kT kO kc lv) (he : e < E) (ht : t < 2 ^ (V * W)) (hq : q < Q * S)
    (hnx : ∀ t', t' < 64 → (yv_b nx t' = true ↔ yl_im V S kK kO kc lv e t t')) (hq3 : kK e = 3 → q = kO e * S)
    (I : yq_iv V Q S E kK kF kT kO kc lv rc0 rc mr D)
    (hp : ∀ mr rc, yq_iv V Q S E kK kF kT kO kc lv rc0 rc mr (fun e' t' => D e' t' ∨ (e' = e ∧ t' = t)) → J66 (nI mr) (nI (t + 1)) fo ek ef et eo ec lv rc) :
    wY_findReached_114 post J40 J55 J66 (nI mr) x2 (nI e) (nI t) nx (nI q) (nI V) (nI W) (nI Q) (nI S) (nI (2 ^ (V * W))) (nI (2 ^ W - 1)) (nI E) (nI rd) fo ek ef et eo ec lv rc := by
  obtain ⟨w1, w2, w3, w4, w5, w6, w7, w8, w9, w10⟩ := hw e he
  have h64 := (yt_vw hV hW hVW).2.1
  have hc : (nI e).toNatClampNeg = e := nI_clamp (by omega)
  have hin : vp_in (nI e) 16 := vp_in_nI (by omega) (by omega)
  unfold wY_findReached_114
  refine ⟨hin, ?_⟩
  rw [hc]
  refine pk_eq (kK e) 3 (fun h3 => ?_) (fun h3 => ?_) w1 rfl (by omega) (by omega)
  · refine yw_134 hV hW hVW hS hQ hP hE hw hkc hl he ht hq hnx (fun t' ht' => ?_) hq3 I hp
    rw [yb_one (by omega) ht', decide_eq_true_eq]
    exact ⟨fun z => ⟨h3, z⟩, fun z => z.2⟩
  · refine yw_134 hV hW hVW hS hQ hP hE hw hkc hl he ht hq hnx (fun t' ht' => ?_) hq3 I hp
    rw [yb_0]
    exact ⟨fun z => absurd z (by decide), fun z => absurd z.1 h3⟩
theorem yw_66 {post : SY → Prop} {J40 J55 : Int32 → Int32 → (Nat → Int32) → (Nat → Int32) → (Nat → Int32) → (Nat → Int32) → (Nat → Int32) → (Nat → Int32) → (Nat → Int64) → (Nat → Int64) → Prop} {x2 : Int32} {e : Nat} {rc0 : Nat → Int64} {D : Nat → Nat → Prop} (hV : 1 ≤ V ∧ V ≤ 3) (hW : 1 ≤ W ∧ W ≤ 4) (hVW : W + V ≤ 5) (hS : 2 ≤ S) (hQ : 1 ≤ Q) (hP : Q * S ≤ 15) (hE : E ≤ 16) (hw : xe_wf V Q S E ek ef et eo kK kF kT kO) (hkc : kc = fun e l => ra_pi W (ec (e * 4 + l))) (hl : yl_ok V Q S E kK kF kT kO kc lv) (he : e < E)
    (hp : ∀ mr rc, yq_iv V Q S E kK kF kT kO kc lv rc0 rc mr (fun e' t' => D e' t' ∨ e' = e) → J55 (nI mr) (nI (e + 1)) fo ek ef et eo ec lv rc) :
    ∀ m t mr rc, t ≤ 2 ^ (V * W) → 2 ^ (V * W) < m + t → yq_iv V Q S E kK kF kT kO kc lv rc0 rc mr (fun e' t' => D e' t' ∨ (e' = e ∧ t' < t)) → wY_findReached_66 post J40 J55 x2 (nI e) (nI V) (nI W) (nI Q) (nI S) (nI (2 ^ (V * W))) (nI (2 ^ W - 1)) (nI E) (nI rd) m (nI mr) (nI t) fo ek ef et eo ec lv rc := by
  obtain ⟨w1, w2, w3, w4, w5, w6, w7, w8, w9, w10⟩ := hw e he
  have h64 := (yt_vw hV hW hVW).2.1
  have hc : (nI e).toNatClampNeg = e := nI_clamp (by omega)
  have hin : vp_in (nI e) 16 := vp_in_nI (by omega) (by omega)
  intro m
  induction m with
  | zero => intro t mr rc h1 h2; omega
  | succ m ih =>
    intro t mr rc h1 h2 I
    refine pk_le (2 ^ (V * W)) t (fun h => ?_) (fun h => ?_)
    · refine nm_r (nI_1 e) (hp mr rc ⟨I.1, I.2.1, ?_⟩)
      rcases I.2.2 with ⟨a1, a2, a3⟩ | a
      · refine Or.inl ⟨a1, a2, fun e' t' b1 b2 b4 => a3 e' t' b1 b2 ?_⟩
        rcases b4 with b4 | b4
        · exact Or.inl b4
        · exact Or.inr ⟨b4, by omega⟩
      · exact Or.inr a
    · have next : ∀ mr' rc', yq_iv V Q S E kK kF kT kO kc lv rc0 rc' mr' (fun e' t' => (D e' t' ∨ (e' = e ∧ t' < t)) ∨ (e' = e ∧ t' = t)) → wY_findReached_66 post J40 J55 x2 (nI e) (nI V) (nI W) (nI Q) (nI S) (nI (2 ^ (V * W))) (nI (2 ^ W - 1)) (nI E) (nI rd) m (nI mr') (nI (t + 1)) fo ek ef et eo ec lv rc' := by
        intro mr' rc' I'
        refine ih (t + 1) mr' rc' (by omega) (by omega) ⟨I'.1, I'.2.1, ?_⟩
        rcases I'.2.2 with ⟨a1, a2, a3⟩ | a
        · refine Or.inl ⟨a1, a2, fun e' t' b1 b2 b4 => a3 e' t' b1 b2 ?_⟩
          rcases b4 with b4 | ⟨b4, b5⟩
          · exact Or.inl (Or.inl b4)
          · by_cases et : t' = t
            · exact Or.inr ⟨b4, et⟩
            · exact Or.inl (Or.inr ⟨b4, by omega⟩)
        · exact Or.inr a
      refine yw_img hV hW hVW hS hQ hP hE hw hkc he h (fun h3 x hx => ⟨hin, ?_⟩) (fun h3 => ⟨hin, ?_⟩)
      · rw [hc, w3, w4]
        refine pk_eq (kK e) 3 (fun z => absurd z h3) (fun _ => ⟨hin, ?_⟩) w1 rfl (by omega) (by omega)
        refine yw_114r hV hW hVW hS hQ hP hE hw hkc hl he h w7 (fun t' ht' => (hx t' ht').trans ?_) (fun z => absurd z h3) I next
        constructor
        · intro z; exact Or.inl ⟨h3, z⟩
        · rintro (⟨_, z⟩ | ⟨z, _⟩)
          · exact z
          · exact absurd z h3
      · rw [hc, w3, w4]
        refine pk_eq (kK e) 3 (fun _ => ⟨hin, ?_⟩) (fun z => absurd h3 z) w1 rfl (by omega) (by omega)
        rw [pk_mul]
        refine yw_114r hV hW hVW hS hQ hP hE hw hkc hl he h (xe_exit (w10 h3) hS).2 (fun t' ht' => ?_) (fun _ => rfl) I next
        constructor
        · intro z; exact Or.inr ⟨h3, z⟩
        · rintro (⟨z, _⟩ | ⟨_, z⟩)
          · exact absurd h3 z
          · exact z
theorem yw_55 {post : SY → Prop} {J40 : Int32 → Int32 → (Nat → Int32) → (Nat → Int32) → (Nat → Int32) → (Nat → Int32) → (Nat → Int32) → (Nat → Int32) → (Nat → Int64) → (Nat → Int64) → Prop} {r : Nat} {rc0 : Nat → Int64} (hV : 1 ≤ V ∧ V ≤ 3) (hW : 1 ≤ W ∧ W ≤ 4) (hVW : W + V ≤ 5) (hS : 2 ≤ S) (hQ : 1 ≤ Q) (hP : Q * S ≤ 15) (hE : E ≤ 16) (hw : xe_wf V Q S E ek ef et eo kK kF kT kO) (hkc : kc = fun e l => ra_pi W (ec (e * 4 + l))) (hl : yl_ok V Q S E kK kF kT kO kc lv)
    (hp : ∀ mr rc, yq_iv V Q S E kK kF kT kO kc lv rc0 rc mr (fun _ _ => True) → J40 (nI mr) (nI (r + 1)) fo ek ef et eo ec lv rc) :
    ∀ m e mr rc, e ≤ E → E < m + e → yq_iv V Q S E kK kF kT kO kc lv rc0 rc mr (fun e' _ => e' < e) → wY_findReached_55 post J40 (nI r) (nI V) (nI W) (nI Q) (nI S) (nI (2 ^ (V * W))) (nI (2 ^ W - 1)) (nI E) (nI rd) m (nI mr) (nI e) fo ek ef et eo ec lv rc := by
  intro m
  induction m with
  | zero => intro e mr rc h1 h2; omega
  | succ m ih =>
    intro e mr rc h1 h2 I
    refine pk_le E e (fun h => ?_) (fun h => ?_)
    · refine nm_r (nI_1 r) (hp mr rc ⟨I.1, I.2.1, ?_⟩)
      rcases I.2.2 with ⟨a1, a2, a3⟩ | a
      · exact Or.inl ⟨a1, a2, fun e' t' b1 b2 _ => a3 e' t' b1 b2 (by omega)⟩
      · exact Or.inr a
    · refine Exists.intro (2 ^ (V * W) + 1) (yw_66 (rc0 := rc0) (D := fun e' _ => e' < e) hV hW hVW hS hQ hP hE hw hkc hl h ?_ (2 ^ (V * W) + 1) 0 mr rc (Nat.zero_le _) (by omega) ?_)
      · intro mr' rc' I'
        refine ih (e + 1) mr' rc' (by omega) (by omega) ⟨I'.1, I'.2.1, ?_⟩
        rcases I'.2.2 with ⟨a1, a2, a3⟩ | a
        · exact Or.inl ⟨a1, a2, fun e' t' b1 b2 b4 => a3 e' t' b1 b2 (by omega)⟩
        · exact Or.inr a
      · refine ⟨I.1, I.2.1, ?_⟩
        rcases I.2.2 with ⟨a1, a2, a3⟩ | a
        · exact Or.inl ⟨a1, a2, fun e' t' b1 b2 b4 => a3 e' t' b1 b2 (by omega)⟩
        · exact Or.inr a
theorem yw_40 {post : SY → Prop} (hV : 1 ≤ V ∧ V ≤ 3) (hW : 1 ≤ W ∧ W ≤ 4) (hVW : W + V ≤ 5) (hS : 2 ≤ S) (hQ : 1 ≤ Q) (hP : Q * S ≤ 15) (hE : E ≤ 16) (hw : xe_wf V Q S E ek ef et eo kK kF kT kO) (hkc : kc = fun e l => ra_pi W (ec (e * 4 + l))) (hl : yl_ok V Q S E kK kF kT kO kc lv) (hp : ∀ rc, yq_ok V Q S E kK kF kT kO kc lv rc → post (nI V, nI W, nI Q, nI S, nI (2 ^ (V * W)), nI (2 ^ W - 1), nI E, nI rd, fo, ek, ef, et, eo, ec, lv, rc)) :
    ∀ m r mr rc, r ≤ 961 → 961 < m + r → yv_b (rc 0) 0 = true → yq_snd V Q S E kK kF kT kO kc lv rc → ((mr = 0 ∧ ∀ e t, e < E → t < 2 ^ (V * W) → yq_clo V S kK kF kT kO kc lv rc e t) ∨ (mr = 1 ∧ r ≤ yq_ct rc)) →
      wY_findReached_40 post (nI V) (nI W) (nI Q) (nI S) (nI (2 ^ (V * W))) (nI (2 ^ W - 1)) (nI E) (nI rd) m (nI mr) (nI r) fo ek ef et eo ec lv rc := by
  intro m
  induction m with
  | zero => intro r mr rc h1 h2; omega
  | succ m ih =>
    intro r mr rc h1 h2 hi hs H
    have hmr : mr ≤ 1 := by rcases H with h | h <;> omega
    have hle : yq_ct rc ≤ 960 := ra_ct_le _ _
    refine pk_eq mr 0 (fun h0 => ?_) (fun h0 => ?_)
    · rcases H with ⟨_, h⟩ | h
      · exact hp rc ⟨hi, hs, h⟩
      · omega
    · rcases H with h | ⟨_, hr⟩
      · exact absurd h.1 h0
      · refine pk_lt 960 r (fun h => by omega) (fun h => ?_)
        refine Exists.intro (E + 1) (yw_55 (rc0 := rc) hV hW hVW hS hQ hP hE hw hkc hl ?_ (E + 1) 0 0 rc (by omega) (by omega) ⟨hs, fun _ _ z => z, Or.inl ⟨rfl, rfl, fun e' _ _ _ z => by omega⟩⟩)
        intro mr' rc' I'
        refine ih (r + 1) mr' rc' (by omega) (by omega) (I'.2.1 _ _ hi) I'.1 ?_
        rcases I'.2.2 with ⟨a1, a2, a3⟩ | ⟨a1, a2⟩
        · left; refine ⟨a1, fun e t b1 b2 => ?_⟩; rw [a2]; exact a3 e t b1 b2 trivial
        · exact Or.inr ⟨a1, by omega⟩
theorem yw_2r {post : SY → Prop} (hV : 1 ≤ V ∧ V ≤ 3) (hW : 1 ≤ W ∧ W ≤ 4) (hVW : W + V ≤ 5) (hS : 2 ≤ S) (hQ : 1 ≤ Q) (hP : Q * S ≤ 15) (hE : E ≤ 16) (hw : xe_wf V Q S E ek ef et eo kK kF kT kO) (hkc : kc = fun e l => ra_pi W (ec (e * 4 + l))) (hl : yl_ok V Q S E kK kF kT kO kc lv) (hp : ∀ rc, yq_ok V Q S E kK kF kT kO kc lv rc → post (nI V, nI W, nI Q, nI S, nI (2 ^ (V * W)), nI (2 ^ W - 1), nI E, nI rd, fo, ek, ef, et, eo, ec, lv, rc)) :
    ∀ m p rc, p ≤ Q * S → Q * S < m + p → (∀ p', p' < p → rc p' = if p' = 0 then 1 else 0) → wY_findReached_2 post (nI V) (nI W) (nI Q) (nI S) (nI (2 ^ (V * W))) (nI (2 ^ W - 1)) (nI E) (nI rd) m (nI p) fo ek ef et eo ec lv rc := by
  have hQS : 0 < Q * S := by have := Nat.mul_le_mul hQ hS; omega
  intro m
  induction m with
  | zero => intro p rc h1 h2; omega
  | succ m ih =>
    intro p rc h1 h2 H
    have e1 : nI Q * nI S = nI (Q * S) := pk_mul _ _
    have hb1 : ∀ t, t < 64 → yv_b 1 t = decide (t = 0) := fun t ht => yb_one (t := 0) (by omega) ht
    refine pk_le (Q * S) p (fun h => ?_) (fun h => ?_) e1 rfl (by omega) (by omega)
    · refine Exists.intro 962 (yw_40 hV hW hVW hS hQ hP hE hw hkc hl hp 962 0 1 rc (by omega) (by omega) ?_ ?_ (Or.inr ⟨rfl, by omega⟩))
      · rw [H 0 (by omega), if_pos rfl, hb1 0 (by omega)]; rfl
      · intro R hR p' t b1 b3 hb
        rw [H p' (by omega)] at hb
        by_cases hm : p' = 0
        · rw [if_pos hm, hb1 t b3, decide_eq_true_eq] at hb
          rw [hb, hm]; exact ⟨Nat.two_pow_pos _, hR.1⟩
        · rw [if_neg hm, yb_0] at hb; exact absurd hb (by decide)
    · have hc : (nI p).toNatClampNeg = p := nI_clamp (by omega)
      have hin : vp_in (nI p) 15 := vp_in_nI (by omega) (by omega)
      have go : ∀ y : Int64, y = (if p = 0 then 1 else 0) → wY_findReached_2 post (nI V) (nI W) (nI Q) (nI S) (nI (2 ^ (V * W))) (nI (2 ^ W - 1)) (nI E) (nI rd) m (nI (p + 1)) fo ek ef et eo ec lv (vp_updL rc p y) := by
        intro y hy
        refine ih (p + 1) _ (by omega) (by omega) (fun p' b1 => ?_)
        by_cases ep : p' = p
        · rw [ep, pk_uLs]; exact hy
        · rw [pk_uLn ep]; exact H p' (by omega)
      refine pk_eq p 0 (fun h0 => ?_) (fun h0 => ?_) rfl rfl (by omega) (by omega)
      · exact ⟨hin, nm_r (by rw [hc]) (nm_r (nI_1 p) (go _ (by rw [if_pos h0])))⟩
      · exact ⟨hin, nm_r (by rw [hc]) (nm_r (nI_1 p) (go _ (by rw [if_neg h0])))⟩
theorem yw_reach {post : SY → Prop} (hV : 1 ≤ V ∧ V ≤ 3) (hW : 1 ≤ W ∧ W ≤ 4) (hVW : W + V ≤ 5) (hS : 2 ≤ S) (hQ : 1 ≤ Q) (hP : Q * S ≤ 15) (hE : E ≤ 16) (hw : xe_wf V Q S E ek ef et eo kK kF kT kO) (hkc : kc = fun e l => ra_pi W (ec (e * 4 + l))) (hl : yl_ok V Q S E kK kF kT kO kc lv) (hp : ∀ rc, yq_ok V Q S E kK kF kT kO kc lv rc → post (nI V, nI W, nI Q, nI S, nI (2 ^ (V * W)), nI (2 ^ W - 1), nI E, nI rd, fo, ek, ef, et, eo, ec, lv, rc)) : wpY_findReached post (nI V, nI W, nI Q, nI S, nI (2 ^ (V * W)), nI (2 ^ W - 1), nI E, nI rd, fo, ek, ef, et, eo, ec, lv, rc) :=
  Exists.intro (Q * S + 1) (yw_2r hV hW hVW hS hQ hP hE hw hkc hl hp (Q * S + 1) 0 rc (by omega) (by omega) (fun p' z => by omega))
/-! the whole analysis -/
def yq_n (P : Nat) (rc : Nat → Int64) : Nat := ra_ct P (fun p => ! decide (rc p = 0))
theorem yw_ct_l {post : Int32 → SY → Prop} (hP : Q * S ≤ 15) (hp : post (nI (yq_n (Q * S) rc)) (nI V, nI W, nI Q, nI S, nI (2 ^ (V * W)), nI (2 ^ W - 1), nI E, nI rd, fo, ek, ef, et, eo, ec, lv, rc)) :
    ∀ m p, p ≤ Q * S → Q * S < m + p → wY_analyse_17 post (nI V) (nI W) (nI Q) (nI S) (nI (2 ^ (V * W))) (nI (2 ^ W - 1)) (nI E) (nI rd) fo ek ef et eo ec lv rc m (nI (yq_n p rc)) (nI p) := by
  have e1 : nI Q * nI S = nI (Q * S) := pk_mul _ _
  intro m
  induction m with
  | zero => intro p h1 h2; omega
  | succ m ih =>
    intro p h1 h2
    refine pk_le (Q * S) p (fun h => ?_) (fun h => ⟨vp_in_nI (by omega) (by omega), ?_⟩) e1 rfl (by omega) (by omega)
    · have e : p = Q * S := by omega
      rw [e]; exact hp
    · have key := ih (p + 1) (by omega) (by omega)
      rw [nI_clamp (by omega)]
      refine br_c (fun hz => ?_) (fun hz => ?_)
      · have e : yq_n (p + 1) rc = yq_n p rc := by
          unfold yq_n ra_ct; simp only [ra_ns]; rw [if_neg (by simp [hz])]; rfl
        rw [e] at key
        exact nm_r (nI_1 p) key
      · have e : yq_n (p + 1) rc = yq_n p rc + 1 := by
          unfold yq_n ra_ct; simp only [ra_ns]; rw [if_pos (by simp [hz])]
        rw [e] at key
        exact nm_r (nI_1 _) (nm_r (nI_1 p) key)
theorem yw_analyse {post : Int32 → SY → Prop} (hV : 1 ≤ V ∧ V ≤ 3) (hW : 1 ≤ W ∧ W ≤ 4) (hVW : W + V ≤ 5) (hS : 2 ≤ S) (hQ : 1 ≤ Q) (hP : Q * S ≤ 15) (hE : E ≤ 16) (hw : xe_wf V Q S E ek ef et eo kK kF kT kO) (hkc : kc = fun e l => ra_pi W (ec (e * 4 + l))) (hp : ∀ lv rc, yl_ok V Q S E kK kF kT kO kc lv → yq_ok V Q S E kK kF kT kO kc lv rc → post (nI (yq_n (Q * S) rc)) (nI V, nI W, nI Q, nI S, nI (2 ^ (V * W)), nI (2 ^ W - 1), nI E, nI 1, fo, ek, ef, et, eo, ec, lv, rc)) : wpY_analyse post (nI V, nI W, nI Q, nI S, nI (2 ^ (V * W)), nI (2 ^ W - 1), nI E, nI rd, fo, ek, ef, et, eo, ec, lv, rc) := by
  refine yw_levels hV hW hVW hS hQ hP hE hw hkc (fun lv' hl => ?_)
  refine yw_reach hV hW hVW hS hQ hP hE hw hkc hl (fun rc' hr => ?_)
  exact Exists.intro (Q * S + 1) (yw_ct_l (rd := 1) hP (hp lv' rc' hl hr) (Q * S + 1) 0 (by omega) (by omega))
end
end
section
/-! Y: the level pairs as the least closed table -/
/-! Y: the questions -/
section
variable {V W Q S E rd : Nat} {fo ek ef et eo ec : Nat → Int32} {lv rc : Nat → Int64} {kK kF kT kO : Nat → Nat} {kc : Nat → Nat → BitVec W}
theorem yw_sv_l {post : Int32 → Prop} {t : Nat} (hV : 1 ≤ V ∧ V ≤ 3) (hW : 1 ≤ W ∧ W ≤ 4) (hVW : W + V ≤ 5) (ht : t < 2 ^ (V * W)) (hp : ∀ r, ra_rg W r → ra_pi W r = (fun v : Nat → BitVec W => ra_sm (V + 1) (fun l => ra_pi W (fo l) * v l)) (yv_v W V t) → post r) :
    ∀ m i s, 1 ≤ i → i ≤ V + 1 → V + 1 < m + i → ra_pi W s = ra_sm i (fun l => ra_pi W (fo l) * yv_v W V t l) → wY_shortValue_9 post (nI t) (nI V) (nI W) (nI Q) (nI S) (nI (2 ^ (V * W))) (nI (2 ^ W - 1)) (nI E) (nI rd) fo ek ef et eo ec lv rc m s (nI i) := by
  have h64 := (yt_vw hV hW hVW).2.1
  intro m
  induction m with
  | zero => intro i s h0 h1 h2; omega
  | succ m ih =>
    intro i s h0 h1 h2 H
    refine pk_lt V i (fun h => ?_) (fun h => ⟨vp_in_nI (by omega) (by omega), ?_⟩)
    · have e : i = V + 1 := by omega
      subst e
      exact hp _ (ra_rg_and hW.2 _) (by rw [ra_pi_and hW.2, H])
    · rw [nI_clamp (by omega)]
      refine yw_part hV hW hVW (by omega) ⟨h0, h⟩ (nm_e (nm_r (nI_1 i) (ih (i + 1) _ (by omega) (by omega) (by omega) ?_)))
      rw [ra_pi_add (by omega), ra_pi_mul (by omega), H, ra_pi_nI (by omega)]
      show _ = ra_sm i _ + ra_pi W (fo i) * yv_v W V t i
      rw [yv_v_in h0 h]
theorem yw_sv {post : Int32 → Prop} {t : Nat} (hV : 1 ≤ V ∧ V ≤ 3) (hW : 1 ≤ W ∧ W ≤ 4) (hVW : W + V ≤ 5) (ht : t < 2 ^ (V * W)) (hp : ∀ r, ra_rg W r → ra_pi W r = (fun v : Nat → BitVec W => ra_sm (V + 1) (fun l => ra_pi W (fo l) * v l)) (yv_v W V t) → post r) : wpY_shortValue post (nI V, nI W, nI Q, nI S, nI (2 ^ (V * W)), nI (2 ^ W - 1), nI E, nI rd, fo, ek, ef, et, eo, ec, lv, rc) (nI t) := by
  refine nm_e (P := fun x => ∃ n9 : Nat, wY_shortValue_9 post (nI t) (nI V) (nI W) (nI Q) (nI S) (nI (2 ^ (V * W))) (nI (2 ^ W - 1)) (nI E) (nI rd) fo ek ef et eo ec lv rc n9 x 1) (Exists.intro (V + 2) (yw_sv_l hV hW hVW ht hp (V + 2) 1 _ (by omega) (by omega) (by omega) ?_))
  show _ = 0 + ra_pi W (fo 0) * yv_v W V t 0
  rw [yv_v_0]; grind
theorem yw_dv_l {post : Int32 → Prop} {p k : Nat} (hV : 1 ≤ V ∧ V ≤ 3) (hW : 1 ≤ W ∧ W ≤ 4) (hVW : W + V ≤ 5) (hp' : p < 15) (hk : k ≤ W) (h1 : (∀ t, t < 2 ^ (V * W) → yv_b (rc p) t = true → BitVec.ofNat W (2 ^ (W - k)) * (fun v : Nat → BitVec W => ra_sm (V + 1) (fun l => ra_pi W (fo l) * v l)) (yv_v W V t) = 0) → post 1) (h0 : ¬ (∀ t, t < 2 ^ (V * W) → yv_b (rc p) t = true → BitVec.ofNat W (2 ^ (W - k)) * (fun v : Nat → BitVec W => ra_sm (V + 1) (fun l => ra_pi W (fo l) * v l)) (yv_v W V t) = 0) → post 0) :
    ∀ m t, t ≤ 2 ^ (V * W) → 2 ^ (V * W) < m + t → (∀ t', t' < t → yv_b (rc p) t' = true → BitVec.ofNat W (2 ^ (W - k)) * (fun v : Nat → BitVec W => ra_sm (V + 1) (fun l => ra_pi W (fo l) * v l)) (yv_v W V t') = 0) → wY_divides_2 post (nI p) (nI k) (nI V) (nI W) (nI Q) (nI S) (nI (2 ^ (V * W))) (nI (2 ^ W - 1)) (nI E) (nI rd) fo ek ef et eo ec lv rc m (nI t) := by
  have h64 := (yt_vw hV hW hVW).2.1
  have hpw := ra_pw hW.2
  have hpk : 2 ^ k ≤ 16 := ra_pw (by omega)
  have hpk0 := Nat.two_pow_pos k
  intro m
  induction m with
  | zero => intro t a1 a2; omega
  | succ m ih =>
    intro t a1 a2 H
    refine pk_le (2 ^ (V * W)) t (fun h => ?_) (fun h => ?_)
    · exact h1 (fun t' ht' => H t' (by omega))
    · refine yw_sv hV hW hVW h ?_
      intro r hr1 hr2
      obtain ⟨a, ha, rfl⟩ := hr1
      rw [ra_pi_nI (by omega)] at hr2
      have em : ((1 : Int32) <<< (nI k &&& 31)) - 1 = nI (2 ^ k - 1) := by
        have hs := pk_shlN (n := 1) (nI k &&& 31) k (s_l k (by omega)) (by omega)
        rw [Nat.one_mul] at hs
        rw [show (1 : Int32) = nI 1 from rfl, hs, pk_sub (by omega)]
      have ea : nI a &&& nI (2 ^ k - 1) = nI (a % 2 ^ k) := pk_andN (by omega) k (pk_tn (by omega))
      have hal := Nat.mod_lt a hpk0
      have key : a % 2 ^ k = 0 ↔ BitVec.ofNat W (2 ^ (W - k)) * (fun v : Nat → BitVec W => ra_sm (V + 1) (fun l => ra_pi W (fo l) * v l)) (yv_v W V t) = 0 := by
        rw [← hr2, ra_t4 W (by omega) a (by omega) k (by omega) ha hk, ra_t3 W (by omega) a (by omega) k (by omega) ha hk]
      refine ⟨vp_in_nI (by omega) (by omega), ?_⟩
      rw [nI_clamp (by omega)]
      have next : (yv_b (rc p) t = true → BitVec.ofNat W (2 ^ (W - k)) * (fun v : Nat → BitVec W => ra_sm (V + 1) (fun l => ra_pi W (fo l) * v l)) (yv_v W V t) = 0) → wY_divides_2 post (nI p) (nI k) (nI V) (nI W) (nI Q) (nI S) (nI (2 ^ (V * W))) (nI (2 ^ W - 1)) (nI E) (nI rd) fo ek ef et eo ec lv rc m (nI (t + 1)) := by
        intro hh
        refine ih (t + 1) (by omega) (by omega) (fun t' ht' hb' => ?_)
        by_cases e : t' = t
        · rw [e] at hb' ⊢; exact hh hb'
        · exact H t' (by omega) hb'
      refine yw_has (by omega) (fun hb => br_f (by decide) ?_) (fun hb => br_t rfl (nm_r (nI_1 t) (next (fun z => by rw [hb] at z; exact absurd z (by decide)))))
      rw [em, ea]
      exact pk_eq (a % 2 ^ k) 0 (fun hz => nm_r (nI_1 t) (next (fun _ => key.mp hz))) (fun hz => h0 (fun hall => hz (key.mpr (hall t h hb)))) rfl rfl (by omega) (by omega)
theorem yw_dv {post : Int32 → Prop} {p k : Nat} (hV : 1 ≤ V ∧ V ≤ 3) (hW : 1 ≤ W ∧ W ≤ 4) (hVW : W + V ≤ 5) (hp' : p < 15) (hk : k ≤ W) (h1 : (∀ t, t < 2 ^ (V * W) → yv_b (rc p) t = true → BitVec.ofNat W (2 ^ (W - k)) * (fun v : Nat → BitVec W => ra_sm (V + 1) (fun l => ra_pi W (fo l) * v l)) (yv_v W V t) = 0) → post 1) (h0 : ¬ (∀ t, t < 2 ^ (V * W) → yv_b (rc p) t = true → BitVec.ofNat W (2 ^ (W - k)) * (fun v : Nat → BitVec W => ra_sm (V + 1) (fun l => ra_pi W (fo l) * v l)) (yv_v W V t) = 0) → post 0) : wpY_divides post (nI V, nI W, nI Q, nI S, nI (2 ^ (V * W)), nI (2 ^ W - 1), nI E, nI rd, fo, ek, ef, et, eo, ec, lv, rc) (nI p) (nI k) :=
  Exists.intro (2 ^ (V * W) + 1) (yw_dv_l hV hW hVW hp' hk h1 h0 (2 ^ (V * W) + 1) 0 (Nat.zero_le _) (by omega) (fun t' z => by omega))
theorem yw_dg_l {post : Int32 → Prop} {p d : Nat} (hV : 1 ≤ V ∧ V ≤ 3) (hW : 1 ≤ W ∧ W ≤ 4) (hVW : W + V ≤ 5) (hp' : p < 15) (H : ∀ k, k ≤ W → (k ≤ d ↔ (∀ t, t < 2 ^ (V * W) → yv_b (rc p) t = true → BitVec.ofNat W (2 ^ (W - k)) * (fun v : Nat → BitVec W => ra_sm (V + 1) (fun l => ra_pi W (fo l) * v l)) (yv_v W V t) = 0))) (hp : post (nI d)) :
    ∀ m k, k ≤ W → k < m → d ≤ k → wY_degree_17 post (nI p) (nI V) (nI W) (nI Q) (nI S) (nI (2 ^ (V * W))) (nI (2 ^ W - 1)) (nI E) (nI rd) fo ek ef et eo ec lv rc m (nI k) := by
  intro m
  induction m with
  | zero => intro k a1 a2; omega
  | succ m ih =>
    intro k a1 a2 a3
    refine pk_le k 0 (fun h => ?_) (fun h => ?_)
    · have e : d = 0 := by omega
      rw [e] at hp; exact hp
    · refine yw_dv hV hW hVW hp' a1 (fun hd => br_f (by decide) ?_) (fun hd => br_t rfl ?_)
      · have e : d = k := by have := (H k a1).mpr hd; omega
        rw [e] at hp; exact hp
      · obtain ⟨k', rfl⟩ : ∃ k', k = k' + 1 := ⟨k - 1, by omega⟩
        have hne : ¬ k' + 1 ≤ d := fun z => hd ((H (k' + 1) a1).mp z)
        exact nm_r (pk_m1 k') (ih k' (by omega) (by omega) (by omega))
theorem yw_dg {post : Int32 → Prop} {p d : Nat} (hV : 1 ≤ V ∧ V ≤ 3) (hW : 1 ≤ W ∧ W ≤ 4) (hVW : W + V ≤ 5) (hp' : p < 15) (hd : d ≤ W) (H : ∀ k, k ≤ W → (k ≤ d ↔ (∀ t, t < 2 ^ (V * W) → yv_b (rc p) t = true → BitVec.ofNat W (2 ^ (W - k)) * (fun v : Nat → BitVec W => ra_sm (V + 1) (fun l => ra_pi W (fo l) * v l)) (yv_v W V t) = 0))) (hp : post (nI d)) : ∃ n17 : Nat, wY_degree_17 post (nI p) (nI V) (nI W) (nI Q) (nI S) (nI (2 ^ (V * W))) (nI (2 ^ W - 1)) (nI E) (nI rd) fo ek ef et eo ec lv rc n17 (nI W) :=
  Exists.intro (W + 1) (yw_dg_l hV hW hVW hp' H hp (W + 1) W (Nat.le_refl _) (by omega) hd)
/-! from the entry -/
theorem yw_hf_45 {post : Int32 → Prop} {J14 J25 : Int32 → Prop} {p s t : Nat} (hV : 1 ≤ V ∧ V ≤ 3) (hW : 1 ≤ W ∧ W ≤ 4) (hVW : W + V ≤ 5) (hp' : p < 15) (hs : s < 2 ^ (V * W)) (ht : t < 2 ^ (V * W))
    (hg : (yv_b (lv (p * 64 + s)) t = true → (fun v : Nat → BitVec W => ra_sm (V + 1) (fun l => ra_pi W (fo l) * v l)) (yv_v W V t) + (fun v : Nat → BitVec W => ra_sm V (fun l => ra_pi W (fo (V + 1 + l)) * v (1 + l))) (yv_v W V s) = 0) → J25 (nI (t + 1)))
    (h0 : ¬ (yv_b (lv (p * 64 + s)) t = true → (fun v : Nat → BitVec W => ra_sm (V + 1) (fun l => ra_pi W (fo l) * v l)) (yv_v W V t) + (fun v : Nat → BitVec W => ra_sm V (fun l => ra_pi W (fo (V + 1 + l)) * v (1 + l))) (yv_v W V s) = 0) → post 0) :
    ∀ m i x, 1 ≤ i → i ≤ V + 1 → V + 1 < m + i → ra_pi W x = (fun v : Nat → BitVec W => ra_sm (V + 1) (fun l => ra_pi W (fo l) * v l)) (yv_v W V t) + ra_sm (i - 1) (fun l => ra_pi W (fo (V + 1 + l)) * yv_v W V s (1 + l)) →
      wY_holdsFromEntry_45 post J14 J25 (nI p) (nI s) (nI t) (nI V) (nI W) (nI Q) (nI S) (nI (2 ^ (V * W))) (nI (2 ^ W - 1)) (nI E) (nI rd) fo ek ef et eo ec lv rc m x (nI i) := by
  have h64 := (yt_vw hV hW hVW).2.1
  intro m
  induction m with
  | zero => intro i x b0 b1 b2; omega
  | succ m ih =>
    intro i x b0 b1 b2 H
    refine pk_lt V i (fun h => ?_) (fun h => ?_)
    · have e : i = V + 1 := by omega
      subst e
      rw [Nat.add_sub_cancel] at H
      have e1 : nI p * 64 + nI s = nI (p * 64 + s) := by rw [show nI p * 64 = nI (p * 64) from pk_mul _ 64, nI_add]
      refine ⟨pk_in _ 960 (by omega) e1, ?_⟩
      rw [pk_cl _ e1]
      refine yw_has (by omega) (fun hb => br_f (by decide) (br_c (fun hz => ?_) (fun hz => ?_))) (fun hb => br_t rfl (nm_r (nI_1 t) (hg (fun z => by rw [hb] at z; exact absurd z (by decide)))))
      · have h5 := (ra_z hW.2 (ra_rg_and hW.2 x)).mpr hz
        rw [ra_pi_and hW.2, H] at h5
        exact nm_r (nI_1 t) (hg (fun _ => h5))
      · refine h0 (fun hall => hz ((ra_z hW.2 (ra_rg_and hW.2 x)).mp ?_))
        rw [ra_pi_and hW.2, H]; exact hall hb
    · have e1 : nI V + nI i = nI (V + i) := nI_add _ _
      refine ⟨pk_in _ 7 (by omega) e1, ?_⟩
      rw [pk_cl _ e1]
      refine yw_part hV hW hVW (by omega) ⟨b0, h⟩ (nm_e (nm_r (nI_1 i) (ih (i + 1) _ (by omega) (by omega) (by omega) ?_)))
      obtain ⟨a, rfl⟩ : ∃ a, i = 1 + a := ⟨i - 1, by omega⟩
      rw [Nat.add_sub_cancel_left] at H
      rw [ra_pi_add (by omega), ra_pi_mul (by omega), H, ra_pi_nI (by omega), show 1 + a + 1 - 1 = a + 1 by omega]
      show _ = _ + (ra_sm a _ + ra_pi W (fo (V + 1 + a)) * yv_v W V s (1 + a))
      rw [yv_v_in (show 1 ≤ 1 + a by omega) h, show V + (1 + a) = V + 1 + a by omega]
      grind
theorem yw_hf_25 {post : Int32 → Prop} {J14 : Int32 → Prop} {p s : Nat} (hV : 1 ≤ V ∧ V ≤ 3) (hW : 1 ≤ W ∧ W ≤ 4) (hVW : W + V ≤ 5) (hp' : p < 15) (hs : s < 2 ^ (V * W))
    (hg : (∀ t, t < 2 ^ (V * W) → yv_b (lv (p * 64 + s)) t = true → (fun v : Nat → BitVec W => ra_sm (V + 1) (fun l => ra_pi W (fo l) * v l)) (yv_v W V t) + (fun v : Nat → BitVec W => ra_sm V (fun l => ra_pi W (fo (V + 1 + l)) * v (1 + l))) (yv_v W V s) = 0) → J14 (nI (s + 1))) (h0 : ¬ (∀ s t, s < 2 ^ (V * W) → t < 2 ^ (V * W) → yv_b (lv (p * 64 + s)) t = true → (fun v : Nat → BitVec W => ra_sm (V + 1) (fun l => ra_pi W (fo l) * v l)) (yv_v W V t) + (fun v : Nat → BitVec W => ra_sm V (fun l => ra_pi W (fo (V + 1 + l)) * v (1 + l))) (yv_v W V s) = 0) → post 0) :
    ∀ m t, t ≤ 2 ^ (V * W) → 2 ^ (V * W) < m + t → (∀ t', t' < t → yv_b (lv (p * 64 + s)) t' = true → (fun v : Nat → BitVec W => ra_sm (V + 1) (fun l => ra_pi W (fo l) * v l)) (yv_v W V t') + (fun v : Nat → BitVec W => ra_sm V (fun l => ra_pi W (fo (V + 1 + l)) * v (1 + l))) (yv_v W V s) = 0) → wY_holdsFromEntry_25 post J14 (nI p) (nI s) (nI V) (nI W) (nI Q) (nI S) (nI (2 ^ (V * W))) (nI (2 ^ W - 1)) (nI E) (nI rd) fo ek ef et eo ec lv rc m (nI t) := by
  have h64 := (yt_vw hV hW hVW).2.1
  intro m
  induction m with
  | zero => intro t b1 b2; omega
  | succ m ih =>
    intro t b1 b2 H
    refine pk_le (2 ^ (V * W)) t (fun h => ?_) (fun h => ?_)
    · exact nm_r (nI_1 s) (hg (fun t' ht' => H t' (by omega)))
    · refine yw_sv hV hW hVW h ?_
      intro r hr1 hr2
      refine Exists.intro (V + 2) (yw_hf_45 hV hW hVW hp' hs h (fun hh => ?_) (fun hh => h0 (fun hall => hh (fun hb => hall s t hs h hb))) (V + 2) 1 r (by omega) (by omega) (by omega) ?_)
      · refine ih (t + 1) (by omega) (by omega) (fun t' ht' hb' => ?_)
        by_cases e : t' = t
        · rw [e] at hb' ⊢; exact hh hb'
        · exact H t' (by omega) hb'
      · rw [hr2]; show _ = _ + 0; grind
theorem yw_hf_14 {post : Int32 → Prop} {p : Nat} (hV : 1 ≤ V ∧ V ≤ 3) (hW : 1 ≤ W ∧ W ≤ 4) (hVW : W + V ≤ 5) (hp' : p < 15) (h1 : (∀ s t, s < 2 ^ (V * W) → t < 2 ^ (V * W) → yv_b (lv (p * 64 + s)) t = true → (fun v : Nat → BitVec W => ra_sm (V + 1) (fun l => ra_pi W (fo l) * v l)) (yv_v W V t) + (fun v : Nat → BitVec W => ra_sm V (fun l => ra_pi W (fo (V + 1 + l)) * v (1 + l))) (yv_v W V s) = 0) → post 1) (h0 : ¬ (∀ s t, s < 2 ^ (V * W) → t < 2 ^ (V * W) → yv_b (lv (p * 64 + s)) t = true → (fun v : Nat → BitVec W => ra_sm (V + 1) (fun l => ra_pi W (fo l) * v l)) (yv_v W V t) + (fun v : Nat → BitVec W => ra_sm V (fun l => ra_pi W (fo (V + 1 + l)) * v (1 + l))) (yv_v W V s) = 0) → post 0) :
    ∀ m s, s ≤ 2 ^ (V * W) → 2 ^ (V * W) < m + s → (∀ s' t, s' < s → t < 2 ^ (V * W) → yv_b (lv (p * 64 + s')) t = true → (fun v : Nat → BitVec W => ra_sm (V + 1) (fun l => ra_pi W (fo l) * v l)) (yv_v W V t) + (fun v : Nat → BitVec W => ra_sm V (fun l => ra_pi W (fo (V + 1 + l)) * v (1 + l))) (yv_v W V s') = 0) → wY_holdsFromEntry_14 post (nI p) (nI V) (nI W) (nI Q) (nI S) (nI (2 ^ (V * W))) (nI (2 ^ W - 1)) (nI E) (nI rd) fo ek ef et eo ec lv rc m (nI s) := by
  have h64 := (yt_vw hV hW hVW).2.1
  intro m
  induction m with
  | zero => intro s b1 b2; omega
  | succ m ih =>
    intro s b1 b2 H
    refine pk_le (2 ^ (V * W)) s (fun h => ?_) (fun h => ?_)
    · exact h1 (fun s' t hs' ht => H s' t (by omega) ht)
    · refine Exists.intro (2 ^ (V * W) + 1) (yw_hf_25 hV hW hVW hp' h (fun hh => ?_) h0 (2 ^ (V * W) + 1) 0 (Nat.zero_le _) (by omega) (fun t' z => by omega))
      refine ih (s + 1) (by omega) (by omega) (fun s' t hs' ht hb => ?_)
      by_cases e : s' = s
      · rw [e] at hb ⊢; exact hh t ht hb
      · exact H s' t (by omega) ht hb
theorem yw_hf {post : Int32 → Prop} {p : Nat} (hV : 1 ≤ V ∧ V ≤ 3) (hW : 1 ≤ W ∧ W ≤ 4) (hVW : W + V ≤ 5) (hp' : p < 15) (h1 : (∀ s t, s < 2 ^ (V * W) → t < 2 ^ (V * W) → yv_b (lv (p * 64 + s)) t = true → (fun v : Nat → BitVec W => ra_sm (V + 1) (fun l => ra_pi W (fo l) * v l)) (yv_v W V t) + (fun v : Nat → BitVec W => ra_sm V (fun l => ra_pi W (fo (V + 1 + l)) * v (1 + l))) (yv_v W V s) = 0) → post 1) (h0 : ¬ (∀ s t, s < 2 ^ (V * W) → t < 2 ^ (V * W) → yv_b (lv (p * 64 + s)) t = true → (fun v : Nat → BitVec W => ra_sm (V + 1) (fun l => ra_pi W (fo l) * v l)) (yv_v W V t) + (fun v : Nat → BitVec W => ra_sm V (fun l => ra_pi W (fo (V + 1 + l)) * v (1 + l))) (yv_v W V s) = 0) → post 0) : ∃ n14 : Nat, wY_holdsFromEntry_14 post (nI p) (nI V) (nI W) (nI Q) (nI S) (nI (2 ^ (V * W))) (nI (2 ^ W - 1)) (nI E) (nI rd) fo ek ef et eo ec lv rc n14 0 :=
  Exists.intro (2 ^ (V * W) + 1) (yw_hf_14 hV hW hVW hp' h1 h0 (2 ^ (V * W) + 1) 0 (Nat.zero_le _) (by omega) (fun s' t z => by omega))
/-! the value -/
theorem yw_va_l {post : Int32 → Prop} {p x : Nat} (hV : 1 ≤ V ∧ V ≤ 3) (hW : 1 ≤ W ∧ W ≤ 4) (hVW : W + V ≤ 5) (hp' : p < 15) (hx : 1 ≤ x ∧ x ≤ V)
    (h1 : (∀ t, t < 2 ^ (V * W) → yv_b (rc p) t = false) → post (-5))
    (h2 : ∀ v, v < 2 ^ W → (∃ t, t < 2 ^ (V * W) ∧ yv_b (rc p) t = true) → (∀ t, t < 2 ^ (V * W) → yv_b (rc p) t = true → yv_p W t x = v) → post (nI v))
    (h3 : (∃ t t', t < 2 ^ (V * W) ∧ t' < 2 ^ (V * W) ∧ yv_b (rc p) t = true ∧ yv_b (rc p) t' = true ∧ yv_p W t x ≠ yv_p W t' x) → post (-6)) :
    ∀ m t f, t ≤ 2 ^ (V * W) → 2 ^ (V * W) < m + t → ((f = -5 ∧ ∀ t', t' < t → yv_b (rc p) t' = false) ∨ (∃ v, v < 2 ^ W ∧ f = nI v ∧ (∃ t', t' < t ∧ yv_b (rc p) t' = true) ∧ ∀ t', t' < t → yv_b (rc p) t' = true → yv_p W t' x = v)) →
      wY_valueAt_48 post (nI p) (nI x) (nI V) (nI W) (nI Q) (nI S) (nI (2 ^ (V * W))) (nI (2 ^ W - 1)) (nI E) (nI rd) fo ek ef et eo ec lv rc m f (nI t) := by
  have h64 := (yt_vw hV hW hVW).2.1
  have hpw := ra_pw hW.2
  intro m
  induction m with
  | zero => intro t f b1 b2; omega
  | succ m ih =>
    intro t f b1 b2 H
    refine pk_le (2 ^ (V * W)) t (fun h => ?_) (fun h => ⟨vp_in_nI (by omega) (by omega), ?_⟩)
    · rcases H with ⟨rfl, H⟩ | ⟨v, hv, rfl, ⟨t1, c1, c2⟩, c3⟩
      · exact h1 (fun t' ht' => H t' (by omega))
      · exact h2 v hv ⟨t1, by omega, c2⟩ (fun t' ht' => c3 t' (by omega))
    · rw [nI_clamp (by omega)]
      refine yw_has (by omega) (fun hb => br_f (by decide) (yw_part hV hW hVW (by omega) hx ?_)) (fun hb => br_t rfl (nm_r (nI_1 t) (ih (t + 1) f (by omega) (by omega) ?_)))
      · have hvl := yv_p_lt W t x
        have hn5 : ∀ v, v < 16 → ¬ nI v = -5 := by decide
        rcases H with ⟨rfl, H⟩ | ⟨v, hv, rfl, ⟨t1, c1, c2⟩, c3⟩
        · refine br_t rfl (nm_r (nI_1 t) (ih (t + 1) _ (by omega) (by omega) (Or.inr ⟨_, hvl, rfl, ⟨t, by omega, hb⟩, fun t' ht' hb' => ?_⟩)))
          by_cases e : t' = t
          · rw [e]
          · rw [H t' (by omega)] at hb'; exact absurd hb' (by decide)
        · refine br_f (hn5 v (by omega)) (pk_eq v (yv_p W t x) (fun e => ?_) (fun e => ?_) rfl rfl (by omega) (by omega))
          · refine nm_r (nI_1 t) (ih (t + 1) _ (by omega) (by omega) (Or.inr ⟨_, hvl, rfl, ⟨t, by omega, hb⟩, fun t' ht' hb' => ?_⟩))
            by_cases e2 : t' = t
            · rw [e2]
            · rw [c3 t' (by omega) hb', e]
          · exact h3 ⟨t1, t, by omega, h, c2, hb, by rw [c3 t1 c1 c2]; exact e⟩
      · rcases H with ⟨rfl, H⟩ | ⟨v, hv, rfl, ⟨t1, c1, c2⟩, c3⟩
        · refine Or.inl ⟨rfl, fun t' ht' => ?_⟩
          by_cases e : t' = t
          · rw [e]; exact hb
          · exact H t' (by omega)
        · refine Or.inr ⟨v, hv, rfl, ⟨t1, by omega, c2⟩, fun t' ht' hb' => ?_⟩
          by_cases e : t' = t
          · rw [e, hb] at hb'; exact absurd hb' (by decide)
          · exact c3 t' (by omega) hb'
theorem yw_va {post : Int32 → Prop} {p x : Nat} (hV : 1 ≤ V ∧ V ≤ 3) (hW : 1 ≤ W ∧ W ≤ 4) (hVW : W + V ≤ 5) (hp' : p < 15) (hx : 1 ≤ x ∧ x ≤ V)
    (h1 : (∀ t, t < 2 ^ (V * W) → yv_b (rc p) t = false) → post (-5))
    (h2 : ∀ v, v < 2 ^ W → (∃ t, t < 2 ^ (V * W) ∧ yv_b (rc p) t = true) → (∀ t, t < 2 ^ (V * W) → yv_b (rc p) t = true → yv_p W t x = v) → post (nI v))
    (h3 : (∃ t t', t < 2 ^ (V * W) ∧ t' < 2 ^ (V * W) ∧ yv_b (rc p) t = true ∧ yv_b (rc p) t' = true ∧ yv_p W t x ≠ yv_p W t' x) → post (-6)) :
    ∃ n48 : Nat, wY_valueAt_48 post (nI p) (nI x) (nI V) (nI W) (nI Q) (nI S) (nI (2 ^ (V * W))) (nI (2 ^ W - 1)) (nI E) (nI rd) fo ek ef et eo ec lv rc n48 (-5) 0 :=
  Exists.intro (2 ^ (V * W) + 1) (yw_va_l hV hW hVW hp' hx h1 h2 h3 (2 ^ (V * W) + 1) 0 (-5) (Nat.zero_le _) (by omega) (Or.inl ⟨rfl, fun t' z => by omega⟩))
end
end
section
/-! Y: the level pairs as the least closed table -/
/-! counting the annihilators -/
noncomputable def ra_cb (P : Prop) : Bool := @decide P (Classical.propDecidable P)
theorem ra_cb_iff {P : Prop} : ra_cb P = true ↔ P := by unfold ra_cb; exact @decide_eq_true_iff P (Classical.propDecidable P)
def yv_d (W b i : Nat) : Nat := b / 2 ^ (W * i) % 2 ^ W
theorem yv_d_0 {W A y a : Nat} (hA : A = 2 ^ W) (ha : a < A) : yv_d W (A * y + a) 0 = a := by
  unfold yv_d
  rw [Nat.mul_zero, Nat.pow_zero, Nat.div_one, ← hA, Nat.mul_add_mod, Nat.mod_eq_of_lt ha]
theorem yv_d_s {W A y a : Nat} (hA : A = 2 ^ W) (ha : a < A) (c : Nat) : yv_d W (A * y + a) (c + 1) = yv_d W y c := by
  unfold yv_d
  have h1 : 2 ^ (W * (c + 1)) = A * 2 ^ (W * c) := by rw [Nat.mul_add, Nat.mul_one, Nat.pow_add, hA, Nat.mul_comm]
  rw [h1, ← Nat.div_div_eq_div_mul, Nat.mul_add_div (by omega), Nat.div_eq_of_lt ha, Nat.add_zero]
theorem ra_ns_split (n m : Nat) (f : Nat → Nat) : ra_ns (n + m) f = ra_ns n f + ra_ns m (fun i => f (n + i)) := by
  induction m with
  | zero => rfl
  | succ m ih => show ra_ns (n + m) f + f (n + m) = _ + (ra_ns m _ + f (n + m)); rw [ih]; omega
theorem ra_ns_front (n : Nat) (f : Nat → Nat) : ra_ns (n + 1) f = f 0 + ra_ns n (fun i => f (i + 1)) := by
  induction n with
  | zero => simp only [ra_ns]; omega
  | succ n ih => rw [show ra_ns (n + 1 + 1) f = ra_ns (n + 1) f + f (n + 1) from rfl, ih]; simp only [ra_ns]; omega
theorem ra_ct_congr {n : Nat} {f g : Nat → Bool} (h : ∀ i, i < n → f i = g i) : ra_ct n f = ra_ct n g := ra_ns_congr (fun i hi => by rw [h i hi])
theorem ra_ct_prod {A K : Nat} {f g : Nat → Bool} (B : Nat) (h1 : ∀ y, y < B → g y = true → ra_ct A (fun a => f (A * y + a)) = K) (h0 : ∀ y, y < B → g y = false → ∀ a, a < A → f (A * y + a) = false) : ra_ct (A * B) f = K * ra_ct B g := by
  induction B with
  | zero => rfl
  | succ B ih =>
    have e1 : ra_ct (A * (B + 1)) f = ra_ct (A * B) f + ra_ct A (fun a => f (A * B + a)) := by
      rw [Nat.mul_add, Nat.mul_one]; exact ra_ns_split (A * B) A _
    have e2 : ra_ct (B + 1) g = ra_ct B g + (if g B = true then 1 else 0) := rfl
    rw [e1, e2, ih (fun y hy => h1 y (by omega)) (fun y hy => h0 y (by omega)), Nat.mul_add]
    cases hg : g B
    · have e3 : ra_ct A (fun a => f (A * B + a)) = ra_ct A (fun _ => false) := ra_ct_congr (fun a ha => h0 B (by omega) hg a ha)
      have e4 : ra_ct A (fun _ => false) = 0 := by
        have := ra_ns_le (n := A) (f := fun i => if (fun _ : Nat => false) i = true then 1 else 0) (B := 0) (fun i _ => by simp)
        unfold ra_ct; omega
      rw [e3, e4]; simp
    · rw [h1 B (by omega) hg]; simp
theorem ra_t8f : ∀ (W : Fin 5) (k : Fin 5) (s : Fin 16), k.val ≤ W.val → s.val < 2 ^ W.val → BitVec.ofNat W.val (2 ^ (W.val - k.val)) * BitVec.ofNat W.val s.val = 0 →
    ra_ct (2 ^ W.val) (fun a => decide (BitVec.ofNat W.val a * BitVec.ofNat W.val (2 ^ k.val) + BitVec.ofNat W.val s.val = 0)) = 2 ^ k.val := by decide +kernel
theorem ra_t8 {W k : Nat} (hW : W ≤ 4) (hk : k ≤ W) {s : BitVec W} (h : BitVec.ofNat W (2 ^ (W - k)) * s = 0) :
    ra_ct (2 ^ W) (fun a => decide (BitVec.ofNat W a * BitVec.ofNat W (2 ^ k) + s = 0)) = 2 ^ k := by
  have hs := s.isLt
  have hpw := ra_pw hW
  have e : s = BitVec.ofNat W s.toNat := by simp
  have := ra_t8f ⟨W, by omega⟩ ⟨k, by omega⟩ ⟨s.toNat, by omega⟩ hk hs (by dsimp only; rw [← e]; exact h)
  dsimp only at this
  rw [← e] at this
  exact this
/-- the functional with the digits of h from column j on -/
def ra_fd (W n j h : Nat) (v : Nat → BitVec W) : BitVec W := ra_sm n (fun c => (if j ≤ c then BitVec.ofNat W (yv_d W h (c - j)) else 0) * v c)
theorem ra_fd_L (W n j h : Nat) : ra_L (ra_fd W n j h) := ra_L_sm n _
theorem ra_fd_s {W n j A y a : Nat} (hj : j < n) (hA : A = 2 ^ W) (ha : a < A) (v : Nat → BitVec W) : ra_fd W n j (A * y + a) v = BitVec.ofNat W a * v j + ra_fd W n (j + 1) y v := by
  unfold ra_fd
  rw [← ra_sm_delta hj, ← ra_sm_add]
  refine ra_sm_congr (fun c hc => ?_)
  by_cases e : c = j
  · subst e
    rw [if_pos (Nat.le_refl _), if_pos rfl, if_neg (by omega), Nat.sub_self, yv_d_0 hA ha]; grind
  · rw [if_neg e]
    by_cases e2 : j ≤ c
    · rw [if_pos e2, if_pos (by omega), show c - j = c - (j + 1) + 1 by omega, yv_d_s hA ha]; grind
    · rw [if_neg e2, if_neg (by omega)]; grind
theorem ra_count {W n : Nat} {m : Nat → Nat → BitVec W} {k : Nat → Nat} {v0 : Nat → BitVec W} (hW : W ≤ 4) (hp : ra_hp n m k) (hd : ra_hd n m k 0 v0) :
    ∀ d j, j + d = n → ra_ct (2 ^ (W * d)) (fun h => ra_cb (∀ i, j ≤ i → i < n → ra_fd W n j h (m i) = 0)) = 2 ^ ra_ns d (fun i => k (j + i)) := by
  intro d
  induction d with
  | zero =>
    intro j hj
    rw [Nat.mul_zero, Nat.pow_zero]
    show ra_ns 1 _ = 2 ^ 0
    simp only [ra_ns]
    rw [if_pos (ra_cb_iff.mpr (fun i h1 h2 => by omega))]
  | succ d ih =>
    intro j hj
    have hjn : j < n := by omega
    have hkj := (hp j hjn).1
    have e1 : 2 ^ (W * (d + 1)) = 2 ^ W * 2 ^ (W * d) := by rw [Nat.mul_add, Nat.mul_one, Nat.pow_add, Nat.mul_comm]
    have e2 : ra_ns (d + 1) (fun i => k (j + i)) = k j + ra_ns d (fun i => k (j + 1 + i)) := by
      rw [ra_ns_front]
      rw [ra_ns_congr (g := fun i => k (j + 1 + i)) (fun i _ => by rw [show j + (i + 1) = j + 1 + i by omega])]; rfl
    rw [e1, e2, Nat.pow_add, ← ih (j + 1) (by omega)]
    have low : ∀ y a i, a < 2 ^ W → j < i → i < n → ra_fd W n j (2 ^ W * y + a) (m i) = ra_fd W n (j + 1) y (m i) := by
      intro y a i ha hji hin
      rw [ra_fd_s hjn rfl ha, (hp i hin).2.1 j hji]; grind
    refine ra_ct_prod _ ?_ ?_
    · intro y hy hg
      have hg' := ra_cb_iff.mp hg
      have hs := hd j hjn (ra_fd W n (j + 1) y) (ra_fd_L _ _ _ _) (fun i h1 h2 => hg' i (by omega) h2) (fun z => by omega)
      rw [← ra_t8 hW hkj hs]
      refine ra_ct_congr (fun a ha => ?_)
      have iff : (∀ i, j ≤ i → i < n → ra_fd W n j (2 ^ W * y + a) (m i) = 0) ↔ BitVec.ofNat W a * BitVec.ofNat W (2 ^ k j) + ra_fd W n (j + 1) y (m j) = 0 := by
        constructor
        · intro h
          have := h j (Nat.le_refl _) hjn
          rw [ra_fd_s hjn rfl ha, (hp j hjn).2.2.1] at this; exact this
        · intro h i h1 h2
          by_cases e : i = j
          · subst e; rw [ra_fd_s hjn rfl ha, (hp i hjn).2.2.1]; exact h
          · rw [low y a i ha (by omega) h2]; exact hg' i (by omega) h2
      rw [Bool.eq_iff_iff, ra_cb_iff, decide_eq_true_iff]; exact iff
    · intro y hy hg a ha
      cases hx : ra_cb (∀ i, j ≤ i → i < n → ra_fd W n j (2 ^ W * y + a) (m i) = 0)
      · rfl
      · have h1 := ra_cb_iff.mp hx
        have h2 : ra_cb (∀ i, j + 1 ≤ i → i < n → ra_fd W n (j + 1) y (m i) = 0) = true := ra_cb_iff.mpr (fun i g1 g2 => by rw [← low y a i ha (by omega) g2]; exact h1 i (by omega) g2)
        rw [h2] at hg; exact absurd hg (by decide)
/-! Y's count -/
section
variable {V W Q S E rd : Nat} {fo ek ef et eo ec : Nat → Int32} {lv rc : Nat → Int64} {kK kF kT kO : Nat → Nat} {kc : Nat → Nat → BitVec W}
theorem yw_rc_62 {post : Int32 → Prop} {J17 J41 : Int32 → Int32 → Prop} {p b t : Nat} {x3 g : Int32} (hV : 1 ≤ V ∧ V ≤ 3) (hW : 1 ≤ W ∧ W ≤ 4) (hVW : W + V ≤ 5) (hp' : p < 15) (hb : b < 512) (ht : t < 2 ^ (V * W))
    (h1 : (yv_b (rc p) t = true → ra_sm (V + 1) (fun i => BitVec.ofNat W (yv_d W b i) * yv_v W V t i) = 0) → J41 g (nI (t + 1))) (h0 : ¬ (yv_b (rc p) t = true → ra_sm (V + 1) (fun i => BitVec.ofNat W (yv_d W b i) * yv_v W V t i) = 0) → J41 0 (nI (t + 1))) :
    ∀ m i x, 1 ≤ i → i ≤ V + 1 → V + 1 < m + i → ra_pi W x = ra_sm i (fun i => BitVec.ofNat W (yv_d W b i) * yv_v W V t i) → wY_relationCount_62 post J17 J41 (nI p) x3 (nI b) g (nI t) (nI V) (nI W) (nI Q) (nI S) (nI (2 ^ (V * W))) (nI (2 ^ W - 1)) (nI E) (nI rd) fo ek ef et eo ec lv rc m x (nI i) := by
  have h64 := (yt_vw hV hW hVW).2.1
  have hpw := ra_pw hW.2
  intro m
  induction m with
  | zero => intro i x b0 b1 b2; omega
  | succ m ih =>
    intro i x b0 b1 b2 H
    refine pk_lt V i (fun h => ⟨vp_in_nI (by omega) (by omega), ?_⟩) (fun h => ?_)
    · have e : i = V + 1 := by omega
      subst e
      rw [nI_clamp (by omega)]
      refine yw_has (by omega) (fun hb => br_f (by decide) (br_c (fun hz => nm_r (nI_1 t) (h1 (fun _ => ?_))) (fun hz => nm_r (nI_1 t) (h0 (fun hall => ?_))))) (fun hb => br_t rfl (nm_r (nI_1 t) (h1 (fun z => by rw [hb] at z; exact absurd z (by decide)))))
      · have h5 := (ra_z hW.2 (ra_rg_and hW.2 x)).mpr hz
        rw [ra_pi_and hW.2, H] at h5; exact h5
      · refine hz ((ra_z hW.2 (ra_rg_and hW.2 x)).mp ?_)
        rw [ra_pi_and hW.2, H]; exact hall hb
    · have hwi := yt_wo hV hW hVW h
      have e1 : (nI b >>> ((nI W * nI i) &&& 31)) &&& nI (2 ^ W - 1) = nI (yv_d W b i) := by
        rw [pk_mul, pk_shrN (by omega) (nI (W * i) &&& 31) _ (s_l _ (by omega)), pk_andN (Nat.lt_of_le_of_lt (Nat.div_le_self _ _) (by omega)) W (pk_tn (by omega))]; rfl
      refine yw_part hV hW hVW (by omega) ⟨b0, h⟩ (nm_e (nm_r (nI_1 i) (ih (i + 1) _ (by omega) (by omega) (by omega) ?_)))
      rw [e1, ra_pi_add (by omega), ra_pi_mul (by omega), H, ra_pi_nI (by omega), ra_pi_nI (by omega)]
      show _ = ra_sm i _ + BitVec.ofNat W (yv_d W b i) * yv_v W V t i
      rw [yv_v_in b0 h]
theorem yw_rc_41 {post : Int32 → Prop} {J17 : Int32 → Int32 → Prop} {p b c : Nat} (hV : 1 ≤ V ∧ V ≤ 3) (hW : 1 ≤ W ∧ W ≤ 4) (hVW : W + V ≤ 5) (hp' : p < 15) (hb : b < 512)
    (h1 : (∀ t, t < 2 ^ (V * W) → yv_b (rc p) t = true → ra_sm (V + 1) (fun i => BitVec.ofNat W (yv_d W b i) * yv_v W V t i) = 0) → J17 (nI (c + 1)) (nI (b + 1))) (h0 : ¬ (∀ t, t < 2 ^ (V * W) → yv_b (rc p) t = true → ra_sm (V + 1) (fun i => BitVec.ofNat W (yv_d W b i) * yv_v W V t i) = 0) → J17 (nI c) (nI (b + 1))) :
    ∀ m t g, t ≤ 2 ^ (V * W) → 2 ^ (V * W) < m + t → g ≤ 1 → (g = 1 ↔ ∀ t', t' < t → yv_b (rc p) t' = true → ra_sm (V + 1) (fun i => BitVec.ofNat W (yv_d W b i) * yv_v W V t' i) = 0) →
      wY_relationCount_41 post J17 (nI p) (nI c) (nI b) (nI V) (nI W) (nI Q) (nI S) (nI (2 ^ (V * W))) (nI (2 ^ W - 1)) (nI E) (nI rd) fo ek ef et eo ec lv rc m (nI g) (nI t) := by
  have h64 := (yt_vw hV hW hVW).2.1
  have hpw := ra_pw hW.2
  intro m
  induction m with
  | zero => intro t g b1 b2; omega
  | succ m ih =>
    intro t g b1 b2 hg H
    refine pk_le (2 ^ (V * W)) t (fun h => ?_) (fun h => ?_)
    · have e : t = 2 ^ (V * W) := by omega
      subst e
      refine pk_eq g 0 (fun hz => nm_r (nI_1 b) (h0 (fun hall => ?_))) (fun hz => nm_r (nI_1 c) (nm_r (nI_1 b) (h1 (H.mp (by omega)))))
      have := H.mpr hall; omega
    · have e1 : nI b &&& nI (2 ^ W - 1) = nI (yv_d W b 0) := by
        rw [pk_andN (by omega) W (pk_tn (by omega))]; unfold yv_d; rw [Nat.mul_zero, Nat.pow_zero, Nat.div_one]
      refine nm_r e1 (Exists.intro (V + 2) (yw_rc_62 hV hW hVW hp' hb h (fun hh => ?_) (fun hh => ?_) (V + 2) 1 _ (by omega) (by omega) (by omega) ?_))
      · refine ih (t + 1) g (by omega) (by omega) hg (H.trans ⟨fun hall t' ht' hb' => ?_, fun hall t' ht' => hall t' (by omega)⟩)
        by_cases e : t' = t
        · rw [e] at hb' ⊢; exact hh hb'
        · exact hall t' (by omega) hb'
      · refine ih (t + 1) 0 (by omega) (by omega) (by omega) ⟨fun z => by omega, fun hall => absurd (hall t (by omega)) hh⟩
      · rw [ra_pi_nI (by omega)]
        show _ = 0 + BitVec.ofNat W (yv_d W b 0) * yv_v W V t 0
        rw [yv_v_0]; grind
theorem yw_rc_17 {post : Int32 → Prop} {p : Nat} {g : Nat → Bool} (hV : 1 ≤ V ∧ V ≤ 3) (hW : 1 ≤ W ∧ W ≤ 4) (hVW : W + V ≤ 5) (hp' : p < 15) (hg : ∀ b, b < 2 ^ (W * (V + 1)) → (g b = true ↔ ∀ t, t < 2 ^ (V * W) → yv_b (rc p) t = true → ra_sm (V + 1) (fun i => BitVec.ofNat W (yv_d W b i) * yv_v W V t i) = 0)) (hp : post (nI (ra_ct (2 ^ (W * (V + 1))) g))) :
    ∀ m b, b ≤ 2 ^ (W * (V + 1)) → 2 ^ (W * (V + 1)) < m + b → wY_relationCount_17 post (nI p) (nI V) (nI W) (nI Q) (nI S) (nI (2 ^ (V * W))) (nI (2 ^ W - 1)) (nI E) (nI rd) fo ek ef et eo ec lv rc m (nI (ra_ct b g)) (nI b) := by
  obtain ⟨_, h64, h9, h512⟩ := yt_vw hV hW hVW
  have e1 : (1 : Int32) <<< ((nI W * (nI V + 1)) &&& 31) = nI (2 ^ (W * (V + 1))) := by
    rw [nI_1, pk_mul]
    have hs := pk_shlN (n := 1) (nI (W * (V + 1)) &&& 31) _ (s_l _ (by omega)) (by omega)
    rw [Nat.one_mul] at hs; exact hs
  intro m
  induction m with
  | zero => intro b b1 b2; omega
  | succ m ih =>
    intro b b1 b2
    refine pk_le (2 ^ (W * (V + 1))) b (fun h => ?_) (fun h => ?_) e1 rfl (by omega) (by omega)
    · have e : b = 2 ^ (W * (V + 1)) := by omega
      rw [e]; exact hp
    · have key := ih (b + 1) (by omega) (by omega)
      have es : ra_ct (b + 1) g = ra_ct b g + (if g b = true then 1 else 0) := rfl
      refine Exists.intro (2 ^ (V * W) + 1) (yw_rc_41 hV hW hVW hp' (by omega) (fun hh => ?_) (fun hh => ?_) (2 ^ (V * W) + 1) 0 1 (Nat.zero_le _) (by omega) (by omega) ⟨fun _ t' z => by omega, fun _ => rfl⟩)
      · rw [es, if_pos ((hg b h).mpr hh)] at key; exact key
      · rw [es, if_neg (fun z => hh ((hg b h).mp z)), Nat.add_zero] at key; exact key
theorem yw_rc {post : Int32 → Prop} {p : Nat} {g : Nat → Bool} (hV : 1 ≤ V ∧ V ≤ 3) (hW : 1 ≤ W ∧ W ≤ 4) (hVW : W + V ≤ 5) (hp' : p < 15) (hg : ∀ b, b < 2 ^ (W * (V + 1)) → (g b = true ↔ ∀ t, t < 2 ^ (V * W) → yv_b (rc p) t = true → ra_sm (V + 1) (fun i => BitVec.ofNat W (yv_d W b i) * yv_v W V t i) = 0)) (hp : post (nI (ra_ct (2 ^ (W * (V + 1))) g))) :
    ∃ n17 : Nat, wY_relationCount_17 post (nI p) (nI V) (nI W) (nI Q) (nI S) (nI (2 ^ (V * W))) (nI (2 ^ W - 1)) (nI E) (nI rd) fo ek ef et eo ec lv rc n17 0 0 :=
  Exists.intro (2 ^ (W * (V + 1)) + 1) (yw_rc_17 hV hW hVW hp' hg hp (2 ^ (W * (V + 1)) + 1) 0 (Nat.zero_le _) (by omega))
end
end
section
/-! Y: the level pairs as the least closed table -/
/-! the two tables and the two families -/
theorem yv_v_z (W V : Nat) : yv_v W V 0 = fun i => if i = 0 then 1 else 0 := by
  funext i
  unfold yv_v
  by_cases h0 : i = 0
  · rw [if_pos h0, if_pos h0]
  · rw [if_neg h0, if_neg h0]
    by_cases h1 : i ≤ V
    · rw [if_pos h1]; unfold yv_p; rw [Nat.zero_div, Nat.zero_mod]; rfl
    · rw [if_neg h1]
theorem ra_10 {W : Nat} (hW : 1 ≤ W) : ¬ (1 : BitVec W) = 0 := by
  intro h
  have h2 := congrArg BitVec.toNat h
  have h3 : (1 : BitVec W).toNat = 1 % 2 ^ W := BitVec.toNat_ofNat 1 W
  have h4 : (0 : BitVec W).toNat = 0 % 2 ^ W := BitVec.toNat_ofNat 0 W
  have h5 : 1 < 2 ^ W := Nat.one_lt_two_pow (by omega)
  rw [h3, h4, Nat.mod_eq_of_lt h5, Nat.zero_mod] at h2; omega
section
variable {V W Q S E rd : Nat} {fo ek ef et eo ec : Nat → Int32} {lv rc : Nat → Int64} {kK kF kT kO : Nat → Nat} {kc : Nat → Nat → BitVec W}
variable {st : Nat → Int32} {p : Nat}
theorem zb_L1 (hV : 1 ≤ V ∧ V ≤ 3) (hW : 1 ≤ W ∧ W ≤ 4) (hVW : W + V ≤ 5) (hS : 2 ≤ S) (hQ : 1 ≤ Q) (hP : Q * S ≤ 15) (hE : E ≤ 16) (hw : xe_wf V Q S E ek ef et eo kK kF kT kO) (hkc : kc = fun e l => ra_pi W (ec (e * 4 + l))) (hl : yl_ok V Q S E kK kF kT kO kc lv) {A : Nat → BitVec W} (hA : xe_L V Q S E kK kF kT kO kc p A) (hp : p < Q * S) {s : Nat} (hs : s < 2 ^ (V * W)) :
    ∃ t, t < 2 ^ (V * W) ∧ yv_b (lv (p * 64 + s)) t = true ∧ yv_v W V t = ra_mul V 1 A (yv_v W V s) := by
  have h64 := (yt_vw hV hW hVW).2.1
  refine hA (fun p A => p < Q * S → ∀ s, s < 2 ^ (V * W) → ∃ t, t < 2 ^ (V * W) ∧ yv_b (lv (p * 64 + s)) t = true ∧ yv_v W V t = ra_mul V 1 A (yv_v W V s)) ⟨?_, ?_, fun z => by omega⟩ hp s hs
  · rintro p v ⟨⟨q, hq, rfl⟩, rfl⟩ hp s hs
    exact ⟨s, hs, hl.1 _ s hp (Nat.mul_mod_left q S) hs, (yv_v_id s).symm⟩
  · intro e A v he hA hv hp s hs
    obtain ⟨w1, w2, w3, w4, w5, w6, w7, w8, w9, w10⟩ := hw e he
    obtain ⟨t1, c1, c2, c3⟩ := hv w6 s hs
    rcases hA with hA | ⟨h3, hA⟩
    · obtain ⟨t2, d1, d2⟩ := yi_ex hV hW hVW hS hQ hP hE hw hkc he c1 hA
      have h3 : kK e ≠ 3 := by
        intro z
        rcases hA with ⟨g, _⟩ | ⟨g, _⟩ | ⟨g, _⟩ <;> omega
      refine ⟨t2, d1, hl.2.2 e t1 s he c1 hs c2 t2 (by omega) (Or.inl ⟨h3, d1, A, hA, d2⟩), ?_⟩
      rw [ra_assoc, ← c3, d2]
    · obtain ⟨t2, d1, d2, d3⟩ := hA (xe_exit (w10 h3) hS).1 t1 c1
      refine ⟨t2, d1, hl.2.2 e t1 s he c1 hs c2 t2 (by omega) (Or.inr ⟨h3, d2⟩), ?_⟩
      rw [ra_assoc, ← c3, d3]
theorem zb_L2 (hV : 1 ≤ V ∧ V ≤ 3) (hW : 1 ≤ W ∧ W ≤ 4) (hVW : W + V ≤ 5) (hS : 2 ≤ S) (hQ : 1 ≤ Q) (hP : Q * S ≤ 15) (hE : E ≤ 16) (hw : xe_wf V Q S E ek ef et eo kK kF kT kO) (hkc : kc = fun e l => ra_pi W (ec (e * 4 + l))) (hl : yl_ok V Q S E kK kF kT kO kc lv) (hp : p < Q * S) {s t : Nat} (hs : s < 2 ^ (V * W)) (ht : t < 64) (hb : yv_b (lv (p * 64 + s)) t = true) :
    t < 2 ^ (V * W) ∧ ∃ A, xe_L V Q S E kK kF kT kO kc p A ∧ yv_v W V t = ra_mul V 1 A (yv_v W V s) := by
  refine hl.2.1 (fun p s t => ∃ A, xe_L V Q S E kK kF kT kO kc p A ∧ yv_v W V t = ra_mul V 1 A (yv_v W V s)) ⟨?_, ?_⟩ p s t hp hs ht hb
  · intro p s hp hm hs
    refine ⟨ra_mat V ra_id, (xe_L_cs hV.1).1 _ _ ⟨⟨p / S, ?_, ?_⟩, rfl⟩, (yv_v_id s).symm⟩
    · rw [Nat.div_lt_iff_lt_mul (by omega)]; exact hp
    · have := Nat.div_add_mod' p S; omega
  · rintro e s t t' he hs ht ht' ⟨A1, a1, a2⟩ him
    rcases him with ⟨h3, _, A, b1, b2⟩ | ⟨h3, A, b1, b2⟩
    · exact ⟨_, (xe_L_cs hV.1).2.1 e A A1 he (Or.inl b1) a1, by rw [ra_assoc, ← a2, b2]⟩
    · exact ⟨_, (xe_L_cs hV.1).2.1 e A A1 he (Or.inr ⟨h3, b1⟩) a1, by rw [ra_assoc, ← a2, b2]⟩
theorem zb_R1 (hV : 1 ≤ V ∧ V ≤ 3) (hW : 1 ≤ W ∧ W ≤ 4) (hVW : W + V ≤ 5) (hS : 2 ≤ S) (hQ : 1 ≤ Q) (hP : Q * S ≤ 15) (hE : E ≤ 16) (hw : xe_wf V Q S E ek ef et eo kK kF kT kO) (hkc : kc = fun e l => ra_pi W (ec (e * 4 + l))) (hl : yl_ok V Q S E kK kF kT kO kc lv) (hr : yq_ok V Q S E kK kF kT kO kc lv rc) {v : Nat → BitVec W} (hv : xe_R V Q S E kK kF kT kO kc p v) (hp : p < Q * S) : ∃ t, t < 2 ^ (V * W) ∧ yv_b (rc p) t = true ∧ v = yv_v W V t := by
  have h64 := (yt_vw hV hW hVW).2.1
  refine hv (fun p v => p < Q * S → ∃ t, t < 2 ^ (V * W) ∧ yv_b (rc p) t = true ∧ v = yv_v W V t) ⟨?_, ?_, ?_⟩ hp
  · rintro p v ⟨rfl, rfl⟩ hp
    exact ⟨0, Nat.two_pow_pos _, hr.1, (yv_v_z W V).symm⟩
  · intro e A v he hA hv hp
    obtain ⟨w1, w2, w3, w4, w5, w6, w7, w8, w9, w10⟩ := hw e he
    obtain ⟨t1, c1, c2, c3⟩ := hv w6
    rcases hA with hA | ⟨h3, hA⟩
    · obtain ⟨t2, d1, d2⟩ := yi_ex hV hW hVW hS hQ hP hE hw hkc he c1 hA
      have h3 : kK e ≠ 3 := by
        intro z
        rcases hA with ⟨g, _⟩ | ⟨g, _⟩ | ⟨g, _⟩ <;> omega
      exact ⟨t2, d1, (hr.2.2 e t1 he c1 c2).1 t2 (by omega) (Or.inl ⟨h3, d1, A, hA, d2⟩), by rw [c3, d2]⟩
    · obtain ⟨t2, d1, d2, d3⟩ := zb_L1 hV hW hVW hS hQ hP hE hw hkc hl hA (xe_exit (w10 h3) hS).1 c1
      exact ⟨t2, d1, (hr.2.2 e t1 he c1 c2).1 t2 (by omega) (Or.inr ⟨h3, d2⟩), by rw [c3, d3]⟩
  · intro _ e v he h3 hv hp
    obtain ⟨t1, c1, c2, c3⟩ := hv (hw e he).2.2.2.2.2.1
    exact ⟨t1, c1, (hr.2.2 e t1 he c1 c2).2 h3, c3⟩
theorem zb_R2 (hV : 1 ≤ V ∧ V ≤ 3) (hW : 1 ≤ W ∧ W ≤ 4) (hVW : W + V ≤ 5) (hS : 2 ≤ S) (hQ : 1 ≤ Q) (hP : Q * S ≤ 15) (hE : E ≤ 16) (hw : xe_wf V Q S E ek ef et eo kK kF kT kO) (hkc : kc = fun e l => ra_pi W (ec (e * 4 + l))) (hl : yl_ok V Q S E kK kF kT kO kc lv) (hr : yq_ok V Q S E kK kF kT kO kc lv rc) (hp : p < Q * S) {t : Nat} (ht : t < 64) (hb : yv_b (rc p) t = true) : t < 2 ^ (V * W) ∧ xe_R V Q S E kK kF kT kO kc p (yv_v W V t) := by
  refine hr.2.1 (fun p t => xe_R V Q S E kK kF kT kO kc p (yv_v W V t)) ⟨?_, ?_, ?_⟩ p t hp ht hb
  · exact xe_R_cs.1 _ _ ⟨rfl, yv_v_z W V⟩
  · intro e t t' he ht ht' hR him
    rcases him with ⟨h3, _, A, b1, b2⟩ | ⟨h3, b1⟩
    · show xe_R V Q S E kK kF kT kO kc (kT e) (yv_v W V t')
      rw [b2]; exact xe_R_cs.2.1 e A _ he (Or.inl b1) hR
    · obtain ⟨_, A, c1, c2⟩ := zb_L2 hV hW hVW hS hQ hP hE hw hkc hl (xe_exit ((hw e he).2.2.2.2.2.2.2.2.2 h3) hS).1 ht ht' b1
      show xe_R V Q S E kK kF kT kO kc (kT e) (yv_v W V t')
      rw [c2]; exact xe_R_cs.2.1 e A _ he (Or.inr ⟨h3, c1⟩) hR
  · intro e t he ht h3 hR
    exact xe_R_cs.2.2 rfl e _ he h3 hR
theorem zb_bs (p : Nat) : xp_bs 1 p = 2535 + p * 16 := if_pos rfl
theorem zb_an (hV : 1 ≤ V ∧ V ≤ 3) (hW : 1 ≤ W ∧ W ≤ 4) (hVW : W + V ≤ 5) (hS : 2 ≤ S) (hQ : 1 ≤ Q) (hP : Q * S ≤ 15) (hE : E ≤ 16) (hw : xe_wf V Q S E ek ef et eo kK kF kT kO) (hkc : kc = fun e l => ra_pi W (ec (e * 4 + l))) (hx : xa_ok V Q S E kK kF kT kO kc st) (hl : yl_ok V Q S E kK kF kT kO kc lv) (hr : yq_ok V Q S E kK kF kT kO kc lv rc) (hp : p < Q * S) {F : (Nat → BitVec W) → BitVec W} (L : ra_L F) :
    (∀ r, r < V + 1 → F (xi_rv W (1 + V * 1) (2535 + p * 16) st r) = 0) ↔ ∀ t, t < 2 ^ (V * W) → yv_b (rc p) t = true → F (yv_v W V t) = 0 := by
  have h64 := (yt_vw hV hW hVW).2.1
  obtain ⟨M, s1, s2⟩ := hx.2 p hp
  rw [zb_bs] at M s1 s2
  constructor
  · intro h t ht hb
    refine s2 _ (zb_R2 hV hW hVW hS hQ hP hE hw hkc hl hr hp (by omega) hb).2 F L ?_
    rintro u ⟨i, hi, rfl⟩
    exact h i (by omega)
  · intro h r hr'
    refine s1 r (by omega) F L (fun u hu => ?_)
    obtain ⟨t, c1, c2, rfl⟩ := zb_R1 hV hW hVW hS hQ hP hE hw hkc hl hr hu hp
    exact h t c1 c2
theorem zb_anL (hV : 1 ≤ V ∧ V ≤ 3) (hW : 1 ≤ W ∧ W ≤ 4) (hVW : W + V ≤ 5) (hS : 2 ≤ S) (hQ : 1 ≤ Q) (hP : Q * S ≤ 15) (hE : E ≤ 16) (hw : xe_wf V Q S E ek ef et eo kK kF kT kO) (hkc : kc = fun e l => ra_pi W (ec (e * 4 + l))) (hx : xa_ok V Q S E kK kF kT kO kc st) (hp : p < Q * S) {F : (Nat → BitVec W) → BitVec W} (L : ra_L F) :
    (∀ r, r < (1 + V * (V + 1)) → F (xi_rv W (1 + V * (V + 1)) (p * 169) st r) = 0) ↔ ∀ A, xe_L V Q S E kK kF kT kO kc p A → F A = 0 := by
  obtain ⟨M, s1, s2⟩ := hx.1 p hp
  have e : xp_bs (V + 1) p = p * 169 := by unfold xp_bs; rw [if_neg (by omega)]
  rw [e] at M s1 s2
  constructor
  · intro h A hA
    refine s2 A hA F L ?_
    rintro u ⟨i, hi, rfl⟩
    exact h i hi
  · intro h r hr'
    exact s1 r hr' F L h
theorem zb_nob (hV : 1 ≤ V ∧ V ≤ 3) (hW : 1 ≤ W ∧ W ≤ 4) (hVW : W + V ≤ 5) (hS : 2 ≤ S) (hQ : 1 ≤ Q) (hP : Q * S ≤ 15) (hE : E ≤ 16) (hw : xe_wf V Q S E ek ef et eo kK kF kT kO) (hkc : kc = fun e l => ra_pi W (ec (e * 4 + l))) (hl : yl_ok V Q S E kK kF kT kO kc lv) (hr : yq_ok V Q S E kK kF kT kO kc lv rc) (hp : p < Q * S) : rc p = 0 ↔ ∀ t, t < 2 ^ (V * W) → yv_b (rc p) t = false := by
  have h64 := (yt_vw hV hW hVW).2.1
  rw [yb_z]
  constructor
  · intro h t ht; exact h t (by omega)
  · intro h t ht
    cases hb : yv_b (rc p) t
    · rfl
    · rw [h t (zb_R2 hV hW hVW hS hQ hP hE hw hkc hl hr hp ht hb).1] at hb; exact absurd hb (by decide)
theorem zb_reach (hV : 1 ≤ V ∧ V ≤ 3) (hW : 1 ≤ W ∧ W ≤ 4) (hVW : W + V ≤ 5) (hS : 2 ≤ S) (hQ : 1 ≤ Q) (hP : Q * S ≤ 15) (hE : E ≤ 16) (hw : xe_wf V Q S E ek ef et eo kK kF kT kO) (hkc : kc = fun e l => ra_pi W (ec (e * 4 + l))) (hx : xa_ok V Q S E kK kF kT kO kc st) (hl : yl_ok V Q S E kK kF kT kO kc lv) (hr : yq_ok V Q S E kK kF kT kO kc lv rc) (hp : p < Q * S) : st (2535 + p * 16) = 0 ↔ rc p = 0 := by
  have A := zb_an hV hW hVW hS hQ hP hE hw hkc hx hl hr hp (ra_L_at (W := W) 0)
  obtain ⟨M, _, _⟩ := hx.2 p hp
  rw [zb_bs] at M
  rw [zb_nob hV hW hVW hS hQ hP hE hw hkc hl hr hp]
  constructor
  · intro hz t ht
    cases hb : yv_b (rc p) t
    · rfl
    · have h0 := xe_zero (i := 0) hW.2 M (by omega) (by rw [Nat.zero_mul]; exact hz)
      have h1 := A.mp (fun r hr' => by
        by_cases e : r = 0
        · rw [e, h0]
        · exact (M.2.1 r (by omega)).2.1 0 (by omega)) t ht hb
      exact absurd h1 (ra_10 hW.1)
  · intro h
    have h1 := A.mpr (fun t ht hb => by rw [h t ht] at hb; exact absurd hb (by decide)) 0 (by omega)
    rw [xi_rv_in (by omega)] at h1
    have h2 := (ra_z hW.2 (M.1 0 0 (by omega) (by omega))).mp h1
    rw [Nat.zero_mul] at h2; exact h2
theorem zb_ct (hV : 1 ≤ V ∧ V ≤ 3) (hW : 1 ≤ W ∧ W ≤ 4) (hVW : W + V ≤ 5) (hS : 2 ≤ S) (hQ : 1 ≤ Q) (hP : Q * S ≤ 15) (hE : E ≤ 16) (hw : xe_wf V Q S E ek ef et eo kK kF kT kO) (hkc : kc = fun e l => ra_pi W (ec (e * 4 + l))) (hx : xa_ok V Q S E kK kF kT kO kc st) (hl : yl_ok V Q S E kK kF kT kO kc lv) (hr : yq_ok V Q S E kK kF kT kO kc lv rc) : xa_ct (Q * S) st = yq_n (Q * S) rc := by
  refine ra_ct_congr (fun p hp => ?_)
  have := zb_reach hV hW hVW hS hQ hP hE hw hkc hx hl hr hp
  by_cases h : rc p = 0
  · simp [h, this.mpr h]
  · have h2 : ¬ st (2535 + p * 16) = 0 := fun z => h (this.mp z)
    simp [h, h2]
theorem zb_deg (hV : 1 ≤ V ∧ V ≤ 3) (hW : 1 ≤ W ∧ W ≤ 4) (hVW : W + V ≤ 5) (hS : 2 ≤ S) (hQ : 1 ≤ Q) (hP : Q * S ≤ 15) (hE : E ≤ 16) (hw : xe_wf V Q S E ek ef et eo kK kF kT kO) (hkc : kc = fun e l => ra_pi W (ec (e * 4 + l))) (hx : xa_ok V Q S E kK kF kT kO kc st) (hl : yl_ok V Q S E kK kF kT kO kc lv) (hr : yq_ok V Q S E kK kF kT kO kc lv rc) (hp : p < Q * S) (k : Nat) :
    (∀ r, r < V + 1 → BitVec.ofNat W (2 ^ (W - k)) * (fun v : Nat → BitVec W => ra_sm (V + 1) (fun l => ra_pi W (fo l) * v l)) (xi_rv W (1 + V * 1) (2535 + p * 16) st r) = 0) ↔ (∀ t, t < 2 ^ (V * W) → yv_b (rc p) t = true → BitVec.ofNat W (2 ^ (W - k)) * (fun v : Nat → BitVec W => ra_sm (V + 1) (fun l => ra_pi W (fo l) * v l)) (yv_v W V t) = 0) :=
  zb_an hV hW hVW hS hQ hP hE hw hkc hx hl hr hp (ra_L_sc (ra_L_sm (V + 1) (fun l => ra_pi W (fo l))) (BitVec.ofNat W (2 ^ (W - k))))
/-! from the entry -/
theorem zb_FJL (j : Nat) : ra_L (fun v : Nat → BitVec W => ra_sm (V + 1) (fun l => ra_pi W (fo l) * ra_cell (V + 1) v l j) + (if j = 0 then 0 else v 0 * ra_pi W (fo (V + j)))) := by
  constructor
  · intro u v
    show ra_sm (V + 1) (fun l => ra_pi W (fo l) * ra_cell (V + 1) (fun i => u i + v i) l j) + (if j = 0 then 0 else (u 0 + v 0) * ra_pi W (fo (V + j))) = _
    have e : ra_sm (V + 1) (fun l => ra_pi W (fo l) * ra_cell (V + 1) (fun i => u i + v i) l j) = ra_sm (V + 1) (fun l => ra_pi W (fo l) * ra_cell (V + 1) u l j) + ra_sm (V + 1) (fun l => ra_pi W (fo l) * ra_cell (V + 1) v l j) := by
      rw [← ra_sm_add]; exact ra_sm_congr (fun l _ => by rw [ra_cell_add]; grind)
    rw [e]
    dsimp only
    split <;> grind
  · intro a u
    show ra_sm (V + 1) (fun l => ra_pi W (fo l) * ra_cell (V + 1) (fun i => a * u i) l j) + (if j = 0 then 0 else (a * u 0) * ra_pi W (fo (V + j))) = _
    have e : ra_sm (V + 1) (fun l => ra_pi W (fo l) * ra_cell (V + 1) (fun i => a * u i) l j) = a * ra_sm (V + 1) (fun l => ra_pi W (fo l) * ra_cell (V + 1) u l j) := by
      rw [← ra_sm_mul]; exact ra_sm_congr (fun l _ => by rw [ra_cell_mul]; grind)
    rw [e]
    dsimp only
    split <;> grind
/-- the long value as an affine function of the entry state -/
theorem zb_long {A : Nat → BitVec W} {s t : Nat} (h : yv_v W V t = ra_mul V 1 A (yv_v W V s)) :
    (fun v : Nat → BitVec W => ra_sm (V + 1) (fun l => ra_pi W (fo l) * v l)) (yv_v W V t) + (fun v : Nat → BitVec W => ra_sm V (fun l => ra_pi W (fo (V + 1 + l)) * v (1 + l))) (yv_v W V s) = ra_sm (V + 1) (fun j => (fun v : Nat → BitVec W => ra_sm (V + 1) (fun l => ra_pi W (fo l) * ra_cell (V + 1) v l j) + (if j = 0 then 0 else v 0 * ra_pi W (fo (V + j)))) A * yv_v W V s j) := by
  have hA0 : A 0 = 1 := by
    have := congrFun h 0
    rw [ra_mul_hd, yv_v_0, yv_v_0] at this
    rw [this]; grind
  have e1 : (fun v : Nat → BitVec W => ra_sm (V + 1) (fun l => ra_pi W (fo l) * v l)) (yv_v W V t) = ra_sm (V + 1) (fun j => ra_sm (V + 1) (fun l => ra_pi W (fo l) * ra_cell (V + 1) A l j) * yv_v W V s j) := by
    show ra_sm (V + 1) (fun l => ra_pi W (fo l) * yv_v W V t l) = _
    have a1 : ∀ l, l < V + 1 → ra_pi W (fo l) * yv_v W V t l = ra_sm (V + 1) (fun j => ra_pi W (fo l) * ra_cell (V + 1) A l j * yv_v W V s j) := by
      intro l hl
      rw [h, ra_mul1 _ _ (by omega : l ≤ V), ← ra_sm_mul]
      exact ra_sm_congr (fun j _ => by grind)
    rw [ra_sm_congr a1, ra_sm_swap]
    exact ra_sm_congr (fun j _ => by rw [ra_sm_mulr])
  have e2 : (fun v : Nat → BitVec W => ra_sm V (fun l => ra_pi W (fo (V + 1 + l)) * v (1 + l))) (yv_v W V s) = ra_sm (V + 1) (fun j => (if j = 0 then 0 else A 0 * ra_pi W (fo (V + j))) * yv_v W V s j) := by
    show ra_sm V (fun l => ra_pi W (fo (V + 1 + l)) * yv_v W V s (1 + l)) = _
    rw [ra_sm_front]
    rw [if_pos rfl]
    have a2 : ra_sm V (fun i => (if i + 1 = 0 then 0 else A 0 * ra_pi W (fo (V + (i + 1)))) * yv_v W V s (i + 1)) = ra_sm V (fun l => ra_pi W (fo (V + 1 + l)) * yv_v W V s (1 + l)) := by
      refine ra_sm_congr (fun l _ => ?_)
      rw [if_neg (by omega), hA0, show V + (l + 1) = V + 1 + l by omega, show l + 1 = 1 + l by omega]; grind
    rw [a2]; grind
  rw [e1, e2, ← ra_sm_add]
  exact ra_sm_congr (fun j _ => by dsimp only; grind)
theorem zb_hfe (hV : 1 ≤ V ∧ V ≤ 3) (hW : 1 ≤ W ∧ W ≤ 4) (hVW : W + V ≤ 5) (hS : 2 ≤ S) (hQ : 1 ≤ Q) (hP : Q * S ≤ 15) (hE : E ≤ 16) (hw : xe_wf V Q S E ek ef et eo kK kF kT kO) (hkc : kc = fun e l => ra_pi W (ec (e * 4 + l))) (hx : xa_ok V Q S E kK kF kT kO kc st) (hl : yl_ok V Q S E kK kF kT kO kc lv) (hp : p < Q * S) :
    (∀ r j, r < (1 + V * (V + 1)) → j ≤ V → (fun v : Nat → BitVec W => ra_sm (V + 1) (fun l => ra_pi W (fo l) * ra_cell (V + 1) v l j) + (if j = 0 then 0 else v 0 * ra_pi W (fo (V + j)))) (xi_rv W (1 + V * (V + 1)) (p * 169) st r) = 0) ↔ (∀ s t, s < 2 ^ (V * W) → t < 2 ^ (V * W) → yv_b (lv (p * 64 + s)) t = true → (fun v : Nat → BitVec W => ra_sm (V + 1) (fun l => ra_pi W (fo l) * v l)) (yv_v W V t) + (fun v : Nat → BitVec W => ra_sm V (fun l => ra_pi W (fo (V + 1 + l)) * v (1 + l))) (yv_v W V s) = 0) := by
  have h64 := (yt_vw hV hW hVW).2.1
  have anl := fun j => zb_anL hV hW hVW hS hQ hP hE hw hkc hx hp (zb_FJL (V := V) (W := W) (fo := fo) j)
  constructor
  · intro h s t hs ht hb
    obtain ⟨_, A, a1, a2⟩ := zb_L2 hV hW hVW hS hQ hP hE hw hkc hl hp hs (by omega) hb
    rw [zb_long a2]
    refine ra_sm_zero (fun j hj => ?_)
    have := (anl j).mp (fun r hr => h r j hr (by omega)) A a1
    dsimp only
    rw [this]; grind
  · intro h r j hr hj
    refine (anl j).mpr (fun A hA => ?_) r hr
    have key : ∀ s, s < 2 ^ (V * W) → ra_sm (V + 1) (fun j => (fun v : Nat → BitVec W => ra_sm (V + 1) (fun l => ra_pi W (fo l) * ra_cell (V + 1) v l j) + (if j = 0 then 0 else v 0 * ra_pi W (fo (V + j)))) A * yv_v W V s j) = 0 := by
      intro s hs
      obtain ⟨t, c1, c2, c3⟩ := zb_L1 hV hW hVW hS hQ hP hE hw hkc hl hA hp hs
      rw [← zb_long c3]; exact h s t hs c1 c2
    have k0 := key 0 (Nat.two_pow_pos _)
    have ez : ra_sm (V + 1) (fun j => (fun v : Nat → BitVec W => ra_sm (V + 1) (fun l => ra_pi W (fo l) * ra_cell (V + 1) v l j) + (if j = 0 then 0 else v 0 * ra_pi W (fo (V + j)))) A * yv_v W V 0 j) = (fun j => (fun v : Nat → BitVec W => ra_sm (V + 1) (fun l => ra_pi W (fo l) * ra_cell (V + 1) v l j) + (if j = 0 then 0 else v 0 * ra_pi W (fo (V + j)))) A) 0 := by
      rw [ra_sm_front]
      have a2 : ra_sm V (fun i => (fun j => (fun v : Nat → BitVec W => ra_sm (V + 1) (fun l => ra_pi W (fo l) * ra_cell (V + 1) v l j) + (if j = 0 then 0 else v 0 * ra_pi W (fo (V + j)))) A * yv_v W V 0 j) (i + 1)) = 0 := ra_sm_zero (fun i _ => by dsimp only; rw [yv_v_z]; dsimp only; rw [if_neg (by omega : ¬ i + 1 = 0)]; grind)
      rw [a2, yv_v_0]; dsimp only; grind
    rw [ez] at k0
    by_cases hj0 : j = 0
    · subst hj0; exact k0
    · have hb1 : (1 : BitVec W).toNat < 2 ^ W := BitVec.isLt _
      have k1 := key (yv_s W j 0 (1 : BitVec W).toNat) (yt_bnd hV hW hVW ⟨by omega, hj⟩ (Nat.two_pow_pos _) hb1)
      have e1 : ∀ i, yv_v W V (yv_s W j 0 (1 : BitVec W).toNat) i = (if i = j then 1 else 0) + yv_v W V 0 i := by
        intro i
        rw [yv_v_set hV hW hVW ⟨by omega, hj⟩ (by omega), yv_v_z]
        by_cases ei : i = j
        · rw [if_pos ei, if_pos ei]; dsimp only; rw [if_neg (by omega)]; grind
        · rw [if_neg ei, if_neg ei]; grind
      have e2 : ra_sm (V + 1) (fun i => (fun j => (fun v : Nat → BitVec W => ra_sm (V + 1) (fun l => ra_pi W (fo l) * ra_cell (V + 1) v l j) + (if j = 0 then 0 else v 0 * ra_pi W (fo (V + j)))) A) i * yv_v W V (yv_s W j 0 (1 : BitVec W).toNat) i) = ra_sm (V + 1) (fun i => (if i = j then 1 else 0) * (fun j => (fun v : Nat → BitVec W => ra_sm (V + 1) (fun l => ra_pi W (fo l) * ra_cell (V + 1) v l j) + (if j = 0 then 0 else v 0 * ra_pi W (fo (V + j)))) A) i) + ra_sm (V + 1) (fun i => (fun j => (fun v : Nat → BitVec W => ra_sm (V + 1) (fun l => ra_pi W (fo l) * ra_cell (V + 1) v l j) + (if j = 0 then 0 else v 0 * ra_pi W (fo (V + j)))) A) i * yv_v W V 0 i) := by
        rw [← ra_sm_add]; exact ra_sm_congr (fun i _ => by rw [e1 i]; grind)
      have e3 : ra_sm (V + 1) (fun i => (fun j => (fun v : Nat → BitVec W => ra_sm (V + 1) (fun l => ra_pi W (fo l) * ra_cell (V + 1) v l j) + (if j = 0 then 0 else v 0 * ra_pi W (fo (V + j)))) A) i * yv_v W V 0 i) = 0 := ez.trans k0
      have e4 : ra_sm (V + 1) (fun i => (fun j => (fun v : Nat → BitVec W => ra_sm (V + 1) (fun l => ra_pi W (fo l) * ra_cell (V + 1) v l j) + (if j = 0 then 0 else v 0 * ra_pi W (fo (V + j)))) A) i * yv_v W V (yv_s W j 0 (1 : BitVec W).toNat) i) = 0 := k1
      rw [e4, e3, ra_sm_delta (by omega : j < V + 1)] at e2
      have e5 : (0 : BitVec W) = (fun j => (fun v : Nat → BitVec W => ra_sm (V + 1) (fun l => ra_pi W (fo l) * ra_cell (V + 1) v l j) + (if j = 0 then 0 else v 0 * ra_pi W (fo (V + j)))) A) j := by rw [e2]; grind
      exact e5.symm
end
end
section
/-! Y: the level pairs as the least closed table -/
/-! the two tables and the two families -/
section
variable {V W Q S E rd : Nat} {fo ek ef et eo ec : Nat → Int32} {lv rc : Nat → Int64} {kK kF kT kO : Nat → Nat} {kc : Nat → Nat → BitVec W}
variable {st : Nat → Int32} {p : Nat}
/-- a reached module's first row has head 1 -/
theorem zb_head (hV : 1 ≤ V ∧ V ≤ 3) (hW : 1 ≤ W ∧ W ≤ 4) (hVW : W + V ≤ 5) (hS : 2 ≤ S) (hQ : 1 ≤ Q) (hP : Q * S ≤ 15) (hE : E ≤ 16) (hw : xe_wf V Q S E ek ef et eo kK kF kT kO) (hkc : kc = fun e l => ra_pi W (ec (e * 4 + l))) (hx : xa_ok V Q S E kK kF kT kO kc st) (hl : yl_ok V Q S E kK kF kT kO kc lv) (hr : yq_ok V Q S E kK kF kT kO kc lv rc) (hp : p < Q * S) {t : Nat} (ht : t < 2 ^ (V * W)) (hb : yv_b (rc p) t = true) : xi_rv W (1 + V * 1) (2535 + p * 16) st 0 0 = 1 := by
  obtain ⟨M, _, _⟩ := hx.2 p hp
  rw [zb_bs] at M
  obtain ⟨k1, _, k3, _⟩ := M.2.1 0 (by omega)
  generalize hk : xi_kk W (1 + V * 1) (2535 + p * 16) st 0 = k at *
  have A := (zb_an hV hW hVW hS hQ hP hE hw hkc hx hl hr hp (ra_L_sc (ra_L_at (W := W) 0) (BitVec.ofNat W (2 ^ (W - k))))).mp (fun r hr' => by
    by_cases e : r = 0
    · rw [e]; show _ * xi_rv W (1 + V * 1) (2535 + p * 16) st 0 0 = 0
      rw [k3, ← ra_ofmul, ← Nat.pow_add, show W - k + k = W by omega, ← ra_ofmod, Nat.mod_self]; rfl
    · show _ * xi_rv W (1 + V * 1) (2535 + p * 16) st r 0 = 0
      rw [(M.2.1 r (by omega)).2.1 0 (by omega)]; grind) t ht hb
  have A2 : BitVec.ofNat W (2 ^ (W - k)) * (1 : BitVec W) = 0 := by rw [← yv_v_0 W V t]; exact A
  have A3 : BitVec.ofNat W (2 ^ (W - k) % 2 ^ W) = BitVec.ofNat W 0 := by
    rw [ra_ofmod]
    have : BitVec.ofNat W (2 ^ (W - k)) * (1 : BitVec W) = BitVec.ofNat W (2 ^ (W - k)) := by grind
    rw [← this]; exact A2
  have A4 := ra_ofinj (Nat.mod_lt _ (Nat.two_pow_pos W)) (Nat.two_pow_pos W) A3
  have A5 := ra_t7 W (by omega) (W - k) (by omega) (by omega) A4
  have A6 : k = 0 := by omega
  rw [k3, A6]; rfl
theorem zb_lin (x : Nat) (w : BitVec W) : ra_L (fun v : Nat → BitVec W => v x - w * v 0) := by
  constructor
  · intro u v; grind
  · intro a u; grind
/-- the value's test on the rows says whether the variable is constant -/
theorem zb_val (hV : 1 ≤ V ∧ V ≤ 3) (hW : 1 ≤ W ∧ W ≤ 4) (hVW : W + V ≤ 5) (hS : 2 ≤ S) (hQ : 1 ≤ Q) (hP : Q * S ≤ 15) (hE : E ≤ 16) (hw : xe_wf V Q S E ek ef et eo kK kF kT kO) (hkc : kc = fun e l => ra_pi W (ec (e * 4 + l))) (hx : xa_ok V Q S E kK kF kT kO kc st) (hl : yl_ok V Q S E kK kF kT kO kc lv) (hr : yq_ok V Q S E kK kF kT kO kc lv rc) (hp : p < Q * S) {x : Nat} (hxx : 1 ≤ x ∧ x ≤ V) {t0 : Nat} (ht0 : t0 < 2 ^ (V * W)) (hb0 : yv_b (rc p) t0 = true) :
    (∀ r, 1 ≤ r → r < V + 1 → xi_rv W (1 + V * 1) (2535 + p * 16) st r x - ra_pi W (st (2535 + p * 16 + x)) * xi_rv W (1 + V * 1) (2535 + p * 16) st r 0 = 0) ↔ ∀ t, t < 2 ^ (V * W) → yv_b (rc p) t = true → BitVec.ofNat W (yv_p W t x) = ra_pi W (st (2535 + p * 16 + x)) := by
  have hd := zb_head hV hW hVW hS hQ hP hE hw hkc hx hl hr hp ht0 hb0
  have e0 : xi_rv W (1 + V * 1) (2535 + p * 16) st 0 x = ra_pi W (st (2535 + p * 16 + x)) := by rw [xi_rv_in (by omega), Nat.zero_mul, Nat.add_zero]
  have A := zb_an hV hW hVW hS hQ hP hE hw hkc hx hl hr hp (zb_lin (W := W) x (ra_pi W (st (2535 + p * 16 + x))))
  have B : ∀ t, t < 2 ^ (V * W) → ((fun v : Nat → BitVec W => v x - ra_pi W (st (2535 + p * 16 + x)) * v 0) (yv_v W V t) = 0 ↔ BitVec.ofNat W (yv_p W t x) = ra_pi W (st (2535 + p * 16 + x))) := by
    intro t _
    dsimp only
    rw [yv_v_0, yv_v_in hxx.1 hxx.2]
    constructor
    · intro h; grind
    · intro h; grind
  constructor
  · intro h t ht hb
    refine (B t ht).mp (A.mp (fun r hr' => ?_) t ht hb)
    by_cases e : r = 0
    · rw [e, hd, e0]; grind
    · exact h r (by omega) hr'
  · intro h r _ hr'
    exact A.mpr (fun t ht hb => (B t ht).mpr (h t ht hb)) r hr'
/-- if the variable is constant, it is the first row's cell -/
theorem zb_val2 (hV : 1 ≤ V ∧ V ≤ 3) (hW : 1 ≤ W ∧ W ≤ 4) (hVW : W + V ≤ 5) (hS : 2 ≤ S) (hQ : 1 ≤ Q) (hP : Q * S ≤ 15) (hE : E ≤ 16) (hw : xe_wf V Q S E ek ef et eo kK kF kT kO) (hkc : kc = fun e l => ra_pi W (ec (e * 4 + l))) (hx : xa_ok V Q S E kK kF kT kO kc st) (hl : yl_ok V Q S E kK kF kT kO kc lv) (hr : yq_ok V Q S E kK kF kT kO kc lv rc) (hp : p < Q * S) {x w : Nat} (hxx : 1 ≤ x ∧ x ≤ V) (hw' : w < 2 ^ W) {t0 : Nat} (ht0 : t0 < 2 ^ (V * W)) (hb0 : yv_b (rc p) t0 = true)
    (h : ∀ t, t < 2 ^ (V * W) → yv_b (rc p) t = true → yv_p W t x = w) : st (2535 + p * 16 + x) = nI w := by
  have hd := zb_head hV hW hVW hS hQ hP hE hw hkc hx hl hr hp ht0 hb0
  have e0 : xi_rv W (1 + V * 1) (2535 + p * 16) st 0 x = ra_pi W (st (2535 + p * 16 + x)) := by rw [xi_rv_in (by omega), Nat.zero_mul, Nat.add_zero]
  have A := (zb_an hV hW hVW hS hQ hP hE hw hkc hx hl hr hp (zb_lin (W := W) x (BitVec.ofNat W w))).mpr (fun t ht hb => by
    rw [yv_v_0, yv_v_in hxx.1 hxx.2, h t ht hb]; grind) 0 (by omega)
  rw [hd, e0] at A
  obtain ⟨M, _, _⟩ := hx.2 p hp
  rw [zb_bs] at M
  have hrg := M.1 0 x (by omega) (by omega)
  rw [Nat.zero_mul, Nat.add_zero] at hrg
  refine ra_inj hW.2 hrg ⟨w, hw', rfl⟩ ?_
  rw [ra_pi_nI (by omega)]; grind
theorem zb_rel (hV : 1 ≤ V ∧ V ≤ 3) (hW : 1 ≤ W ∧ W ≤ 4) (hVW : W + V ≤ 5) (hS : 2 ≤ S) (hQ : 1 ≤ Q) (hP : Q * S ≤ 15) (hE : E ≤ 16) (hw : xe_wf V Q S E ek ef et eo kK kF kT kO) (hkc : kc = fun e l => ra_pi W (ec (e * 4 + l))) (hx : xa_ok V Q S E kK kF kT kO kc st) (hl : yl_ok V Q S E kK kF kT kO kc lv) (hr : yq_ok V Q S E kK kF kT kO kc lv rc) (hp : p < Q * S) :
    ∃ g : Nat → Bool, (∀ b, b < 2 ^ (W * (V + 1)) → (g b = true ↔ ∀ t, t < 2 ^ (V * W) → yv_b (rc p) t = true → ra_sm (V + 1) (fun i => BitVec.ofNat W (yv_d W b i) * yv_v W V t i) = 0)) ∧
      ra_ct (2 ^ (W * (V + 1))) g = 2 ^ ra_ns (V + 1) (xi_kk W (1 + V * 1) (2535 + p * 16) st) := by
  obtain ⟨M, _, _⟩ := hx.2 p hp
  rw [zb_bs] at M
  have e1 : 1 + V * 1 = V + 1 := by omega
  refine ⟨fun h => ra_cb (∀ i, 0 ≤ i → i < 1 + V * 1 → ra_fd W (1 + V * 1) 0 h (xi_rv W (1 + V * 1) (2535 + p * 16) st i) = 0), ?_, ?_⟩
  · intro b hb
    rw [ra_cb_iff]
    have ef : ∀ v : Nat → BitVec W, ra_fd W (1 + V * 1) 0 b v = ra_sm (V + 1) (fun i => BitVec.ofNat W (yv_d W b i) * v i) := by
      intro v
      unfold ra_fd
      rw [e1]
      exact ra_sm_congr (fun c _ => by rw [if_pos (Nat.zero_le _), Nat.sub_zero])
    have A := zb_an hV hW hVW hS hQ hP hE hw hkc hx hl hr hp (ra_L_sm (V + 1) (fun i => BitVec.ofNat W (yv_d W b i)))
    constructor
    · intro h
      refine A.mp (fun r hr' => ?_)
      rw [← ef]; exact h r (Nat.zero_le _) (by omega)
    · intro h i _ hi
      rw [ef]; exact A.mpr h i (by omega)
  · have h := ra_count hW.2 M.2.1 M.2.2 (1 + V * 1) 0 (by omega)
    have h2 : ra_ns (1 + V * 1) (fun i => xi_kk W (1 + V * 1) (2535 + p * 16) st (0 + i)) = ra_ns (V + 1) (xi_kk W (1 + V * 1) (2535 + p * 16) st) := by
      have h3 : ra_ns (1 + V * 1) (fun i => xi_kk W (1 + V * 1) (2535 + p * 16) st (0 + i)) = ra_ns (1 + V * 1) (xi_kk W (1 + V * 1) (2535 + p * 16) st) := ra_ns_congr (fun i _ => by rw [Nat.zero_add])
      rw [h3]
      exact congrArg (fun z => ra_ns z (xi_kk W (1 + V * 1) (2535 + p * 16) st)) e1
    rw [h2] at h
    rw [← h]
    exact congrArg (fun z => ra_ct (2 ^ (W * z)) _) e1.symm
end
end
section
/-! the relation -/
def zz_F (V W Q S E rd qh : Nat) (ek ef et eo ec st qu qd : Nat → Int32) (lv rc : Nat → Int64) : Prop :=
  (1 ≤ V ∧ V ≤ 3) ∧ (1 ≤ W ∧ W ≤ 4) ∧ W + V ≤ 5 ∧ (1 ≤ Q ∧ Q ≤ 3) ∧ (2 ≤ S ∧ S ≤ 5) ∧ E ≤ 16 ∧ rd ≤ 1 ∧
  xe_wf V Q S E ek ef et eo (fun e => (ek e).toNatClampNeg) (fun e => (ef e).toNatClampNeg) (fun e => (et e).toNatClampNeg) (fun e => (eo e).toNatClampNeg) ∧ xq_ok E qh 0 qu qd ∧
  (rd = 1 → xa_ok V Q S E (fun e => (ek e).toNatClampNeg) (fun e => (ef e).toNatClampNeg) (fun e => (et e).toNatClampNeg) (fun e => (eo e).toNatClampNeg) (fun e l => ra_pi W (ec (e * 4 + l))) st ∧ yl_ok V Q S E (fun e => (ek e).toNatClampNeg) (fun e => (ef e).toNatClampNeg) (fun e => (et e).toNatClampNeg) (fun e => (eo e).toNatClampNeg) (fun e l => ra_pi W (ec (e * 4 + l))) lv ∧ yq_ok V Q S E (fun e => (ek e).toNatClampNeg) (fun e => (ef e).toNatClampNeg) (fun e => (et e).toNatClampNeg) (fun e => (eo e).toNatClampNeg) (fun e l => ra_pi W (ec (e * 4 + l))) lv rc)
/-- the relation at the head of a turn: the program's arrays are the same functions -/
def i_Rel (k : Nat) (u : SX) (v : SY) : Prop :=
  ∃ (V W Q S E rd qh C : Nat) (fo ek ef et eo ec st ve qu qd : Nat → Int32) (lv rc : Nat → Int64), u = (nI V, nI W, nI Q, nI S, nI (Q * S), nI (2 ^ W - 1), nI E, nI rd, nI qh, nI 0, nI C, fo, ek, ef, et, eo, ec, st, ve, qu, qd) ∧ v = (nI V, nI W, nI Q, nI S, nI (2 ^ (V * W)), nI (2 ^ W - 1), nI E, nI rd, fo, ek, ef, et, eo, ec, lv, rc) ∧ zz_F V W Q S E rd qh ek ef et eo ec st qu qd lv rc
theorem i_up {k : Nat} {u : SX} {v : SY} (h : i_Rel k u v) : i_Rel (k + 5) u v := h
theorem zz_in {k : Nat} {V W Q S E rd qh C : Nat} {fo ek ef et eo ec st ve qu qd : Nat → Int32} {lv rc : Nat → Int64} (h : zz_F V W Q S E rd qh ek ef et eo ec st qu qd lv rc) : i_Rel k (nI V, nI W, nI Q, nI S, nI (Q * S), nI (2 ^ W - 1), nI E, nI rd, nI qh, nI 0, nI C, fo, ek, ef, et, eo, ec, st, ve, qu, qd) (nI V, nI W, nI Q, nI S, nI (2 ^ (V * W)), nI (2 ^ W - 1), nI E, nI rd, fo, ek, ef, et, eo, ec, lv, rc) := ⟨V, W, Q, S, E, rd, qh, C, fo, ek, ef, et, eo, ec, st, ve, qu, qd, lv, rc, rfl, rfl, h⟩
theorem zz_el {k : Nat} {u : SX} {v : SY} {P : SX → SY → Prop}
    (h : ∀ (V W Q S E rd qh C : Nat) (fo ek ef et eo ec st ve qu qd : Nat → Int32) (lv rc : Nat → Int64), zz_F V W Q S E rd qh ek ef et eo ec st qu qd lv rc → P (nI V, nI W, nI Q, nI S, nI (Q * S), nI (2 ^ W - 1), nI E, nI rd, nI qh, nI 0, nI C, fo, ek, ef, et, eo, ec, st, ve, qu, qd) (nI V, nI W, nI Q, nI S, nI (2 ^ (V * W)), nI (2 ^ W - 1), nI E, nI rd, fo, ek, ef, et, eo, ec, lv, rc)) (I : i_Rel k u v) : P u v := by
  obtain ⟨V, W, Q, S, E, rd, qh, C, fo, ek, ef, et, eo, ec, st, ve, qu, qd, lv, rc, hu, hv, F⟩ := I
  rw [hu, hv]
  exact h V W Q S E rd qh C fo ek ef et eo ec st ve qu qd lv rc F
theorem zz_QS {Q S : Nat} (hQ : 1 ≤ Q ∧ Q ≤ 3) (hS : 2 ≤ S ∧ S ≤ 5) : Q * S ≤ 15 ∧ 0 < Q * S := by
  have h1 := Nat.mul_le_mul hQ.2 hS.2
  have h2 := Nat.mul_le_mul hQ.1 hS.1
  omega
theorem xq_ok0 {E E' qh : Nat} {qu qd : Nat → Int32} (h : xq_ok E qh 0 qu qd) : xq_ok E' qh 0 qu qd := ⟨h.1, h.2.1, h.2.2.1, fun i z => by omega, fun i j _ z => by omega⟩
/-! the constructors -/
def zc (x lo hi : Int32) : Int32 := if lo ≤ x then (if x ≤ hi then x else hi) else lo
theorem zc_n {x : Int32} {lo hi : Nat} (h : lo ≤ hi) (hb : hi < 2 ^ 31) : ∃ n, lo ≤ n ∧ n ≤ hi ∧ zc x (nI lo) (nI hi) = nI n := by
  unfold zc
  by_cases h1 : nI lo ≤ x
  · rw [if_pos h1]
    by_cases h2 : x ≤ nI hi
    · rw [if_pos h2]
      have h3 : ¬ x < 0 := by
        have := nI_pos' (n := lo) (by omega)
        exact Int32.not_lt.mpr (Int32.le_trans this h1)
      obtain ⟨j, hj, rfl⟩ := nI_of h3
      rw [nI_leI (by omega) hj] at h1
      rw [nI_leI hj hb] at h2
      exact ⟨j, h1, h2, rfl⟩
    · rw [if_neg h2]; exact ⟨hi, h, Nat.le_refl _, rfl⟩
  · rw [if_neg h1]; exact ⟨lo, Nat.le_refl _, h, rfl⟩
theorem zc_X {post : Int32 → Prop} {u : SX} {x lo hi : Int32} (h : post (zc x lo hi)) : wpX_clamp post u x lo hi := by
  unfold zc at h
  obtain ⟨u1, u2, u3, u4, u5, u6, u7, u8, u9, u10, u11, u12, u13, u14, u15, u16, u17, u18, u19, u20, u21⟩ := u
  refine br_c (fun h1 => br_c (fun h2 => ?_) (fun h2 => ?_)) (fun h1 => ?_)
  · rw [if_pos h1, if_pos h2] at h; exact h
  · rw [if_pos h1, if_neg h2] at h; exact h
  · rw [if_neg h1] at h; exact h
theorem zc_Y {P : Int32 → Prop} {x lo hi : Int32} (h : P (zc x lo hi)) : (lo ≤ x → ((x ≤ hi → P x) ∧ (¬ x ≤ hi → P hi))) ∧ (¬ lo ≤ x → P lo) := by
  unfold zc at h
  refine br_c (fun h1 => br_c (fun h2 => ?_) (fun h2 => ?_)) (fun h1 => ?_)
  · rw [if_pos h1, if_pos h2] at h; exact h
  · rw [if_pos h1, if_neg h2] at h; exact h
  · rw [if_neg h1] at h; exact h
theorem i_vc0 (k0 : Int32) (k1 : Int32) (k2 : Int32) (k3 : Int32) : wpX_init (fun u => wpY_init (fun v => i_Rel 4 u v) k0 k1 k2 k3) k0 k1 k2 k3 := by
  obtain ⟨V, v1, v2, eV⟩ := zc_n (x := k0) (lo := 1) (hi := 3) (by omega) (by omega)
  have e5 : (5 : Int32) - nI V = nI (5 - V) := pk_sub (a := 5) (by omega)
  obtain ⟨W, w1, w2, eW⟩ := zc_n (x := k1) (lo := 1) (hi := 5 - V) (by omega) (by omega)
  obtain ⟨Q, q1, q2, eQ⟩ := zc_n (x := k2) (lo := 1) (hi := 3) (by omega) (by omega)
  obtain ⟨S, s1, s2, eS⟩ := zc_n (x := k3) (lo := 2) (hi := 5) (by omega) (by omega)
  have hV : 1 ≤ V ∧ V ≤ 3 := ⟨v1, v2⟩
  have hW : 1 ≤ W ∧ W ≤ 4 := ⟨w1, by omega⟩
  obtain ⟨b1, b2, _, _⟩ := yt_vw hV hW (by omega)
  have hpw := ra_pw hW.2
  have hpp := Nat.two_pow_pos W
  have em : ((1 : Int32) <<< (nI W &&& 31)) - 1 = nI (2 ^ W - 1) := by
    have hs := pk_shlN (n := 1) (nI W &&& 31) W (s_l W (by omega)) (by omega)
    rw [Nat.one_mul] at hs
    rw [show (1 : Int32) = nI 1 from rfl, hs, pk_sub (by omega)]
  have es : (1 : Int32) <<< ((nI V * nI W) &&& 31) = nI (2 ^ (V * W)) := by
    rw [pk_mul]
    have hs := pk_shlN (n := 1) (nI (V * W) &&& 31) (V * W) (s_l _ (by omega)) (by omega)
    rw [Nat.one_mul] at hs; exact hs
  have K : xq_ok 0 0 0 (fun _ => 0) (fun _ => 0) := ⟨by omega, by decide, fun _ _ => Or.inl rfl, fun i z => by omega, fun i j _ z => by omega⟩
  have R : i_Rel 4 (nI V, nI W, nI Q, nI S, nI (Q * S), nI (2 ^ W - 1), 0, 0, 0, 0, 1, (fun _ => 0), (fun _ => 0), (fun _ => 0), (fun _ => 0), (fun _ => 0), (fun _ => 0), (fun _ => 0), (fun _ => 0), (fun _ => 0), (fun _ => 0)) (nI V, nI W, nI Q, nI S, nI (2 ^ (V * W)), nI (2 ^ W - 1), 0, 0, (fun _ => 0), (fun _ => 0), (fun _ => 0), (fun _ => 0), (fun _ => 0), (fun _ => 0), (fun _ => 0), (fun _ => 0)) :=
    zz_in (E := 0) (rd := 0) (qh := 0) (C := 1) ⟨hV, hW, by omega, ⟨q1, q2⟩, ⟨s1, s2⟩, by omega, by omega, fun e z => by omega, K, fun z => by omega⟩
  refine zc_X ?_
  rw [show zc k0 1 3 = nI V from eV]
  refine zc_X ?_
  rw [e5, show zc k1 1 (nI (5 - V)) = nI W from eW]
  refine zc_X ?_
  rw [show zc k2 1 3 = nI Q from eQ]
  refine zc_X ?_
  rw [show zc k3 2 5 = nI S from eS]
  refine nm_r (pk_mul Q S) (nm_r em ?_)
  unfold wpY_init
  refine zc_Y (P := fun x => wY_init_88 _ k1 k2 k3 x 0 0 0 0 0 0 0 0 _ _ _ _ _ _ _ _) ?_
  rw [show zc k0 1 3 = nI V from eV]
  unfold wY_init_88
  rw [e5]
  refine zc_Y (P := fun x => wY_init_115 _ k2 k3 (nI V) x 0 0 0 0 0 0 0 0 _ _ _ _ _ _ _ _) ?_
  rw [show zc k1 1 (nI (5 - V)) = nI W from eW]
  unfold wY_init_115
  refine zc_Y (P := fun x => wY_init_149 _ k3 (nI V) (nI W) x (nI V) (nI W) 0 0 0 0 0 0 _ _ _ _ _ _ _ _) ?_
  rw [show zc k2 1 3 = nI Q from eQ]
  unfold wY_init_149
  refine zc_Y (P := fun x => wY_init_175 _ (nI V) (nI W) x (nI V) (nI W) (nI Q) 0 0 0 0 0 _ _ _ _ _ _ _ _) ?_
  rw [show zc k3 2 5 = nI S from eS]
  unfold wY_init_175
  exact nm_r es (nm_r em R)
end
section
/-! the relation -/
/-! the form, the edges' fields -/
theorem zz_ix {V : Nat} (hV : V ≤ 3) {x : Int32} (h0 : ¬ x < 0) (h : x ≤ 2 * nI V) : vp_in x 7 := by
  have e : (2 : Int32) * nI V = nI (2 * V) := pk_mul 2 V
  rw [e] at h
  obtain ⟨j, hj, rfl⟩ := nI_of h0
  rw [nI_leI hj (by omega)] at h
  exact vp_in_nI (by omega) (by omega)
theorem i_vc_setCoeff {k : Nat} {u : SX} {v : SY} (I : i_Rel k u v) (hk : k + 5 ≤ 2564) (v1 : Int32) (v2 : Int32) : wpX_setCoeff (fun r u' => wpY_setCoeff (fun r' v' => r' = r ∧ i_Rel (k + 5) u' v') v v1 v2) u v1 v2 := by
  refine zz_el (P := fun u v => wpX_setCoeff (fun r u' => wpY_setCoeff (fun r' v' => r' = r ∧ i_Rel (k + 5) u' v') v v1 v2) u v1 v2) ?_ I
  intro V W Q S E rd qh C fo ek ef et eo ec st ve qu qd lv rc F
  refine br_c (fun h0 => br_t h0 ⟨rfl, zz_in F⟩) (fun h0 => br_c (fun h1 => ?_) (fun h1 => br_f h0 (br_f h1 ⟨rfl, zz_in F⟩)))
  have hi := zz_ix F.1.2 h0 h1
  exact ⟨hi, nm_e ⟨hi, br_f h0 (br_t h1 ⟨hi, nm_e ⟨hi, rfl, zz_in F⟩⟩)⟩⟩
theorem i_vc_coeff {k : Nat} {u : SX} {v : SY} (I : i_Rel k u v) (hk : k + 5 ≤ 2564) (v1 : Int32) : wpX_coeff (fun r => wpY_coeff (fun r' => r' = r ∧ i_Rel (k + 5) u v) v v1) u v1 := by
  refine zz_el (P := fun u v => wpX_coeff (fun r => wpY_coeff (fun r' => r' = r ∧ i_Rel (k + 5) u v) v v1) u v1) ?_ I
  intro V W Q S E rd qh C fo ek ef et eo ec st ve qu qd lv rc F
  refine br_c (fun h0 => br_t h0 ⟨rfl, zz_in F⟩) (fun h0 => br_c (fun h1 => ?_) (fun h1 => br_f h0 (br_f h1 ⟨rfl, zz_in F⟩)))
  have hi := zz_ix F.1.2 h0 h1
  exact ⟨hi, br_f h0 (br_t h1 ⟨hi, rfl, zz_in F⟩)⟩
section
variable {V W Q S E rd qh qc C : Nat} {fo ek ef et eo ec st ve qu qd : Nat → Int32} {lv rc : Nat → Int64}
theorem xw_clf_l {post : SX → Prop} (hV : V ≤ 3) (hp : post (nI V, nI W, nI Q, nI S, nI (Q * S), nI (2 ^ W - 1), nI E, nI rd, nI qh, nI qc, nI C, xr_f fo (fun _ => 0) 0 (2 * V + 1), ek, ef, et, eo, ec, st, ve, qu, qd)) : ∀ n i, i ≤ 2 * V + 1 → 2 * V + 1 < n + i → wX_clearForm_2 post (nI V) (nI W) (nI Q) (nI S) (nI (Q * S)) (nI (2 ^ W - 1)) (nI E) (nI rd) (nI qh) (nI qc) (nI C) n (nI i) (xr_f fo (fun _ => 0) 0 i) ek ef et eo ec st ve qu qd := by
  have e : (2 : Int32) * nI V = nI (2 * V) := pk_mul 2 V
  intro n
  induction n with
  | zero => intro i h1 h2; omega
  | succ n ih =>
    intro i h1 h2
    refine pk_lt (2 * V) i (fun h => ?_) (fun h => ?_) e rfl (by omega) (by omega)
    · have e : i = 2 * V + 1 := by omega
      rw [e]; exact hp
    · exact ⟨vp_in_nI (by omega) (by omega), nm_r (xr_s (by omega) (nI_clamp (by omega)) rfl) (nm_r (nI_1 i) (ih (i + 1) (by omega) (by omega)))⟩
theorem yw_clf_l {post : SY → Prop} (hV : V ≤ 3) (hp : post (nI V, nI W, nI Q, nI S, nI (2 ^ (V * W)), nI (2 ^ W - 1), nI E, nI rd, xr_f fo (fun _ => 0) 0 (2 * V + 1), ek, ef, et, eo, ec, lv, rc)) : ∀ n i, i ≤ 2 * V + 1 → 2 * V + 1 < n + i → wY_clearForm_2 post (nI V) (nI W) (nI Q) (nI S) (nI (2 ^ (V * W))) (nI (2 ^ W - 1)) (nI E) (nI rd) n (nI i) (xr_f fo (fun _ => 0) 0 i) ek ef et eo ec lv rc := by
  have e : (2 : Int32) * nI V = nI (2 * V) := pk_mul 2 V
  intro n
  induction n with
  | zero => intro i h1 h2; omega
  | succ n ih =>
    intro i h1 h2
    refine pk_lt (2 * V) i (fun h => ?_) (fun h => ?_) e rfl (by omega) (by omega)
    · have e : i = 2 * V + 1 := by omega
      rw [e]; exact hp
    · exact ⟨vp_in_nI (by omega) (by omega), nm_r (xr_s (by omega) (nI_clamp (by omega)) rfl) (nm_r (nI_1 i) (ih (i + 1) (by omega) (by omega)))⟩
theorem xw_clf {post : SX → Prop} (hV : V ≤ 3) (hp : post (nI V, nI W, nI Q, nI S, nI (Q * S), nI (2 ^ W - 1), nI E, nI rd, nI qh, nI qc, nI C, xr_f fo (fun _ => 0) 0 (2 * V + 1), ek, ef, et, eo, ec, st, ve, qu, qd)) : wpX_clearForm post (nI V, nI W, nI Q, nI S, nI (Q * S), nI (2 ^ W - 1), nI E, nI rd, nI qh, nI qc, nI C, fo, ek, ef, et, eo, ec, st, ve, qu, qd) := by
  refine Exists.intro (2 * V + 2) ?_
  have h := xw_clf_l (fo := fo) hV hp (2 * V + 2) 0 (by omega) (by omega)
  rw [xr_0] at h; exact h
theorem yw_clf {post : SY → Prop} (hV : V ≤ 3) (hp : post (nI V, nI W, nI Q, nI S, nI (2 ^ (V * W)), nI (2 ^ W - 1), nI E, nI rd, xr_f fo (fun _ => 0) 0 (2 * V + 1), ek, ef, et, eo, ec, lv, rc)) : wpY_clearForm post (nI V, nI W, nI Q, nI S, nI (2 ^ (V * W)), nI (2 ^ W - 1), nI E, nI rd, fo, ek, ef, et, eo, ec, lv, rc) := by
  refine Exists.intro (2 * V + 2) ?_
  have h := yw_clf_l (fo := fo) hV hp (2 * V + 2) 0 (by omega) (by omega)
  rw [xr_0] at h; exact h
end
theorem i_vc_clearForm {k : Nat} {u : SX} {v : SY} (I : i_Rel k u v) (hk : k + 5 ≤ 2564) : wpX_clearForm (fun u' => wpY_clearForm (fun v' => i_Rel (k + 5) u' v') v) u := by
  refine zz_el (P := fun u v => wpX_clearForm (fun u' => wpY_clearForm (fun v' => i_Rel (k + 5) u' v') v) u) ?_ I
  intro V W Q S E rd qh C fo ek ef et eo ec st ve qu qd lv rc F
  exact xw_clf (qc := 0) F.1.2 (yw_clf F.1.2 (zz_in F))
theorem zz_wfle {V Q S E E' : Nat} {ek ef et eo : Nat → Int32} {kK kF kT kO : Nat → Nat} (h : E' ≤ E) (w : xe_wf V Q S E ek ef et eo kK kF kT kO) : xe_wf V Q S E' ek ef et eo kK kF kT kO := fun e he => w e (by omega)
theorem i_vc_dropEdge {k : Nat} {u : SX} {v : SY} (I : i_Rel k u v) (hk : k + 5 ≤ 2564) : wpX_dropEdge (fun r u' => wpY_dropEdge (fun r' v' => r' = r ∧ i_Rel (k + 5) u' v') v) u := by
  refine zz_el (P := fun u v => wpX_dropEdge (fun r u' => wpY_dropEdge (fun r' v' => r' = r ∧ i_Rel (k + 5) u' v') v) u) ?_ I
  intro V W Q S E rd qh C fo ek ef et eo ec st ve qu qd lv rc F
  refine br_c (fun h0 => br_t h0 ⟨rfl, zz_in F⟩) (fun h0 => ?_)
  obtain ⟨f1, f2, f3, f4, f5, f6, f7, f8, f9, f10⟩ := F
  have hE : 1 ≤ E := by
    rcases Nat.eq_zero_or_pos E with z | z
    · rw [z] at h0; exact absurd rfl h0
    · exact z
  have e : nI E - 1 = nI (E - 1) := pk_sub (b := 1) hE
  refine nm_r e (br_f h0 (nm_r e ⟨rfl, ?_⟩))
  exact zz_in (E := E - 1) (rd := 0) ⟨f1, f2, f3, f4, f5, by omega, by omega, zz_wfle (by omega) f8, xq_ok0 f9, fun z => by omega⟩
theorem i_vc_edgeCount {k : Nat} {u : SX} {v : SY} (I : i_Rel k u v) (hk : k + 5 ≤ 2564) : wpX_edgeCount (fun r => wpY_edgeCount (fun r' => r' = r ∧ i_Rel (k + 5) u v) v) u := by
  refine zz_el (P := fun u v => wpX_edgeCount (fun r => wpY_edgeCount (fun r' => r' = r ∧ i_Rel (k + 5) u v) v) u) ?_ I
  intro V W Q S E rd qh C fo ek ef et eo ec st ve qu qd lv rc F
  exact ⟨rfl, zz_in F⟩
theorem i_vc_edgeField {k : Nat} {u : SX} {v : SY} (I : i_Rel k u v) (hk : k + 5 ≤ 2564) (v1 : Int32) (v2 : Int32) : wpX_edgeField (fun r => wpY_edgeField (fun r' => r' = r ∧ i_Rel (k + 5) u v) v v1 v2) u v1 v2 := by
  refine zz_el (P := fun u v => wpX_edgeField (fun r => wpY_edgeField (fun r' => r' = r ∧ i_Rel (k + 5) u v) v v1 v2) u v1 v2) ?_ I
  intro V W Q S E rd qh C fo ek ef et eo ec st ve qu qd lv rc F
  have ok := fun (x : Int32) => (⟨rfl, zz_in F⟩ : x = x ∧ i_Rel (k + 5) (nI V, nI W, nI Q, nI S, nI (Q * S), nI (2 ^ W - 1), nI E, nI rd, nI qh, nI 0, nI C, fo, ek, ef, et, eo, ec, st, ve, qu, qd) (nI V, nI W, nI Q, nI S, nI (2 ^ (V * W)), nI (2 ^ W - 1), nI E, nI rd, fo, ek, ef, et, eo, ec, lv, rc))
  refine br_c (fun h0 => br_t h0 (ok _)) (fun h0 => br_c (fun h1 => br_f h0 (br_t h1 (ok _))) (fun h1 => br_c (fun h2 => br_f h0 (br_f h1 (br_t h2 (ok _)))) (fun h2 => br_c (fun h3 => ?_) (fun h3 => br_f h0 (br_f h1 (br_f h2 (br_f h3 (ok _))))))))
  have hE := F.2.2.2.2.2.1
  have hV := F.1.2
  have hin : vp_in v1 16 ∧ (¬ v2 = 0 → ¬ v2 = 1 → ¬ v2 = 2 → ¬ v2 = 3 → vp_in (v1 * 4 + v2 - 4) 64) := by
    obtain ⟨a, ha, rfl⟩ := nI_of h0
    obtain ⟨b, hb, rfl⟩ := nI_of h2
    rw [nI_leI (by omega) ha] at h1
    have e4 : (4 : Int32) + nI V = nI (4 + V) := nI_add 4 V
    rw [e4, nI_leI hb (by omega)] at h3
    refine ⟨vp_in_nI (by omega) (by omega), fun g0 g1 g2 g3 => ?_⟩
    have n0 : b ≠ 0 := fun z => g0 (by rw [z]; rfl)
    have n1 : b ≠ 1 := fun z => g1 (by rw [z]; rfl)
    have n2 : b ≠ 2 := fun z => g2 (by rw [z]; rfl)
    have n3 : b ≠ 3 := fun z => g3 (by rw [z]; rfl)
    have e : nI a * 4 + nI b - 4 = nI (a * 4 + b - 4) := by
      rw [show nI a * 4 = nI (a * 4) from pk_mul a 4, nI_add]; exact pk_sub (b := 4) (by omega)
    exact pk_in _ 64 (by omega) e
  obtain ⟨i1, i2⟩ := hin
  refine br_c (fun g0 => ⟨i1, br_f h0 (br_f h1 (br_f h2 (br_t h3 (br_t g0 ⟨i1, ok _⟩))))⟩) (fun g0 => br_c (fun g1 => ⟨i1, br_f h0 (br_f h1 (br_f h2 (br_t h3 (br_f g0 (br_t g1 ⟨i1, ok _⟩)))))⟩) (fun g1 => br_c (fun g2 => ⟨i1, br_f h0 (br_f h1 (br_f h2 (br_t h3 (br_f g0 (br_f g1 (br_t g2 ⟨i1, ok _⟩))))))⟩) (fun g2 => br_c (fun g3 => ⟨i1, br_f h0 (br_f h1 (br_f h2 (br_t h3 (br_f g0 (br_f g1 (br_f g2 (br_t g3 ⟨i1, ok _⟩)))))))⟩) (fun g3 => ?_))))
  exact ⟨i2 g0 g1 g2 g3, br_f h0 (br_f h1 (br_f h2 (br_t h3 (br_f g0 (br_f g1 (br_f g2 (br_f g3 ⟨i2 g0 g1 g2 g3, ok _⟩)))))))⟩
end
section
/-! the relation -/
/-! the questions -/
section
variable {V W Q S E rd qh qc C : Nat} {fo ek ef et eo ec st ve qu qd : Nat → Int32} {lv rc : Nat → Int64}
theorem xw_ip0 {post : Int32 → Prop} {p : Int32} (h : p < 0 ∨ nI (Q * S) ≤ p) (hp : post 0) : wpX_isPoint post (nI V, nI W, nI Q, nI S, nI (Q * S), nI (2 ^ W - 1), nI E, nI rd, nI qh, nI qc, nI C, fo, ek, ef, et, eo, ec, st, ve, qu, qd) p := by
  refine br_c (fun _ => hp) (fun h0 => br_c (fun _ => hp) (fun h1 => ?_))
  rcases h with h | h
  · exact absurd h h0
  · exact absurd h h1
theorem xw_ip1 {post : Int32 → Prop} {a : Nat} (h : a < Q * S) (hP : Q * S ≤ 15) (hp : post 1) : wpX_isPoint post (nI V, nI W, nI Q, nI S, nI (Q * S), nI (2 ^ W - 1), nI E, nI rd, nI qh, nI qc, nI C, fo, ek, ef, et, eo, ec, st, ve, qu, qd) (nI a) :=
  br_f (nI_pos (by omega)) (br_f (nI_ge h (by omega)) hp)
theorem xw_refb {post : Int32 → Prop} {p : Int32} (h : p < 0 ∨ nI (Q * S) ≤ p) (hp : post (-1)) : wpX_refusal post (nI V, nI W, nI Q, nI S, nI (Q * S), nI (2 ^ W - 1), nI E, nI rd, nI qh, nI qc, nI C, fo, ek, ef, et, eo, ec, st, ve, qu, qd) p := by
  unfold wpX_refusal; dsimp only
  refine xw_ip0 h ?_
  exact br_t rfl hp
theorem xw_refn {post : Int32 → Prop} {a : Nat} (h : a < Q * S) (hP : Q * S ≤ 15) (hrd : rd = 0) (hp : post (-2)) : wpX_refusal post (nI V, nI W, nI Q, nI S, nI (Q * S), nI (2 ^ W - 1), nI E, nI rd, nI qh, nI qc, nI C, fo, ek, ef, et, eo, ec, st, ve, qu, qd) (nI a) := by
  subst hrd; unfold wpX_refusal; dsimp only
  refine xw_ip1 h hP ?_
  exact br_f (by decide) (br_t rfl hp)
theorem xw_refo {post : Int32 → Prop} {a : Nat} (h : a < Q * S) (hP : Q * S ≤ 15) (hrd : rd = 1) (hp : post 0) : wpX_refusal post (nI V, nI W, nI Q, nI S, nI (Q * S), nI (2 ^ W - 1), nI E, nI rd, nI qh, nI qc, nI C, fo, ek, ef, et, eo, ec, st, ve, qu, qd) (nI a) := by
  subst hrd; unfold wpX_refusal; dsimp only
  refine xw_ip1 h hP ?_
  exact br_f (by decide) (br_f (by decide) hp)
theorem yw_refb {post : Int32 → Prop} {p : Int32} (h : p < 0 ∨ nI (Q * S) ≤ p) (hp : post (-1)) : wpY_check post (nI V, nI W, nI Q, nI S, nI (2 ^ (V * W)), nI (2 ^ W - 1), nI E, nI rd, fo, ek, ef, et, eo, ec, lv, rc) p := by
  have e1 : nI Q * nI S = nI (Q * S) := pk_mul _ _
  refine br_c (fun _ => hp) (fun h0 => ?_)
  rw [e1]
  refine br_f ?_ hp
  rcases h with h | h
  · exact absurd h h0
  · exact Int32.not_lt.mpr h
theorem yw_refn {post : Int32 → Prop} {a : Nat} (h : a < Q * S) (hP : Q * S ≤ 15) (hrd : rd = 0) (hp : post (-2)) : wpY_check post (nI V, nI W, nI Q, nI S, nI (2 ^ (V * W)), nI (2 ^ W - 1), nI E, nI rd, fo, ek, ef, et, eo, ec, lv, rc) (nI a) := by
  have e1 : nI Q * nI S = nI (Q * S) := pk_mul _ _
  subst hrd
  refine br_f (nI_pos (by omega)) ?_
  rw [e1]
  exact br_t (nI_lt h (by omega)) (br_t rfl hp)
theorem yw_refo {post : Int32 → Prop} {a : Nat} (h : a < Q * S) (hP : Q * S ≤ 15) (hrd : rd = 1) (hp : post 0) : wpY_check post (nI V, nI W, nI Q, nI S, nI (2 ^ (V * W)), nI (2 ^ W - 1), nI E, nI rd, fo, ek, ef, et, eo, ec, lv, rc) (nI a) := by
  have e1 : nI Q * nI S = nI (Q * S) := pk_mul _ _
  subst hrd
  refine br_f (nI_pos (by omega)) ?_
  rw [e1]
  exact br_t (nI_lt h (by omega)) (br_f (by decide) hp)
theorem xw_reached_b {post : Int32 → Prop} {p : Int32} (h : p < 0 ∨ nI (Q * S) ≤ p) (hp : post (-1)) : wpX_reached post (nI V, nI W, nI Q, nI S, nI (Q * S), nI (2 ^ W - 1), nI E, nI rd, nI qh, nI qc, nI C, fo, ek, ef, et, eo, ec, st, ve, qu, qd) p := by
  unfold wpX_reached; dsimp only
  refine xw_refb h ?_
  exact br_f (by decide) hp
theorem xw_reached_n {post : Int32 → Prop} {a : Nat} (h : a < Q * S) (hP : Q * S ≤ 15) (hrd : rd = 0) (hp : post (-2)) : wpX_reached post (nI V, nI W, nI Q, nI S, nI (Q * S), nI (2 ^ W - 1), nI E, nI rd, nI qh, nI qc, nI C, fo, ek, ef, et, eo, ec, st, ve, qu, qd) (nI a) := by
  unfold wpX_reached; dsimp only
  refine xw_refn h hP hrd ?_
  exact br_f (by decide) hp
theorem yw_reached_b {post : Int32 → Prop} {p : Int32} (h : p < 0 ∨ nI (Q * S) ≤ p) (hp : post (-1)) : wpY_reached post (nI V, nI W, nI Q, nI S, nI (2 ^ (V * W)), nI (2 ^ W - 1), nI E, nI rd, fo, ek, ef, et, eo, ec, lv, rc) p := by
  unfold wpY_reached; dsimp only
  refine yw_refb h ?_
  exact br_f (by decide) hp
theorem yw_reached_n {post : Int32 → Prop} {a : Nat} (h : a < Q * S) (hP : Q * S ≤ 15) (hrd : rd = 0) (hp : post (-2)) : wpY_reached post (nI V, nI W, nI Q, nI S, nI (2 ^ (V * W)), nI (2 ^ W - 1), nI E, nI rd, fo, ek, ef, et, eo, ec, lv, rc) (nI a) := by
  unfold wpY_reached; dsimp only
  refine yw_refn h hP hrd ?_
  exact br_f (by decide) hp
theorem xw_holds_b {post : Int32 → Prop} {p : Int32} (h : p < 0 ∨ nI (Q * S) ≤ p) (hp : post (-1)) : wpX_holds post (nI V, nI W, nI Q, nI S, nI (Q * S), nI (2 ^ W - 1), nI E, nI rd, nI qh, nI qc, nI C, fo, ek, ef, et, eo, ec, st, ve, qu, qd) p := by
  unfold wpX_holds; dsimp only
  refine xw_refb h ?_
  exact br_f (by decide) hp
theorem xw_holds_n {post : Int32 → Prop} {a : Nat} (h : a < Q * S) (hP : Q * S ≤ 15) (hrd : rd = 0) (hp : post (-2)) : wpX_holds post (nI V, nI W, nI Q, nI S, nI (Q * S), nI (2 ^ W - 1), nI E, nI rd, nI qh, nI qc, nI C, fo, ek, ef, et, eo, ec, st, ve, qu, qd) (nI a) := by
  unfold wpX_holds; dsimp only
  refine xw_refn h hP hrd ?_
  exact br_f (by decide) hp
theorem yw_holds_b {post : Int32 → Prop} {p : Int32} (h : p < 0 ∨ nI (Q * S) ≤ p) (hp : post (-1)) : wpY_holds post (nI V, nI W, nI Q, nI S, nI (2 ^ (V * W)), nI (2 ^ W - 1), nI E, nI rd, fo, ek, ef, et, eo, ec, lv, rc) p := by
  unfold wpY_holds; dsimp only
  refine yw_refb h ?_
  exact br_f (by decide) hp
theorem yw_holds_n {post : Int32 → Prop} {a : Nat} (h : a < Q * S) (hP : Q * S ≤ 15) (hrd : rd = 0) (hp : post (-2)) : wpY_holds post (nI V, nI W, nI Q, nI S, nI (2 ^ (V * W)), nI (2 ^ W - 1), nI E, nI rd, fo, ek, ef, et, eo, ec, lv, rc) (nI a) := by
  unfold wpY_holds; dsimp only
  refine yw_refn h hP hrd ?_
  exact br_f (by decide) hp
theorem xw_holdsFromEntry_b {post : Int32 → Prop} {p : Int32} (h : p < 0 ∨ nI (Q * S) ≤ p) (hp : post (-1)) : wpX_holdsFromEntry post (nI V, nI W, nI Q, nI S, nI (Q * S), nI (2 ^ W - 1), nI E, nI rd, nI qh, nI qc, nI C, fo, ek, ef, et, eo, ec, st, ve, qu, qd) p := by
  unfold wpX_holdsFromEntry; dsimp only
  refine xw_refb h ?_
  exact br_f (by decide) hp
theorem xw_holdsFromEntry_n {post : Int32 → Prop} {a : Nat} (h : a < Q * S) (hP : Q * S ≤ 15) (hrd : rd = 0) (hp : post (-2)) : wpX_holdsFromEntry post (nI V, nI W, nI Q, nI S, nI (Q * S), nI (2 ^ W - 1), nI E, nI rd, nI qh, nI qc, nI C, fo, ek, ef, et, eo, ec, st, ve, qu, qd) (nI a) := by
  unfold wpX_holdsFromEntry; dsimp only
  refine xw_refn h hP hrd ?_
  exact br_f (by decide) hp
theorem yw_holdsFromEntry_b {post : Int32 → Prop} {p : Int32} (h : p < 0 ∨ nI (Q * S) ≤ p) (hp : post (-1)) : wpY_holdsFromEntry post (nI V, nI W, nI Q, nI S, nI (2 ^ (V * W)), nI (2 ^ W - 1), nI E, nI rd, fo, ek, ef, et, eo, ec, lv, rc) p := by
  unfold wpY_holdsFromEntry; dsimp only
  refine yw_refb h ?_
  exact br_f (by decide) hp
theorem yw_holdsFromEntry_n {post : Int32 → Prop} {a : Nat} (h : a < Q * S) (hP : Q * S ≤ 15) (hrd : rd = 0) (hp : post (-2)) : wpY_holdsFromEntry post (nI V, nI W, nI Q, nI S, nI (2 ^ (V * W)), nI (2 ^ W - 1), nI E, nI rd, fo, ek, ef, et, eo, ec, lv, rc) (nI a) := by
  unfold wpY_holdsFromEntry; dsimp only
  refine yw_refn h hP hrd ?_
  exact br_f (by decide) hp
theorem xw_degree_b {post : Int32 → Prop} {p : Int32} (h : p < 0 ∨ nI (Q * S) ≤ p) (hp : post (-1)) : wpX_degree post (nI V, nI W, nI Q, nI S, nI (Q * S), nI (2 ^ W - 1), nI E, nI rd, nI qh, nI qc, nI C, fo, ek, ef, et, eo, ec, st, ve, qu, qd) p := by
  unfold wpX_degree; dsimp only
  refine xw_refb h ?_
  exact br_f (by decide) hp
theorem xw_degree_n {post : Int32 → Prop} {a : Nat} (h : a < Q * S) (hP : Q * S ≤ 15) (hrd : rd = 0) (hp : post (-2)) : wpX_degree post (nI V, nI W, nI Q, nI S, nI (Q * S), nI (2 ^ W - 1), nI E, nI rd, nI qh, nI qc, nI C, fo, ek, ef, et, eo, ec, st, ve, qu, qd) (nI a) := by
  unfold wpX_degree; dsimp only
  refine xw_refn h hP hrd ?_
  exact br_f (by decide) hp
theorem yw_degree_b {post : Int32 → Prop} {p : Int32} (h : p < 0 ∨ nI (Q * S) ≤ p) (hp : post (-1)) : wpY_degree post (nI V, nI W, nI Q, nI S, nI (2 ^ (V * W)), nI (2 ^ W - 1), nI E, nI rd, fo, ek, ef, et, eo, ec, lv, rc) p := by
  unfold wpY_degree; dsimp only
  refine yw_refb h ?_
  exact br_f (by decide) hp
theorem yw_degree_n {post : Int32 → Prop} {a : Nat} (h : a < Q * S) (hP : Q * S ≤ 15) (hrd : rd = 0) (hp : post (-2)) : wpY_degree post (nI V, nI W, nI Q, nI S, nI (2 ^ (V * W)), nI (2 ^ W - 1), nI E, nI rd, fo, ek, ef, et, eo, ec, lv, rc) (nI a) := by
  unfold wpY_degree; dsimp only
  refine yw_refn h hP hrd ?_
  exact br_f (by decide) hp
theorem xw_relationCount_b {post : Int32 → Prop} {p : Int32} (h : p < 0 ∨ nI (Q * S) ≤ p) (hp : post (-1)) : wpX_relationCount post (nI V, nI W, nI Q, nI S, nI (Q * S), nI (2 ^ W - 1), nI E, nI rd, nI qh, nI qc, nI C, fo, ek, ef, et, eo, ec, st, ve, qu, qd) p := by
  unfold wpX_relationCount; dsimp only
  refine xw_refb h ?_
  exact br_f (by decide) hp
theorem xw_relationCount_n {post : Int32 → Prop} {a : Nat} (h : a < Q * S) (hP : Q * S ≤ 15) (hrd : rd = 0) (hp : post (-2)) : wpX_relationCount post (nI V, nI W, nI Q, nI S, nI (Q * S), nI (2 ^ W - 1), nI E, nI rd, nI qh, nI qc, nI C, fo, ek, ef, et, eo, ec, st, ve, qu, qd) (nI a) := by
  unfold wpX_relationCount; dsimp only
  refine xw_refn h hP hrd ?_
  exact br_f (by decide) hp
theorem yw_relationCount_b {post : Int32 → Prop} {p : Int32} (h : p < 0 ∨ nI (Q * S) ≤ p) (hp : post (-1)) : wpY_relationCount post (nI V, nI W, nI Q, nI S, nI (2 ^ (V * W)), nI (2 ^ W - 1), nI E, nI rd, fo, ek, ef, et, eo, ec, lv, rc) p := by
  unfold wpY_relationCount; dsimp only
  refine yw_refb h ?_
  exact br_f (by decide) hp
theorem yw_relationCount_n {post : Int32 → Prop} {a : Nat} (h : a < Q * S) (hP : Q * S ≤ 15) (hrd : rd = 0) (hp : post (-2)) : wpY_relationCount post (nI V, nI W, nI Q, nI S, nI (2 ^ (V * W)), nI (2 ^ W - 1), nI E, nI rd, fo, ek, ef, et, eo, ec, lv, rc) (nI a) := by
  unfold wpY_relationCount; dsimp only
  refine yw_refn h hP hrd ?_
  exact br_f (by decide) hp
theorem xw_reached_o {post : Int32 → Prop} {a : Nat} (h : a < Q * S) (hP : Q * S ≤ 15) (hrd : rd = 1) (h1 : ¬ st (2535 + a * 16) = 0 → post 1) (h0 : st (2535 + a * 16) = 0 → post 0) : wpX_reached post (nI V, nI W, nI Q, nI S, nI (Q * S), nI (2 ^ W - 1), nI E, nI rd, nI qh, nI qc, nI C, fo, ek, ef, et, eo, ec, st, ve, qu, qd) (nI a) := by
  unfold wpX_reached; dsimp only
  refine xw_refo h hP hrd ?_
  refine br_t rfl ?_
  refine xw_isr (by omega) ?_ ?_
  · intro hz; exact br_f (by decide) (h1 hz)
  · intro hz; exact br_t rfl (h0 hz)
theorem yw_reached_o {post : Int32 → Prop} {a : Nat} (h : a < Q * S) (hP : Q * S ≤ 15) (hrd : rd = 1) (h1 : ¬ rc a = 0 → post 1) (h0 : rc a = 0 → post 0) : wpY_reached post (nI V, nI W, nI Q, nI S, nI (2 ^ (V * W)), nI (2 ^ W - 1), nI E, nI rd, fo, ek, ef, et, eo, ec, lv, rc) (nI a) := by
  unfold wpY_reached; dsimp only
  refine yw_refo h hP hrd ?_
  refine br_t rfl ⟨vp_in_nI (by omega) (by omega), ?_⟩
  rw [nI_clamp (by omega)]
  exact br_c h0 h1
theorem xw_holds_o {post : Int32 → Prop} {a : Nat} (h : a < Q * S) (hP : Q * S ≤ 15) (hrd : rd = 1) (hp : wpX_commonDegree (fun r => (r = nI W → post 1) ∧ (¬ r = nI W → post 0)) (nI V, nI W, nI Q, nI S, nI (Q * S), nI (2 ^ W - 1), nI E, nI rd, nI qh, nI qc, nI C, fo, ek, ef, et, eo, ec, st, ve, qu, qd) (nI a)) : wpX_holds post (nI V, nI W, nI Q, nI S, nI (Q * S), nI (2 ^ W - 1), nI E, nI rd, nI qh, nI qc, nI C, fo, ek, ef, et, eo, ec, st, ve, qu, qd) (nI a) := by
  unfold wpX_holds; dsimp only
  refine xw_refo h hP hrd ?_
  exact br_t rfl hp
theorem yw_holds_o {post : Int32 → Prop} {a : Nat} (h : a < Q * S) (hP : Q * S ≤ 15) (hrd : rd = 1) (hp : wpY_divides (fun r => (r = 0 → post 0) ∧ (¬ r = 0 → post 1)) (nI V, nI W, nI Q, nI S, nI (2 ^ (V * W)), nI (2 ^ W - 1), nI E, nI rd, fo, ek, ef, et, eo, ec, lv, rc) (nI a) (nI W)) : wpY_holds post (nI V, nI W, nI Q, nI S, nI (2 ^ (V * W)), nI (2 ^ W - 1), nI E, nI rd, fo, ek, ef, et, eo, ec, lv, rc) (nI a) := by
  unfold wpY_holds; dsimp only
  refine yw_refo h hP hrd ?_
  exact br_t rfl hp
theorem xw_degree_o {post : Int32 → Prop} {a : Nat} (h : a < Q * S) (hP : Q * S ≤ 15) (hrd : rd = 1) (hp : wpX_commonDegree (fun r => post r) (nI V, nI W, nI Q, nI S, nI (Q * S), nI (2 ^ W - 1), nI E, nI rd, nI qh, nI qc, nI C, fo, ek, ef, et, eo, ec, st, ve, qu, qd) (nI a)) : wpX_degree post (nI V, nI W, nI Q, nI S, nI (Q * S), nI (2 ^ W - 1), nI E, nI rd, nI qh, nI qc, nI C, fo, ek, ef, et, eo, ec, st, ve, qu, qd) (nI a) := by
  unfold wpX_degree; dsimp only
  refine xw_refo h hP hrd ?_
  exact br_t rfl hp
theorem yw_degree_o {post : Int32 → Prop} {a : Nat} (h : a < Q * S) (hP : Q * S ≤ 15) (hrd : rd = 1) (hp : ∃ n17 : Nat, wY_degree_17 post (nI a) (nI V) (nI W) (nI Q) (nI S) (nI (2 ^ (V * W))) (nI (2 ^ W - 1)) (nI E) (nI rd) fo ek ef et eo ec lv rc n17 (nI W)) : wpY_degree post (nI V, nI W, nI Q, nI S, nI (2 ^ (V * W)), nI (2 ^ W - 1), nI E, nI rd, fo, ek, ef, et, eo, ec, lv, rc) (nI a) := by
  unfold wpY_degree; dsimp only
  refine yw_refo h hP hrd ?_
  exact br_t rfl hp
theorem xw_holdsFromEntry_o {post : Int32 → Prop} {a : Nat} (h : a < Q * S) (hP : Q * S ≤ 15) (hrd : rd = 1) (hp : ∃ n36 : Nat, wX_holdsFromEntry_36 post (nI (a * 169)) (nI (1 + V * (V + 1))) (nI V) (nI W) (nI Q) (nI S) (nI (Q * S)) (nI (2 ^ W - 1)) (nI E) (nI rd) (nI qh) (nI qc) (nI C) fo ek ef et eo ec st ve qu qd n36 0) : wpX_holdsFromEntry post (nI V, nI W, nI Q, nI S, nI (Q * S), nI (2 ^ W - 1), nI E, nI rd, nI qh, nI qc, nI C, fo, ek, ef, et, eo, ec, st, ve, qu, qd) (nI a) := by
  have e1 : nI a * 169 = nI (a * 169) := pk_mul a 169
  have e2 : (1 : Int32) + nI V * (nI V + 1) = nI (1 + V * (V + 1)) := by rw [nI_1, pk_mul]; exact nI_add 1 _
  unfold wpX_holdsFromEntry; dsimp only
  refine xw_refo h hP hrd ?_
  refine br_t rfl ?_
  unfold wpX_levelBase; dsimp only
  rw [e1]
  exact nm_r e2 hp
theorem yw_holdsFromEntry_o {post : Int32 → Prop} {a : Nat} (h : a < Q * S) (hP : Q * S ≤ 15) (hrd : rd = 1) (hp : ∃ n14 : Nat, wY_holdsFromEntry_14 post (nI a) (nI V) (nI W) (nI Q) (nI S) (nI (2 ^ (V * W))) (nI (2 ^ W - 1)) (nI E) (nI rd) fo ek ef et eo ec lv rc n14 0) : wpY_holdsFromEntry post (nI V, nI W, nI Q, nI S, nI (2 ^ (V * W)), nI (2 ^ W - 1), nI E, nI rd, fo, ek, ef, et, eo, ec, lv, rc) (nI a) := by
  unfold wpY_holdsFromEntry; dsimp only
  refine yw_refo h hP hrd ?_
  exact br_t rfl hp
theorem xw_relationCount_o {post : Int32 → Prop} {a : Nat} (h : a < Q * S) (hP : Q * S ≤ 15) (hrd : rd = 1) (hp : ∃ n32 : Nat, wX_relationCount_32 post (nI (2535 + a * 16)) (nI (1 + V * 1)) (nI V) (nI W) (nI Q) (nI S) (nI (Q * S)) (nI (2 ^ W - 1)) (nI E) (nI rd) (nI qh) (nI qc) (nI C) fo ek ef et eo ec st ve qu qd n32 0 0) : wpX_relationCount post (nI V, nI W, nI Q, nI S, nI (Q * S), nI (2 ^ W - 1), nI E, nI rd, nI qh, nI qc, nI C, fo, ek, ef, et, eo, ec, st, ve, qu, qd) (nI a) := by
  have e1 : 2535 + nI a * 16 = nI (2535 + a * 16) := (congrArg (fun z => 2535 + z) (pk_mul a 16)).trans (nI_add 2535 (a * 16))
  have e2 : nI V + 1 = nI (1 + V * 1) := by rw [nI_1]; exact congrArg nI (by omega)
  unfold wpX_relationCount; dsimp only
  refine xw_refo h hP hrd ?_
  refine br_t rfl ?_
  unfold wpX_reachBase; dsimp only
  rw [e1]
  exact nm_r e2 hp
theorem yw_relationCount_o {post : Int32 → Prop} {a : Nat} (h : a < Q * S) (hP : Q * S ≤ 15) (hrd : rd = 1) (hp : ∃ n17 : Nat, wY_relationCount_17 post (nI a) (nI V) (nI W) (nI Q) (nI S) (nI (2 ^ (V * W))) (nI (2 ^ W - 1)) (nI E) (nI rd) fo ek ef et eo ec lv rc n17 0 0) : wpY_relationCount post (nI V, nI W, nI Q, nI S, nI (2 ^ (V * W)), nI (2 ^ W - 1), nI E, nI rd, fo, ek, ef, et, eo, ec, lv, rc) (nI a) := by
  unfold wpY_relationCount; dsimp only
  refine yw_refo h hP hrd ?_
  exact br_t rfl hp
theorem xw_valueAt_o {post : Int32 → Prop} {a x : Nat} (h : a < Q * S) (hP : Q * S ≤ 15) (hV : V ≤ 3) (hrd : rd = 1) (hx : 1 ≤ x ∧ x ≤ V) (h0 : st (2535 + a * 16) = 0 → post (-5))
    (h1 : ¬ st (2535 + a * 16) = 0 → ∃ n71 : Nat, wX_valueAt_71 post (nI x) (nI (2535 + a * 16)) (nI (1 + V * 1)) (st (2535 + a * 16 + x)) (nI V) (nI W) (nI Q) (nI S) (nI (Q * S)) (nI (2 ^ W - 1)) (nI E) (nI rd) (nI qh) (nI qc) (nI C) fo ek ef et eo ec st ve qu qd n71 1) : wpX_valueAt post (nI V, nI W, nI Q, nI S, nI (Q * S), nI (2 ^ W - 1), nI E, nI rd, nI qh, nI qc, nI C, fo, ek, ef, et, eo, ec, st, ve, qu, qd) (nI a) (nI x) := by
  have e1 : 2535 + nI a * 16 = nI (2535 + a * 16) := (congrArg (fun z => 2535 + z) (pk_mul a 16)).trans (nI_add 2535 (a * 16))
  have e2 : nI V + 1 = nI (1 + V * 1) := by rw [nI_1]; exact congrArg nI (by omega)
  have e3 : nI (2535 + a * 16) + nI x = nI (2535 + a * 16 + x) := nI_add _ _
  subst hrd
  unfold wpX_valueAt; dsimp only
  refine xw_ip1 h hP ?_
  refine br_f (by decide) (br_f (nI_nlt (b := 1) hx.1 (by omega)) (br_t (nI_le hx.2 (by omega)) (br_f (by decide) ?_)))
  refine xw_isr (by omega) (fun hz => ?_) (fun hz => ?_)
  · refine br_f (by decide) ?_
    unfold wpX_reachBase; dsimp only
    rw [e1]
    refine nm_r e2 ⟨pk_in _ 2775 (by omega) e3, nm_r (e' := st (2535 + a * 16 + x)) (by rw [pk_cl _ e3]) (h1 hz)⟩
  · exact br_t rfl (h0 hz)
end
theorem zz_p (p : Int32) {n : Nat} (hn : n ≤ 15) : (p < 0 ∨ nI n ≤ p) ∨ ∃ a : Nat, a < n ∧ p = nI a := by
  rcases pk_ix p (n := n) (by omega) with h | h | h
  · exact Or.inl (Or.inl h)
  · exact Or.inl (Or.inr h)
  · exact Or.inr h
theorem i_vc_analyse {k : Nat} {u : SX} {v : SY} (I : i_Rel k u v) (hk : k + 5 ≤ 2564) : wpX_analyse (fun r u' => wpY_analyse (fun r' v' => r' = r ∧ i_Rel (k + 5) u' v') v) u := by
  refine zz_el (P := fun u v => wpX_analyse (fun r u' => wpY_analyse (fun r' v' => r' = r ∧ i_Rel (k + 5) u' v') v) u) ?_ I
  intro V W Q S E rd qh C fo ek ef et eo ec st ve qu qd lv rc F
  obtain ⟨hV, hW, hVW, hQ, hS, hE, hrd, hw, hK, hok⟩ := F
  have hQS := zz_QS hQ hS
  refine xw_analyse hV hW hVW hS.1 hQ.1 hQS.1 hE hw rfl hK hrd (fun z => (hok z).1) ?_
  intro C' st' ve' qh' qu' qd' K' A'
  refine yw_analyse hV hW hVW hS.1 hQ.1 hQS.1 hE hw rfl ?_
  intro lv' rc' hl hr
  refine ⟨congrArg nI (zb_ct hV hW hVW hS.1 hQ.1 hQS.1 hE hw rfl A' hl hr).symm, ?_⟩
  exact zz_in (rd := 1) ⟨hV, hW, hVW, hQ, hS, hE, by omega, hw, K', fun _ => ⟨A', hl, hr⟩⟩
theorem i_vc_reached {k : Nat} {u : SX} {v : SY} (I : i_Rel k u v) (hk : k + 5 ≤ 2564) (v1 : Int32) : wpX_reached (fun r => wpY_reached (fun r' => r' = r ∧ i_Rel (k + 5) u v) v v1) u v1 := by
  refine zz_el (P := fun u v => wpX_reached (fun r => wpY_reached (fun r' => r' = r ∧ i_Rel (k + 5) u v) v v1) u v1) ?_ I
  intro V W Q S E rd qh C fo ek ef et eo ec st ve qu qd lv rc F
  have ok := fun (x : Int32) => (⟨rfl, zz_in F⟩ : x = x ∧ i_Rel (k + 5) (nI V, nI W, nI Q, nI S, nI (Q * S), nI (2 ^ W - 1), nI E, nI rd, nI qh, nI 0, nI C, fo, ek, ef, et, eo, ec, st, ve, qu, qd) (nI V, nI W, nI Q, nI S, nI (2 ^ (V * W)), nI (2 ^ W - 1), nI E, nI rd, fo, ek, ef, et, eo, ec, lv, rc))
  obtain ⟨hV, hW, hVW, hQ, hS, hE, hrd, hw, hK, hok⟩ := F
  have hQS := zz_QS hQ hS
  rcases zz_p v1 hQS.1 with hb | ⟨a, ha, rfl⟩
  · exact xw_reached_b (qc := 0) hb (yw_reached_b hb (ok _))
  · have hc : (nI a).toNatClampNeg = a := nI_clamp (by omega)
    rcases (show rd = 0 ∨ rd = 1 by omega) with h | h
    · exact xw_reached_n (qc := 0) ha hQS.1 h (yw_reached_n ha hQS.1 h (ok _))
    · obtain ⟨A, hl, hr⟩ := hok h
      have key := zb_reach hV hW hVW hS.1 hQ.1 hQS.1 hE hw rfl A hl hr ha
      refine xw_reached_o (qc := 0) ha hQS.1 h (fun hz => ?_) (fun hz => ?_)
      · exact yw_reached_o ha hQS.1 h (fun _ => ok _) (fun z => absurd (key.mpr z) hz)
      · exact yw_reached_o ha hQS.1 h (fun z => absurd (key.mp hz) z) (fun _ => ok _)
theorem i_vc_holds {k : Nat} {u : SX} {v : SY} (I : i_Rel k u v) (hk : k + 5 ≤ 2564) (v1 : Int32) : wpX_holds (fun r => wpY_holds (fun r' => r' = r ∧ i_Rel (k + 5) u v) v v1) u v1 := by
  refine zz_el (P := fun u v => wpX_holds (fun r => wpY_holds (fun r' => r' = r ∧ i_Rel (k + 5) u v) v v1) u v1) ?_ I
  intro V W Q S E rd qh C fo ek ef et eo ec st ve qu qd lv rc F
  have ok := fun (x : Int32) => (⟨rfl, zz_in F⟩ : x = x ∧ i_Rel (k + 5) (nI V, nI W, nI Q, nI S, nI (Q * S), nI (2 ^ W - 1), nI E, nI rd, nI qh, nI 0, nI C, fo, ek, ef, et, eo, ec, st, ve, qu, qd) (nI V, nI W, nI Q, nI S, nI (2 ^ (V * W)), nI (2 ^ W - 1), nI E, nI rd, fo, ek, ef, et, eo, ec, lv, rc))
  obtain ⟨hV, hW, hVW, hQ, hS, hE, hrd, hw, hK, hok⟩ := F
  have hQS := zz_QS hQ hS
  rcases zz_p v1 hQS.1 with hb | ⟨a, ha, rfl⟩
  · exact xw_holds_b (qc := 0) hb (yw_holds_b hb (ok _))
  · rcases (show rd = 0 ∨ rd = 1 by omega) with h | h
    · exact xw_holds_n (qc := 0) ha hQS.1 h (yw_holds_n ha hQS.1 h (ok _))
    · obtain ⟨A, hl, hr⟩ := hok h
      refine xw_holds_o (qc := 0) ha hQS.1 h (xw_cd (qc := 0) hV hW.2 (by omega) ?_)
      intro d hd H
      have key := fun z => zb_deg (fo := fo) hV hW hVW hS.1 hQ.1 hQS.1 hE hw rfl A hl hr ha z
      refine pk_eq d W (fun e => ?_) (fun e => ?_)
      · refine yw_holds_o ha hQS.1 h (yw_dv hV hW hVW (by omega) (Nat.le_refl _) (fun _ => br_f (by decide) (ok _)) (fun hn => ?_))
        exact absurd ((key W).mp ((H W (Nat.le_refl _)).mp (by omega))) hn
      · refine yw_holds_o ha hQS.1 h (yw_dv hV hW hVW (by omega) (Nat.le_refl _) (fun hn => ?_) (fun _ => br_t rfl (ok _)))
        have := (H W (Nat.le_refl _)).mpr ((key W).mpr hn)
        omega
theorem i_vc_degree {k : Nat} {u : SX} {v : SY} (I : i_Rel k u v) (hk : k + 5 ≤ 2564) (v1 : Int32) : wpX_degree (fun r => wpY_degree (fun r' => r' = r ∧ i_Rel (k + 5) u v) v v1) u v1 := by
  refine zz_el (P := fun u v => wpX_degree (fun r => wpY_degree (fun r' => r' = r ∧ i_Rel (k + 5) u v) v v1) u v1) ?_ I
  intro V W Q S E rd qh C fo ek ef et eo ec st ve qu qd lv rc F
  have ok := fun (x : Int32) => (⟨rfl, zz_in F⟩ : x = x ∧ i_Rel (k + 5) (nI V, nI W, nI Q, nI S, nI (Q * S), nI (2 ^ W - 1), nI E, nI rd, nI qh, nI 0, nI C, fo, ek, ef, et, eo, ec, st, ve, qu, qd) (nI V, nI W, nI Q, nI S, nI (2 ^ (V * W)), nI (2 ^ W - 1), nI E, nI rd, fo, ek, ef, et, eo, ec, lv, rc))
  obtain ⟨hV, hW, hVW, hQ, hS, hE, hrd, hw, hK, hok⟩ := F
  have hQS := zz_QS hQ hS
  rcases zz_p v1 hQS.1 with hb | ⟨a, ha, rfl⟩
  · exact xw_degree_b (qc := 0) hb (yw_degree_b hb (ok _))
  · rcases (show rd = 0 ∨ rd = 1 by omega) with h | h
    · exact xw_degree_n (qc := 0) ha hQS.1 h (yw_degree_n ha hQS.1 h (ok _))
    · obtain ⟨A, hl, hr⟩ := hok h
      refine xw_degree_o (qc := 0) ha hQS.1 h (xw_cd (qc := 0) hV hW.2 (by omega) ?_)
      intro d hd H
      exact yw_degree_o ha hQS.1 h (yw_dg hV hW hVW (by omega) hd (fun z hz => (H z hz).trans (zb_deg (fo := fo) hV hW hVW hS.1 hQ.1 hQS.1 hE hw rfl A hl hr ha z)) (ok _))
theorem i_vc_holdsFromEntry {k : Nat} {u : SX} {v : SY} (I : i_Rel k u v) (hk : k + 5 ≤ 2564) (v1 : Int32) : wpX_holdsFromEntry (fun r => wpY_holdsFromEntry (fun r' => r' = r ∧ i_Rel (k + 5) u v) v v1) u v1 := by
  refine zz_el (P := fun u v => wpX_holdsFromEntry (fun r => wpY_holdsFromEntry (fun r' => r' = r ∧ i_Rel (k + 5) u v) v v1) u v1) ?_ I
  intro V W Q S E rd qh C fo ek ef et eo ec st ve qu qd lv rc F
  have ok := fun (x : Int32) => (⟨rfl, zz_in F⟩ : x = x ∧ i_Rel (k + 5) (nI V, nI W, nI Q, nI S, nI (Q * S), nI (2 ^ W - 1), nI E, nI rd, nI qh, nI 0, nI C, fo, ek, ef, et, eo, ec, st, ve, qu, qd) (nI V, nI W, nI Q, nI S, nI (2 ^ (V * W)), nI (2 ^ W - 1), nI E, nI rd, fo, ek, ef, et, eo, ec, lv, rc))
  obtain ⟨hV, hW, hVW, hQ, hS, hE, hrd, hw, hK, hok⟩ := F
  have hQS := zz_QS hQ hS
  rcases zz_p v1 hQS.1 with hb | ⟨a, ha, rfl⟩
  · exact xw_holdsFromEntry_b (qc := 0) hb (yw_holdsFromEntry_b hb (ok _))
  · rcases (show rd = 0 ∨ rd = 1 by omega) with h | h
    · exact xw_holdsFromEntry_n (qc := 0) ha hQS.1 h (yw_holdsFromEntry_n ha hQS.1 h (ok _))
    · obtain ⟨A, hl, hr⟩ := hok h
      have key := zb_hfe (fo := fo) hV hW hVW hS.1 hQ.1 hQS.1 hE hw rfl A hl ha
      refine xw_holdsFromEntry_o (qc := 0) ha hQS.1 h (xw_hfe (qc := 0) hV hW.2 (by omega) (fun hx => ?_) (fun hx => ?_))
      · exact yw_holdsFromEntry_o ha hQS.1 h (yw_hf hV hW hVW (by omega) (fun _ => ok _) (fun hn => absurd (key.mp hx) hn))
      · exact yw_holdsFromEntry_o ha hQS.1 h (yw_hf hV hW hVW (by omega) (fun hn => absurd (key.mpr hn) hx) (fun _ => ok _))
theorem i_vc_relationCount {k : Nat} {u : SX} {v : SY} (I : i_Rel k u v) (hk : k + 5 ≤ 2564) (v1 : Int32) : wpX_relationCount (fun r => wpY_relationCount (fun r' => r' = r ∧ i_Rel (k + 5) u v) v v1) u v1 := by
  refine zz_el (P := fun u v => wpX_relationCount (fun r => wpY_relationCount (fun r' => r' = r ∧ i_Rel (k + 5) u v) v v1) u v1) ?_ I
  intro V W Q S E rd qh C fo ek ef et eo ec st ve qu qd lv rc F
  have ok := fun (x : Int32) => (⟨rfl, zz_in F⟩ : x = x ∧ i_Rel (k + 5) (nI V, nI W, nI Q, nI S, nI (Q * S), nI (2 ^ W - 1), nI E, nI rd, nI qh, nI 0, nI C, fo, ek, ef, et, eo, ec, st, ve, qu, qd) (nI V, nI W, nI Q, nI S, nI (2 ^ (V * W)), nI (2 ^ W - 1), nI E, nI rd, fo, ek, ef, et, eo, ec, lv, rc))
  obtain ⟨hV, hW, hVW, hQ, hS, hE, hrd, hw, hK, hok⟩ := F
  have hQS := zz_QS hQ hS
  rcases zz_p v1 hQS.1 with hb | ⟨a, ha, rfl⟩
  · exact xw_relationCount_b (qc := 0) hb (yw_relationCount_b hb (ok _))
  · rcases (show rd = 0 ∨ rd = 1 by omega) with h | h
    · exact xw_relationCount_n (qc := 0) ha hQS.1 h (yw_relationCount_n ha hQS.1 h (ok _))
    · obtain ⟨A, hl, hr⟩ := hok h
      obtain ⟨g, g1, g2⟩ := zb_rel hV hW hVW hS.1 hQ.1 hQS.1 hE hw rfl A hl hr ha
      have M := (A.2 a ha).1
      rw [zb_bs] at M
      refine xw_relationCount_o (qc := 0) ha hQS.1 h (xw_rc (qc := 0) hV hW.2 hVW (by omega) M ?_)
      refine yw_relationCount_o ha hQS.1 h (yw_rc hV hW hVW (by omega) g1 ?_)
      rw [g2]; exact ok _
theorem i_vc_valueAt {k : Nat} {u : SX} {v : SY} (I : i_Rel k u v) (hk : k + 5 ≤ 2564) (v1 : Int32) (v2 : Int32) : wpX_valueAt (fun r => wpY_valueAt (fun r' => r' = r ∧ i_Rel (k + 5) u v) v v1 v2) u v1 v2 := by
  refine zz_el (P := fun u v => wpX_valueAt (fun r => wpY_valueAt (fun r' => r' = r ∧ i_Rel (k + 5) u v) v v1 v2) u v1 v2) ?_ I
  intro V W Q S E rd qh C fo ek ef et eo ec st ve qu qd lv rc F
  have ok := fun (x : Int32) => (⟨rfl, zz_in F⟩ : x = x ∧ i_Rel (k + 5) (nI V, nI W, nI Q, nI S, nI (Q * S), nI (2 ^ W - 1), nI E, nI rd, nI qh, nI 0, nI C, fo, ek, ef, et, eo, ec, st, ve, qu, qd) (nI V, nI W, nI Q, nI S, nI (2 ^ (V * W)), nI (2 ^ W - 1), nI E, nI rd, fo, ek, ef, et, eo, ec, lv, rc))
  obtain ⟨hV, hW, hVW, hQ, hS, hE, hrd, hw, hK, hok⟩ := F
  have hQS := zz_QS hQ hS
  have eq : nI Q * nI S = nI (Q * S) := pk_mul _ _
  rcases zz_p v1 hQS.1 with hb | ⟨a, ha, rfl⟩
  · unfold wpX_valueAt; dsimp only
    refine xw_ip0 (qc := 0) hb ?_
    refine br_t rfl ?_
    refine br_c (fun _ => ok _) (fun h0 => ?_)
    rw [eq]
    refine br_t ?_ (ok _)
    rcases hb with hb | hb
    · exact absurd hb h0
    · exact hb
  · have y0 : ¬ nI a < 0 := nI_pos (by omega)
    have y1 : ¬ nI Q * nI S ≤ nI a := by rw [eq]; exact nI_ge ha (by omega)
    by_cases g1 : v2 < 1
    · unfold wpX_valueAt; dsimp only
      refine xw_ip1 (qc := 0) ha hQS.1 ?_
      exact br_f (by decide) (br_t g1 (br_f y0 (br_f y1 (br_t g1 (ok _)))))
    · by_cases g2 : v2 ≤ nI V
      · obtain ⟨x, hx1, hx2, rfl⟩ : ∃ x, 1 ≤ x ∧ x ≤ V ∧ v2 = nI x := by
          have g0 : ¬ v2 < 0 := fun z => g1 (Int32.lt_trans z (by decide))
          obtain ⟨x, hx, rfl⟩ := nI_of g0
          rw [nI_leI hx (by omega)] at g2
          refine ⟨x, ?_, g2, rfl⟩
          rcases Nat.eq_zero_or_pos x with z | z
          · rw [z] at g1; exact absurd (by decide) g1
          · exact z
        rcases (show rd = 0 ∨ rd = 1 by omega) with h | h
        · subst h
          unfold wpX_valueAt; dsimp only
          refine xw_ip1 (qc := 0) ha hQS.1 ?_
          exact br_f (by decide) (br_f g1 (br_t g2 (br_t rfl (br_f y0 (br_f y1 (br_f g1 (br_t g2 (br_t rfl (ok _)))))))))
        · obtain ⟨A, hl, hr⟩ := hok h
          have key := zb_reach hV hW hVW hS.1 hQ.1 hQS.1 hE hw rfl A hl hr ha
          have nob := zb_nob hV hW hVW hS.1 hQ.1 hQS.1 hE hw rfl hl hr ha
          have hn1 : ¬ nI rd = 0 := by rw [h]; decide
          have ygo : ∀ {Z : Int32 → Prop}, (∃ n48 : Nat, wY_valueAt_48 Z (nI a) (nI x) (nI V) (nI W) (nI Q) (nI S) (nI (2 ^ (V * W))) (nI (2 ^ W - 1)) (nI E) (nI rd) fo ek ef et eo ec lv rc n48 (-5) 0) → wpY_valueAt Z (nI V, nI W, nI Q, nI S, nI (2 ^ (V * W)), nI (2 ^ W - 1), nI E, nI rd, fo, ek, ef, et, eo, ec, lv, rc) (nI a) (nI x) :=
            fun z => br_f y0 (br_f y1 (br_f g1 (br_t g2 (br_f hn1 z))))
          refine xw_valueAt_o (qc := 0) ha hQS.1 hV.2 h ⟨hx1, hx2⟩ (fun hz => ?_) (fun hz => ?_)
          · have hno := nob.mp (key.mp hz)
            refine ygo (yw_va hV hW hVW (by omega) ⟨hx1, hx2⟩ (fun _ => ok _) (fun w hw' hex _ => ?_) ?_)
            · obtain ⟨t, q1, q2⟩ := hex
              rw [hno t q1] at q2; exact absurd q2 (by decide)
            · rintro ⟨t, t', q1, q2, q3, q4, q5⟩
              rw [hno t q1] at q3; exact absurd q3 (by decide)
          · have hex : ∃ t, t < 2 ^ (V * W) ∧ yv_b (rc a) t = true := by
              refine Classical.byContradiction (fun hn => hz (key.mpr (nob.mpr (fun t ht => ?_))))
              cases hb : yv_b (rc a) t
              · rfl
              · exact absurd ⟨t, ht, hb⟩ hn
            obtain ⟨t0, ht0, hb0⟩ := hex
            have vv := zb_val hV hW hVW hS.1 hQ.1 hQS.1 hE hw rfl A hl hr ha ⟨hx1, hx2⟩ ht0 hb0
            refine xw_va (qc := 0) hV hW.2 (by omega) hx2 (fun hc1 => ?_) (fun hc1 => ?_)
            · have al := vv.mp hc1
              refine ygo (yw_va hV hW hVW (by omega) ⟨hx1, hx2⟩ (fun hno => ?_) (fun w hw' _ hall => ?_) ?_)
              · rw [hno t0 ht0] at hb0; exact absurd hb0 (by decide)
              · rw [zb_val2 hV hW hVW hS.1 hQ.1 hQS.1 hE hw rfl A hl hr ha ⟨hx1, hx2⟩ hw' ht0 hb0 hall]; exact ok _
              · rintro ⟨t, t', q1, q2, q3, q4, q5⟩
                exact absurd (ra_ofinj (yv_p_lt _ _ _) (yv_p_lt _ _ _) ((al t q1 q3).trans (al t' q2 q4).symm)) q5
            · refine ygo (yw_va hV hW hVW (by omega) ⟨hx1, hx2⟩ (fun hno => ?_) (fun w hw' _ hall => ?_) (fun _ => ok _))
              · rw [hno t0 ht0] at hb0; exact absurd hb0 (by decide)
              · refine absurd (vv.mpr (fun t ht hb => ?_)) hc1
                rw [zb_val2 hV hW hVW hS.1 hQ.1 hQS.1 hE hw rfl A hl hr ha ⟨hx1, hx2⟩ hw' ht0 hb0 hall, hall t ht hb, ra_pi_nI (by omega)]
      · unfold wpX_valueAt; dsimp only
        refine xw_ip1 (qc := 0) ha hQS.1 ?_
        exact br_f (by decide) (br_f g1 (br_f g2 (br_f y0 (br_f y1 (br_f g1 (br_f g2 (ok _)))))))
end
section
/-! the relation -/
/-! a new edge -/
section
variable {V W Q S E rd qh qc C : Nat} {fo ek ef et eo ec st ve qu qd : Nat → Int32} {lv rc : Nat → Int64}
theorem xw_own_l {post : Int32 → Prop} {a : Nat} (hQ : 1 ≤ Q ∧ Q ≤ 3) (hS : 2 ≤ S ∧ S ≤ 5) (ha : a < Q * S) (hp : post (nI (a / S))) :
    ∀ m q, 1 ≤ q → q ≤ Q → Q < m + q → wX_ownerOf_4 post (nI a) (nI V) (nI W) (nI Q) (nI S) (nI (Q * S)) (nI (2 ^ W - 1)) (nI E) (nI rd) (nI qh) (nI qc) (nI C) fo ek ef et eo ec st ve qu qd m (nI (if a / S < q then a / S else q - 1)) (nI q) := by
  have hQS := zz_QS hQ hS
  have hd : a / S < Q := by rw [Nat.div_lt_iff_lt_mul (by omega)]; exact ha
  intro m
  induction m with
  | zero => intro q h0 h1 h2; omega
  | succ m ih =>
    intro q h0 h1 h2
    refine pk_le Q q (fun h => ?_) (fun h => ?_)
    · rw [if_pos (by omega)]; exact hp
    · have e : nI q * nI S = nI (q * S) := pk_mul _ _
      have hle : q * S ≤ Q * S := Nat.mul_le_mul_right S (by omega)
      have key := ih (q + 1) (by omega) (by omega) (by omega)
      rw [e]
      refine pk_lt a (q * S) (fun h3 => ?_) (fun h3 => ?_) rfl rfl (by omega) (by omega)
      · have h4 : a / S < q := by rw [Nat.div_lt_iff_lt_mul (by omega)]; exact h3
        rw [if_pos (by omega)] at key
        rw [if_pos h4]
        exact nm_r (nI_1 q) key
      · have h4 : q ≤ a / S := by rw [Nat.le_div_iff_mul_le (by omega)]; exact h3
        have e2 : (if a / S < q + 1 then a / S else q + 1 - 1) = q := by
          by_cases h5 : a / S < q + 1
          · rw [if_pos h5]; omega
          · rw [if_neg h5]; omega
        rw [e2] at key
        exact nm_r (nI_1 q) key
theorem xw_own {post : Int32 → Prop} {a : Nat} (hQ : 1 ≤ Q ∧ Q ≤ 3) (hS : 2 ≤ S ∧ S ≤ 5) (ha : a < Q * S) (hp : post (nI (a / S))) : wpX_ownerOf post (nI V, nI W, nI Q, nI S, nI (Q * S), nI (2 ^ W - 1), nI E, nI rd, nI qh, nI qc, nI C, fo, ek, ef, et, eo, ec, st, ve, qu, qd) (nI a) := by
  refine Exists.intro (Q + 1) ?_
  have h := xw_own_l (C := C) (W := W) (V := V) (st := st) (ve := ve) (fo := fo) (ek := ek) (ef := ef) (et := et) (eo := eo) (ec := ec) (qu := qu) (qd := qd) (E := E) (rd := rd) (qh := qh) (qc := qc) hQ hS ha hp (Q + 1) 1 (by omega) hQ.1 (by omega)
  have e : (if a / S < 1 then a / S else 1 - 1) = 0 := by
    by_cases h5 : a / S < 1
    · rw [if_pos h5]; exact Nat.lt_one_iff.mp h5
    · rw [if_neg h5]
  rw [e] at h; exact h
/-- the answer behind the points' tests -/
def zz_q (V Q E : Nat) (k o : Int32) : Int32 :=
  if (k = 1 ∨ k = 2) ∧ (o < 1 ∨ ¬ o ≤ nI V) then -1 else if k = 3 ∧ (o < 0 ∨ ¬ o < nI Q) then -1 else if E < 16 then 0 else -3
theorem xw_er99 {post : Int32 → Prop} (hE : E ≤ 16) (hp : post (if E < 16 then 0 else -3)) : wX_edgeRefusal_99 post (nI V) (nI W) (nI Q) (nI S) (nI (Q * S)) (nI (2 ^ W - 1)) (nI E) (nI rd) (nI qh) (nI qc) (nI C) fo ek ef et eo ec st ve qu qd := by
  unfold wX_edgeRefusal_99
  refine pk_lt E 16 (fun h => ?_) (fun h => ?_)
  · rw [if_pos h] at hp; exact hp
  · rw [if_neg (by omega)] at hp; exact hp
theorem xw_er78 {post : Int32 → Prop} {k o : Int32} (hE : E ≤ 16) (hp : post (if k = 3 ∧ (o < 0 ∨ ¬ o < nI Q) then -1 else if E < 16 then 0 else -3)) : wX_edgeRefusal_78 post k o (nI V) (nI W) (nI Q) (nI S) (nI (Q * S)) (nI (2 ^ W - 1)) (nI E) (nI rd) (nI qh) (nI qc) (nI C) fo ek ef et eo ec st ve qu qd := by
  unfold wX_edgeRefusal_78
  refine br_c (fun h3 => br_c (fun h0 => ?_) (fun h0 => br_c (fun h1 => ?_) (fun h1 => ?_))) (fun h3 => ?_)
  · rw [if_pos ⟨h3, Or.inl h0⟩] at hp; exact hp
  · rw [if_neg (fun z => z.2.elim h0 (fun y => y h1))] at hp; exact xw_er99 hE hp
  · rw [if_pos ⟨h3, Or.inr h1⟩] at hp; exact hp
  · rw [if_neg (fun z => h3 z.1)] at hp; exact xw_er99 hE hp
theorem xw_er61 {post : Int32 → Prop} {k o : Int32} (hE : E ≤ 16) (hk : k = 1 ∨ k = 2) (hp : post (zz_q V Q E k o)) : wX_edgeRefusal_61 post k o (nI V) (nI W) (nI Q) (nI S) (nI (Q * S)) (nI (2 ^ W - 1)) (nI E) (nI rd) (nI qh) (nI qc) (nI C) fo ek ef et eo ec st ve qu qd := by
  unfold zz_q at hp
  unfold wX_edgeRefusal_61
  refine br_c (fun h0 => ?_) (fun h0 => br_c (fun h1 => ?_) (fun h1 => ?_))
  · rw [if_pos ⟨hk, Or.inl h0⟩] at hp; exact hp
  · rw [if_neg (fun z => z.2.elim h0 (fun y => y h1))] at hp; exact xw_er78 hE hp
  · rw [if_pos ⟨hk, Or.inr h1⟩] at hp; exact hp
theorem xw_er_bad {post : Int32 → Prop} {k u v o : Int32} (hQS : Q * S ≤ 15) (h : k < 0 ∨ 3 < k ∨ (u < 0 ∨ nI (Q * S) ≤ u) ∨ (v < 0 ∨ nI (Q * S) ≤ v)) (hp : post (-1)) : wpX_edgeRefusal post (nI V, nI W, nI Q, nI S, nI (Q * S), nI (2 ^ W - 1), nI E, nI rd, nI qh, nI qc, nI C, fo, ek, ef, et, eo, ec, st, ve, qu, qd) k u v o := by
  unfold wpX_edgeRefusal; dsimp only
  refine br_c (fun _ => hp) (fun h0 => br_c (fun _ => hp) (fun h1 => ?_))
  rcases zz_p u hQS with hu | ⟨a, ha, rfl⟩
  · refine xw_ip0 hu ?_
    exact br_t rfl hp
  · refine xw_ip1 ha hQS ?_
    refine br_f (by decide) ?_
    rcases zz_p v hQS with hv | ⟨b, hb, rfl⟩
    · refine xw_ip0 hv ?_
      exact br_t rfl hp
    · exfalso
      rcases h with h | h | h | h
      · exact h0 h
      · exact h1 h
      · rcases h with h | h
        · exact nI_pos (by omega) h
        · exact nI_ge ha (by omega) h
      · rcases h with h | h
        · exact nI_pos (by omega) h
        · exact nI_ge hb (by omega) h
theorem xw_er_pt {post : Int32 → Prop} {k o : Int32} {a b : Nat} (hQ : 1 ≤ Q ∧ Q ≤ 3) (hS : 2 ≤ S ∧ S ≤ 5) (hE : E ≤ 16) (h0 : ¬ k < 0) (h1 : ¬ 3 < k) (ha : a < Q * S) (hb : b < Q * S)
    (hp : post (if a / S = b / S then zz_q V Q E k o else -7)) : wpX_edgeRefusal post (nI V, nI W, nI Q, nI S, nI (Q * S), nI (2 ^ W - 1), nI E, nI rd, nI qh, nI qc, nI C, fo, ek, ef, et, eo, ec, st, ve, qu, qd) k (nI a) (nI b) o := by
  have hQS := zz_QS hQ hS
  have da : a / S ≤ a := Nat.div_le_self _ _
  have db : b / S ≤ b := Nat.div_le_self _ _
  unfold wpX_edgeRefusal; dsimp only
  refine br_f h0 (br_f h1 ?_)
  refine xw_ip1 ha hQS.1 ?_
  refine br_f (by decide) ?_
  refine xw_ip1 hb hQS.1 ?_
  refine br_f (by decide) ?_
  refine xw_own hQ hS ha ?_
  refine xw_own hQ hS hb ?_
  refine pk_eq (a / S) (b / S) (fun e => ?_) (fun e => ?_) rfl rfl (by omega) (by omega)
  · rw [if_pos e] at hp
    refine br_c (fun k1 => xw_er61 hE (Or.inl k1) hp) (fun k1 => br_c (fun k2 => xw_er61 hE (Or.inr k2) hp) (fun k2 => xw_er78 hE ?_))
    unfold zz_q at hp
    rw [if_neg (fun z => z.1.elim k1 k2)] at hp; exact hp
  · rw [if_neg e] at hp; exact hp
theorem xw_ad_r {post : Int32 → SX → Prop} {k u v o r : Int32} (hr : ¬ r = 0) (h : ∀ post', post' r → wpX_edgeRefusal post' (nI V, nI W, nI Q, nI S, nI (Q * S), nI (2 ^ W - 1), nI E, nI rd, nI qh, nI qc, nI C, fo, ek, ef, et, eo, ec, st, ve, qu, qd) k u v o) (hp : post r (nI V, nI W, nI Q, nI S, nI (Q * S), nI (2 ^ W - 1), nI E, nI rd, nI qh, nI qc, nI C, fo, ek, ef, et, eo, ec, st, ve, qu, qd)) : wpX_addEdge post (nI V, nI W, nI Q, nI S, nI (Q * S), nI (2 ^ W - 1), nI E, nI rd, nI qh, nI qc, nI C, fo, ek, ef, et, eo, ec, st, ve, qu, qd) k u v o := by
  unfold wpX_addEdge; dsimp only
  refine h _ ?_
  exact br_f hr hp
theorem xw_ad_69 {post : Int32 → SX → Prop} {k : Int32} (hV : V ≤ 3) (hE : E < 16) (hp : post (nI E) (nI V, nI W, nI Q, nI S, nI (Q * S), nI (2 ^ W - 1), nI (E + 1), nI 0, nI qh, nI qc, nI C, fo, ek, ef, et, eo, xr_f ec (fun x => if k = 1 then fo (x - E * 4) else 0) (E * 4) (E * 4 + (V + 1)), st, ve, qu, qd)) :
    ∀ n i, i ≤ V + 1 → V + 1 < n + i → wX_addEdge_69 post k (nI E) (nI V) (nI W) (nI Q) (nI S) (nI (Q * S)) (nI (2 ^ W - 1)) (nI E) (nI rd) (nI qh) (nI qc) (nI C) n (nI i) fo ek ef et eo (xr_f ec (fun x => if k = 1 then fo (x - E * 4) else 0) (E * 4) (E * 4 + i)) st ve qu qd := by
  intro n
  induction n with
  | zero => intro i h1 h2; omega
  | succ n ih =>
    intro i h1 h2
    have e1 : nI E * 4 + nI i = nI (E * 4 + i) := by rw [show nI E * 4 = nI (E * 4) from pk_mul E 4, nI_add]
    refine pk_lt V i (fun h => ?_) (fun h => ?_)
    · have e : i = V + 1 := by omega
      subst e
      exact nm_r (nI_1 E) hp
    · have key := ih (i + 1) (by omega) (by omega)
      refine br_c (fun hk => ⟨vp_in_nI (by omega) (by omega), pk_in _ 64 (by omega) e1, nm_r (xr_s (by omega) (pk_cl _ e1) ?_) (nm_r (nI_1 i) key)⟩) (fun hk => ⟨pk_in _ 64 (by omega) e1, nm_r (xr_s (by omega) (pk_cl _ e1) ?_) (nm_r (nI_1 i) key)⟩)
      · rw [if_pos hk, nI_clamp (by omega), Nat.add_sub_cancel_left]
      · rw [if_neg hk]
theorem xw_ad_0 {post : Int32 → SX → Prop} {k u v o : Int32} (hV : V ≤ 3) (hE : E < 16) (h : ∀ post', post' 0 → wpX_edgeRefusal post' (nI V, nI W, nI Q, nI S, nI (Q * S), nI (2 ^ W - 1), nI E, nI rd, nI qh, nI qc, nI C, fo, ek, ef, et, eo, ec, st, ve, qu, qd) k u v o)
    (hp : post (nI E) (nI V, nI W, nI Q, nI S, nI (Q * S), nI (2 ^ W - 1), nI (E + 1), nI 0, nI qh, nI qc, nI C, fo, upd ek E k, upd ef E u, upd et E v, upd eo E (if k = 0 then 0 else o), xr_f ec (fun x => if k = 1 then fo (x - E * 4) else 0) (E * 4) (E * 4 + (V + 1)), st, ve, qu, qd)) : wpX_addEdge post (nI V, nI W, nI Q, nI S, nI (Q * S), nI (2 ^ W - 1), nI E, nI rd, nI qh, nI qc, nI C, fo, ek, ef, et, eo, ec, st, ve, qu, qd) k u v o := by
  have hc : (nI E).toNatClampNeg = E := nI_clamp (by omega)
  have hin : vp_in (nI E) 16 := vp_in_nI (by omega) (by omega)
  unfold wpX_addEdge; dsimp only
  refine h _ ?_
  refine br_t rfl ?_
  rw [hc]
  refine ⟨hin, nm_e ⟨hin, nm_e ⟨hin, nm_e (br_c (fun hk => ⟨hin, nm_e (Exists.intro (V + 2) ?_)⟩) (fun hk => ⟨hin, nm_e (Exists.intro (V + 2) ?_)⟩))⟩⟩⟩
  · rw [if_pos hk] at hp
    have key := xw_ad_69 (rd := rd) (ec := ec) (fo := fo) hV hE hp (V + 2) 0 (by omega) (by omega)
    simp only [Nat.add_zero, xr_0] at key; exact key
  · rw [if_neg hk] at hp
    have key := xw_ad_69 (rd := rd) (ec := ec) (fo := fo) hV hE hp (V + 2) 0 (by omega) (by omega)
    simp only [Nat.add_zero, xr_0] at key; exact key
/-! the same in Y -/
theorem yw_ad_175 {post : Int32 → SY → Prop} {k : Int32} (hV : V ≤ 3) (hE : E < 16) (hp : post (nI E) (nI V, nI W, nI Q, nI S, nI (2 ^ (V * W)), nI (2 ^ W - 1), nI (E + 1), nI 0, fo, ek, ef, et, eo, xr_f ec (fun x => if k = 1 then fo (x - E * 4) else 0) (E * 4) (E * 4 + (V + 1)), lv, rc)) :
    ∀ n i, i ≤ V + 1 → V + 1 < n + i → wY_addEdge_175 post k (nI V) (nI W) (nI Q) (nI S) (nI (2 ^ (V * W))) (nI (2 ^ W - 1)) (nI E) (nI rd) n (nI i) fo ek ef et eo (xr_f ec (fun x => if k = 1 then fo (x - E * 4) else 0) (E * 4) (E * 4 + i)) lv rc := by
  intro n
  induction n with
  | zero => intro i h1 h2; omega
  | succ n ih =>
    intro i h1 h2
    have e1 : nI E * 4 + nI i = nI (E * 4 + i) := by rw [show nI E * 4 = nI (E * 4) from pk_mul E 4, nI_add]
    refine pk_lt V i (fun h => ?_) (fun h => ?_)
    · have e : i = V + 1 := by omega
      subst e
      refine nm_r (nI_1 E) ?_
      rw [nI_pred]; exact hp
    · have key := ih (i + 1) (by omega) (by omega)
      refine br_c (fun hk => ⟨vp_in_nI (by omega) (by omega), pk_in _ 64 (by omega) e1, nm_r (xr_s (by omega) (pk_cl _ e1) ?_) (nm_r (nI_1 i) key)⟩) (fun hk => ⟨pk_in _ 64 (by omega) e1, nm_r (xr_s (by omega) (pk_cl _ e1) ?_) (nm_r (nI_1 i) key)⟩)
      · rw [if_pos hk, nI_clamp (by omega), Nat.add_sub_cancel_left]
      · rw [if_neg hk]
theorem yw_ad_111 {post : Int32 → SY → Prop} {k u v o : Int32} (hV : V ≤ 3) (hE : E ≤ 16) (h3 : ¬ E < 16 → post (-3) (nI V, nI W, nI Q, nI S, nI (2 ^ (V * W)), nI (2 ^ W - 1), nI E, nI rd, fo, ek, ef, et, eo, ec, lv, rc))
    (hp : E < 16 → post (nI E) (nI V, nI W, nI Q, nI S, nI (2 ^ (V * W)), nI (2 ^ W - 1), nI (E + 1), nI 0, fo, upd ek E k, upd ef E u, upd et E v, upd eo E (if k = 0 then 0 else o), xr_f ec (fun x => if k = 1 then fo (x - E * 4) else 0) (E * 4) (E * 4 + (V + 1)), lv, rc)) : wY_addEdge_111 post k u v o (nI V) (nI W) (nI Q) (nI S) (nI (2 ^ (V * W))) (nI (2 ^ W - 1)) (nI E) (nI rd) fo ek ef et eo ec lv rc := by
  have hc : (nI E).toNatClampNeg = E := nI_clamp (by omega)
  unfold wY_addEdge_111
  rw [hc]
  refine pk_lt E 16 (fun h => ?_) (fun h => h3 (by omega))
  have hp := hp h
  have hin : vp_in (nI E) 16 := vp_in_nI (by omega) (by omega)
  refine ⟨hin, nm_e ⟨hin, nm_e ⟨hin, nm_e (br_c (fun hk => ⟨hin, nm_e (Exists.intro (V + 2) ?_)⟩) (fun hk => ⟨hin, nm_e (Exists.intro (V + 2) ?_)⟩))⟩⟩⟩
  · rw [if_pos hk] at hp
    have key := yw_ad_175 (rd := rd) (ec := ec) (fo := fo) hV h hp (V + 2) 0 (by omega) (by omega)
    simp only [Nat.add_zero, xr_0] at key; exact key
  · rw [if_neg hk] at hp
    have key := yw_ad_175 (rd := rd) (ec := ec) (fo := fo) hV h hp (V + 2) 0 (by omega) (by omega)
    simp only [Nat.add_zero, xr_0] at key; exact key
theorem yw_ad_90 {post : Int32 → SY → Prop} {k u v o : Int32} (hb : (k = 3 ∧ (o < 0 ∨ ¬ o < nI Q)) → post (-1) (nI V, nI W, nI Q, nI S, nI (2 ^ (V * W)), nI (2 ^ W - 1), nI E, nI rd, fo, ek, ef, et, eo, ec, lv, rc)) (hp : ¬ (k = 3 ∧ (o < 0 ∨ ¬ o < nI Q)) → wY_addEdge_111 post k u v o (nI V) (nI W) (nI Q) (nI S) (nI (2 ^ (V * W))) (nI (2 ^ W - 1)) (nI E) (nI rd) fo ek ef et eo ec lv rc) : wY_addEdge_90 post k u v o (nI V) (nI W) (nI Q) (nI S) (nI (2 ^ (V * W))) (nI (2 ^ W - 1)) (nI E) (nI rd) fo ek ef et eo ec lv rc := by
  unfold wY_addEdge_90
  refine br_c (fun h3 => br_c (fun h0 => hb ⟨h3, Or.inl h0⟩) (fun h0 => br_c (fun h1 => hp (fun z => z.2.elim h0 (fun y => y h1))) (fun h1 => hb ⟨h3, Or.inr h1⟩))) (fun h3 => hp (fun z => h3 z.1))
theorem yw_ad_73 {post : Int32 → SY → Prop} {k u v o : Int32} (hb : (o < 1 ∨ ¬ o ≤ nI V) → post (-1) (nI V, nI W, nI Q, nI S, nI (2 ^ (V * W)), nI (2 ^ W - 1), nI E, nI rd, fo, ek, ef, et, eo, ec, lv, rc)) (hp : ¬ (o < 1 ∨ ¬ o ≤ nI V) → wY_addEdge_90 post k u v o (nI V) (nI W) (nI Q) (nI S) (nI (2 ^ (V * W))) (nI (2 ^ W - 1)) (nI E) (nI rd) fo ek ef et eo ec lv rc) : wY_addEdge_73 post k u v o (nI V) (nI W) (nI Q) (nI S) (nI (2 ^ (V * W))) (nI (2 ^ W - 1)) (nI E) (nI rd) fo ek ef et eo ec lv rc := by
  unfold wY_addEdge_73
  exact br_c (fun h0 => hb (Or.inl h0)) (fun h0 => br_c (fun h1 => hp (fun z => z.elim h0 (fun y => y h1))) (fun h1 => hb (Or.inr h1)))
theorem yw_ad_bad {post : Int32 → SY → Prop} {k u v o : Int32} (h : k < 0 ∨ 3 < k ∨ (u < 0 ∨ nI (Q * S) ≤ u) ∨ (v < 0 ∨ nI (Q * S) ≤ v)) (hp : post (-1) (nI V, nI W, nI Q, nI S, nI (2 ^ (V * W)), nI (2 ^ W - 1), nI E, nI rd, fo, ek, ef, et, eo, ec, lv, rc)) : wpY_addEdge post (nI V, nI W, nI Q, nI S, nI (2 ^ (V * W)), nI (2 ^ W - 1), nI E, nI rd, fo, ek, ef, et, eo, ec, lv, rc) k u v o := by
  have e1 : nI Q * nI S = nI (Q * S) := pk_mul _ _
  unfold wpY_addEdge; dsimp only
  rw [e1]
  refine br_c (fun _ => hp) (fun h0 => br_c (fun _ => hp) (fun h1 => br_c (fun _ => hp) (fun h2 => br_c (fun _ => hp) (fun h3 => br_c (fun _ => hp) (fun h4 => br_f (fun h5 => ?_) hp)))))
  rcases h with h | h | h | h
  · exact h0 h
  · exact h1 h
  · rcases h with h | h
    · exact h2 h
    · exact h3 h
  · rcases h with h | h
    · exact h4 h
    · exact (Int32.not_lt.mpr h) h5
theorem yw_ad_pt {post : Int32 → SY → Prop} {k o : Int32} {a b : Nat} (hV : V ≤ 3) (hQ : 1 ≤ Q ∧ Q ≤ 3) (hS : 2 ≤ S ∧ S ≤ 5) (hE : E ≤ 16) (h0 : ¬ k < 0) (h1 : ¬ 3 < k) (ha : a < Q * S) (hb : b < Q * S)
    (hx : ¬ (if a / S = b / S then zz_q V Q E k o else -7) = 0 → post (if a / S = b / S then zz_q V Q E k o else -7) (nI V, nI W, nI Q, nI S, nI (2 ^ (V * W)), nI (2 ^ W - 1), nI E, nI rd, fo, ek, ef, et, eo, ec, lv, rc))
    (hp : (if a / S = b / S then zz_q V Q E k o else -7) = 0 → post (nI E) (nI V, nI W, nI Q, nI S, nI (2 ^ (V * W)), nI (2 ^ W - 1), nI (E + 1), nI 0, fo, upd ek E k, upd ef E (nI a), upd et E (nI b), upd eo E (if k = 0 then 0 else o), xr_f ec (fun x => if k = 1 then fo (x - E * 4) else 0) (E * 4) (E * 4 + (V + 1)), lv, rc)) :
    wpY_addEdge post (nI V, nI W, nI Q, nI S, nI (2 ^ (V * W)), nI (2 ^ W - 1), nI E, nI rd, fo, ek, ef, et, eo, ec, lv, rc) k (nI a) (nI b) o := by
  have hQS := zz_QS hQ hS
  have e1 : nI Q * nI S = nI (Q * S) := pk_mul _ _
  have da : a / S ≤ a := Nat.div_le_self _ _
  have db : b / S ≤ b := Nat.div_le_self _ _
  have hs0 : ¬ nI S = 0 := nI_ne0 (by omega) (by omega)
  unfold wpY_addEdge; dsimp only
  rw [e1, pk_div (by omega) (by omega) (by omega), pk_div (by omega) (by omega) (by omega)]
  refine br_f h0 (br_f h1 (br_f (nI_pos (by omega)) (br_f (nI_ge ha (by omega)) (br_f (nI_pos (by omega)) (br_t (nI_lt hb (by omega)) ⟨hs0, hs0, ?_⟩)))))
  refine pk_eq (a / S) (b / S) (fun e => ?_) (fun e => ?_) rfl rfl (by omega) (by omega)
  · rw [if_pos e] at hx hp
    have go : ¬ ((k = 1 ∨ k = 2) ∧ (o < 1 ∨ ¬ o ≤ nI V)) → wY_addEdge_90 post k (nI a) (nI b) o (nI V) (nI W) (nI Q) (nI S) (nI (2 ^ (V * W))) (nI (2 ^ W - 1)) (nI E) (nI rd) fo ek ef et eo ec lv rc := by
      intro g
      unfold zz_q at hx hp
      rw [if_neg g] at hx hp
      refine yw_ad_90 (fun g3 => ?_) (fun g3 => ?_)
      · rw [if_pos g3] at hx; exact hx (by decide)
      · rw [if_neg g3] at hx hp
        refine yw_ad_111 hV hE (fun g4 => ?_) (fun g4 => ?_)
        · rw [if_neg g4] at hx; exact hx (by decide)
        · rw [if_pos g4] at hp; exact hp rfl
    have bad : ((k = 1 ∨ k = 2) ∧ (o < 1 ∨ ¬ o ≤ nI V)) → post (-1) (nI V, nI W, nI Q, nI S, nI (2 ^ (V * W)), nI (2 ^ W - 1), nI E, nI rd, fo, ek, ef, et, eo, ec, lv, rc) := by
      intro g
      unfold zz_q at hx
      rw [if_pos g] at hx; exact hx (by decide)
    refine br_c (fun k1 => yw_ad_73 (fun g => bad ⟨Or.inl k1, g⟩) (fun g => go (fun z => g z.2))) (fun k1 => br_c (fun k2 => yw_ad_73 (fun g => bad ⟨Or.inr k2, g⟩) (fun g => go (fun z => g z.2))) (fun k2 => go (fun z => z.1.elim k1 k2)))
  · rw [if_neg e] at hx; exact hx (by decide)
end
theorem zz_q0 {V Q E : Nat} {k o : Int32} (h : zz_q V Q E k o = 0) : E < 16 ∧ ¬ ((k = 1 ∨ k = 2) ∧ (o < 1 ∨ ¬ o ≤ nI V)) ∧ ¬ (k = 3 ∧ (o < 0 ∨ ¬ o < nI Q)) := by
  unfold zz_q at h
  by_cases g1 : (k = 1 ∨ k = 2) ∧ (o < 1 ∨ ¬ o ≤ nI V)
  · rw [if_pos g1] at h; exact absurd h (by decide)
  · rw [if_neg g1] at h
    by_cases g2 : k = 3 ∧ (o < 0 ∨ ¬ o < nI Q)
    · rw [if_pos g2] at h; exact absurd h (by decide)
    · rw [if_neg g2] at h
      by_cases g3 : E < 16
      · exact ⟨g3, g1, g2⟩
      · rw [if_neg g3] at h; exact absurd h (by decide)
theorem zz_wfs {V Q S E : Nat} {ek ef et eo : Nat → Int32} {k o : Int32} {a b : Nat} (hV : V ≤ 3) (hQ : Q ≤ 3) (hP : Q * S ≤ 15) (hw : xe_wf V Q S E ek ef et eo (fun e => (ek e).toNatClampNeg) (fun e => (ef e).toNatClampNeg) (fun e => (et e).toNatClampNeg) (fun e => (eo e).toNatClampNeg)) (h0 : ¬ k < 0) (h1 : ¬ 3 < k) (ha : a < Q * S) (hb : b < Q * S)
    (g1 : ¬ ((k = 1 ∨ k = 2) ∧ (o < 1 ∨ ¬ o ≤ nI V))) (g2 : ¬ (k = 3 ∧ (o < 0 ∨ ¬ o < nI Q))) :
    xe_wf V Q S (E + 1) (upd ek E k) (upd ef E (nI a)) (upd et E (nI b)) (upd eo E (if k = 0 then 0 else o)) (fun e => (upd ek E k e).toNatClampNeg) (fun e => (upd ef E (nI a) e).toNatClampNeg) (fun e => (upd et E (nI b) e).toNatClampNeg) (fun e => (upd eo E (if k = 0 then 0 else o) e).toNatClampNeg) := by
  intro e he
  by_cases ee : e = E
  · subst ee
    dsimp only
    rw [pk_us, pk_us, pk_us, pk_us]
    obtain ⟨j, hj, rfl⟩ := nI_of h0
    have hj3 : j ≤ 3 := by
      have := Int32.not_lt.mp h1
      have h4 : nI j ≤ nI 3 := this
      rw [nI_leI hj (by omega)] at h4; exact h4
    have ho : ∃ x, x ≤ 3 ∧ (if nI j = 0 then 0 else o) = nI x ∧ ((j = 1 ∨ j = 2) → 1 ≤ x ∧ x ≤ V) ∧ (j = 3 → x < Q) := by
      by_cases hj0 : j = 0
      · subst hj0; exact ⟨0, by omega, if_pos nI_0, fun z => by omega, fun z => by omega⟩
      · have hne : ¬ nI j = 0 := nI_ne0 (by omega) hj
        rw [if_neg hne]
        by_cases hj3' : j = 3
        · subst hj3'
          have p0 : ¬ o < 0 := fun z => g2 ⟨rfl, Or.inl z⟩
          have p1 : o < nI Q := Classical.byContradiction (fun z => g2 ⟨rfl, Or.inr z⟩)
          obtain ⟨x, hx, rfl⟩ := nI_of p0
          rw [nI_ltI hx (by omega)] at p1
          exact ⟨x, by omega, rfl, fun z => by omega, fun _ => p1⟩
        · have hk : nI j = 1 ∨ nI j = 2 := by
            rcases (show j = 1 ∨ j = 2 by omega) with rfl | rfl
            · exact Or.inl rfl
            · exact Or.inr rfl
          have p0 : ¬ o < 1 := fun z => g1 ⟨hk, Or.inl z⟩
          have p1 : o ≤ nI V := Classical.byContradiction (fun z => g1 ⟨hk, Or.inr z⟩)
          have p2 : ¬ o < 0 := fun z => p0 (Int32.lt_trans z (by decide))
          obtain ⟨x, hx, rfl⟩ := nI_of p2
          rw [nI_leI hx (by omega)] at p1
          have p3 : 1 ≤ x := by
            rcases Nat.eq_zero_or_pos x with z | z
            · rw [z] at p0; exact absurd (by decide) p0
            · exact z
          exact ⟨x, by omega, rfl, fun _ => ⟨p3, p1⟩, fun z => absurd z hj3'⟩
    obtain ⟨x, x1, x2, x3, x4⟩ := ho
    rw [x2, nI_clamp (by omega), nI_clamp (by omega), nI_clamp (by omega), nI_clamp (by omega)]
    exact ⟨rfl, rfl, rfl, rfl, hj3, ha, hb, x1, x3, x4⟩
  · dsimp only
    rw [pk_un ee, pk_un ee, pk_un ee, pk_un ee]
    exact hw e (by omega)
theorem i_vc_addEdge {k : Nat} {u : SX} {v : SY} (I : i_Rel k u v) (hk : k + 5 ≤ 2564) (v1 : Int32) (v2 : Int32) (v3 : Int32) (v4 : Int32) : wpX_addEdge (fun r u' => wpY_addEdge (fun r' v' => r' = r ∧ i_Rel (k + 5) u' v') v v1 v2 v3 v4) u v1 v2 v3 v4 := by
  refine zz_el (P := fun u v => wpX_addEdge (fun r u' => wpY_addEdge (fun r' v' => r' = r ∧ i_Rel (k + 5) u' v') v v1 v2 v3 v4) u v1 v2 v3 v4) ?_ I
  intro V W Q S E rd qh C fo ek ef et eo ec st ve qu qd lv rc F
  have ok := fun (x : Int32) => (⟨rfl, zz_in F⟩ : x = x ∧ i_Rel (k + 5) (nI V, nI W, nI Q, nI S, nI (Q * S), nI (2 ^ W - 1), nI E, nI rd, nI qh, nI 0, nI C, fo, ek, ef, et, eo, ec, st, ve, qu, qd) (nI V, nI W, nI Q, nI S, nI (2 ^ (V * W)), nI (2 ^ W - 1), nI E, nI rd, fo, ek, ef, et, eo, ec, lv, rc))
  obtain ⟨hV, hW, hVW, hQ, hS, hE, hrd, hw, hK, hok⟩ := F
  have hQS := zz_QS hQ hS
  by_cases hbad : v1 < 0 ∨ 3 < v1 ∨ (v2 < 0 ∨ nI (Q * S) ≤ v2) ∨ (v3 < 0 ∨ nI (Q * S) ≤ v3)
  · exact xw_ad_r (qc := 0) (r := -1) (by decide) (fun post' hp => xw_er_bad hQS.1 hbad hp) (yw_ad_bad hbad (ok _))
  · have h0 : ¬ v1 < 0 := fun z => hbad (Or.inl z)
    have h1 : ¬ 3 < v1 := fun z => hbad (Or.inr (Or.inl z))
    obtain ⟨a, ha, rfl⟩ := (zz_p v2 hQS.1).resolve_left (fun z => hbad (Or.inr (Or.inr (Or.inl z))))
    obtain ⟨b, hb, rfl⟩ := (zz_p v3 hQS.1).resolve_left (fun z => hbad (Or.inr (Or.inr (Or.inr z))))
    by_cases hr : (if a / S = b / S then zz_q V Q E v1 v4 else -7) = 0
    · have hc : a / S = b / S := by
        by_cases e : a / S = b / S
        · exact e
        · rw [if_neg e] at hr; exact absurd hr (by decide)
      have hq : zz_q V Q E v1 v4 = 0 := by rw [if_pos hc] at hr; exact hr
      obtain ⟨hE16, g1, g2⟩ := zz_q0 hq
      refine xw_ad_0 (qc := 0) hV.2 hE16 (fun post' hp => xw_er_pt hQ hS hE h0 h1 ha hb (by rw [hr]; exact hp)) ?_
      refine yw_ad_pt hV.2 hQ hS hE h0 h1 ha hb (fun z => absurd hr z) (fun _ => ⟨rfl, ?_⟩)
      exact zz_in (E := E + 1) (rd := 0) ⟨hV, hW, hVW, hQ, hS, by omega, by omega, zz_wfs hV.2 hQ.2 hQS.1 hw h0 h1 ha hb g1 g2, xq_ok0 hK, fun z => by omega⟩
    · exact xw_ad_r (qc := 0) hr (fun post' hp => xw_er_pt hQ hS hE h0 h1 ha hb hp) (yw_ad_pt hV.2 hQ hS hE h0 h1 ha hb (fun _ => ok _) (fun z => absurd z hr))
end
