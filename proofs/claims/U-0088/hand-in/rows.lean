section
/-! pure rows to paste: stores, nI and lN arithmetic, masks, shifts, narrowing, branches by naturals (pk_le, pk_lt, pk_eq), loops (lp1 .. lp16: the measure of the state; rp1 ..: recursion), negatives. Take what you need -/
theorem pk_us {f : Nat → Int32} {k : Nat} {x : Int32} : upd f k x k = x := if_pos rfl
theorem pk_un {f : Nat → Int32} {k j : Nat} {x : Int32} (h : j ≠ k) : upd f k x j = f j := if_neg h
theorem pk_uLs {f : Nat → Int64} {k : Nat} {x : Int64} : vp_updL f k x k = x := if_pos rfl
theorem pk_uLn {f : Nat → Int64} {k j : Nat} {x : Int64} (h : j ≠ k) : vp_updL f k x j = f j := if_neg h
theorem pk_sub {a b : Nat} (h : b ≤ a) : nI a - nI b = nI (a - b) := by
  obtain ⟨c, rfl⟩ : ∃ c, a = c + b := ⟨a - b, by omega⟩
  rw [← nI_add, Int32.add_sub_cancel, Nat.add_sub_cancel]
theorem pk_m1 (n : Nat) : nI (n + 1) + (-1) = nI n := by
  rw [← nI_1, Int32.add_assoc, show (1 : Int32) + (-1) = 0 from rfl, Int32.add_zero]
theorem pk_mul (a b : Nat) : nI a * nI b = nI (a * b) := (Int32.ofNat_mul a b).symm
theorem pk_div {a d : Nat} (ha : a < 2 ^ 31) (h0 : 0 < d) (hd : d < 2 ^ 31) : nI a / nI d = nI (a / d) := by
  apply Int32.toInt_inj.mp
  rw [lg_idiv_nonneg (by rw [nI_toInt ha]; omega) (by rw [nI_toInt hd]; omega), nI_toInt ha, nI_toInt hd, nI_toInt (Nat.lt_of_le_of_lt (Nat.div_le_self a d) ha)]
  first | rfl | exact (Int.natCast_ediv _ _).symm
theorem pk_rem {a d : Nat} (ha : a < 2 ^ 31) (h0 : 0 < d) (hd : d < 2 ^ 31) : nI a - nI a / nI d * nI d = nI (a % d) := by
  rw [pk_div ha h0 hd, pk_mul, pk_sub (Nat.div_mul_le_self a d)]
  exact congrArg nI (by have := Nat.div_add_mod' a d; omega)
theorem pk_sub_toInt {a b : Nat} (ha : a < 2 ^ 30) (hb : b < 2 ^ 30) : (nI a - nI b).toInt = (a : Int) - b := by
  rw [Int32.toInt_sub, nI_toInt (by omega), nI_toInt (by omega)]
  exact Int.bmod_eq_of_le (by omega) (by omega)
theorem pk_sneg {a b : Nat} (hb : b < 2 ^ 30) (h : a < b) : nI a - nI b < 0 := by
  rw [Int32.lt_iff_toInt_lt, pk_sub_toInt (by omega) hb, show (0 : Int32).toInt = 0 from by decide]
  omega
theorem pk_ix (x : Int32) {n : Nat} (hn : n < 2 ^ 31) : x < 0 ∨ nI n ≤ x ∨ ∃ j : Nat, j < n ∧ x = nI j := by
  by_cases h : x < 0
  · exact Or.inl h
  · obtain ⟨j, hj, rfl⟩ := nI_of h
    by_cases h2 : j < n
    · exact Or.inr (Or.inr ⟨j, h2, rfl⟩)
    · exact Or.inr (Or.inl (nI_le (by omega) hj))
theorem pk_le {x y : Int32} {A B : Prop} (a b : Nat) (f : a ≤ b → A) (g : b < a → B) (hx : x = nI a := by rfl) (hy : y = nI b := by rfl) (ha : a < 2 ^ 31 := by omega) (hb : b < 2 ^ 31 := by omega) : (x ≤ y → A) ∧ (¬ x ≤ y → B) := by
  subst hx hy
  rw [nI_leI ha hb]
  exact ⟨f, fun z => g (by omega)⟩
theorem pk_lt {x y : Int32} {A B : Prop} (a b : Nat) (f : a < b → A) (g : b ≤ a → B) (hx : x = nI a := by rfl) (hy : y = nI b := by rfl) (ha : a < 2 ^ 31 := by omega) (hb : b < 2 ^ 31 := by omega) : (x < y → A) ∧ (¬ x < y → B) := by
  subst hx hy
  rw [nI_ltI ha hb]
  exact ⟨f, fun z => g (by omega)⟩
theorem pk_eq {x y : Int32} {A B : Prop} (a b : Nat) (f : a = b → A) (g : a ≠ b → B) (hx : x = nI a := by rfl) (hy : y = nI b := by rfl) (ha : a < 2 ^ 31 := by omega) (hb : b < 2 ^ 31 := by omega) : (x = y → A) ∧ (¬ x = y → B) := by
  subst hx hy
  rw [nI_eq ha hb]
  exact ⟨f, g⟩
theorem pk_in {x : Int32} (n N : Nat) (h : n < N) (hx : x = nI n := by rfl) (hN : N < 2 ^ 31 := by omega) : vp_in x N := by
  subst hx
  exact vp_in_nI h hN
theorem pk_cl {x : Int32} (n : Nat) (hx : x = nI n := by rfl) (h : n < 2 ^ 31 := by omega) : x.toNatClampNeg = n := by
  subst hx
  exact nI_clamp h
theorem pk_tn {n : Nat} (h : n < 2 ^ 32) : (nI n).toBitVec.toNat = n := Nat.mod_eq_of_lt h
theorem pk_and (x : Int32) {m : Int32} (k : Nat) (hm : m.toBitVec.toNat = 2 ^ k - 1) : x &&& m = nI (x.toBitVec.toNat % 2 ^ k) := by
  apply Int32.toBitVec_inj.mp
  apply BitVec.eq_of_toNat_eq
  rw [Int32.toBitVec_and, BitVec.toNat_and, hm, Nat.and_two_pow_sub_one_eq_mod]
  show _ = (BitVec.ofNat 32 _).toNat
  rw [BitVec.toNat_ofNat]
  exact (Nat.mod_eq_of_lt (Nat.lt_of_le_of_lt (Nat.mod_le _ _) x.toBitVec.isLt)).symm
theorem pk_andN {n : Nat} (h : n < 2 ^ 32) {m : Int32} (k : Nat) (hm : m.toBitVec.toNat = 2 ^ k - 1) : nI n &&& m = nI (n % 2 ^ k) := by
  rw [pk_and _ k hm, pk_tn h]
theorem pk_andE (x : Int32) {m : Int32} (k : Nat) (hm : m.toBitVec.toNat = 2 ^ k - 1) : ∃ j : Nat, j < 2 ^ k ∧ x &&& m = nI j := ⟨_, Nat.mod_lt _ (Nat.two_pow_pos k), pk_and x k hm⟩
theorem pk_andIn (x : Int32) {m : Int32} (k : Nat) (hm : m.toBitVec.toNat = 2 ^ k - 1) (hk : k ≤ 30) : vp_in (x &&& m) (2 ^ k) := by
  obtain ⟨j, hj, e⟩ := pk_andE x k hm
  rw [e]
  exact vp_in_nI hj (Nat.lt_of_le_of_lt (Nat.pow_le_pow_right (by decide) hk) (by decide))
theorem pk_shl (a s : Int32) (k : Nat) (hs : (s.toBitVec.smod 32).toNat = k) : (a <<< s).toBitVec.toNat = a.toBitVec.toNat * 2 ^ k % 2 ^ 32 := by
  show (a.toBitVec <<< (s.toBitVec.smod 32).toNat).toNat = _
  rw [hs, BitVec.toNat_shiftLeft, Nat.shiftLeft_eq]
theorem pk_shlN {n : Nat} (s : Int32) (k : Nat) (hs : (s.toBitVec.smod 32).toNat = k) (h : n * 2 ^ k < 2 ^ 32) : nI n <<< s = nI (n * 2 ^ k) := by
  apply Int32.toBitVec_inj.mp
  apply BitVec.eq_of_toNat_eq
  have hn : n < 2 ^ 32 := Nat.lt_of_le_of_lt (Nat.le_mul_of_pos_right n (Nat.two_pow_pos k)) h
  rw [pk_shl _ _ k hs, pk_tn hn, pk_tn h, Nat.mod_eq_of_lt h]
theorem pk_shr (a s : Int32) (k : Nat) (hs : (s.toBitVec.smod 32).toNat = k) : (a >>> s).toInt = a.toInt >>> k := by
  show (a.toBitVec.sshiftRight (s.toBitVec.smod 32).toNat).toInt = _
  rw [hs, BitVec.toInt_sshiftRight]
  rfl
theorem pk_shrN {n : Nat} (h : n < 2 ^ 31) (s : Int32) (k : Nat) (hs : (s.toBitVec.smod 32).toNat = k) : nI n >>> s = nI (n / 2 ^ k) := by
  apply Int32.toInt_inj.mp
  have h2 : n / 2 ^ k ≤ n := Nat.div_le_self _ _
  rw [pk_shr _ _ k hs, nI_toInt h, nI_toInt (by omega), Int.shiftRight_eq_div_pow]
  rfl
theorem pk_ushr (x s : Int32) (k : Nat) (hs : ((s.toUInt32 &&& Int32.toUInt32 31).toBitVec % 32).toNat = k) : (x.toUInt32 >>> (s.toUInt32 &&& Int32.toUInt32 31)).toInt32.toBitVec.toNat = x.toBitVec.toNat / 2 ^ k := by
  have e : (x.toUInt32 >>> (s.toUInt32 &&& Int32.toUInt32 31)).toInt32.toBitVec = x.toBitVec >>> k := by
    rw [← hs]
    exact UInt32.toBitVec_shiftRight _ _
  rw [e, BitVec.toNat_ushiftRight, Nat.shiftRight_eq_div_pow]
theorem pk_ushrN {n : Nat} (hn : n < 2 ^ 32) (s : Int32) (k : Nat) (hs : ((s.toUInt32 &&& Int32.toUInt32 31).toBitVec % 32).toNat = k) : ((nI n).toUInt32 >>> (s.toUInt32 &&& Int32.toUInt32 31)).toInt32 = nI (n / 2 ^ k) := by
  apply Int32.toBitVec_inj.mp
  apply BitVec.eq_of_toNat_eq
  rw [pk_ushr _ s k hs, pk_tn hn, pk_tn (Nat.lt_of_le_of_lt (Nat.div_le_self _ _) hn)]
theorem pk_nb (z : Int32) : narrow .byte (.int z.toInt8.toInt32) = .int z.toInt8.toInt32 := congrArg Value.int (by simp)
theorem pk_ns (z : Int32) : narrow .short (.int z.toInt16.toInt32) = .int z.toInt16.toInt32 := congrArg Value.int (by simp)
theorem pk_fb (r : Int32) : fits .byte (.int r.toInt8.toInt32) = true := by
  have ⟨a, b⟩ := lg_i2b_range r
  have h1 : (-128 : Int32).toInt = -128 := by decide
  have h2 : (127 : Int32).toInt = 127 := by decide
  simp only [fits, Bool.and_eq_true, decide_eq_true_eq, Int32.le_iff_toInt_le, h1, h2]
  omega
theorem pk_fs (r : Int32) : fits .short (.int r.toInt16.toInt32) = true := by
  have ⟨a, b⟩ := lg_i2s_range r
  have h1 : (-32768 : Int32).toInt = -32768 := by decide
  have h2 : (32767 : Int32).toInt = 32767 := by decide
  simp only [fits, Bool.and_eq_true, decide_eq_true_eq, Int32.le_iff_toInt_le, h1, h2]
  omega
theorem pk_charN {q : Nat} (hq : q < 65536) : narrow .char (.int (nI q)) = .int (nI q) ∧ fits .char (.int (nI q)) = true := by
  constructor
  · have e : (nI q).toUInt32.toUInt16.toUInt32.toInt32 = nI q := by
      apply Int32.toBitVec_inj.mp
      apply BitVec.eq_of_toNat_eq
      show (nI q).toUInt32.toUInt16.toUInt32.toNat = q % 2 ^ 32
      rw [UInt16.toNat_toUInt32, UInt32.toNat_toUInt16, show (nI q).toUInt32.toNat = q % 2 ^ 32 from rfl]
      omega
    exact congrArg Value.int e
  · have a : (0 : Int32) ≤ nI q := nI_pos' (by omega)
    have b : nI q ≤ 65535 := nI_le (b := 65535) (by omega) (by decide)
    show (decide ((0 : Int32) ≤ nI q) && decide (nI q ≤ 65535)) = true
    rw [decide_eq_true a, decide_eq_true b]
    rfl
theorem pk_char (x : Int32) : (x.toUInt32 % 65536).toInt32 = nI (x.toBitVec.toNat % 65536) := by
  apply Int32.toBitVec_inj.mp
  apply BitVec.eq_of_toNat_eq
  rw [pk_tn (by omega)]
  show (x.toUInt32 % 65536).toNat = _
  rw [UInt32.toNat_mod]
  rfl
theorem pk_nc (x : Int32) : narrow .char (.int (x.toUInt32 % 65536).toInt32) = .int (x.toUInt32 % 65536).toInt32 := by
  rw [pk_char]
  exact (pk_charN (Nat.mod_lt _ (by decide))).1
theorem pk_fc (x : Int32) : fits .char (.int (x.toUInt32 % 65536).toInt32) = true := by
  rw [pk_char]
  exact (pk_charN (Nat.mod_lt _ (by decide))).2
theorem pk_vb (z : Int32) : vp_nar .byte z.toInt8.toInt32 = z.toInt8.toInt32 := by rw [vp_nar_byte]; simp
theorem pk_vs (z : Int32) : vp_nar .short z.toInt16.toInt32 = z.toInt16.toInt32 := by rw [vp_nar_short]; simp
theorem pk_vc (z : Int32) : vp_nar .char (z.toUInt32 % 65536).toInt32 = (z.toUInt32 % 65536).toInt32 := Value.int.inj (pk_nc z)
theorem pk_lT {n : Nat} (h : n < 2 ^ 63) : (lN n).toInt = (n : Int) := lg_ofNat_toInt h
theorem pk_lLT {a b : Nat} (ha : a < 2 ^ 63) (hb : b < 2 ^ 63) : lN a < lN b ↔ a < b := by
  rw [Int64.lt_iff_toInt_lt, pk_lT ha, pk_lT hb]; omega
theorem pk_lLE {a b : Nat} (ha : a < 2 ^ 63) (hb : b < 2 ^ 63) : lN a ≤ lN b ↔ a ≤ b := by
  rw [Int64.le_iff_toInt_le, pk_lT ha, pk_lT hb]; omega
theorem pk_lEQ {a b : Nat} (ha : a < 2 ^ 63) (hb : b < 2 ^ 63) : lN a = lN b ↔ a = b := by
  rw [← Int64.toInt_inj, pk_lT ha, pk_lT hb]; omega
theorem pk_lOf {x : Int64} (h : ¬ x < 0) : ∃ k : Nat, k < 2 ^ 63 ∧ x = lN k := by
  rw [Int64.lt_iff_toInt_lt] at h
  have h0 : (0 : Int64).toInt = 0 := by decide
  have hx := Int64.toInt_lt x
  refine ⟨x.toInt.toNat, by omega, Int64.toInt_inj.mp ?_⟩
  rw [pk_lT (by omega)]
  omega
theorem pk_lDiv {a b : Nat} (ha : a < 2 ^ 63) (h0 : 0 < b) (hb : b < 2 ^ 63) : lN a / lN b = lN (a / b) := by
  apply Int64.toInt_inj.mp
  rw [lg_ldiv_nonneg (by rw [pk_lT ha]; omega) (by rw [pk_lT hb]; omega), pk_lT ha, pk_lT hb, pk_lT (Nat.lt_of_le_of_lt (Nat.div_le_self a b) ha)]
  rfl
theorem pk_lRem {a b : Nat} (ha : a < 2 ^ 63) (h0 : 0 < b) (hb : b < 2 ^ 63) : lN a - lN a / lN b * lN b = lN (a % b) := by
  rw [pk_lDiv ha h0 hb, lN_mul, lN_sub (Nat.div_mul_le_self a b)]
  exact congrArg lN (by have := Nat.div_add_mod' a b; omega)
theorem pk_loop {σ : Type} (W : Nat → Nat → σ → Prop) (I : Nat → σ → Prop) (e i0 : Nat) (s : σ) (hi : i0 ≤ e) (h0 : I i0 s) (hx : ∀ n s, I e s → W (n + 1) e s)
    (hs : ∀ n i s, i < e → I i s → (∀ s', I (i + 1) s' → W n (i + 1) s') → W (n + 1) i s) : ∃ n, W n i0 s :=
  ⟨e + 1, loop_i W I e hx hs (e + 1) i0 s hi (by omega) h0⟩
theorem pk_loopD {σ : Type} (W : Nat → Nat → σ → Prop) (I : Nat → σ → Prop) (hx : ∀ n s, I 0 s → W (n + 1) 0 s)
    (hs : ∀ n i s, I (i + 1) s → (∀ s', I i s' → W n i s') → W (n + 1) (i + 1) s) : ∀ (e : Nat) (s : σ), I e s → W (e + 1) e s := by
  intro e
  induction e with
  | zero => exact fun s h => hx 0 s h
  | succ e ih => exact fun s h => hs (e + 1) e s h (fun s' h' => ih s' h')
theorem lp1 {A1 : Type} (W : Nat → A1 → Prop) (I : A1 → Prop) (μ : A1 → Nat) (hs : ∀ (n : Nat) (a1 : A1), I a1 → (∀ (b1 : A1), I b1 → μ b1 < μ a1 → W n b1) → W (n + 1) a1) (a1 : A1) (h : I a1) : ∃ n, W n a1 :=
  loop_m (σ := A1) (fun n s => W n s) (fun s => I s) (fun s => μ s) (fun n s hI hk => hs n s hI (fun b1 h9 hm => hk b1 h9 hm)) a1 h
theorem lp2 {A1 A2 : Type} (W : Nat → A1 → A2 → Prop) (I : A1 → A2 → Prop) (μ : A1 → A2 → Nat) (hs : ∀ (n : Nat) (a1 : A1) (a2 : A2), I a1 a2 → (∀ (b1 : A1) (b2 : A2), I b1 b2 → μ b1 b2 < μ a1 a2 → W n b1 b2) → W (n + 1) a1 a2) (a1 : A1) (a2 : A2) (h : I a1 a2) : ∃ n, W n a1 a2 :=
  loop_m (σ := A1 × A2) (fun n s => W n s.1 s.2) (fun s => I s.1 s.2) (fun s => μ s.1 s.2) (fun n s hI hk => hs n s.1 s.2 hI (fun b1 b2 h9 hm => hk (b1, b2) h9 hm)) (a1, a2) h
theorem lp3 {A1 A2 A3 : Type} (W : Nat → A1 → A2 → A3 → Prop) (I : A1 → A2 → A3 → Prop) (μ : A1 → A2 → A3 → Nat) (hs : ∀ (n : Nat) (a1 : A1) (a2 : A2) (a3 : A3), I a1 a2 a3 → (∀ (b1 : A1) (b2 : A2) (b3 : A3), I b1 b2 b3 → μ b1 b2 b3 < μ a1 a2 a3 → W n b1 b2 b3) → W (n + 1) a1 a2 a3) (a1 : A1) (a2 : A2) (a3 : A3) (h : I a1 a2 a3) : ∃ n, W n a1 a2 a3 :=
  loop_m (σ := A1 × A2 × A3) (fun n s => W n s.1 s.2.1 s.2.2) (fun s => I s.1 s.2.1 s.2.2) (fun s => μ s.1 s.2.1 s.2.2) (fun n s hI hk => hs n s.1 s.2.1 s.2.2 hI (fun b1 b2 b3 h9 hm => hk (b1, b2, b3) h9 hm)) (a1, a2, a3) h
theorem lp4 {A1 A2 A3 A4 : Type} (W : Nat → A1 → A2 → A3 → A4 → Prop) (I : A1 → A2 → A3 → A4 → Prop) (μ : A1 → A2 → A3 → A4 → Nat) (hs : ∀ (n : Nat) (a1 : A1) (a2 : A2) (a3 : A3) (a4 : A4), I a1 a2 a3 a4 → (∀ (b1 : A1) (b2 : A2) (b3 : A3) (b4 : A4), I b1 b2 b3 b4 → μ b1 b2 b3 b4 < μ a1 a2 a3 a4 → W n b1 b2 b3 b4) → W (n + 1) a1 a2 a3 a4) (a1 : A1) (a2 : A2) (a3 : A3) (a4 : A4) (h : I a1 a2 a3 a4) : ∃ n, W n a1 a2 a3 a4 :=
  loop_m (σ := A1 × A2 × A3 × A4) (fun n s => W n s.1 s.2.1 s.2.2.1 s.2.2.2) (fun s => I s.1 s.2.1 s.2.2.1 s.2.2.2) (fun s => μ s.1 s.2.1 s.2.2.1 s.2.2.2) (fun n s hI hk => hs n s.1 s.2.1 s.2.2.1 s.2.2.2 hI (fun b1 b2 b3 b4 h9 hm => hk (b1, b2, b3, b4) h9 hm)) (a1, a2, a3, a4) h
theorem lp5 {A1 A2 A3 A4 A5 : Type} (W : Nat → A1 → A2 → A3 → A4 → A5 → Prop) (I : A1 → A2 → A3 → A4 → A5 → Prop) (μ : A1 → A2 → A3 → A4 → A5 → Nat) (hs : ∀ (n : Nat) (a1 : A1) (a2 : A2) (a3 : A3) (a4 : A4) (a5 : A5), I a1 a2 a3 a4 a5 → (∀ (b1 : A1) (b2 : A2) (b3 : A3) (b4 : A4) (b5 : A5), I b1 b2 b3 b4 b5 → μ b1 b2 b3 b4 b5 < μ a1 a2 a3 a4 a5 → W n b1 b2 b3 b4 b5) → W (n + 1) a1 a2 a3 a4 a5) (a1 : A1) (a2 : A2) (a3 : A3) (a4 : A4) (a5 : A5) (h : I a1 a2 a3 a4 a5) : ∃ n, W n a1 a2 a3 a4 a5 :=
  loop_m (σ := A1 × A2 × A3 × A4 × A5) (fun n s => W n s.1 s.2.1 s.2.2.1 s.2.2.2.1 s.2.2.2.2) (fun s => I s.1 s.2.1 s.2.2.1 s.2.2.2.1 s.2.2.2.2) (fun s => μ s.1 s.2.1 s.2.2.1 s.2.2.2.1 s.2.2.2.2) (fun n s hI hk => hs n s.1 s.2.1 s.2.2.1 s.2.2.2.1 s.2.2.2.2 hI (fun b1 b2 b3 b4 b5 h9 hm => hk (b1, b2, b3, b4, b5) h9 hm)) (a1, a2, a3, a4, a5) h
theorem lp6 {A1 A2 A3 A4 A5 A6 : Type} (W : Nat → A1 → A2 → A3 → A4 → A5 → A6 → Prop) (I : A1 → A2 → A3 → A4 → A5 → A6 → Prop) (μ : A1 → A2 → A3 → A4 → A5 → A6 → Nat) (hs : ∀ (n : Nat) (a1 : A1) (a2 : A2) (a3 : A3) (a4 : A4) (a5 : A5) (a6 : A6), I a1 a2 a3 a4 a5 a6 → (∀ (b1 : A1) (b2 : A2) (b3 : A3) (b4 : A4) (b5 : A5) (b6 : A6), I b1 b2 b3 b4 b5 b6 → μ b1 b2 b3 b4 b5 b6 < μ a1 a2 a3 a4 a5 a6 → W n b1 b2 b3 b4 b5 b6) → W (n + 1) a1 a2 a3 a4 a5 a6) (a1 : A1) (a2 : A2) (a3 : A3) (a4 : A4) (a5 : A5) (a6 : A6) (h : I a1 a2 a3 a4 a5 a6) : ∃ n, W n a1 a2 a3 a4 a5 a6 :=
  loop_m (σ := A1 × A2 × A3 × A4 × A5 × A6) (fun n s => W n s.1 s.2.1 s.2.2.1 s.2.2.2.1 s.2.2.2.2.1 s.2.2.2.2.2) (fun s => I s.1 s.2.1 s.2.2.1 s.2.2.2.1 s.2.2.2.2.1 s.2.2.2.2.2) (fun s => μ s.1 s.2.1 s.2.2.1 s.2.2.2.1 s.2.2.2.2.1 s.2.2.2.2.2) (fun n s hI hk => hs n s.1 s.2.1 s.2.2.1 s.2.2.2.1 s.2.2.2.2.1 s.2.2.2.2.2 hI (fun b1 b2 b3 b4 b5 b6 h9 hm => hk (b1, b2, b3, b4, b5, b6) h9 hm)) (a1, a2, a3, a4, a5, a6) h
theorem lp7 {A1 A2 A3 A4 A5 A6 A7 : Type} (W : Nat → A1 → A2 → A3 → A4 → A5 → A6 → A7 → Prop) (I : A1 → A2 → A3 → A4 → A5 → A6 → A7 → Prop) (μ : A1 → A2 → A3 → A4 → A5 → A6 → A7 → Nat) (hs : ∀ (n : Nat) (a1 : A1) (a2 : A2) (a3 : A3) (a4 : A4) (a5 : A5) (a6 : A6) (a7 : A7), I a1 a2 a3 a4 a5 a6 a7 → (∀ (b1 : A1) (b2 : A2) (b3 : A3) (b4 : A4) (b5 : A5) (b6 : A6) (b7 : A7), I b1 b2 b3 b4 b5 b6 b7 → μ b1 b2 b3 b4 b5 b6 b7 < μ a1 a2 a3 a4 a5 a6 a7 → W n b1 b2 b3 b4 b5 b6 b7) → W (n + 1) a1 a2 a3 a4 a5 a6 a7) (a1 : A1) (a2 : A2) (a3 : A3) (a4 : A4) (a5 : A5) (a6 : A6) (a7 : A7) (h : I a1 a2 a3 a4 a5 a6 a7) : ∃ n, W n a1 a2 a3 a4 a5 a6 a7 :=
  loop_m (σ := A1 × A2 × A3 × A4 × A5 × A6 × A7) (fun n s => W n s.1 s.2.1 s.2.2.1 s.2.2.2.1 s.2.2.2.2.1 s.2.2.2.2.2.1 s.2.2.2.2.2.2) (fun s => I s.1 s.2.1 s.2.2.1 s.2.2.2.1 s.2.2.2.2.1 s.2.2.2.2.2.1 s.2.2.2.2.2.2) (fun s => μ s.1 s.2.1 s.2.2.1 s.2.2.2.1 s.2.2.2.2.1 s.2.2.2.2.2.1 s.2.2.2.2.2.2) (fun n s hI hk => hs n s.1 s.2.1 s.2.2.1 s.2.2.2.1 s.2.2.2.2.1 s.2.2.2.2.2.1 s.2.2.2.2.2.2 hI (fun b1 b2 b3 b4 b5 b6 b7 h9 hm => hk (b1, b2, b3, b4, b5, b6, b7) h9 hm)) (a1, a2, a3, a4, a5, a6, a7) h
theorem lp8 {A1 A2 A3 A4 A5 A6 A7 A8 : Type} (W : Nat → A1 → A2 → A3 → A4 → A5 → A6 → A7 → A8 → Prop) (I : A1 → A2 → A3 → A4 → A5 → A6 → A7 → A8 → Prop) (μ : A1 → A2 → A3 → A4 → A5 → A6 → A7 → A8 → Nat) (hs : ∀ (n : Nat) (a1 : A1) (a2 : A2) (a3 : A3) (a4 : A4) (a5 : A5) (a6 : A6) (a7 : A7) (a8 : A8), I a1 a2 a3 a4 a5 a6 a7 a8 → (∀ (b1 : A1) (b2 : A2) (b3 : A3) (b4 : A4) (b5 : A5) (b6 : A6) (b7 : A7) (b8 : A8), I b1 b2 b3 b4 b5 b6 b7 b8 → μ b1 b2 b3 b4 b5 b6 b7 b8 < μ a1 a2 a3 a4 a5 a6 a7 a8 → W n b1 b2 b3 b4 b5 b6 b7 b8) → W (n + 1) a1 a2 a3 a4 a5 a6 a7 a8) (a1 : A1) (a2 : A2) (a3 : A3) (a4 : A4) (a5 : A5) (a6 : A6) (a7 : A7) (a8 : A8) (h : I a1 a2 a3 a4 a5 a6 a7 a8) : ∃ n, W n a1 a2 a3 a4 a5 a6 a7 a8 :=
  loop_m (σ := A1 × A2 × A3 × A4 × A5 × A6 × A7 × A8) (fun n s => W n s.1 s.2.1 s.2.2.1 s.2.2.2.1 s.2.2.2.2.1 s.2.2.2.2.2.1 s.2.2.2.2.2.2.1 s.2.2.2.2.2.2.2) (fun s => I s.1 s.2.1 s.2.2.1 s.2.2.2.1 s.2.2.2.2.1 s.2.2.2.2.2.1 s.2.2.2.2.2.2.1 s.2.2.2.2.2.2.2) (fun s => μ s.1 s.2.1 s.2.2.1 s.2.2.2.1 s.2.2.2.2.1 s.2.2.2.2.2.1 s.2.2.2.2.2.2.1 s.2.2.2.2.2.2.2) (fun n s hI hk => hs n s.1 s.2.1 s.2.2.1 s.2.2.2.1 s.2.2.2.2.1 s.2.2.2.2.2.1 s.2.2.2.2.2.2.1 s.2.2.2.2.2.2.2 hI (fun b1 b2 b3 b4 b5 b6 b7 b8 h9 hm => hk (b1, b2, b3, b4, b5, b6, b7, b8) h9 hm)) (a1, a2, a3, a4, a5, a6, a7, a8) h
theorem lp9 {A1 A2 A3 A4 A5 A6 A7 A8 A9 : Type} (W : Nat → A1 → A2 → A3 → A4 → A5 → A6 → A7 → A8 → A9 → Prop) (I : A1 → A2 → A3 → A4 → A5 → A6 → A7 → A8 → A9 → Prop) (μ : A1 → A2 → A3 → A4 → A5 → A6 → A7 → A8 → A9 → Nat) (hs : ∀ (n : Nat) (a1 : A1) (a2 : A2) (a3 : A3) (a4 : A4) (a5 : A5) (a6 : A6) (a7 : A7) (a8 : A8) (a9 : A9), I a1 a2 a3 a4 a5 a6 a7 a8 a9 → (∀ (b1 : A1) (b2 : A2) (b3 : A3) (b4 : A4) (b5 : A5) (b6 : A6) (b7 : A7) (b8 : A8) (b9 : A9), I b1 b2 b3 b4 b5 b6 b7 b8 b9 → μ b1 b2 b3 b4 b5 b6 b7 b8 b9 < μ a1 a2 a3 a4 a5 a6 a7 a8 a9 → W n b1 b2 b3 b4 b5 b6 b7 b8 b9) → W (n + 1) a1 a2 a3 a4 a5 a6 a7 a8 a9) (a1 : A1) (a2 : A2) (a3 : A3) (a4 : A4) (a5 : A5) (a6 : A6) (a7 : A7) (a8 : A8) (a9 : A9) (h : I a1 a2 a3 a4 a5 a6 a7 a8 a9) : ∃ n, W n a1 a2 a3 a4 a5 a6 a7 a8 a9 :=
  loop_m (σ := A1 × A2 × A3 × A4 × A5 × A6 × A7 × A8 × A9) (fun n s => W n s.1 s.2.1 s.2.2.1 s.2.2.2.1 s.2.2.2.2.1 s.2.2.2.2.2.1 s.2.2.2.2.2.2.1 s.2.2.2.2.2.2.2.1 s.2.2.2.2.2.2.2.2) (fun s => I s.1 s.2.1 s.2.2.1 s.2.2.2.1 s.2.2.2.2.1 s.2.2.2.2.2.1 s.2.2.2.2.2.2.1 s.2.2.2.2.2.2.2.1 s.2.2.2.2.2.2.2.2) (fun s => μ s.1 s.2.1 s.2.2.1 s.2.2.2.1 s.2.2.2.2.1 s.2.2.2.2.2.1 s.2.2.2.2.2.2.1 s.2.2.2.2.2.2.2.1 s.2.2.2.2.2.2.2.2) (fun n s hI hk => hs n s.1 s.2.1 s.2.2.1 s.2.2.2.1 s.2.2.2.2.1 s.2.2.2.2.2.1 s.2.2.2.2.2.2.1 s.2.2.2.2.2.2.2.1 s.2.2.2.2.2.2.2.2 hI (fun b1 b2 b3 b4 b5 b6 b7 b8 b9 h9 hm => hk (b1, b2, b3, b4, b5, b6, b7, b8, b9) h9 hm)) (a1, a2, a3, a4, a5, a6, a7, a8, a9) h
theorem lp10 {A1 A2 A3 A4 A5 A6 A7 A8 A9 A10 : Type} (W : Nat → A1 → A2 → A3 → A4 → A5 → A6 → A7 → A8 → A9 → A10 → Prop) (I : A1 → A2 → A3 → A4 → A5 → A6 → A7 → A8 → A9 → A10 → Prop) (μ : A1 → A2 → A3 → A4 → A5 → A6 → A7 → A8 → A9 → A10 → Nat) (hs : ∀ (n : Nat) (a1 : A1) (a2 : A2) (a3 : A3) (a4 : A4) (a5 : A5) (a6 : A6) (a7 : A7) (a8 : A8) (a9 : A9) (a10 : A10), I a1 a2 a3 a4 a5 a6 a7 a8 a9 a10 → (∀ (b1 : A1) (b2 : A2) (b3 : A3) (b4 : A4) (b5 : A5) (b6 : A6) (b7 : A7) (b8 : A8) (b9 : A9) (b10 : A10), I b1 b2 b3 b4 b5 b6 b7 b8 b9 b10 → μ b1 b2 b3 b4 b5 b6 b7 b8 b9 b10 < μ a1 a2 a3 a4 a5 a6 a7 a8 a9 a10 → W n b1 b2 b3 b4 b5 b6 b7 b8 b9 b10) → W (n + 1) a1 a2 a3 a4 a5 a6 a7 a8 a9 a10) (a1 : A1) (a2 : A2) (a3 : A3) (a4 : A4) (a5 : A5) (a6 : A6) (a7 : A7) (a8 : A8) (a9 : A9) (a10 : A10) (h : I a1 a2 a3 a4 a5 a6 a7 a8 a9 a10) : ∃ n, W n a1 a2 a3 a4 a5 a6 a7 a8 a9 a10 :=
  loop_m (σ := A1 × A2 × A3 × A4 × A5 × A6 × A7 × A8 × A9 × A10) (fun n s => W n s.1 s.2.1 s.2.2.1 s.2.2.2.1 s.2.2.2.2.1 s.2.2.2.2.2.1 s.2.2.2.2.2.2.1 s.2.2.2.2.2.2.2.1 s.2.2.2.2.2.2.2.2.1 s.2.2.2.2.2.2.2.2.2) (fun s => I s.1 s.2.1 s.2.2.1 s.2.2.2.1 s.2.2.2.2.1 s.2.2.2.2.2.1 s.2.2.2.2.2.2.1 s.2.2.2.2.2.2.2.1 s.2.2.2.2.2.2.2.2.1 s.2.2.2.2.2.2.2.2.2) (fun s => μ s.1 s.2.1 s.2.2.1 s.2.2.2.1 s.2.2.2.2.1 s.2.2.2.2.2.1 s.2.2.2.2.2.2.1 s.2.2.2.2.2.2.2.1 s.2.2.2.2.2.2.2.2.1 s.2.2.2.2.2.2.2.2.2) (fun n s hI hk => hs n s.1 s.2.1 s.2.2.1 s.2.2.2.1 s.2.2.2.2.1 s.2.2.2.2.2.1 s.2.2.2.2.2.2.1 s.2.2.2.2.2.2.2.1 s.2.2.2.2.2.2.2.2.1 s.2.2.2.2.2.2.2.2.2 hI (fun b1 b2 b3 b4 b5 b6 b7 b8 b9 b10 h9 hm => hk (b1, b2, b3, b4, b5, b6, b7, b8, b9, b10) h9 hm)) (a1, a2, a3, a4, a5, a6, a7, a8, a9, a10) h
theorem lp11 {A1 A2 A3 A4 A5 A6 A7 A8 A9 A10 A11 : Type} (W : Nat → A1 → A2 → A3 → A4 → A5 → A6 → A7 → A8 → A9 → A10 → A11 → Prop) (I : A1 → A2 → A3 → A4 → A5 → A6 → A7 → A8 → A9 → A10 → A11 → Prop) (μ : A1 → A2 → A3 → A4 → A5 → A6 → A7 → A8 → A9 → A10 → A11 → Nat) (hs : ∀ (n : Nat) (a1 : A1) (a2 : A2) (a3 : A3) (a4 : A4) (a5 : A5) (a6 : A6) (a7 : A7) (a8 : A8) (a9 : A9) (a10 : A10) (a11 : A11), I a1 a2 a3 a4 a5 a6 a7 a8 a9 a10 a11 → (∀ (b1 : A1) (b2 : A2) (b3 : A3) (b4 : A4) (b5 : A5) (b6 : A6) (b7 : A7) (b8 : A8) (b9 : A9) (b10 : A10) (b11 : A11), I b1 b2 b3 b4 b5 b6 b7 b8 b9 b10 b11 → μ b1 b2 b3 b4 b5 b6 b7 b8 b9 b10 b11 < μ a1 a2 a3 a4 a5 a6 a7 a8 a9 a10 a11 → W n b1 b2 b3 b4 b5 b6 b7 b8 b9 b10 b11) → W (n + 1) a1 a2 a3 a4 a5 a6 a7 a8 a9 a10 a11) (a1 : A1) (a2 : A2) (a3 : A3) (a4 : A4) (a5 : A5) (a6 : A6) (a7 : A7) (a8 : A8) (a9 : A9) (a10 : A10) (a11 : A11) (h : I a1 a2 a3 a4 a5 a6 a7 a8 a9 a10 a11) : ∃ n, W n a1 a2 a3 a4 a5 a6 a7 a8 a9 a10 a11 :=
  loop_m (σ := A1 × A2 × A3 × A4 × A5 × A6 × A7 × A8 × A9 × A10 × A11) (fun n s => W n s.1 s.2.1 s.2.2.1 s.2.2.2.1 s.2.2.2.2.1 s.2.2.2.2.2.1 s.2.2.2.2.2.2.1 s.2.2.2.2.2.2.2.1 s.2.2.2.2.2.2.2.2.1 s.2.2.2.2.2.2.2.2.2.1 s.2.2.2.2.2.2.2.2.2.2) (fun s => I s.1 s.2.1 s.2.2.1 s.2.2.2.1 s.2.2.2.2.1 s.2.2.2.2.2.1 s.2.2.2.2.2.2.1 s.2.2.2.2.2.2.2.1 s.2.2.2.2.2.2.2.2.1 s.2.2.2.2.2.2.2.2.2.1 s.2.2.2.2.2.2.2.2.2.2) (fun s => μ s.1 s.2.1 s.2.2.1 s.2.2.2.1 s.2.2.2.2.1 s.2.2.2.2.2.1 s.2.2.2.2.2.2.1 s.2.2.2.2.2.2.2.1 s.2.2.2.2.2.2.2.2.1 s.2.2.2.2.2.2.2.2.2.1 s.2.2.2.2.2.2.2.2.2.2) (fun n s hI hk => hs n s.1 s.2.1 s.2.2.1 s.2.2.2.1 s.2.2.2.2.1 s.2.2.2.2.2.1 s.2.2.2.2.2.2.1 s.2.2.2.2.2.2.2.1 s.2.2.2.2.2.2.2.2.1 s.2.2.2.2.2.2.2.2.2.1 s.2.2.2.2.2.2.2.2.2.2 hI (fun b1 b2 b3 b4 b5 b6 b7 b8 b9 b10 b11 h9 hm => hk (b1, b2, b3, b4, b5, b6, b7, b8, b9, b10, b11) h9 hm)) (a1, a2, a3, a4, a5, a6, a7, a8, a9, a10, a11) h
theorem lp12 {A1 A2 A3 A4 A5 A6 A7 A8 A9 A10 A11 A12 : Type} (W : Nat → A1 → A2 → A3 → A4 → A5 → A6 → A7 → A8 → A9 → A10 → A11 → A12 → Prop) (I : A1 → A2 → A3 → A4 → A5 → A6 → A7 → A8 → A9 → A10 → A11 → A12 → Prop) (μ : A1 → A2 → A3 → A4 → A5 → A6 → A7 → A8 → A9 → A10 → A11 → A12 → Nat) (hs : ∀ (n : Nat) (a1 : A1) (a2 : A2) (a3 : A3) (a4 : A4) (a5 : A5) (a6 : A6) (a7 : A7) (a8 : A8) (a9 : A9) (a10 : A10) (a11 : A11) (a12 : A12), I a1 a2 a3 a4 a5 a6 a7 a8 a9 a10 a11 a12 → (∀ (b1 : A1) (b2 : A2) (b3 : A3) (b4 : A4) (b5 : A5) (b6 : A6) (b7 : A7) (b8 : A8) (b9 : A9) (b10 : A10) (b11 : A11) (b12 : A12), I b1 b2 b3 b4 b5 b6 b7 b8 b9 b10 b11 b12 → μ b1 b2 b3 b4 b5 b6 b7 b8 b9 b10 b11 b12 < μ a1 a2 a3 a4 a5 a6 a7 a8 a9 a10 a11 a12 → W n b1 b2 b3 b4 b5 b6 b7 b8 b9 b10 b11 b12) → W (n + 1) a1 a2 a3 a4 a5 a6 a7 a8 a9 a10 a11 a12) (a1 : A1) (a2 : A2) (a3 : A3) (a4 : A4) (a5 : A5) (a6 : A6) (a7 : A7) (a8 : A8) (a9 : A9) (a10 : A10) (a11 : A11) (a12 : A12) (h : I a1 a2 a3 a4 a5 a6 a7 a8 a9 a10 a11 a12) : ∃ n, W n a1 a2 a3 a4 a5 a6 a7 a8 a9 a10 a11 a12 :=
  loop_m (σ := A1 × A2 × A3 × A4 × A5 × A6 × A7 × A8 × A9 × A10 × A11 × A12) (fun n s => W n s.1 s.2.1 s.2.2.1 s.2.2.2.1 s.2.2.2.2.1 s.2.2.2.2.2.1 s.2.2.2.2.2.2.1 s.2.2.2.2.2.2.2.1 s.2.2.2.2.2.2.2.2.1 s.2.2.2.2.2.2.2.2.2.1 s.2.2.2.2.2.2.2.2.2.2.1 s.2.2.2.2.2.2.2.2.2.2.2) (fun s => I s.1 s.2.1 s.2.2.1 s.2.2.2.1 s.2.2.2.2.1 s.2.2.2.2.2.1 s.2.2.2.2.2.2.1 s.2.2.2.2.2.2.2.1 s.2.2.2.2.2.2.2.2.1 s.2.2.2.2.2.2.2.2.2.1 s.2.2.2.2.2.2.2.2.2.2.1 s.2.2.2.2.2.2.2.2.2.2.2) (fun s => μ s.1 s.2.1 s.2.2.1 s.2.2.2.1 s.2.2.2.2.1 s.2.2.2.2.2.1 s.2.2.2.2.2.2.1 s.2.2.2.2.2.2.2.1 s.2.2.2.2.2.2.2.2.1 s.2.2.2.2.2.2.2.2.2.1 s.2.2.2.2.2.2.2.2.2.2.1 s.2.2.2.2.2.2.2.2.2.2.2) (fun n s hI hk => hs n s.1 s.2.1 s.2.2.1 s.2.2.2.1 s.2.2.2.2.1 s.2.2.2.2.2.1 s.2.2.2.2.2.2.1 s.2.2.2.2.2.2.2.1 s.2.2.2.2.2.2.2.2.1 s.2.2.2.2.2.2.2.2.2.1 s.2.2.2.2.2.2.2.2.2.2.1 s.2.2.2.2.2.2.2.2.2.2.2 hI (fun b1 b2 b3 b4 b5 b6 b7 b8 b9 b10 b11 b12 h9 hm => hk (b1, b2, b3, b4, b5, b6, b7, b8, b9, b10, b11, b12) h9 hm)) (a1, a2, a3, a4, a5, a6, a7, a8, a9, a10, a11, a12) h
theorem lp13 {A1 A2 A3 A4 A5 A6 A7 A8 A9 A10 A11 A12 A13 : Type} (W : Nat → A1 → A2 → A3 → A4 → A5 → A6 → A7 → A8 → A9 → A10 → A11 → A12 → A13 → Prop) (I : A1 → A2 → A3 → A4 → A5 → A6 → A7 → A8 → A9 → A10 → A11 → A12 → A13 → Prop) (μ : A1 → A2 → A3 → A4 → A5 → A6 → A7 → A8 → A9 → A10 → A11 → A12 → A13 → Nat) (hs : ∀ (n : Nat) (a1 : A1) (a2 : A2) (a3 : A3) (a4 : A4) (a5 : A5) (a6 : A6) (a7 : A7) (a8 : A8) (a9 : A9) (a10 : A10) (a11 : A11) (a12 : A12) (a13 : A13), I a1 a2 a3 a4 a5 a6 a7 a8 a9 a10 a11 a12 a13 → (∀ (b1 : A1) (b2 : A2) (b3 : A3) (b4 : A4) (b5 : A5) (b6 : A6) (b7 : A7) (b8 : A8) (b9 : A9) (b10 : A10) (b11 : A11) (b12 : A12) (b13 : A13), I b1 b2 b3 b4 b5 b6 b7 b8 b9 b10 b11 b12 b13 → μ b1 b2 b3 b4 b5 b6 b7 b8 b9 b10 b11 b12 b13 < μ a1 a2 a3 a4 a5 a6 a7 a8 a9 a10 a11 a12 a13 → W n b1 b2 b3 b4 b5 b6 b7 b8 b9 b10 b11 b12 b13) → W (n + 1) a1 a2 a3 a4 a5 a6 a7 a8 a9 a10 a11 a12 a13) (a1 : A1) (a2 : A2) (a3 : A3) (a4 : A4) (a5 : A5) (a6 : A6) (a7 : A7) (a8 : A8) (a9 : A9) (a10 : A10) (a11 : A11) (a12 : A12) (a13 : A13) (h : I a1 a2 a3 a4 a5 a6 a7 a8 a9 a10 a11 a12 a13) : ∃ n, W n a1 a2 a3 a4 a5 a6 a7 a8 a9 a10 a11 a12 a13 :=
  loop_m (σ := A1 × A2 × A3 × A4 × A5 × A6 × A7 × A8 × A9 × A10 × A11 × A12 × A13) (fun n s => W n s.1 s.2.1 s.2.2.1 s.2.2.2.1 s.2.2.2.2.1 s.2.2.2.2.2.1 s.2.2.2.2.2.2.1 s.2.2.2.2.2.2.2.1 s.2.2.2.2.2.2.2.2.1 s.2.2.2.2.2.2.2.2.2.1 s.2.2.2.2.2.2.2.2.2.2.1 s.2.2.2.2.2.2.2.2.2.2.2.1 s.2.2.2.2.2.2.2.2.2.2.2.2) (fun s => I s.1 s.2.1 s.2.2.1 s.2.2.2.1 s.2.2.2.2.1 s.2.2.2.2.2.1 s.2.2.2.2.2.2.1 s.2.2.2.2.2.2.2.1 s.2.2.2.2.2.2.2.2.1 s.2.2.2.2.2.2.2.2.2.1 s.2.2.2.2.2.2.2.2.2.2.1 s.2.2.2.2.2.2.2.2.2.2.2.1 s.2.2.2.2.2.2.2.2.2.2.2.2) (fun s => μ s.1 s.2.1 s.2.2.1 s.2.2.2.1 s.2.2.2.2.1 s.2.2.2.2.2.1 s.2.2.2.2.2.2.1 s.2.2.2.2.2.2.2.1 s.2.2.2.2.2.2.2.2.1 s.2.2.2.2.2.2.2.2.2.1 s.2.2.2.2.2.2.2.2.2.2.1 s.2.2.2.2.2.2.2.2.2.2.2.1 s.2.2.2.2.2.2.2.2.2.2.2.2) (fun n s hI hk => hs n s.1 s.2.1 s.2.2.1 s.2.2.2.1 s.2.2.2.2.1 s.2.2.2.2.2.1 s.2.2.2.2.2.2.1 s.2.2.2.2.2.2.2.1 s.2.2.2.2.2.2.2.2.1 s.2.2.2.2.2.2.2.2.2.1 s.2.2.2.2.2.2.2.2.2.2.1 s.2.2.2.2.2.2.2.2.2.2.2.1 s.2.2.2.2.2.2.2.2.2.2.2.2 hI (fun b1 b2 b3 b4 b5 b6 b7 b8 b9 b10 b11 b12 b13 h9 hm => hk (b1, b2, b3, b4, b5, b6, b7, b8, b9, b10, b11, b12, b13) h9 hm)) (a1, a2, a3, a4, a5, a6, a7, a8, a9, a10, a11, a12, a13) h
theorem lp14 {A1 A2 A3 A4 A5 A6 A7 A8 A9 A10 A11 A12 A13 A14 : Type} (W : Nat → A1 → A2 → A3 → A4 → A5 → A6 → A7 → A8 → A9 → A10 → A11 → A12 → A13 → A14 → Prop) (I : A1 → A2 → A3 → A4 → A5 → A6 → A7 → A8 → A9 → A10 → A11 → A12 → A13 → A14 → Prop) (μ : A1 → A2 → A3 → A4 → A5 → A6 → A7 → A8 → A9 → A10 → A11 → A12 → A13 → A14 → Nat) (hs : ∀ (n : Nat) (a1 : A1) (a2 : A2) (a3 : A3) (a4 : A4) (a5 : A5) (a6 : A6) (a7 : A7) (a8 : A8) (a9 : A9) (a10 : A10) (a11 : A11) (a12 : A12) (a13 : A13) (a14 : A14), I a1 a2 a3 a4 a5 a6 a7 a8 a9 a10 a11 a12 a13 a14 → (∀ (b1 : A1) (b2 : A2) (b3 : A3) (b4 : A4) (b5 : A5) (b6 : A6) (b7 : A7) (b8 : A8) (b9 : A9) (b10 : A10) (b11 : A11) (b12 : A12) (b13 : A13) (b14 : A14), I b1 b2 b3 b4 b5 b6 b7 b8 b9 b10 b11 b12 b13 b14 → μ b1 b2 b3 b4 b5 b6 b7 b8 b9 b10 b11 b12 b13 b14 < μ a1 a2 a3 a4 a5 a6 a7 a8 a9 a10 a11 a12 a13 a14 → W n b1 b2 b3 b4 b5 b6 b7 b8 b9 b10 b11 b12 b13 b14) → W (n + 1) a1 a2 a3 a4 a5 a6 a7 a8 a9 a10 a11 a12 a13 a14) (a1 : A1) (a2 : A2) (a3 : A3) (a4 : A4) (a5 : A5) (a6 : A6) (a7 : A7) (a8 : A8) (a9 : A9) (a10 : A10) (a11 : A11) (a12 : A12) (a13 : A13) (a14 : A14) (h : I a1 a2 a3 a4 a5 a6 a7 a8 a9 a10 a11 a12 a13 a14) : ∃ n, W n a1 a2 a3 a4 a5 a6 a7 a8 a9 a10 a11 a12 a13 a14 :=
  loop_m (σ := A1 × A2 × A3 × A4 × A5 × A6 × A7 × A8 × A9 × A10 × A11 × A12 × A13 × A14) (fun n s => W n s.1 s.2.1 s.2.2.1 s.2.2.2.1 s.2.2.2.2.1 s.2.2.2.2.2.1 s.2.2.2.2.2.2.1 s.2.2.2.2.2.2.2.1 s.2.2.2.2.2.2.2.2.1 s.2.2.2.2.2.2.2.2.2.1 s.2.2.2.2.2.2.2.2.2.2.1 s.2.2.2.2.2.2.2.2.2.2.2.1 s.2.2.2.2.2.2.2.2.2.2.2.2.1 s.2.2.2.2.2.2.2.2.2.2.2.2.2) (fun s => I s.1 s.2.1 s.2.2.1 s.2.2.2.1 s.2.2.2.2.1 s.2.2.2.2.2.1 s.2.2.2.2.2.2.1 s.2.2.2.2.2.2.2.1 s.2.2.2.2.2.2.2.2.1 s.2.2.2.2.2.2.2.2.2.1 s.2.2.2.2.2.2.2.2.2.2.1 s.2.2.2.2.2.2.2.2.2.2.2.1 s.2.2.2.2.2.2.2.2.2.2.2.2.1 s.2.2.2.2.2.2.2.2.2.2.2.2.2) (fun s => μ s.1 s.2.1 s.2.2.1 s.2.2.2.1 s.2.2.2.2.1 s.2.2.2.2.2.1 s.2.2.2.2.2.2.1 s.2.2.2.2.2.2.2.1 s.2.2.2.2.2.2.2.2.1 s.2.2.2.2.2.2.2.2.2.1 s.2.2.2.2.2.2.2.2.2.2.1 s.2.2.2.2.2.2.2.2.2.2.2.1 s.2.2.2.2.2.2.2.2.2.2.2.2.1 s.2.2.2.2.2.2.2.2.2.2.2.2.2) (fun n s hI hk => hs n s.1 s.2.1 s.2.2.1 s.2.2.2.1 s.2.2.2.2.1 s.2.2.2.2.2.1 s.2.2.2.2.2.2.1 s.2.2.2.2.2.2.2.1 s.2.2.2.2.2.2.2.2.1 s.2.2.2.2.2.2.2.2.2.1 s.2.2.2.2.2.2.2.2.2.2.1 s.2.2.2.2.2.2.2.2.2.2.2.1 s.2.2.2.2.2.2.2.2.2.2.2.2.1 s.2.2.2.2.2.2.2.2.2.2.2.2.2 hI (fun b1 b2 b3 b4 b5 b6 b7 b8 b9 b10 b11 b12 b13 b14 h9 hm => hk (b1, b2, b3, b4, b5, b6, b7, b8, b9, b10, b11, b12, b13, b14) h9 hm)) (a1, a2, a3, a4, a5, a6, a7, a8, a9, a10, a11, a12, a13, a14) h
theorem lp15 {A1 A2 A3 A4 A5 A6 A7 A8 A9 A10 A11 A12 A13 A14 A15 : Type} (W : Nat → A1 → A2 → A3 → A4 → A5 → A6 → A7 → A8 → A9 → A10 → A11 → A12 → A13 → A14 → A15 → Prop) (I : A1 → A2 → A3 → A4 → A5 → A6 → A7 → A8 → A9 → A10 → A11 → A12 → A13 → A14 → A15 → Prop) (μ : A1 → A2 → A3 → A4 → A5 → A6 → A7 → A8 → A9 → A10 → A11 → A12 → A13 → A14 → A15 → Nat) (hs : ∀ (n : Nat) (a1 : A1) (a2 : A2) (a3 : A3) (a4 : A4) (a5 : A5) (a6 : A6) (a7 : A7) (a8 : A8) (a9 : A9) (a10 : A10) (a11 : A11) (a12 : A12) (a13 : A13) (a14 : A14) (a15 : A15), I a1 a2 a3 a4 a5 a6 a7 a8 a9 a10 a11 a12 a13 a14 a15 → (∀ (b1 : A1) (b2 : A2) (b3 : A3) (b4 : A4) (b5 : A5) (b6 : A6) (b7 : A7) (b8 : A8) (b9 : A9) (b10 : A10) (b11 : A11) (b12 : A12) (b13 : A13) (b14 : A14) (b15 : A15), I b1 b2 b3 b4 b5 b6 b7 b8 b9 b10 b11 b12 b13 b14 b15 → μ b1 b2 b3 b4 b5 b6 b7 b8 b9 b10 b11 b12 b13 b14 b15 < μ a1 a2 a3 a4 a5 a6 a7 a8 a9 a10 a11 a12 a13 a14 a15 → W n b1 b2 b3 b4 b5 b6 b7 b8 b9 b10 b11 b12 b13 b14 b15) → W (n + 1) a1 a2 a3 a4 a5 a6 a7 a8 a9 a10 a11 a12 a13 a14 a15) (a1 : A1) (a2 : A2) (a3 : A3) (a4 : A4) (a5 : A5) (a6 : A6) (a7 : A7) (a8 : A8) (a9 : A9) (a10 : A10) (a11 : A11) (a12 : A12) (a13 : A13) (a14 : A14) (a15 : A15) (h : I a1 a2 a3 a4 a5 a6 a7 a8 a9 a10 a11 a12 a13 a14 a15) : ∃ n, W n a1 a2 a3 a4 a5 a6 a7 a8 a9 a10 a11 a12 a13 a14 a15 :=
  loop_m (σ := A1 × A2 × A3 × A4 × A5 × A6 × A7 × A8 × A9 × A10 × A11 × A12 × A13 × A14 × A15) (fun n s => W n s.1 s.2.1 s.2.2.1 s.2.2.2.1 s.2.2.2.2.1 s.2.2.2.2.2.1 s.2.2.2.2.2.2.1 s.2.2.2.2.2.2.2.1 s.2.2.2.2.2.2.2.2.1 s.2.2.2.2.2.2.2.2.2.1 s.2.2.2.2.2.2.2.2.2.2.1 s.2.2.2.2.2.2.2.2.2.2.2.1 s.2.2.2.2.2.2.2.2.2.2.2.2.1 s.2.2.2.2.2.2.2.2.2.2.2.2.2.1 s.2.2.2.2.2.2.2.2.2.2.2.2.2.2) (fun s => I s.1 s.2.1 s.2.2.1 s.2.2.2.1 s.2.2.2.2.1 s.2.2.2.2.2.1 s.2.2.2.2.2.2.1 s.2.2.2.2.2.2.2.1 s.2.2.2.2.2.2.2.2.1 s.2.2.2.2.2.2.2.2.2.1 s.2.2.2.2.2.2.2.2.2.2.1 s.2.2.2.2.2.2.2.2.2.2.2.1 s.2.2.2.2.2.2.2.2.2.2.2.2.1 s.2.2.2.2.2.2.2.2.2.2.2.2.2.1 s.2.2.2.2.2.2.2.2.2.2.2.2.2.2) (fun s => μ s.1 s.2.1 s.2.2.1 s.2.2.2.1 s.2.2.2.2.1 s.2.2.2.2.2.1 s.2.2.2.2.2.2.1 s.2.2.2.2.2.2.2.1 s.2.2.2.2.2.2.2.2.1 s.2.2.2.2.2.2.2.2.2.1 s.2.2.2.2.2.2.2.2.2.2.1 s.2.2.2.2.2.2.2.2.2.2.2.1 s.2.2.2.2.2.2.2.2.2.2.2.2.1 s.2.2.2.2.2.2.2.2.2.2.2.2.2.1 s.2.2.2.2.2.2.2.2.2.2.2.2.2.2) (fun n s hI hk => hs n s.1 s.2.1 s.2.2.1 s.2.2.2.1 s.2.2.2.2.1 s.2.2.2.2.2.1 s.2.2.2.2.2.2.1 s.2.2.2.2.2.2.2.1 s.2.2.2.2.2.2.2.2.1 s.2.2.2.2.2.2.2.2.2.1 s.2.2.2.2.2.2.2.2.2.2.1 s.2.2.2.2.2.2.2.2.2.2.2.1 s.2.2.2.2.2.2.2.2.2.2.2.2.1 s.2.2.2.2.2.2.2.2.2.2.2.2.2.1 s.2.2.2.2.2.2.2.2.2.2.2.2.2.2 hI (fun b1 b2 b3 b4 b5 b6 b7 b8 b9 b10 b11 b12 b13 b14 b15 h9 hm => hk (b1, b2, b3, b4, b5, b6, b7, b8, b9, b10, b11, b12, b13, b14, b15) h9 hm)) (a1, a2, a3, a4, a5, a6, a7, a8, a9, a10, a11, a12, a13, a14, a15) h
theorem lp16 {A1 A2 A3 A4 A5 A6 A7 A8 A9 A10 A11 A12 A13 A14 A15 A16 : Type} (W : Nat → A1 → A2 → A3 → A4 → A5 → A6 → A7 → A8 → A9 → A10 → A11 → A12 → A13 → A14 → A15 → A16 → Prop) (I : A1 → A2 → A3 → A4 → A5 → A6 → A7 → A8 → A9 → A10 → A11 → A12 → A13 → A14 → A15 → A16 → Prop) (μ : A1 → A2 → A3 → A4 → A5 → A6 → A7 → A8 → A9 → A10 → A11 → A12 → A13 → A14 → A15 → A16 → Nat) (hs : ∀ (n : Nat) (a1 : A1) (a2 : A2) (a3 : A3) (a4 : A4) (a5 : A5) (a6 : A6) (a7 : A7) (a8 : A8) (a9 : A9) (a10 : A10) (a11 : A11) (a12 : A12) (a13 : A13) (a14 : A14) (a15 : A15) (a16 : A16), I a1 a2 a3 a4 a5 a6 a7 a8 a9 a10 a11 a12 a13 a14 a15 a16 → (∀ (b1 : A1) (b2 : A2) (b3 : A3) (b4 : A4) (b5 : A5) (b6 : A6) (b7 : A7) (b8 : A8) (b9 : A9) (b10 : A10) (b11 : A11) (b12 : A12) (b13 : A13) (b14 : A14) (b15 : A15) (b16 : A16), I b1 b2 b3 b4 b5 b6 b7 b8 b9 b10 b11 b12 b13 b14 b15 b16 → μ b1 b2 b3 b4 b5 b6 b7 b8 b9 b10 b11 b12 b13 b14 b15 b16 < μ a1 a2 a3 a4 a5 a6 a7 a8 a9 a10 a11 a12 a13 a14 a15 a16 → W n b1 b2 b3 b4 b5 b6 b7 b8 b9 b10 b11 b12 b13 b14 b15 b16) → W (n + 1) a1 a2 a3 a4 a5 a6 a7 a8 a9 a10 a11 a12 a13 a14 a15 a16) (a1 : A1) (a2 : A2) (a3 : A3) (a4 : A4) (a5 : A5) (a6 : A6) (a7 : A7) (a8 : A8) (a9 : A9) (a10 : A10) (a11 : A11) (a12 : A12) (a13 : A13) (a14 : A14) (a15 : A15) (a16 : A16) (h : I a1 a2 a3 a4 a5 a6 a7 a8 a9 a10 a11 a12 a13 a14 a15 a16) : ∃ n, W n a1 a2 a3 a4 a5 a6 a7 a8 a9 a10 a11 a12 a13 a14 a15 a16 :=
  loop_m (σ := A1 × A2 × A3 × A4 × A5 × A6 × A7 × A8 × A9 × A10 × A11 × A12 × A13 × A14 × A15 × A16) (fun n s => W n s.1 s.2.1 s.2.2.1 s.2.2.2.1 s.2.2.2.2.1 s.2.2.2.2.2.1 s.2.2.2.2.2.2.1 s.2.2.2.2.2.2.2.1 s.2.2.2.2.2.2.2.2.1 s.2.2.2.2.2.2.2.2.2.1 s.2.2.2.2.2.2.2.2.2.2.1 s.2.2.2.2.2.2.2.2.2.2.2.1 s.2.2.2.2.2.2.2.2.2.2.2.2.1 s.2.2.2.2.2.2.2.2.2.2.2.2.2.1 s.2.2.2.2.2.2.2.2.2.2.2.2.2.2.1 s.2.2.2.2.2.2.2.2.2.2.2.2.2.2.2) (fun s => I s.1 s.2.1 s.2.2.1 s.2.2.2.1 s.2.2.2.2.1 s.2.2.2.2.2.1 s.2.2.2.2.2.2.1 s.2.2.2.2.2.2.2.1 s.2.2.2.2.2.2.2.2.1 s.2.2.2.2.2.2.2.2.2.1 s.2.2.2.2.2.2.2.2.2.2.1 s.2.2.2.2.2.2.2.2.2.2.2.1 s.2.2.2.2.2.2.2.2.2.2.2.2.1 s.2.2.2.2.2.2.2.2.2.2.2.2.2.1 s.2.2.2.2.2.2.2.2.2.2.2.2.2.2.1 s.2.2.2.2.2.2.2.2.2.2.2.2.2.2.2) (fun s => μ s.1 s.2.1 s.2.2.1 s.2.2.2.1 s.2.2.2.2.1 s.2.2.2.2.2.1 s.2.2.2.2.2.2.1 s.2.2.2.2.2.2.2.1 s.2.2.2.2.2.2.2.2.1 s.2.2.2.2.2.2.2.2.2.1 s.2.2.2.2.2.2.2.2.2.2.1 s.2.2.2.2.2.2.2.2.2.2.2.1 s.2.2.2.2.2.2.2.2.2.2.2.2.1 s.2.2.2.2.2.2.2.2.2.2.2.2.2.1 s.2.2.2.2.2.2.2.2.2.2.2.2.2.2.1 s.2.2.2.2.2.2.2.2.2.2.2.2.2.2.2) (fun n s hI hk => hs n s.1 s.2.1 s.2.2.1 s.2.2.2.1 s.2.2.2.2.1 s.2.2.2.2.2.1 s.2.2.2.2.2.2.1 s.2.2.2.2.2.2.2.1 s.2.2.2.2.2.2.2.2.1 s.2.2.2.2.2.2.2.2.2.1 s.2.2.2.2.2.2.2.2.2.2.1 s.2.2.2.2.2.2.2.2.2.2.2.1 s.2.2.2.2.2.2.2.2.2.2.2.2.1 s.2.2.2.2.2.2.2.2.2.2.2.2.2.1 s.2.2.2.2.2.2.2.2.2.2.2.2.2.2.1 s.2.2.2.2.2.2.2.2.2.2.2.2.2.2.2 hI (fun b1 b2 b3 b4 b5 b6 b7 b8 b9 b10 b11 b12 b13 b14 b15 b16 h9 hm => hk (b1, b2, b3, b4, b5, b6, b7, b8, b9, b10, b11, b12, b13, b14, b15, b16) h9 hm)) (a1, a2, a3, a4, a5, a6, a7, a8, a9, a10, a11, a12, a13, a14, a15, a16) h
theorem pk_least (P : Nat → Prop) (h : ∃ k, P k) : ∃ k, P k ∧ ∀ j, j < k → ¬ P j := by
  obtain ⟨k, hk⟩ := h
  induction k using Nat.strongRecOn with
  | ind k ih =>
    by_cases e : ∃ j, j < k ∧ P j
    · obtain ⟨j, hj, pj⟩ := e
      exact ih j hj pj
    · exact ⟨k, hk, fun j hj pj => e ⟨j, hj, pj⟩⟩
theorem rp1 {ρ A1 : Type} (W : Nat → (ρ → Prop) → A1 → Prop) (ok : A1 → Prop) (μ : A1 → Nat) (val : A1 → ρ)
    (hs : ∀ (d : Nat) (post : ρ → Prop) (a1 : A1), ok a1 → post (val a1) → (∀ (post' : ρ → Prop) (b1 : A1), ok b1 → μ b1 < μ a1 → post' (val b1) → W d post' b1) → W (d + 1) post a1) :
    ∀ (d : Nat) (post : ρ → Prop) (a1 : A1), ok a1 → μ a1 < d → post (val a1) → W d post a1 := by
  intro d
  induction d with
  | zero => intro post a1 _ h; omega
  | succ d ih =>
    intro post a1 ho hm hp
    exact hs d post a1 ho hp (fun post' b1 ho' hm' hp' => ih post' b1 ho' (by omega) hp')
theorem rp2 {ρ A1 A2 : Type} (W : Nat → (ρ → Prop) → A1 → A2 → Prop) (ok : A1 → A2 → Prop) (μ : A1 → A2 → Nat) (val : A1 → A2 → ρ)
    (hs : ∀ (d : Nat) (post : ρ → Prop) (a1 : A1) (a2 : A2), ok a1 a2 → post (val a1 a2) → (∀ (post' : ρ → Prop) (b1 : A1) (b2 : A2), ok b1 b2 → μ b1 b2 < μ a1 a2 → post' (val b1 b2) → W d post' b1 b2) → W (d + 1) post a1 a2) :
    ∀ (d : Nat) (post : ρ → Prop) (a1 : A1) (a2 : A2), ok a1 a2 → μ a1 a2 < d → post (val a1 a2) → W d post a1 a2 := by
  intro d
  induction d with
  | zero => intro post a1 a2 _ h; omega
  | succ d ih =>
    intro post a1 a2 ho hm hp
    exact hs d post a1 a2 ho hp (fun post' b1 b2 ho' hm' hp' => ih post' b1 b2 ho' (by omega) hp')
theorem rp3 {ρ A1 A2 A3 : Type} (W : Nat → (ρ → Prop) → A1 → A2 → A3 → Prop) (ok : A1 → A2 → A3 → Prop) (μ : A1 → A2 → A3 → Nat) (val : A1 → A2 → A3 → ρ)
    (hs : ∀ (d : Nat) (post : ρ → Prop) (a1 : A1) (a2 : A2) (a3 : A3), ok a1 a2 a3 → post (val a1 a2 a3) → (∀ (post' : ρ → Prop) (b1 : A1) (b2 : A2) (b3 : A3), ok b1 b2 b3 → μ b1 b2 b3 < μ a1 a2 a3 → post' (val b1 b2 b3) → W d post' b1 b2 b3) → W (d + 1) post a1 a2 a3) :
    ∀ (d : Nat) (post : ρ → Prop) (a1 : A1) (a2 : A2) (a3 : A3), ok a1 a2 a3 → μ a1 a2 a3 < d → post (val a1 a2 a3) → W d post a1 a2 a3 := by
  intro d
  induction d with
  | zero => intro post a1 a2 a3 _ h; omega
  | succ d ih =>
    intro post a1 a2 a3 ho hm hp
    exact hs d post a1 a2 a3 ho hp (fun post' b1 b2 b3 ho' hm' hp' => ih post' b1 b2 b3 ho' (by omega) hp')
theorem rp4 {ρ A1 A2 A3 A4 : Type} (W : Nat → (ρ → Prop) → A1 → A2 → A3 → A4 → Prop) (ok : A1 → A2 → A3 → A4 → Prop) (μ : A1 → A2 → A3 → A4 → Nat) (val : A1 → A2 → A3 → A4 → ρ)
    (hs : ∀ (d : Nat) (post : ρ → Prop) (a1 : A1) (a2 : A2) (a3 : A3) (a4 : A4), ok a1 a2 a3 a4 → post (val a1 a2 a3 a4) → (∀ (post' : ρ → Prop) (b1 : A1) (b2 : A2) (b3 : A3) (b4 : A4), ok b1 b2 b3 b4 → μ b1 b2 b3 b4 < μ a1 a2 a3 a4 → post' (val b1 b2 b3 b4) → W d post' b1 b2 b3 b4) → W (d + 1) post a1 a2 a3 a4) :
    ∀ (d : Nat) (post : ρ → Prop) (a1 : A1) (a2 : A2) (a3 : A3) (a4 : A4), ok a1 a2 a3 a4 → μ a1 a2 a3 a4 < d → post (val a1 a2 a3 a4) → W d post a1 a2 a3 a4 := by
  intro d
  induction d with
  | zero => intro post a1 a2 a3 a4 _ h; omega
  | succ d ih =>
    intro post a1 a2 a3 a4 ho hm hp
    exact hs d post a1 a2 a3 a4 ho hp (fun post' b1 b2 b3 b4 ho' hm' hp' => ih post' b1 b2 b3 b4 ho' (by omega) hp')
theorem rp5 {ρ A1 A2 A3 A4 A5 : Type} (W : Nat → (ρ → Prop) → A1 → A2 → A3 → A4 → A5 → Prop) (ok : A1 → A2 → A3 → A4 → A5 → Prop) (μ : A1 → A2 → A3 → A4 → A5 → Nat) (val : A1 → A2 → A3 → A4 → A5 → ρ)
    (hs : ∀ (d : Nat) (post : ρ → Prop) (a1 : A1) (a2 : A2) (a3 : A3) (a4 : A4) (a5 : A5), ok a1 a2 a3 a4 a5 → post (val a1 a2 a3 a4 a5) → (∀ (post' : ρ → Prop) (b1 : A1) (b2 : A2) (b3 : A3) (b4 : A4) (b5 : A5), ok b1 b2 b3 b4 b5 → μ b1 b2 b3 b4 b5 < μ a1 a2 a3 a4 a5 → post' (val b1 b2 b3 b4 b5) → W d post' b1 b2 b3 b4 b5) → W (d + 1) post a1 a2 a3 a4 a5) :
    ∀ (d : Nat) (post : ρ → Prop) (a1 : A1) (a2 : A2) (a3 : A3) (a4 : A4) (a5 : A5), ok a1 a2 a3 a4 a5 → μ a1 a2 a3 a4 a5 < d → post (val a1 a2 a3 a4 a5) → W d post a1 a2 a3 a4 a5 := by
  intro d
  induction d with
  | zero => intro post a1 a2 a3 a4 a5 _ h; omega
  | succ d ih =>
    intro post a1 a2 a3 a4 a5 ho hm hp
    exact hs d post a1 a2 a3 a4 a5 ho hp (fun post' b1 b2 b3 b4 b5 ho' hm' hp' => ih post' b1 b2 b3 b4 b5 ho' (by omega) hp')
theorem rp6 {ρ A1 A2 A3 A4 A5 A6 : Type} (W : Nat → (ρ → Prop) → A1 → A2 → A3 → A4 → A5 → A6 → Prop) (ok : A1 → A2 → A3 → A4 → A5 → A6 → Prop) (μ : A1 → A2 → A3 → A4 → A5 → A6 → Nat) (val : A1 → A2 → A3 → A4 → A5 → A6 → ρ)
    (hs : ∀ (d : Nat) (post : ρ → Prop) (a1 : A1) (a2 : A2) (a3 : A3) (a4 : A4) (a5 : A5) (a6 : A6), ok a1 a2 a3 a4 a5 a6 → post (val a1 a2 a3 a4 a5 a6) → (∀ (post' : ρ → Prop) (b1 : A1) (b2 : A2) (b3 : A3) (b4 : A4) (b5 : A5) (b6 : A6), ok b1 b2 b3 b4 b5 b6 → μ b1 b2 b3 b4 b5 b6 < μ a1 a2 a3 a4 a5 a6 → post' (val b1 b2 b3 b4 b5 b6) → W d post' b1 b2 b3 b4 b5 b6) → W (d + 1) post a1 a2 a3 a4 a5 a6) :
    ∀ (d : Nat) (post : ρ → Prop) (a1 : A1) (a2 : A2) (a3 : A3) (a4 : A4) (a5 : A5) (a6 : A6), ok a1 a2 a3 a4 a5 a6 → μ a1 a2 a3 a4 a5 a6 < d → post (val a1 a2 a3 a4 a5 a6) → W d post a1 a2 a3 a4 a5 a6 := by
  intro d
  induction d with
  | zero => intro post a1 a2 a3 a4 a5 a6 _ h; omega
  | succ d ih =>
    intro post a1 a2 a3 a4 a5 a6 ho hm hp
    exact hs d post a1 a2 a3 a4 a5 a6 ho hp (fun post' b1 b2 b3 b4 b5 b6 ho' hm' hp' => ih post' b1 b2 b3 b4 b5 b6 ho' (by omega) hp')
theorem rec_p {σ ρ : Type} (W : Nat → (ρ → Prop) → σ → Prop) (ok : σ → Prop) (μ : σ → Nat) (val : σ → ρ)
    (hs : ∀ d s post, ok s → post (val s) → (∀ s' post', ok s' → μ s' < μ s → post' (val s') → W d post' s') → W (d + 1) post s) :
    ∀ d s post, ok s → μ s < d → post (val s) → W d post s := by
  intro d
  induction d with
  | zero => intro s post _ h; omega
  | succ d ih =>
    intro s post ho hm hp
    exact hs d s post ho hp (fun s' post' ho' hm' hp' => ih s' post' ho' (by omega) hp')
theorem rec_q {σ ρ : Type} (W : Nat → (ρ → Prop) → σ → Prop) (ok : σ → Prop) (μ : σ → Nat) (Q : σ → ρ → Prop)
    (hs : ∀ d s post, ok s → (∀ r, Q s r → post r) → (∀ s' post', ok s' → μ s' < μ s → (∀ r, Q s' r → post' r) → W d post' s') → W (d + 1) post s) :
    ∀ d s post, ok s → μ s < d → (∀ r, Q s r → post r) → W d post s := by
  intro d
  induction d with
  | zero => intro s post _ h; omega
  | succ d ih =>
    intro s post ho hm hp
    exact hs d s post ho hp (fun s' post' ho' hm' hp' => ih s' post' ho' (by omega) hp')
theorem sb_shr0 (x : Int32) : x >>> ((0 : Int32) &&& 31) = x := by
  rw [show ((0 : Int32) &&& 31) = 0 by decide]
  simp
theorem sb_shl0 (x : Int32) : x <<< ((0 : Int32) &&& 31) = x := by
  rw [show ((0 : Int32) &&& 31) = 0 by decide]
  simp
theorem sb_cl0 : (0 : Int32).toNatClampNeg = 0 := by decide
theorem sb_m1 {p : Nat} (h : 0 < p) : nI p + (-1) = nI (p - 1) := by
  obtain ⟨q, rfl⟩ : ∃ q, p = q + 1 := ⟨p - 1, by omega⟩
  exact pk_m1 q
end
section
/-! rows on bits, shifts and unsigned numbers, to paste: each family out of a closed proof of our own, whole with what it rests on; each by itself clean at Lean in its own claim (generation 39, form 5). Take a family whole -/
/-! ===== Int32 by its bits: bt x i ===== -/
def bt (x : Int32) (i : Nat) : Bool := x.toBitVec.getLsbD i
theorem b_ext {x y : Int32} (h : ∀ i, i < 32 → bt x i = bt y i) : x = y := Int32.toBitVec_inj.mp (BitVec.eq_of_getLsbD_eq (fun i hi => h i hi))
theorem b_or (x y : Int32) (i : Nat) : bt (x ||| y) i = (bt x i || bt y i) := by unfold bt; rw [Int32.toBitVec_or, BitVec.getLsbD_or]
theorem b_and (x y : Int32) (i : Nat) : bt (x &&& y) i = (bt x i && bt y i) := by unfold bt; rw [Int32.toBitVec_and, BitVec.getLsbD_and]
theorem b_xor (x y : Int32) (i : Nat) : bt (x ^^^ y) i = (bt x i ^^ bt y i) := by unfold bt; rw [Int32.toBitVec_xor, BitVec.getLsbD_xor]
theorem b_big {x : Int32} {i : Nat} (h : 32 ≤ i) : bt x i = false := BitVec.getLsbD_of_ge _ _ h
theorem b_255 (i : Nat) : bt 255 i = decide (i < 8) := by
  rcases Nat.lt_or_ge i 32 with h | h
  · exact (by decide +kernel : ∀ i, i < 32 → bt 255 i = decide (i < 8)) i h
  · rw [b_big h, decide_eq_false (by omega)]
theorem b_65535 (i : Nat) : bt 65535 i = decide (i < 16) := by
  rcases Nat.lt_or_ge i 32 with h | h
  · exact (by decide +kernel : ∀ i, i < 32 → bt 65535 i = decide (i < 16)) i h
  · rw [b_big h, decide_eq_false (by omega)]
theorem b_m1 : ∀ i, i < 32 → bt (-1) i = true := by decide +kernel
theorem b_0 (i : Nat) : bt 0 i = false := BitVec.getLsbD_zero
theorem s_l : ∀ n, n < 32 → ((nI n &&& 31).toBitVec.smod 32).toNat = n := by decide +kernel
theorem s_u : ∀ n, n < 32 → (((nI n).toUInt32 &&& Int32.toUInt32 31).toBitVec % 32).toNat = n := by decide +kernel
theorem b_shl (n : Nat) (hn : n < 32) (x : Int32) {i : Nat} (hi : i < 32) : bt (x <<< (nI n &&& 31)) i = (decide (n ≤ i) && bt x (i - n)) := by
  unfold bt
  rw [Int32.toBitVec_shiftLeft]
  show (x.toBitVec <<< ((nI n &&& 31).toBitVec.smod 32).toNat).getLsbD i = _
  rw [s_l n hn, BitVec.getLsbD_shiftLeft]
  rcases Nat.lt_or_ge i n with h | h
  · simp [h, Nat.not_le.mpr h]
  · simp [hi, h, Nat.not_lt.mpr h]
theorem b_ushr (n : Nat) (hn : n < 32) (x : Int32) (i : Nat) : bt ((x.toUInt32 >>> ((nI n).toUInt32 &&& Int32.toUInt32 31)).toInt32) i = bt x (n + i) := by
  show (x.toUInt32 >>> ((nI n).toUInt32 &&& Int32.toUInt32 31)).toBitVec.getLsbD i = x.toUInt32.toBitVec.getLsbD (n + i)
  rw [UInt32.toBitVec_shiftRight]
  show (x.toUInt32.toBitVec >>> (((nI n).toUInt32 &&& Int32.toUInt32 31).toBitVec % 32).toNat).getLsbD i = _
  rw [s_u n hn, BitVec.getLsbD_ushiftRight]
theorem b_sshr (n : Nat) (hn : n < 32) (x : Int32) {i : Nat} (hi : i < 32) : bt (x >>> (nI n &&& 31)) i = if n + i < 32 then bt x (n + i) else bt x 31 := by
  unfold bt
  rw [Int32.toBitVec_shiftRight]
  show (x.toBitVec.sshiftRight ((nI n &&& 31).toBitVec.smod 32).toNat).getLsbD i = _
  rw [s_l n hn, BitVec.getLsbD_sshiftRight, BitVec.msb_eq_getLsbD_last]
  simp [hi]
theorem b_shl8 (x : Int32) {i : Nat} (hi : i < 32) : bt (x <<< ((8 : Int32) &&& 31)) i = (decide (8 ≤ i) && bt x (i - 8)) := b_shl 8 (by omega) x hi
theorem b_shl16 (x : Int32) {i : Nat} (hi : i < 32) : bt (x <<< ((16 : Int32) &&& 31)) i = (decide (16 ≤ i) && bt x (i - 16)) := b_shl 16 (by omega) x hi
theorem b_shl24 (x : Int32) {i : Nat} (hi : i < 32) : bt (x <<< ((24 : Int32) &&& 31)) i = (decide (24 ≤ i) && bt x (i - 24)) := b_shl 24 (by omega) x hi
theorem b_sshr8 (x : Int32) {i : Nat} (hi : i < 32) : bt (x >>> ((8 : Int32) &&& 31)) i = if 8 + i < 32 then bt x (8 + i) else bt x 31 := b_sshr 8 (by omega) x hi
end
section
/-! counting -/
noncomputable def ge_b (P : Prop) : Nat := @ite Nat P (Classical.propDecidable P) 1 0
theorem ge_bt {P : Prop} (h : P) : ge_b P = 1 := by unfold ge_b; rw [if_pos h]
theorem ge_bf {P : Prop} (h : ¬ P) : ge_b P = 0 := by unfold ge_b; rw [if_neg h]
theorem ge_b_le (P : Prop) : ge_b P ≤ 1 := by
  rcases Classical.em P with h | h
  · rw [ge_bt h]; omega
  · rw [ge_bf h]; omega
theorem ge_b_mono {P Q : Prop} (h : P → Q) : ge_b P ≤ ge_b Q := by
  rcases Classical.em P with hp | hp
  · rw [ge_bt hp, ge_bt (h hp)]; omega
  · rw [ge_bf hp]; omega
theorem ge_b_iff {P Q : Prop} (h : P ↔ Q) : ge_b P = ge_b Q := Nat.le_antisymm (ge_b_mono h.mp) (ge_b_mono h.mpr)
noncomputable def ge_cn (P : Nat → Prop) : Nat → Nat
  | 0 => 0
  | k + 1 => ge_cn P k + ge_b (P k)
theorem ge_cn_mono {P Q : Nat → Prop} : ∀ {N : Nat}, (∀ k, k < N → P k → Q k) → ge_cn P N ≤ ge_cn Q N
  | 0, _ => Nat.le_refl _
  | N + 1, h => by
    have a := ge_cn_mono (P := P) (Q := Q) (N := N) (fun k hk => h k (by omega))
    have b := ge_b_mono (h N (by omega))
    simp only [ge_cn]; omega
theorem ge_cn_lt {P Q : Nat → Prop} {a : Nat} (hp : ¬ P a) (hq : Q a) : ∀ {N : Nat}, (∀ k, k < N → P k → Q k) → a < N → ge_cn P N < ge_cn Q N
  | 0, _, h => by omega
  | N + 1, h, ha => by
    simp only [ge_cn]
    rcases Nat.lt_or_ge a N with z | z
    · have x := ge_cn_lt hp hq (N := N) (fun k hk => h k (by omega)) z
      have b := ge_b_mono (h N (by omega))
      omega
    · have e : a = N := by omega
      subst e
      have x := ge_cn_mono (P := P) (Q := Q) (N := a) (fun k hk => h k (by omega))
      rw [ge_bt hq, ge_bf hp]; omega
theorem ge_cn_le (P : Nat → Prop) : ∀ N, ge_cn P N ≤ N
  | 0 => Nat.le_refl _
  | N + 1 => by have := ge_cn_le P N; have := ge_b_le (P N); simp only [ge_cn]; omega
theorem ge_cn_eq {P Q : Nat → Prop} {N : Nat} (h : ∀ k, k < N → (P k ↔ Q k)) : ge_cn P N = ge_cn Q N :=
  Nat.le_antisymm (ge_cn_mono fun k hk => (h k hk).mp) (ge_cn_mono fun k hk => (h k hk).mpr)
theorem ge_cn_pos {P : Nat → Prop} {a N : Nat} (ha : a < N) (h : P a) : 0 < ge_cn P N :=
  Nat.lt_of_le_of_lt (Nat.zero_le _) (ge_cn_lt (P := fun _ => False) (Q := P) (a := a) (fun z => z) h (fun _ _ z => z.elim) ha)
theorem ge_cn_split (P Q : Nat → Prop) : ∀ N, ge_cn P N = ge_cn (fun k => P k ∧ Q k) N + ge_cn (fun k => P k ∧ ¬ Q k) N
  | 0 => rfl
  | N + 1 => by
    have a := ge_cn_split P Q N
    simp only [ge_cn]
    rcases Classical.em (P N) with hp | hp
    · rcases Classical.em (Q N) with hq | hq
      · rw [ge_bt hp, ge_bt (P := P N ∧ Q N) ⟨hp, hq⟩, ge_bf (P := P N ∧ ¬ Q N) (fun z => z.2 hq)]; omega
      · rw [ge_bt hp, ge_bf (P := P N ∧ Q N) (fun z => hq z.2), ge_bt (P := P N ∧ ¬ Q N) ⟨hp, hq⟩]; omega
    · rw [ge_bf hp, ge_bf (P := P N ∧ Q N) (fun z => hp z.1), ge_bf (P := P N ∧ ¬ Q N) (fun z => hp z.1)]; omega
/-- the count of an interval within N -/
theorem ge_cn_int (a : Nat) : ∀ N b : Nat, a ≤ b → b ≤ N → ge_cn (fun k => a ≤ k ∧ k < b) N = b - a
  | 0, b, h, h2 => by simp only [ge_cn]; omega
  | N + 1, b, h, h2 => by
    simp only [ge_cn]
    rcases Nat.lt_or_ge N b with z | z
    · rcases Nat.lt_or_ge N a with z2 | z2
      · rw [ge_bf (by omega), ge_cn_eq (Q := fun k => a ≤ k ∧ k < a) (fun k hk => by constructor <;> intro <;> omega)]
        have : ∀ M, ge_cn (fun k => a ≤ k ∧ k < a) M = 0 := by
          intro M
          induction M with
          | zero => rfl
          | succ M ih => simp only [ge_cn]; rw [ih, ge_bf (by omega)]
        rw [this]; omega
      · rw [ge_bt (by omega), ge_cn_eq (Q := fun k => a ≤ k ∧ k < N) (fun k hk => by constructor <;> intro <;> omega), ge_cn_int a N N z2 (Nat.le_refl _)]
        omega
    · rw [ge_bf (by omega), ge_cn_int a N b h (by omega)]
      omega
/-! a function of the array's zero entries -/
noncomputable def ge_z (a : Nat → Int32) : Nat := ge_cn (fun k => a k = 0) 96
noncomputable def ge_nz (a : Nat → Int32) : Nat := ge_cn (fun k => 2 ≤ k ∧ ¬ a k = 0) 96
/-! the least transitive relation -/
def ge_TC (D : Nat → Nat → Prop) (a b : Nat) : Prop := ∀ R : Nat → Nat → Prop, (∀ x y, D x y → R x y) → (∀ x y z, R x y → R y z → R x z) → R a b
theorem ge_TC_i {D : Nat → Nat → Prop} {a b : Nat} (h : D a b) : ge_TC D a b := fun _ h1 _ => h1 a b h
theorem ge_TC_t {D : Nat → Nat → Prop} {a b c : Nat} (h : ge_TC D a b) (h2 : ge_TC D b c) : ge_TC D a c := fun R h1 ht => ht a b c (h R h1 ht) (h2 R h1 ht)
theorem ge_TC_set {D : Nat → Nat → Prop} {a b : Nat} (h : ge_TC D a b) (S : Nat → Prop) (h0 : ∀ w, D a w → S w) (hs : ∀ u w, S u → D u w → S w) : S b := by
  refine h (fun x y => ∀ S : Nat → Prop, (∀ w, D x w → S w) → (∀ u w, S u → D u w → S w) → S y) ?_ ?_ S h0 hs
  · intro x y d S h0 _; exact h0 y d
  · intro x y z f g S h0 hs
    exact g S (fun w dw => hs y w (f S h0 hs) dw) hs
theorem ge_TC_mono {D E : Nat → Nat → Prop} (h : ∀ x y, D x y → E x y) {a b : Nat} (t : ge_TC D a b) : ge_TC E a b := t _ (fun x y d => ge_TC_i (h x y d)) (fun _ _ _ => ge_TC_t)
theorem ge_TC_congr {D E : Nat → Nat → Prop} (h : ∀ x y, D x y ↔ E x y) {a b : Nat} : ge_TC D a b ↔ ge_TC E a b :=
  ⟨ge_TC_mono fun x y => (h x y).mp, ge_TC_mono fun x y => (h x y).mpr⟩
theorem ge_TC_dom {D : Nat → Nat → Prop} {A B : Nat → Prop} (h : ∀ x y, D x y → A x ∧ B y) {a b : Nat} (t : ge_TC D a b) : A a ∧ B b :=
  t (fun x y => A x ∧ B y) h (fun _ _ _ f g => ⟨f.1, g.2⟩)
/-- the last edge -/
theorem ge_TC_last {D : Nat → Nat → Prop} {a b : Nat} (t : ge_TC D a b) : ∃ y, D y b ∧ (y = a ∨ ge_TC D a y) := by
  have : ge_TC D a b ∧ ∃ y, D y b ∧ (y = a ∨ ge_TC D a y) := by
    refine ge_TC_set t (fun b => ge_TC D a b ∧ ∃ y, D y b ∧ (y = a ∨ ge_TC D a y)) ?_ ?_
    · intro w d; exact ⟨ge_TC_i d, a, d, Or.inl rfl⟩
    · intro u w f d; exact ⟨ge_TC_t f.1 (ge_TC_i d), u, d, Or.inr f.1⟩
  exact this.2
/-- the first edge -/
theorem ge_TC_first {D : Nat → Nat → Prop} {a b : Nat} (t : ge_TC D a b) : ∃ y, D a y ∧ (y = b ∨ ge_TC D y b) := by
  refine (t (fun a b => ge_TC D a b ∧ ∃ y, D a y ∧ (y = b ∨ ge_TC D y b)) ?_ ?_).2
  · intro x y d; exact ⟨ge_TC_i d, y, d, Or.inl rfl⟩
  · intro x y z f g
    refine ⟨ge_TC_t f.1 g.1, ?_⟩
    obtain ⟨w, dw, hw⟩ := f.2
    refine ⟨w, dw, Or.inr ?_⟩
    rcases hw with e | e
    · rw [e]; exact g.1
    · exact ge_TC_t e g.1
/-! paths of at most n + 1 edges -/
def ge_P (D : Nat → Nat → Prop) : Nat → Nat → Nat → Prop
  | 0 => fun a b => D a b
  | n + 1 => fun a b => ge_P D n a b ∨ ∃ y, ge_P D n a y ∧ D y b
theorem ge_P_s {D : Nat → Nat → Prop} {n a b : Nat} (h : ge_P D n a b) : ge_P D (n + 1) a b := Or.inl h
theorem ge_P_le {D : Nat → Nat → Prop} {n a b : Nat} (h : ge_P D n a b) : ∀ k, ge_P D (n + k) a b
  | 0 => h
  | k + 1 => Or.inl (ge_P_le h k)
theorem ge_P_mono {D : Nat → Nat → Prop} {n m a b : Nat} (h : ge_P D n a b) (hm : n ≤ m) : ge_P D m a b := by
  have := ge_P_le h (m - n)
  rwa [show n + (m - n) = m by omega] at this
theorem ge_P_dec {D : Nat → Nat → Prop} {n a : Nat} : ∀ (m c : Nat), ge_P D (n + m + 1) a c → ge_P D n a c ∨ ∃ y, ge_P D n a y ∧ ge_P D m y c
  | 0, c, h => h
  | m + 1, c, h => by
    rcases (show ge_P D (n + m + 1) a c ∨ ∃ y, ge_P D (n + m + 1) a y ∧ D y c from h) with h | ⟨y, h, d⟩
    · rcases ge_P_dec m c h with h | ⟨z, h1, h2⟩
      · exact Or.inl h
      · exact Or.inr ⟨z, h1, Or.inl h2⟩
    · rcases ge_P_dec m y h with h | ⟨z, h1, h2⟩
      · exact Or.inr ⟨y, h, ge_P_mono (n := 0) d (by omega)⟩
      · exact Or.inr ⟨z, h1, Or.inr ⟨y, h2, d⟩⟩
theorem ge_P_tc {D : Nat → Nat → Prop} : ∀ (n : Nat) {a b : Nat}, ge_P D n a b → ge_TC D a b
  | 0, _, _, h => ge_TC_i h
  | n + 1, a, b, h => by
    rcases (show ge_P D n a b ∨ ∃ y, ge_P D n a y ∧ D y b from h) with h | ⟨y, h, d⟩
    · exact ge_P_tc n h
    · exact ge_TC_t (ge_P_tc n h) (ge_TC_i d)
theorem ge_P_stab {D : Nat → Nat → Prop} {a n : Nat} (h : ∀ b, ge_P D (n + 1) a b → ge_P D n a b) : ∀ k b, ge_P D (n + k) a b → ge_P D n a b
  | 0, _, z => z
  | k + 1, b, z => by
    rcases (show ge_P D (n + k) a b ∨ ∃ y, ge_P D (n + k) a y ∧ D y b from z) with z | ⟨y, z, d⟩
    · exact ge_P_stab h k b z
    · exact h b (Or.inr ⟨y, ge_P_stab h k y z, d⟩)
theorem ge_P_12 {D : Nat → Nat → Prop} (hD : ∀ x y, D x y → y < 12) (a : Nat) : ∃ n, n ≤ 12 ∧ ∀ b, ge_P D (n + 1) a b → ge_P D n a b := by
  refine Classical.byContradiction fun hn => ?_
  have hr : ∀ n b, ge_P D n a b → b < 12 := fun n b h => (ge_TC_dom (A := fun _ => True) (fun x y d => ⟨trivial, hD x y d⟩) (ge_P_tc n h)).2
  have key : ∀ n, n ≤ 13 → n ≤ ge_cn (ge_P D n a) 12 := by
    intro n
    induction n with
    | zero => intro _; exact Nat.zero_le _
    | succ n ih =>
      intro h
      have h1 := ih (by omega)
      have h2 : ∃ b, ge_P D (n + 1) a b ∧ ¬ ge_P D n a b := by
        refine Classical.byContradiction fun h3 => hn ⟨n, by omega, fun b hb => ?_⟩
        exact Classical.byContradiction fun h4 => h3 ⟨b, hb, h4⟩
      obtain ⟨b, hb, hb2⟩ := h2
      have := ge_cn_lt (N := 12) hb2 hb (fun k _ hk => ge_P_s hk) (hr _ b hb)
      omega
  have := key 13 (Nat.le_refl _)
  have := ge_cn_le (ge_P D 13 a) 12
  omega
theorem ge_TC_P {D : Nat → Nat → Prop} (hD : ∀ x y, D x y → y < 12) {a b : Nat} (h : ge_TC D a b) : ge_P D 15 a b := by
  obtain ⟨n, hn, hs⟩ := ge_P_12 hD a
  refine ge_TC_set h (ge_P D 15 a) (fun w d => ge_P_mono (n := 0) d (by omega)) ?_
  intro u w z d
  have z2 : ge_P D (n + (16 - n)) a w := by
    rw [show n + (16 - n) = 16 by omega]; exact Or.inr ⟨u, z, d⟩
  exact ge_P_mono (ge_P_stab hs _ w z2) (by omega)
/-! Warshall -/
/-- R is D closed over the mids below m -/
def ge_W (D R : Nat → Nat → Prop) (m : Nat) : Prop :=
  (∀ x y, D x y → R x y) ∧ (∀ x y, R x y → ge_TC D x y) ∧ ∀ k, k < m → ∀ x y, R x k → R k y → R x y
theorem ge_W_0 {D : Nat → Nat → Prop} : ge_W D D 0 := ⟨fun _ _ h => h, fun _ _ => ge_TC_i, fun _ h => absurd h (Nat.not_lt_zero _)⟩
theorem ge_W_s {D R R' : Nat → Nat → Prop} {m : Nat} (h : ge_W D R m) (e : ∀ x y, R' x y ↔ (R x y ∨ (R x m ∧ R m y))) : ge_W D R' (m + 1) := by
  refine ⟨fun x y d => (e x y).mpr (Or.inl (h.1 x y d)), ?_, ?_⟩
  · intro x y r
    rcases (e x y).mp r with r | ⟨r1, r2⟩
    · exact h.2.1 x y r
    · exact ge_TC_t (h.2.1 _ _ r1) (h.2.1 _ _ r2)
  · intro k hk x y r1 r2
    rcases Nat.lt_or_ge k m with z | z
    · have T := h.2.2 k z
      rcases (e x k).mp r1 with a | ⟨a1, a2⟩ <;> rcases (e k y).mp r2 with b | ⟨b1, b2⟩
      · exact (e x y).mpr (Or.inl (T x y a b))
      · exact (e x y).mpr (Or.inr ⟨T x m a b1, b2⟩)
      · exact (e x y).mpr (Or.inr ⟨a1, T m y a2 b⟩)
      · exact (e x y).mpr (Or.inr ⟨a1, b2⟩)
    · have ek : k = m := by omega
      subst ek
      have a : R x k := by rcases (e x k).mp r1 with a | a; exact a; exact a.1
      have b : R k y := by rcases (e k y).mp r2 with b | b; exact b; exact b.2
      exact (e x y).mpr (Or.inr ⟨a, b⟩)
theorem ge_W_e {D R : Nat → Nat → Prop} {m : Nat} (h : ge_W D R m) (hd : ∀ x y, D x y → y < m) {x y : Nat} : R x y ↔ ge_TC D x y := by
  refine ⟨h.2.1 x y, fun t => ge_TC_set t (R x) (h.1 x) ?_⟩
  intro u w r d
  refine h.2.2 u ?_ x w r (h.1 u w d)
  exact (ge_TC_dom (A := fun _ => True) (fun x y d => ⟨trivial, hd x y d⟩) (h.2.1 x u r)).2
end
section
/-! the shape of a preorder list of arities -/
def ge_H (K : Nat → Nat) : Nat → Nat
  | 0 => 1
  | j + 1 => ge_H K j + K j - 1
def ge_WF (K : Nat → Nat) (n : Nat) : Prop := (∀ j, j < n → 1 ≤ ge_H K j) ∧ ge_H K n = 0
def ge_sc (H : Nat → Nat) (h : Nat) : Nat → Nat → Nat
  | 0, j => j
  | f + 1, j => if H j < h then j else ge_sc H h f (j + 1)
theorem ge_sc_spec (H : Nat → Nat) (h : Nat) : ∀ f j, j ≤ ge_sc H h f j ∧ ge_sc H h f j ≤ j + f ∧ (∀ k, j ≤ k → k < ge_sc H h f j → h ≤ H k) ∧ (H (j + f) < h → H (ge_sc H h f j) < h)
  | 0, j => ⟨Nat.le_refl _, Nat.le_refl _, fun k h1 h2 => by simp only [ge_sc] at h2; omega, fun z => z⟩
  | f + 1, j => by
    simp only [ge_sc]
    by_cases c : H j < h
    · rw [if_pos c]; exact ⟨Nat.le_refl _, by omega, fun k h1 h2 => by omega, fun _ => c⟩
    · rw [if_neg c]
      obtain ⟨a, b, d, e⟩ := ge_sc_spec H h f (j + 1)
      refine ⟨by omega, by omega, ?_, ?_⟩
      · intro k h1 h2
        rcases Nat.lt_or_ge j k with z | z
        · exact d k (by omega) h2
        · have : k = j := by omega
          subst this; omega
      · intro z; exact e (by rw [show j + 1 + f = j + (f + 1) by omega]; exact z)
def ge_e (K : Nat → Nat) (n x : Nat) : Nat := ge_sc (ge_H K) (ge_H K x) (n - (x + 1)) (x + 1)
section
variable {K : Nat → Nat} {n : Nat}
theorem ge_H_s (w : ge_WF K n) {j : Nat} (h : j < n) : ge_H K (j + 1) + 1 = ge_H K j + K j := by
  have := w.1 j h
  simp only [ge_H]; omega
theorem ge_WF_pos (w : ge_WF K n) : 0 < n := by
  rcases Nat.eq_zero_or_pos n with z | z
  · rw [z] at w; exact absurd w.2 (by simp [ge_H])
  · exact z
theorem ge_e_spec (w : ge_WF K n) {x : Nat} (h : x < n) : x < ge_e K n x ∧ ge_e K n x ≤ n ∧ ge_H K (ge_e K n x) < ge_H K x ∧ ∀ j, x < j → j < ge_e K n x → ge_H K x ≤ ge_H K j := by
  obtain ⟨a, b, c, d⟩ := ge_sc_spec (ge_H K) (ge_H K x) (n - (x + 1)) (x + 1)
  have hx := w.1 x h
  refine ⟨by unfold ge_e; omega, by unfold ge_e; omega, ?_, ?_⟩
  · refine d ?_
    rw [show x + 1 + (n - (x + 1)) = n by omega, w.2]; omega
  · intro j h1 h2; exact c j (by omega) h2
theorem ge_e_uq (w : ge_WF K n) {x j : Nat} (h : x < n) (h1 : x < j) (h2 : ge_H K j < ge_H K x) (h3 : ∀ k, x < k → k < j → ge_H K x ≤ ge_H K k) : ge_e K n x = j := by
  obtain ⟨a, b, c, d⟩ := ge_e_spec w h
  rcases Nat.lt_trichotomy (ge_e K n x) j with z | z | z
  · have := h3 _ a z; omega
  · exact z
  · have := d j h1 z; omega
theorem ge_e_H (w : ge_WF K n) {x : Nat} (h : x < n) : ge_H K (ge_e K n x) + 1 = ge_H K x := by
  obtain ⟨a, b, c, d⟩ := ge_e_spec w h
  have hp : ge_H K x ≤ ge_H K (ge_e K n x - 1) := by
    rcases Nat.lt_or_ge x (ge_e K n x - 1) with z | z
    · exact d _ z (by omega)
    · rw [show ge_e K n x - 1 = x by omega]; exact Nat.le_refl _
  have hs := ge_H_s w (j := ge_e K n x - 1) (by omega)
  rw [show ge_e K n x - 1 + 1 = ge_e K n x by omega] at hs
  omega
theorem ge_e_0 (w : ge_WF K n) {x : Nat} (h : x < n) (k : K x = 0) : ge_e K n x = x + 1 := by
  have hs := ge_H_s w h
  exact ge_e_uq w h (by omega) (by omega) (fun k h1 h2 => by omega)
theorem ge_e_1n (w : ge_WF K n) {x : Nat} (h : x < n) (k : 1 ≤ K x) : x + 1 < n := by
  have hs := ge_H_s w h
  have h0 := w.1 x h
  rcases Nat.lt_or_ge (x + 1) n with z | z
  · exact z
  · have e : x + 1 = n := by omega
    rw [e, w.2] at hs; omega
theorem ge_e_1 (w : ge_WF K n) {x : Nat} (h : x < n) (k : K x = 1) : ge_e K n x = ge_e K n (x + 1) := by
  have hs := ge_H_s w h
  have hn := ge_e_1n w h (by omega)
  obtain ⟨a, b, c, d⟩ := ge_e_spec w hn
  refine ge_e_uq w h (by omega) (by omega) (fun j h1 h2 => ?_)
  rcases Nat.lt_or_ge (x + 1) j with z | z
  · have := d j z h2; omega
  · rw [show j = x + 1 by omega]; omega
theorem ge_e_2n (w : ge_WF K n) {x : Nat} (h : x < n) (k : K x = 2) : ge_e K n (x + 1) < n := by
  have hs := ge_H_s w h
  have h0 := w.1 x h
  have hn := ge_e_1n w h (by omega)
  have he := ge_e_H w hn
  obtain ⟨a, b, c, d⟩ := ge_e_spec w hn
  rcases Nat.lt_or_ge (ge_e K n (x + 1)) n with z | z
  · exact z
  · have e : ge_e K n (x + 1) = n := by omega
    rw [e, w.2] at he; omega
theorem ge_e_2 (w : ge_WF K n) {x : Nat} (h : x < n) (k : K x = 2) : ge_e K n x = ge_e K n (ge_e K n (x + 1)) := by
  have hs := ge_H_s w h
  have h0 := w.1 x h
  have hn := ge_e_1n w h (by omega)
  have hn2 := ge_e_2n w h k
  have he := ge_e_H w hn
  obtain ⟨a, b, c, d⟩ := ge_e_spec w hn
  obtain ⟨a2, b2, c2, d2⟩ := ge_e_spec w hn2
  refine ge_e_uq w h (by omega) (by omega) (fun j h1 h2 => ?_)
  rcases Nat.lt_trichotomy j (ge_e K n (x + 1)) with z | z | z
  · rcases Nat.lt_or_ge (x + 1) j with y | y
    · have := d j y z; omega
    · rw [show j = x + 1 by omega]; omega
  · rw [z]; omega
  · have := d2 j z h2; omega
theorem ge_e_root (w : ge_WF K n) : ge_e K n 0 = n := by
  have hp := ge_WF_pos w
  refine ge_e_uq w hp hp ?_ ?_
  · rw [w.2]; exact w.1 0 hp
  · intro k _ h2; have := w.1 k h2; simp only [ge_H]; exact this
theorem ge_e_nest (w : ge_WF K n) {x y : Nat} (h : x < n) (h1 : x ≤ y) (h2 : y < ge_e K n x) : ge_e K n y ≤ ge_e K n x := by
  obtain ⟨a, b, c, d⟩ := ge_e_spec w h
  obtain ⟨a2, b2, c2, d2⟩ := ge_e_spec w (x := y) (by omega)
  have hy : ge_H K x ≤ ge_H K y := by
    rcases Nat.lt_or_ge x y with z | z
    · exact d y z h2
    · rw [show y = x by omega]; exact Nat.le_refl _
  rcases Nat.lt_or_ge (ge_e K n x) (ge_e K n y) with z | z
  · have := d2 _ h2 z; omega
  · exact z
/-- the parent: the greatest x below y whose subtree holds y -/
def ge_pf (e : Nat → Nat) (y : Nat) : Nat → Nat
  | 0 => 0
  | f + 1 => if y < e f then f else ge_pf e y f
theorem ge_pf_spec (e : Nat → Nat) (y : Nat) (h0 : y < e 0) : ∀ f, 0 < f → ge_pf e y f < f ∧ y < e (ge_pf e y f) ∧ ∀ x, ge_pf e y f < x → x < f → e x ≤ y
  | 0, h => absurd h (Nat.lt_irrefl _)
  | f + 1, _ => by
    simp only [ge_pf]
    by_cases c : y < e f
    · rw [if_pos c]; exact ⟨by omega, c, fun x h1 h2 => by omega⟩
    · rw [if_neg c]
      rcases Nat.eq_zero_or_pos f with z | z
      · subst z; exact absurd h0 c
      · obtain ⟨a, b, d⟩ := ge_pf_spec e y h0 f z
        refine ⟨by omega, b, fun x h1 h2 => ?_⟩
        rcases Nat.lt_or_ge x f with q | q
        · exact d x h1 q
        · rw [show x = f by omega]; omega
def ge_par (K : Nat → Nat) (n y : Nat) : Nat := ge_pf (ge_e K n) y y
def ge_pl (K : Nat → Nat) (n y : Nat) : Nat := if y = ge_par K n y + 1 then 1 else 2
theorem ge_par_spec (w : ge_WF K n) {y : Nat} (h0 : 0 < y) (h : y < n) : ge_par K n y < y ∧ y < ge_e K n (ge_par K n y) ∧ ∀ x, ge_par K n y < x → x < y → ge_e K n x ≤ y :=
  ge_pf_spec (ge_e K n) y (by rw [ge_e_root w]; exact h) y h0
theorem ge_par_uq (w : ge_WF K n) {x y : Nat} (h : y < n) (h1 : x < y) (h2 : y < ge_e K n x) (h3 : ∀ z, x < z → z < y → ge_e K n z ≤ y) : ge_par K n y = x := by
  obtain ⟨a, b, c⟩ := ge_par_spec w (y := y) (by omega) h
  rcases Nat.lt_trichotomy (ge_par K n y) x with z | z | z
  · have := c x z h1; omega
  · exact z
  · have := h3 _ z a; omega
theorem ge_par_1 (w : ge_WF K n) {x : Nat} (h : x < n) (k : 1 ≤ K x) : ge_par K n (x + 1) = x := by
  have hn := ge_e_1n w h k
  refine ge_par_uq w hn (by omega) ?_ (fun z h1 h2 => by omega)
  obtain ⟨a, b, c, d⟩ := ge_e_spec w h
  rcases Nat.lt_or_ge (x + 1) (ge_e K n x) with z | z
  · exact z
  · have e : ge_e K n x = x + 1 := by omega
    rw [e] at c
    have := ge_H_s w h; omega
theorem ge_pl_1 (w : ge_WF K n) {x : Nat} (h : x < n) (k : 1 ≤ K x) : ge_pl K n (x + 1) = 1 := by
  unfold ge_pl; rw [ge_par_1 w h k, if_pos rfl]
theorem ge_par_2 (w : ge_WF K n) {x : Nat} (h : x < n) (k : K x = 2) : ge_par K n (ge_e K n (x + 1)) = x := by
  have hn := ge_e_1n w h (by omega)
  have hn2 := ge_e_2n w h k
  obtain ⟨a, b, c, d⟩ := ge_e_spec w hn
  obtain ⟨a2, b2, c2, d2⟩ := ge_e_spec w hn2
  refine ge_par_uq w hn2 (by omega) ?_ ?_
  · rw [ge_e_2 w h k]; exact a2
  · intro z h1 h2
    exact ge_e_nest w hn (by omega) h2
theorem ge_pl_2 (w : ge_WF K n) {x : Nat} (h : x < n) (k : K x = 2) : ge_pl K n (ge_e K n (x + 1)) = 2 := by
  have hn := ge_e_1n w h (by omega)
  obtain ⟨a, b, c, d⟩ := ge_e_spec w hn
  unfold ge_pl; rw [ge_par_2 w h k, if_neg (by omega)]
theorem ge_par_cases (w : ge_WF K n) (hk : ∀ x, x < n → K x ≤ 2) {y : Nat} (h0 : 0 < y) (h : y < n) :
    (y = ge_par K n y + 1 ∧ 1 ≤ K (ge_par K n y) ∧ ge_pl K n y = 1) ∨ (y = ge_e K n (ge_par K n y + 1) ∧ K (ge_par K n y) = 2 ∧ ge_pl K n y = 2) := by
  obtain ⟨a, b, c⟩ := ge_par_spec w h0 h
  have hp : ge_par K n y < n := by omega
  have k2 := hk _ hp
  have k0 : K (ge_par K n y) ≠ 0 := by
    intro z
    have := ge_e_0 w hp z; omega
  by_cases e : y = ge_par K n y + 1
  · exact Or.inl ⟨e, by omega, by unfold ge_pl; rw [if_pos e]⟩
  · have h1 := c (ge_par K n y + 1) (by omega) (by omega)
    have kk : K (ge_par K n y) = 2 := by
      rcases Nat.lt_or_ge (K (ge_par K n y)) 2 with z | z
      · have := ge_e_1 w hp (by omega); omega
      · omega
    refine Or.inr ⟨?_, kk, by unfold ge_pl; rw [if_neg e]⟩
    rcases Nat.lt_or_ge (ge_e K n (ge_par K n y + 1)) y with z | z
    · have hx := (ge_e_spec w (ge_e_1n w hp (by omega))).1
      have := c (ge_e K n (ge_par K n y + 1)) (by omega) z
      rw [← ge_e_2 w hp kk] at this; omega
    · omega
/-- children lie strictly inside -/
theorem ge_child_in (w : ge_WF K n) {x : Nat} (h : x < n) (k : 1 ≤ K x) : x + 1 < ge_e K n x ∧ ge_e K n (x + 1) ≤ ge_e K n x := by
  have hn := ge_e_1n w h k
  have := ge_par_spec w (y := x + 1) (by omega) hn
  rw [ge_par_1 w h k] at this
  exact ⟨this.2.1, ge_e_nest w h (by omega) this.2.1⟩
theorem ge_child_in2 (w : ge_WF K n) {x : Nat} (h : x < n) (k : K x = 2) : x + 1 < ge_e K n (x + 1) ∧ ge_e K n (x + 1) < ge_e K n x ∧ ge_e K n (ge_e K n (x + 1)) = ge_e K n x := by
  have hn := ge_e_1n w h (by omega)
  have hn2 := ge_e_2n w h k
  have a := (ge_e_spec w hn).1
  have b := (ge_e_spec w hn2).1
  rw [← ge_e_2 w h k] at b
  exact ⟨a, b, (ge_e_2 w h k).symm⟩
end
end
section
/-! the grammar and the instances of a tree -/
def ge_kd (L R : Nat → Int32) (p : Nat) : Nat := if 0 ≤ L p then (if 0 ≤ R p then 2 else 1) else 0
theorem ge_kd_le (L R : Nat → Int32) (p : Nat) : ge_kd L R p ≤ 2 := by unfold ge_kd; split <;> (try split) <;> omega
def ge_df (k o : Nat) : Bool := decide (o < 4 + 4 * k) && (if o < 4 then decide (2 ≤ o) else decide (o % 4 < 2))
theorem ge_df_iff {k o : Nat} : ge_df k o = true ↔ (o < 4 + 4 * k ∧ ((o < 4 ∧ 2 ≤ o) ∨ (4 ≤ o ∧ o % 4 < 2))) := by
  unfold ge_df
  rw [Bool.and_eq_true, decide_eq_true_iff]
  by_cases h : o < 4
  · rw [if_pos h, decide_eq_true_iff]
    constructor
    · intro z; exact ⟨z.1, Or.inl ⟨h, z.2⟩⟩
    · intro z; exact ⟨z.1, by omega⟩
  · rw [if_neg h, decide_eq_true_iff]
    constructor
    · intro z; exact ⟨z.1, Or.inr ⟨by omega, z.2⟩⟩
    · intro z; exact ⟨z.1, by omega⟩
def ge_d1 (L R O A B : Nat → Int32) (p o c : Nat) : Prop :=
  ge_df (ge_kd L R p) o = true ∧ c < 4 + 4 * ge_kd L R p ∧ ((2 ≤ O (12 * p + o) ∧ A (12 * p + o) = nI c) ∨ (3 ≤ O (12 * p + o) ∧ B (12 * p + o) = nI c))
/-- rules are in range -/
def ge_RO (L R O A B : Nat → Int32) : Prop := ∀ p, p < 8 → ∀ o, o < 12 → 0 ≤ O (12 * p + o) ∧
  (2 ≤ O (12 * p + o) → ∃ a, a < 4 + 4 * ge_kd L R p ∧ A (12 * p + o) = nI a) ∧ (3 ≤ O (12 * p + o) → ∃ b, b < 4 + 4 * ge_kd L R p ∧ B (12 * p + o) = nI b)
def ge_ins (e : Nat → Nat) (y o : Nat) : Nat := 4 * (if o < 4 then y else if o < 8 then y + 1 else e (y + 1)) + o % 4
theorem ge_ins_0 {e : Nat → Nat} {y o : Nat} (h : o < 4) : ge_ins e y o = 4 * y + o := by unfold ge_ins; rw [if_pos h, Nat.mod_eq_of_lt h]
theorem ge_ins_1 {e : Nat → Nat} {y o : Nat} (h : 4 ≤ o) (h2 : o < 8) : ge_ins e y o = 4 * (y + 1) + o % 4 := by unfold ge_ins; rw [if_neg (by omega), if_pos h2]
theorem ge_ins_2 {e : Nat → Nat} {y o : Nat} (h : 8 ≤ o) : ge_ins e y o = 4 * e (y + 1) + o % 4 := by unfold ge_ins; rw [if_neg (by omega), if_neg (by omega)]
def ge_own (K : Nat → Nat) (n i : Nat) : Nat := if 2 ≤ i % 4 then i / 4 else ge_par K n (i / 4)
def ge_oc (K : Nat → Nat) (n i : Nat) : Nat := if 2 ≤ i % 4 then i % 4 else 4 * ge_pl K n (i / 4) + i % 4
section
variable {K : Nat → Nat} {n : Nat}
theorem ge_ins_lt (w : ge_WF K n) (hk : ∀ x, x < n → K x ≤ 2) {y o : Nat} (h : y < n) (ho : o < 4 + 4 * K y) : ge_ins (ge_e K n) y o < 4 * n := by
  have k2 := hk y h
  rcases Nat.lt_or_ge o 4 with z | z
  · rw [ge_ins_0 z]; omega
  · have hn := ge_e_1n w h (by omega)
    rcases Nat.lt_or_ge o 8 with z2 | z2
    · rw [ge_ins_1 z z2]; omega
    · rw [ge_ins_2 z2]; have := ge_e_2n w h (by omega); omega
theorem ge_ins_inj (w : ge_WF K n) (hk : ∀ x, x < n → K x ≤ 2) {y o o' : Nat} (h : y < n) (ho : o < 4 + 4 * K y) (ho' : o' < 4 + 4 * K y) (e : ge_ins (ge_e K n) y o = ge_ins (ge_e K n) y o') : o = o' := by
  have k2 := hk y h
  have a : 8 ≤ o ∨ 8 ≤ o' → y + 1 < ge_e K n (y + 1) := fun z => (ge_child_in2 w h (by omega)).1
  unfold ge_ins at e
  split at e <;> split at e <;> (try split at e) <;> (try split at e) <;> omega
/-- every instance but the root's inherited ones has one rule -/
theorem ge_io (w : ge_WF K n) (hk : ∀ x, x < n → K x ≤ 2) {i : Nat} (h2 : 2 ≤ i) (h : i < 4 * n) :
    ge_own K n i < n ∧ ge_df (K (ge_own K n i)) (ge_oc K n i) = true ∧ ge_ins (ge_e K n) (ge_own K n i) (ge_oc K n i) = i := by
  by_cases c : 2 ≤ i % 4
  · unfold ge_own ge_oc
    rw [if_pos c, if_pos c]
    refine ⟨by omega, ge_df_iff.mpr ⟨by omega, Or.inl ⟨by omega, c⟩⟩, ?_⟩
    rw [ge_ins_0 (by omega)]; omega
  · unfold ge_own ge_oc
    rw [if_neg c, if_neg c]
    have hy : i / 4 < n := by omega
    have hy0 : 0 < i / 4 := by omega
    have hp := (ge_par_spec w hy0 hy).1
    rcases ge_par_cases w hk hy0 hy with ⟨a, b, d⟩ | ⟨a, b, d⟩
    · rw [d]
      refine ⟨by omega, ge_df_iff.mpr ⟨by omega, Or.inr ⟨by omega, by omega⟩⟩, ?_⟩
      rw [ge_ins_1 (by omega) (by omega), ← a]; omega
    · rw [d]
      refine ⟨by omega, ge_df_iff.mpr ⟨by omega, Or.inr ⟨by omega, by omega⟩⟩, ?_⟩
      rw [ge_ins_2 (by omega), ← a]; omega
theorem ge_io2 (w : ge_WF K n) (hk : ∀ x, x < n → K x ≤ 2) {y o : Nat} (h : y < n) (d : ge_df (K y) o = true) :
    2 ≤ ge_ins (ge_e K n) y o ∧ ge_ins (ge_e K n) y o < 4 * n ∧ ge_own K n (ge_ins (ge_e K n) y o) = y ∧ ge_oc K n (ge_ins (ge_e K n) y o) = o := by
  obtain ⟨ho, hd⟩ := ge_df_iff.mp d
  have k2 := hk y h
  refine ⟨?_, ge_ins_lt w hk h ho, ?_⟩
  · have a : 8 ≤ o → y + 1 < ge_e K n (y + 1) := fun z => (ge_child_in2 w h (by omega)).1
    unfold ge_ins; split <;> (try split) <;> omega
  rcases hd with ⟨h4, h2⟩ | ⟨h4, h2⟩
  · rw [ge_ins_0 h4]
    unfold ge_own ge_oc
    rw [if_pos (by omega), if_pos (by omega)]; omega
  · rcases Nat.lt_or_ge o 8 with z | z
    · rw [ge_ins_1 h4 z]
      unfold ge_own ge_oc
      rw [if_neg (by omega), if_neg (by omega), show (4 * (y + 1) + o % 4) / 4 = y + 1 by omega, ge_par_1 w h (by omega), ge_pl_1 w h (by omega)]
      omega
    · rw [ge_ins_2 z]
      unfold ge_own ge_oc
      rw [if_neg (by omega), if_neg (by omega), show (4 * ge_e K n (y + 1) + o % 4) / 4 = ge_e K n (y + 1) by omega, ge_par_2 w h (by omega), ge_pl_2 w h (by omega)]
      omega
/-- where an instance occurs: in its own node's production, or in the parent's -/
theorem ge_occ (w : ge_WF K n) (hk : ∀ x, x < n → K x ≤ 2) {y c x a : Nat} (h : y < n) (hc : c < 4 + 4 * K y) (ha : a < 4) (e : ge_ins (ge_e K n) y c = 4 * x + a) :
    (y = x ∧ c = a) ∨ (0 < x ∧ x < n ∧ y = ge_par K n x ∧ c = 4 * ge_pl K n x + a) := by
  have k2 := hk y h
  rcases Nat.lt_or_ge c 4 with z | z
  · rw [ge_ins_0 z] at e; exact Or.inl ⟨by omega, by omega⟩
  · have hn := ge_e_1n w h (by omega)
    rcases Nat.lt_or_ge c 8 with z2 | z2
    · rw [ge_ins_1 z z2] at e
      have ex : x = y + 1 := by omega
      rw [ex, ge_par_1 w h (by omega), ge_pl_1 w h (by omega)]
      exact Or.inr ⟨by omega, hn, rfl, by omega⟩
    · rw [ge_ins_2 z2] at e
      have h2n := ge_e_2n w h (by omega)
      have ex : x = ge_e K n (y + 1) := by omega
      have := (ge_e_spec w hn).1
      rw [ex, ge_par_2 w h (by omega), ge_pl_2 w h (by omega)]
      exact Or.inr ⟨by omega, h2n, rfl, by omega⟩
end
/-! the solution of a system of rules -/
def ge_Sol (N : Nat) (AR : Nat → Nat → Prop) (vl : (Nat → Int32) → Nat → Int32) (S : Nat → Prop) (V : Nat → Int32) : Prop :=
  (∀ i, i < N → (S i ↔ ∀ j, AR i j → S j)) ∧ (∃ ρ : Nat → Nat, ∀ i, i < N → S i → ∀ j, AR i j → ρ j < ρ i) ∧ (∀ i, i < N → S i → V i = vl V i)
theorem ge_Sol_half {N : Nat} {AR : Nat → Nat → Prop} {vl : (Nat → Int32) → Nat → Int32} {S S' : Nat → Prop} {V V' : Nat → Int32} (hA : ∀ i j, AR i j → j < N)
    (hv : ∀ (V V' : Nat → Int32) i, i < N → (∀ j, AR i j → V j = V' j) → vl V i = vl V' i) (s : ge_Sol N AR vl S V) (s' : ge_Sol N AR vl S' V') : ∀ i, i < N → S i → S' i ∧ V i = V' i := by
  obtain ⟨a, ⟨ρ, b⟩, c⟩ := s
  have key : ∀ k i, ρ i < k → i < N → S i → S' i ∧ V i = V' i := by
    intro k
    induction k with
    | zero => intro i h; omega
    | succ k ih =>
      intro i h hi hs
      have hj : ∀ j, AR i j → S' j ∧ V j = V' j := fun j r => ih j (by have := b i hi hs j r; omega) (hA i j r) ((a i hi).mp hs j r)
      have hs' : S' i := (s'.1 i hi).mpr fun j r => (hj j r).1
      exact ⟨hs', by rw [c i hi hs, s'.2.2 i hi hs']; exact hv V V' i hi (fun j r => (hj j r).2)⟩
  exact fun i hi hs => key _ i (Nat.lt_succ_self _) hi hs
theorem ge_Sol_uq {N : Nat} {AR : Nat → Nat → Prop} {vl : (Nat → Int32) → Nat → Int32} {S S' : Nat → Prop} {V V' : Nat → Int32} (hA : ∀ i j, AR i j → j < N)
    (hv : ∀ (V V' : Nat → Int32) i, i < N → (∀ j, AR i j → V j = V' j) → vl V i = vl V' i) (s : ge_Sol N AR vl S V) (s' : ge_Sol N AR vl S' V') : ∀ i, i < N → (S i ↔ S' i) ∧ (S i → V i = V' i) :=
  fun i hi => ⟨⟨fun h => (ge_Sol_half hA hv s s' i hi h).1, fun h => (ge_Sol_half hA hv s' s i hi h).1⟩, fun h => (ge_Sol_half hA hv s s' i hi h).2⟩
def ge_K (L R pd : Nat → Int32) : Nat → Nat := fun x => ge_kd L R (pd x).toNatClampNeg
theorem ge_K_le (L R pd : Nat → Int32) (x : Nat) : ge_K L R pd x ≤ 2 := ge_kd_le _ _ _
def ge_AR (L R O A B pd : Nat → Int32) (n i j : Nat) : Prop :=
  ∃ y o c, y < n ∧ ge_d1 L R O A B (pd y).toNatClampNeg o c ∧ i = ge_ins (ge_e (ge_K L R pd) n) y o ∧ j = ge_ins (ge_e (ge_K L R pd) n) y c
def ge_vf (op a b t v w : Int32) : Int32 := if op = 0 then a else if op = 1 then t + a else if op = 2 then v + b else if op = 3 then v + w else if op = 4 then v - w else if op = 5 then v * w else if v ≤ w then w else v
def ge_r (L R pd : Nat → Int32) (n i : Nat) : Nat := 12 * (pd (ge_own (ge_K L R pd) n i)).toNatClampNeg + ge_oc (ge_K L R pd) n i
def ge_a1 (L R A pd : Nat → Int32) (n i : Nat) : Nat := ge_ins (ge_e (ge_K L R pd) n) (ge_own (ge_K L R pd) n i) (A (ge_r L R pd n i)).toNatClampNeg
def ge_vl (L R O A B pd tk rt : Nat → Int32) (n : Nat) (V : Nat → Int32) (i : Nat) : Int32 :=
  if i < 2 then rt i else ge_vf (O (ge_r L R pd n i)) (A (ge_r L R pd n i)) (B (ge_r L R pd n i)) (tk (ge_own (ge_K L R pd) n i)) (V (ge_a1 L R A pd n i)) (V (ge_a1 L R B pd n i))
theorem ge_vf_0 {a b t v w : Int32} : ge_vf 0 a b t v w = a := by unfold ge_vf; rw [if_pos rfl]
theorem ge_vf_1 {a b t v w : Int32} : ge_vf 1 a b t v w = t + a := by unfold ge_vf; rw [if_neg (by decide), if_pos rfl]
theorem ge_vf_2 {a b t v w : Int32} : ge_vf 2 a b t v w = v + b := by unfold ge_vf; rw [if_neg (by decide), if_neg (by decide), if_pos rfl]
theorem ge_i32_lt2 {x : Int32} (h0 : 0 ≤ x) (h : ¬ 2 ≤ x) : x = 0 ∨ x = 1 := by
  rw [Int32.le_iff_toInt_le] at h0 h
  rw [show (0 : Int32).toInt = 0 from by decide] at h0
  rw [show (2 : Int32).toInt = 2 from by decide] at h
  have : x.toInt = 0 ∨ x.toInt = 1 := by omega
  rcases this with e | e
  · left; apply Int32.toInt_inj.mp; rw [e]; decide
  · right; apply Int32.toInt_inj.mp; rw [e]; decide
theorem ge_i32_2 {x : Int32} (h0 : 2 ≤ x) (h : ¬ 3 ≤ x) : x = 2 := by
  rw [Int32.le_iff_toInt_le] at h0 h
  rw [show (2 : Int32).toInt = 2 from by decide] at h0
  rw [show (3 : Int32).toInt = 3 from by decide] at h
  apply Int32.toInt_inj.mp
  rw [show (2 : Int32).toInt = 2 from by decide]; omega
theorem ge_i32_32 {x : Int32} (h0 : 3 ≤ x) : 2 ≤ x := Int32.le_trans (by decide) h0
section
variable {L R O A B pd tk rt : Nat → Int32} {n : Nat}
/-- the arguments of i by its own rule -/
theorem ge_AR_iff (w : ge_WF (ge_K L R pd) n) (ro : ge_RO L R O A B) (hp : ∀ x, x < n → (pd x).toNatClampNeg < 8) {i j : Nat} :
    ge_AR L R O A B pd n i j ↔ (2 ≤ i ∧ i < 4 * n ∧ ((2 ≤ O (ge_r L R pd n i) ∧ j = ge_a1 L R A pd n i) ∨ (3 ≤ O (ge_r L R pd n i) ∧ j = ge_a1 L R B pd n i))) := by
  have hk : ∀ x, x < n → ge_K L R pd x ≤ 2 := fun x _ => ge_K_le L R pd x
  constructor
  · rintro ⟨y, o, c, hy, ⟨d, hc, q⟩, rfl, rfl⟩
    obtain ⟨a, b, e1, e2⟩ := ge_io2 w hk hy d
    have hc12 : c < 12 := by have := ge_kd_le L R (pd y).toNatClampNeg; omega
    refine ⟨a, b, ?_⟩
    unfold ge_a1 ge_r
    rw [e1, e2]
    rcases q with ⟨q1, q2⟩ | ⟨q1, q2⟩
    · exact Or.inl ⟨q1, by rw [q2, nI_clamp (by omega)]⟩
    · exact Or.inr ⟨q1, by rw [q2, nI_clamp (by omega)]⟩
  · rintro ⟨h2, hi, q⟩
    obtain ⟨a, b, e⟩ := ge_io w hk h2 hi
    have ho : ge_oc (ge_K L R pd) n i < 12 := by have := (ge_df_iff.mp b).1; have := hk _ a; omega
    obtain ⟨r0, r1, r2⟩ := ro _ (hp _ a) _ ho
    rcases q with ⟨q1, q2⟩ | ⟨q1, q2⟩
    · obtain ⟨c, hc, ec⟩ := r1 q1
      have hc12 : c < 12 := by have := ge_kd_le L R (pd (ge_own (ge_K L R pd) n i)).toNatClampNeg; omega
      refine ⟨_, _, c, a, ⟨b, hc, Or.inl ⟨q1, ec⟩⟩, e.symm, ?_⟩
      rw [q2]; unfold ge_a1 ge_r; rw [ec, nI_clamp (by omega)]
    · obtain ⟨c, hc, ec⟩ := r2 q1
      have hc12 : c < 12 := by have := ge_kd_le L R (pd (ge_own (ge_K L R pd) n i)).toNatClampNeg; omega
      refine ⟨_, _, c, a, ⟨b, hc, Or.inr ⟨q1, ec⟩⟩, e.symm, ?_⟩
      rw [q2]; unfold ge_a1 ge_r; rw [ec, nI_clamp (by omega)]
theorem ge_AR_lt (w : ge_WF (ge_K L R pd) n) {i j : Nat} (h : ge_AR L R O A B pd n i j) : j < 4 * n := by
  obtain ⟨y, o, c, hy, ⟨_, hc, _⟩, _, rfl⟩ := h
  exact ge_ins_lt w (fun x _ => ge_K_le L R pd x) hy hc
theorem ge_vl_cg (w : ge_WF (ge_K L R pd) n) (ro : ge_RO L R O A B) (hp : ∀ x, x < n → (pd x).toNatClampNeg < 8) (V V' : Nat → Int32) (i : Nat) (hi : i < 4 * n) (h : ∀ j, ge_AR L R O A B pd n i j → V j = V' j) :
    ge_vl L R O A B pd tk rt n V i = ge_vl L R O A B pd tk rt n V' i := by
  have hk : ∀ x, x < n → ge_K L R pd x ≤ 2 := fun x _ => ge_K_le L R pd x
  unfold ge_vl
  by_cases h2 : i < 2
  · rw [if_pos h2, if_pos h2]
  rw [if_neg h2, if_neg h2]
  obtain ⟨a, b, e⟩ := ge_io w hk (i := i) (by omega) hi
  have ho : ge_oc (ge_K L R pd) n i < 12 := by have := (ge_df_iff.mp b).1; have := hk _ a; omega
  have r0 : 0 ≤ O (ge_r L R pd n i) := (ro _ (hp _ a) _ ho).1
  by_cases c2 : 2 ≤ O (ge_r L R pd n i)
  · rw [h _ ((ge_AR_iff w ro hp).mpr ⟨by omega, hi, Or.inl ⟨c2, rfl⟩⟩)]
    by_cases c3 : 3 ≤ O (ge_r L R pd n i)
    · rw [h _ ((ge_AR_iff w ro hp).mpr ⟨by omega, hi, Or.inr ⟨c3, rfl⟩⟩)]
    · rw [ge_i32_2 c2 c3, ge_vf_2, ge_vf_2]
  · rcases ge_i32_lt2 r0 c2 with e | e
    · rw [e, ge_vf_0, ge_vf_0]
    · rw [e, ge_vf_1, ge_vf_1]
/-- the users of the instance a of node x -/
theorem ge_AR_use (w : ge_WF (ge_K L R pd) n) {i x a : Nat} (ha : a < 4) (h : ge_AR L R O A B pd n i (4 * x + a)) :
    (x < n ∧ ∃ o, ge_d1 L R O A B (pd x).toNatClampNeg o a ∧ i = ge_ins (ge_e (ge_K L R pd) n) x o) ∨
    (0 < x ∧ x < n ∧ ∃ o, ge_d1 L R O A B (pd (ge_par (ge_K L R pd) n x)).toNatClampNeg o (4 * ge_pl (ge_K L R pd) n x + a) ∧ i = ge_ins (ge_e (ge_K L R pd) n) (ge_par (ge_K L R pd) n x) o) := by
  obtain ⟨y, o, c, hy, d, e1, e2⟩ := h
  rcases ge_occ w (fun x _ => ge_K_le L R pd x) hy d.2.1 ha e2.symm with ⟨rfl, rfl⟩ | ⟨h0, h1, rfl, rfl⟩
  · exact Or.inl ⟨hy, o, d, e1⟩
  · exact Or.inr ⟨h0, h1, o, d, e1⟩
end
end
section
/-! graphs of nodes -/
def ge_dir (L R O A B : Nat → Int32) (p g1 g2 o x : Nat) : Prop := ge_d1 L R O A B p o x ∨
  (4 ≤ o ∧ o < 4 + 4 * ge_kd L R p ∧ 2 ≤ o % 4 ∧ x / 4 = o / 4 ∧ x % 4 < 2 ∧ Nat.testBit (if o < 8 then g1 else g2) (2 * (x % 4) + o % 4 - 2) = true)
theorem ge_dir_r {L R O A B : Nat → Int32} {p g1 g2 o x : Nat} (h : ge_dir L R O A B p g1 g2 o x) : o < 4 + 4 * ge_kd L R p ∧ x < 4 + 4 * ge_kd L R p := by
  rcases h with h | h
  · exact ⟨(ge_df_iff.mp h.1).1, h.2.1⟩
  · omega
noncomputable def ge_CG (L R O A B : Nat → Int32) (p g1 g2 : Nat) : Nat :=
  ge_b (ge_TC (ge_dir L R O A B p g1 g2) 2 0) + 2 * ge_b (ge_TC (ge_dir L R O A B p g1 g2) 3 0) + 4 * ge_b (ge_TC (ge_dir L R O A B p g1 g2) 2 1) + 8 * ge_b (ge_TC (ge_dir L R O A B p g1 g2) 3 1)
def ge_LP (L R O A B : Nat → Int32) (p g1 g2 : Nat) : Prop := ∃ o, ge_TC (ge_dir L R O A B p g1 g2) o o
theorem ge_CG_lt (L R O A B : Nat → Int32) (p g1 g2 : Nat) : ge_CG L R O A B p g1 g2 < 16 := by
  have a := ge_b_le (ge_TC (ge_dir L R O A B p g1 g2) 2 0)
  have b := ge_b_le (ge_TC (ge_dir L R O A B p g1 g2) 3 0)
  have c := ge_b_le (ge_TC (ge_dir L R O A B p g1 g2) 2 1)
  have d := ge_b_le (ge_TC (ge_dir L R O A B p g1 g2) 3 1)
  unfold ge_CG; omega
theorem ge_b4 : ∀ a, a < 2 → ∀ b, b < 2 → ∀ c, c < 2 → ∀ d, d < 2 → ((Nat.testBit (a + 2 * b + 4 * c + 8 * d) 0 = true ↔ a = 1) ∧ (Nat.testBit (a + 2 * b + 4 * c + 8 * d) 1 = true ↔ b = 1)) ∧ ((Nat.testBit (a + 2 * b + 4 * c + 8 * d) 2 = true ↔ c = 1) ∧ (Nat.testBit (a + 2 * b + 4 * c + 8 * d) 3 = true ↔ d = 1)) := by
  intro a ha b hb c hc d hd
  have h1 : a = 0 ∨ a = 1 := by omega
  have h2 : b = 0 ∨ b = 1 := by omega
  have h3 : c = 0 ∨ c = 1 := by omega
  have h4 : d = 0 ∨ d = 1 := by omega
  rcases h1 with rfl | rfl <;> rcases h2 with rfl | rfl <;> rcases h3 with rfl | rfl <;> rcases h4 with rfl | rfl <;> decide
theorem ge_b1 {P : Prop} : ge_b P = 1 ↔ P := by
  rcases Classical.em P with h | h
  · rw [ge_bt h]; exact ⟨fun _ => h, fun _ => rfl⟩
  · rw [ge_bf h]; exact ⟨fun z => absurd z (by decide), fun z => absurd z h⟩
theorem ge_CG_bit {L R O A B : Nat → Int32} {p g1 g2 a b : Nat} (ha : a < 2) (hb : b < 2) : Nat.testBit (ge_CG L R O A B p g1 g2) (2 * a + b) = true ↔ ge_TC (ge_dir L R O A B p g1 g2) (2 + b) a := by
  have q := ge_b4 _ (Nat.lt_succ_of_le (ge_b_le (ge_TC (ge_dir L R O A B p g1 g2) 2 0))) _ (Nat.lt_succ_of_le (ge_b_le (ge_TC (ge_dir L R O A B p g1 g2) 3 0))) _ (Nat.lt_succ_of_le (ge_b_le (ge_TC (ge_dir L R O A B p g1 g2) 2 1))) _ (Nat.lt_succ_of_le (ge_b_le (ge_TC (ge_dir L R O A B p g1 g2) 3 1)))
  rw [ge_b1, ge_b1, ge_b1, ge_b1] at q
  unfold ge_CG
  have ha' : a = 0 ∨ a = 1 := by omega
  have hb' : b = 0 ∨ b = 1 := by omega
  rcases ha' with rfl | rfl <;> rcases hb' with rfl | rfl
  · exact q.1.1
  · exact q.1.2
  · exact q.2.1
  · exact q.2.2
/-- j depends on s by the rules of the nodes from lo to hi -/
def ge_Dp (L R O A B pd : Nat → Int32) (n lo hi s j : Nat) : Prop := ∀ S : Nat → Prop, S s →
  (∀ y o c, lo ≤ y → y < hi → ge_d1 L R O A B (pd y).toNatClampNeg o c → S (ge_ins (ge_e (ge_K L R pd) n) y c) → S (ge_ins (ge_e (ge_K L R pd) n) y o)) → S j
def ge_LC (L R O A B pd : Nat → Int32) (n : Nat) (gr : Nat → Nat) (x : Nat) : Prop :=
  gr x = ge_CG L R O A B (pd x).toNatClampNeg (if 1 ≤ ge_K L R pd x then gr (x + 1) else 0) (if ge_K L R pd x = 2 then gr (ge_e (ge_K L R pd) n (x + 1)) else 0)
/-- c is the child of x at place q -/
def ge_ch (K : Nat → Nat) (n x q c : Nat) : Prop := (q = 1 ∧ 1 ≤ K x ∧ c = x + 1) ∨ (q = 2 ∧ K x = 2 ∧ c = ge_e K n (x + 1))
section
variable {K : Nat → Nat} {n : Nat}
theorem ge_ch_in (w : ge_WF K n) {x q c : Nat} (h : x < n) (k : ge_ch K n x q c) : x < c ∧ c < n ∧ c < ge_e K n x ∧ ge_e K n c ≤ ge_e K n x ∧ 1 ≤ q ∧ q ≤ K x ∧ q ≤ 2 ∧ ge_par K n c = x ∧ ge_pl K n c = q := by
  rcases k with ⟨rfl, k, rfl⟩ | ⟨rfl, k, rfl⟩
  · have a := ge_child_in w h k
    exact ⟨by omega, ge_e_1n w h k, a.1, a.2, by omega, k, by omega, ge_par_1 w h k, ge_pl_1 w h k⟩
  · have a := ge_child_in2 w h k
    exact ⟨by omega, ge_e_2n w h k, a.2.1, by omega, by omega, by omega, by omega, ge_par_2 w h k, ge_pl_2 w h k⟩
theorem ge_ch_ins {x q c r : Nat} (k : ge_ch K n x q c) (hr : r < 4) : ge_ins (ge_e K n) x (4 * q + r) = 4 * c + r := by
  rcases k with ⟨rfl, k, rfl⟩ | ⟨rfl, k, rfl⟩
  · rw [ge_ins_1 (by omega) (by omega)]; omega
  · rw [ge_ins_2 (by omega)]; omega
theorem ge_ch_uq (w : ge_WF K n) {x q c q' c' z : Nat} (h : x < n) (k : ge_ch K n x q c) (k' : ge_ch K n x q' c') (h1 : c ≤ z) (h2 : z < ge_e K n c) (h1' : c' ≤ z) (h2' : z < ge_e K n c') : q = q' ∧ c = c' := by
  rcases k with ⟨rfl, k, rfl⟩ | ⟨rfl, k, rfl⟩ <;> rcases k' with ⟨rfl, k', rfl⟩ | ⟨rfl, k', rfl⟩
  · exact ⟨rfl, rfl⟩
  · omega
  · omega
  · exact ⟨rfl, rfl⟩
theorem ge_ch_cov (w : ge_WF K n) (hk : ∀ x, x < n → K x ≤ 2) {x y : Nat} (h : x < n) (h1 : x < y) (h2 : y < ge_e K n x) : ∃ q c, ge_ch K n x q c ∧ c ≤ y ∧ y < ge_e K n c := by
  have k2 := hk x h
  rcases Nat.eq_zero_or_pos (K x) with z | z
  · have := ge_e_0 w h z; omega
  · rcases Nat.lt_or_ge (K x) 2 with z2 | z2
    · have := ge_e_1 w h (by omega)
      exact ⟨1, x + 1, Or.inl ⟨rfl, z, rfl⟩, by omega, by omega⟩
    · have e := ge_e_2 w h (by omega)
      rcases Nat.lt_or_ge y (ge_e K n (x + 1)) with q | q
      · exact ⟨1, x + 1, Or.inl ⟨rfl, z, rfl⟩, by omega, q⟩
      · exact ⟨2, _, Or.inr ⟨rfl, by omega, rfl⟩, q, by omega⟩
theorem ge_ch_of {x : Nat} (hk : K x ≤ 2) {o : Nat} (h4 : 4 ≤ o) (ho : o < 4 + 4 * K x) : ∃ c, ge_ch K n x (o / 4) c := by
  rcases Nat.lt_or_ge o 8 with z | z
  · exact ⟨x + 1, Or.inl ⟨by omega, by omega, rfl⟩⟩
  · exact ⟨_, Or.inr ⟨by omega, by omega, rfl⟩⟩
theorem ge_node (w : ge_WF K n) (hk : ∀ x, x < n → K x ≤ 2) {y o : Nat} (h : y < n) (ho : o < 4 + 4 * K y) : y ≤ ge_ins (ge_e K n) y o / 4 ∧ ge_ins (ge_e K n) y o / 4 < ge_e K n y := by
  have := (ge_e_spec w h).1
  rcases Nat.lt_or_ge o 4 with z | z
  · rw [ge_ins_0 z]; omega
  · obtain ⟨c, hc⟩ := ge_ch_of (n := n) (hk y h) z ho
    have q := ge_ch_in w h hc
    have e := ge_ch_ins hc (r := o % 4) (by omega)
    rw [show 4 * (o / 4) + o % 4 = o by omega] at e
    rw [e]; omega
end
section
variable {L R O A B pd : Nat → Int32} {n : Nat}
theorem ge_Dp_r {lo hi s : Nat} : ge_Dp L R O A B pd n lo hi s s := fun _ h _ => h
theorem ge_Dp_c {lo hi s y o c : Nat} (h1 : lo ≤ y) (h2 : y < hi) (d : ge_d1 L R O A B (pd y).toNatClampNeg o c) (h : ge_Dp L R O A B pd n lo hi s (ge_ins (ge_e (ge_K L R pd) n) y c)) : ge_Dp L R O A B pd n lo hi s (ge_ins (ge_e (ge_K L R pd) n) y o) :=
  fun S h0 hs => hs y o c h1 h2 d (h S h0 hs)
theorem ge_Dp_t {lo hi lo' hi' s j k : Nat} (h1 : lo ≤ lo') (h2 : hi' ≤ hi) (a : ge_Dp L R O A B pd n lo hi s j) (b : ge_Dp L R O A B pd n lo' hi' j k) : ge_Dp L R O A B pd n lo hi s k :=
  fun S h0 hs => b S (a S h0 hs) (fun y o c l1 l2 => hs y o c (by omega) (by omega))
/-- what depends on an inherited instance of c lies in c's subtree, and is it or has its rule there -/
theorem ge_Dp_in (w : ge_WF (ge_K L R pd) n) {c a j : Nat} (h : c < n) (ha : a < 2) (d : ge_Dp L R O A B pd n c (ge_e (ge_K L R pd) n c) (4 * c + a) j) :
    c ≤ j / 4 ∧ j / 4 < ge_e (ge_K L R pd) n c ∧ (j = 4 * c + a ∨ ∃ y o, c ≤ y ∧ y < ge_e (ge_K L R pd) n c ∧ ge_df (ge_K L R pd y) o = true ∧ j = ge_ins (ge_e (ge_K L R pd) n) y o) := by
  have hk : ∀ x, x < n → ge_K L R pd x ≤ 2 := fun x _ => ge_K_le L R pd x
  have he := ge_e_spec w h
  refine d (fun j => c ≤ j / 4 ∧ j / 4 < ge_e (ge_K L R pd) n c ∧ (j = 4 * c + a ∨ ∃ y o, c ≤ y ∧ y < ge_e (ge_K L R pd) n c ∧ ge_df (ge_K L R pd y) o = true ∧ j = ge_ins (ge_e (ge_K L R pd) n) y o)) ?_ ?_
  · exact ⟨by omega, by omega, Or.inl rfl⟩
  · intro y o x h1 h2 d1 _
    have hy : y < n := by omega
    have e1 := ge_node w hk hy (ge_df_iff.mp d1.1).1
    have e2 := ge_e_nest w h h1 h2
    exact ⟨by omega, by omega, Or.inr ⟨y, o, h1, h2, d1.1, rfl⟩⟩
theorem ge_gr_half1 (w : ge_WF (ge_K L R pd) n) {gr : Nat → Nat} {x : Nat} (h : x < n)
    (IH : ∀ q c, ge_ch (ge_K L R pd) n x q c → ∀ a b, a < 2 → b < 2 → Nat.testBit (gr c) (2 * a + b) = true → ge_Dp L R O A B pd n c (ge_e (ge_K L R pd) n c) (4 * c + a) (4 * c + 2 + b))
    {g1 g2 : Nat} (e1 : 1 ≤ ge_K L R pd x → g1 = gr (x + 1)) (e2 : ge_K L R pd x = 2 → g2 = gr (ge_e (ge_K L R pd) n (x + 1)))
    {o o' : Nat} (t : ge_TC (ge_dir L R O A B (pd x).toNatClampNeg g1 g2) o o') :
    ∀ s, ge_Dp L R O A B pd n x (ge_e (ge_K L R pd) n x) s (ge_ins (ge_e (ge_K L R pd) n) x o') → ge_Dp L R O A B pd n x (ge_e (ge_K L R pd) n x) s (ge_ins (ge_e (ge_K L R pd) n) x o) := by
  have he := ge_e_spec w h
  refine t (fun o o' => ∀ s, ge_Dp L R O A B pd n x (ge_e (ge_K L R pd) n x) s (ge_ins (ge_e (ge_K L R pd) n) x o') → ge_Dp L R O A B pd n x (ge_e (ge_K L R pd) n x) s (ge_ins (ge_e (ge_K L R pd) n) x o)) ?_ (fun _ _ _ f g s z => f s (g s z))
  intro o o' d s z
  rcases d with d | ⟨d1, d2, d3, d4, d5, d6⟩
  · exact ge_Dp_c (Nat.le_refl _) he.1 d z
  · obtain ⟨c, hc⟩ := ge_ch_of (K := ge_K L R pd) (n := n) (ge_K_le L R pd x) d1 d2
    have q := ge_ch_in w h hc
    have eo := ge_ch_ins hc (r := o % 4) (by omega)
    have eo' := ge_ch_ins hc (r := o' % 4) (by omega)
    rw [show 4 * (o / 4) + o % 4 = o by omega] at eo
    rw [show 4 * (o / 4) + o' % 4 = o' by omega] at eo'
    rw [eo'] at z
    rw [eo]
    have hg : Nat.testBit (gr c) (2 * (o' % 4) + (o % 4 - 2)) = true := by
      rw [show 2 * (o' % 4) + (o % 4 - 2) = 2 * (o' % 4) + o % 4 - 2 by omega]
      rcases hc with ⟨c1, c2, rfl⟩ | ⟨c1, c2, rfl⟩
      · rw [if_pos (by omega), e1 c2] at d6; exact d6
      · rw [if_neg (by omega), e2 c2] at d6; exact d6
    have := IH _ c hc _ _ d5 (by omega) hg
    rw [show 4 * c + 2 + (o % 4 - 2) = 4 * c + o % 4 by omega] at this
    exact ge_Dp_t (by omega) (by omega) z this
theorem ge_gr_half2 (w : ge_WF (ge_K L R pd) n) {gr : Nat → Nat} {x : Nat} (h : x < n)
    (IH : ∀ q c, ge_ch (ge_K L R pd) n x q c → ∀ a b, a < 2 → b < 2 → (Nat.testBit (gr c) (2 * a + b) = true ↔ ge_Dp L R O A B pd n c (ge_e (ge_K L R pd) n c) (4 * c + a) (4 * c + 2 + b)))
    {g1 g2 : Nat} (e1 : 1 ≤ ge_K L R pd x → g1 = gr (x + 1)) (e2 : ge_K L R pd x = 2 → g2 = gr (ge_e (ge_K L R pd) n (x + 1)))
    {a b : Nat} (ha : a < 2) (hb : b < 2) (d : ge_Dp L R O A B pd n x (ge_e (ge_K L R pd) n x) (4 * x + a) (4 * x + 2 + b)) :
    ge_TC (ge_dir L R O A B (pd x).toNatClampNeg g1 g2) (2 + b) a := by
  have hk : ∀ x, x < n → ge_K L R pd x ≤ 2 := fun x _ => ge_K_le L R pd x
  have he := ge_e_spec w h
  have gbit : ∀ q c a' r, ge_ch (ge_K L R pd) n x q c → a' < 2 → 2 ≤ r → r < 4 → (ge_dir L R O A B (pd x).toNatClampNeg g1 g2 (4 * q + r) (4 * q + a') ↔ ge_Dp L R O A B pd n c (ge_e (ge_K L R pd) n c) (4 * c + a') (4 * c + r)) := by
    intro q c a' r hc ha' hr hr4
    have hq := ge_ch_in w h hc
    have i1 := IH q c hc a' (r - 2) ha' (by omega)
    rw [show 4 * c + 2 + (r - 2) = 4 * c + r by omega] at i1
    rw [← i1]
    have eg : (if 4 * q + r < 8 then g1 else g2) = gr c := by
      rcases hc with ⟨c1, c2, rfl⟩ | ⟨c1, c2, rfl⟩
      · rw [if_pos (by omega), e1 c2]
      · rw [if_neg (by omega), e2 c2]
    unfold ge_dir
    rw [eg, show 2 * ((4 * q + a') % 4) + (4 * q + r) % 4 - 2 = 2 * a' + (r - 2) by omega]
    constructor
    · rintro (z | z)
      · have := (ge_df_iff.mp z.1).2; omega
      · exact z.2.2.2.2.2
    · intro z
      have : ge_K L R pd x = ge_kd L R (pd x).toNatClampNeg := rfl
      exact Or.inr ⟨by omega, by omega, by omega, by omega, by omega, z⟩
  have key := d (fun j => (∃ o, o < 4 + 4 * ge_K L R pd x ∧ j = ge_ins (ge_e (ge_K L R pd) n) x o ∧ (o = a ∨ ge_TC (ge_dir L R O A B (pd x).toNatClampNeg g1 g2) o a)) ∨
    (∃ q c a', ge_ch (ge_K L R pd) n x q c ∧ a' < 2 ∧ ge_TC (ge_dir L R O A B (pd x).toNatClampNeg g1 g2) (4 * q + a') a ∧ ge_Dp L R O A B pd n c (ge_e (ge_K L R pd) n c) (4 * c + a') j)) ?_ ?_
  · rcases key with ⟨o, ho, ej, q⟩ | ⟨q, c, a', hc, ha', t, dp⟩
    · have eo : 2 + b = o := by
        refine ge_ins_inj w hk h (by omega) ho ?_
        rw [← ej, ge_ins_0 (by omega)]; omega
      rcases q with q | q
      · omega
      · rw [eo]; exact q
    · have hq := ge_ch_in w h hc
      have := (ge_Dp_in w hq.2.1 ha' dp).1
      omega
  · exact Or.inl ⟨a, by omega, by rw [ge_ins_0 (by omega)], Or.inl rfl⟩
  · intro y o c' h1 h2 d1 z
    have hy : y < n := by omega
    have hc' : c' < 4 + 4 * ge_K L R pd y := d1.2.1
    have ho : o < 4 + 4 * ge_K L R pd y := (ge_df_iff.mp d1.1).1
    rcases Nat.lt_or_ge x y with hxy | hxy
    · obtain ⟨q, c, hc, l1, l2⟩ := ge_ch_cov w hk h hxy h2
      have hq := ge_ch_in w h hc
      have fin : ∀ a', a' < 2 → ge_TC (ge_dir L R O A B (pd x).toNatClampNeg g1 g2) (4 * q + a') a → ge_Dp L R O A B pd n c (ge_e (ge_K L R pd) n c) (4 * c + a') (ge_ins (ge_e (ge_K L R pd) n) y c') →
          (∃ q c a', ge_ch (ge_K L R pd) n x q c ∧ a' < 2 ∧ ge_TC (ge_dir L R O A B (pd x).toNatClampNeg g1 g2) (4 * q + a') a ∧ ge_Dp L R O A B pd n c (ge_e (ge_K L R pd) n c) (4 * c + a') (ge_ins (ge_e (ge_K L R pd) n) y o)) :=
        fun a' ha' t dp => ⟨q, c, a', hc, ha', t, ge_Dp_c l1 l2 d1 dp⟩
      have nd := ge_node w hk hy hc'
      have ne := ge_e_nest w hq.2.1 l1 l2
      rcases z with ⟨o1, ho1, ej, t⟩ | ⟨q2, c2, a', hc2, ha', t, dp⟩
      · have o4 : 4 ≤ o1 := by
          rcases Nat.lt_or_ge o1 4 with z4 | z4
          · rw [ej, ge_ins_0 z4] at nd; omega
          · exact z4
        obtain ⟨cc, hcc⟩ := ge_ch_of (K := ge_K L R pd) (n := n) (hk x h) o4 ho1
        have hqc := ge_ch_in w h hcc
        have ei := ge_ch_ins hcc (r := o1 % 4) (by omega)
        rw [show 4 * (o1 / 4) + o1 % 4 = o1 by omega] at ei
        rw [ei] at ej
        have hn : y = cc ∧ c' = o1 % 4 := by
          rcases ge_occ w hk hy hc' (by omega) ej with z5 | z5
          · exact z5
          · have := z5.2.2.1; omega
        have uq := ge_ch_uq w h hc hcc l1 l2 (by omega) (by rw [hn.1]; exact (ge_e_spec w hqc.2.1).1)
        have t' : ge_TC (ge_dir L R O A B (pd x).toNatClampNeg g1 g2) o1 a := t.resolve_left (by omega)
        right
        rcases Nat.lt_or_ge (o1 % 4) 2 with m | m
        · refine fin (o1 % 4) m (by rw [uq.1, show 4 * (o1 / 4) + o1 % 4 = o1 by omega]; exact t') ?_
          rw [ej, uq.2]; exact ge_Dp_r
        · obtain ⟨v, dv, hv⟩ := ge_TC_first t'
          have dv2 := dv
          rcases dv2 with dv2 | ⟨f1, f2, f3, f4, f5, f6⟩
          · have := (ge_df_iff.mp dv2.1).2; omega
          · have ev : v = 4 * q + v % 4 := by omega
            have tv : ge_TC (ge_dir L R O A B (pd x).toNatClampNeg g1 g2) v a := hv.resolve_left (by omega)
            refine fin (v % 4) f5 (by rw [← ev]; exact tv) ?_
            rw [ej, ← uq.2]
            refine (gbit q c (v % 4) (o1 % 4) hc f5 m (by omega)).mp ?_
            rw [← ev, show 4 * q + o1 % 4 = o1 by omega]; exact dv
      · have hq2 := ge_ch_in w h hc2
        have di := ge_Dp_in w hq2.2.1 ha' dp
        have uq := ge_ch_uq w h hc hc2 (z := ge_ins (ge_e (ge_K L R pd) n) y c' / 4) (by omega) (by omega) di.1 di.2.1
        right
        exact fin a' ha' (by rw [uq.1]; exact t) (by rw [uq.2]; exact dp)
    · have exy : y = x := by omega
      subst exy
      have hd : ge_dir L R O A B (pd y).toNatClampNeg g1 g2 o c' := Or.inl d1
      have done : (c' = a ∨ ge_TC (ge_dir L R O A B (pd y).toNatClampNeg g1 g2) c' a) → (∃ o', o' < 4 + 4 * ge_K L R pd y ∧ ge_ins (ge_e (ge_K L R pd) n) y o = ge_ins (ge_e (ge_K L R pd) n) y o' ∧ (o' = a ∨ ge_TC (ge_dir L R O A B (pd y).toNatClampNeg g1 g2) o' a)) := by
        rintro (rfl | t)
        · exact ⟨o, ho, rfl, Or.inr (ge_TC_i hd)⟩
        · exact ⟨o, ho, rfl, Or.inr (ge_TC_t (ge_TC_i hd) t)⟩
      left
      rcases z with ⟨o1, ho1, ej, t⟩ | ⟨q, c, a', hc, ha', t, dp⟩
      · have := ge_ins_inj w hk hy hc' ho1 ej
        rw [this] at done
        exact done t
      · have hq := ge_ch_in w hy hc
        have di := ge_Dp_in w hq.2.1 ha' dp
        rcases di.2.2 with ej | ⟨y', o', l1, l2, df', ej⟩
        · have : c' = 4 * q + a' := by
            refine ge_ins_inj w hk hy hc' (by omega) ?_
            rw [ej, ge_ch_ins hc (by omega)]
          exact done (Or.inr (by rw [this]; exact t))
        · have hy' : y' < n := by omega
          have i2 := ge_io2 w hk hy' df'
          have nd' := ge_node w hk hy' (ge_df_iff.mp df').1
          have nodf : ¬ ge_df (ge_K L R pd y) c' = true := by
            intro z5
            have i3 := ge_io2 w hk hy z5
            rw [ej, i2.2.2.1] at i3
            omega
          have c4 : 4 ≤ c' := by
            rcases Nat.lt_or_ge c' 4 with z4 | z4
            · rw [ge_ins_0 z4] at ej; omega
            · exact z4
          have cm : 2 ≤ c' % 4 := by
            rcases Nat.lt_or_ge (c' % 4) 2 with z4 | z4
            · exact absurd (ge_df_iff.mpr ⟨hc', Or.inr ⟨c4, z4⟩⟩) nodf
            · exact z4
          obtain ⟨cc, hcc⟩ := ge_ch_of (K := ge_K L R pd) (n := n) (hk y hy) c4 hc'
          have hqc := ge_ch_in w hy hcc
          have ei := ge_ch_ins hcc (r := c' % 4) (by omega)
          rw [show 4 * (c' / 4) + c' % 4 = c' by omega] at ei
          have uq := ge_ch_uq w hy hc hcc (z := cc) (by rw [ei] at di; omega) (by rw [ei] at di; omega) (Nat.le_refl _) (ge_e_spec w hqc.2.1).1
          refine done (Or.inr (ge_TC_t (ge_TC_i ?_) t))
          have := (gbit q c a' (c' % 4) hc ha' cm (by omega)).mpr (by rw [ei, ← uq.2] at dp; exact dp)
          rw [show 4 * q + c' % 4 = c' by omega] at this
          exact this
theorem ge_gr (w : ge_WF (ge_K L R pd) n) {gr : Nat → Nat} (lc : ∀ x, x < n → ge_LC L R O A B pd n gr x) : ∀ k x, n - x < k → x < n → ∀ a b, a < 2 → b < 2 →
    (Nat.testBit (gr x) (2 * a + b) = true ↔ ge_Dp L R O A B pd n x (ge_e (ge_K L R pd) n x) (4 * x + a) (4 * x + 2 + b)) := by
  intro k
  induction k with
  | zero => intro x h; omega
  | succ k ih =>
    intro x hk h a b ha hb
    have IH : ∀ q c, ge_ch (ge_K L R pd) n x q c → ∀ a b, a < 2 → b < 2 → (Nat.testBit (gr c) (2 * a + b) = true ↔ ge_Dp L R O A B pd n c (ge_e (ge_K L R pd) n c) (4 * c + a) (4 * c + 2 + b)) := by
      intro q c hc
      have hq := ge_ch_in w h hc
      exact ih c (by omega) hq.2.1
    rw [lc x h, ge_CG_bit ha hb]
    constructor
    · intro t
      have := ge_gr_half1 w h (fun q c hc a b ha hb => (IH q c hc a b ha hb).mp) (fun z => if_pos z) (fun z => if_pos z) t (4 * x + a) (by rw [ge_ins_0 (by omega)]; exact ge_Dp_r)
      rw [ge_ins_0 (by omega)] at this
      rw [show 4 * x + 2 + b = 4 * x + (2 + b) by omega]; exact this
    · intro d
      exact ge_gr_half2 w h IH (fun z => if_pos z) (fun z => if_pos z) ha hb d
end
end
section
/-! replacing the subtree of t (m nodes) by f nodes -/
def ge_ph (t m f z : Nat) : Nat := if z ≤ t then z else z + f - m
theorem ge_ph_lo {t m f z : Nat} (h : z ≤ t) : ge_ph t m f z = z := if_pos h
theorem ge_ph_hi {t m f z : Nat} (h : t < z) : ge_ph t m f z = z + f - m := if_neg (by omega)
def ge_pI (t m f i : Nat) : Nat := 4 * ge_ph t m f (i / 4) + i % 4
/-- kept nodes -/
def ge_kp (n t m z : Nat) : Prop := z < n ∧ (z < t ∨ t + m ≤ z)
/-- kept instances -/
def ge_kI (n t m i : Nat) : Prop := i < 4 * n ∧ (i < 4 * t + 2 ∨ 4 * (t + m) ≤ i)
section
variable {K K' KD : Nat → Nat} {n n' t m f : Nat}
theorem ge_sp_H (w : ge_WF K n) (wd : ge_WF KD f) (ht : t < n) (hm : t + m = ge_e K n t) (h1 : ∀ x, x < t → K' x = K x) (h2 : ∀ x, x < f → K' (t + x) = KD x) (h3 : ∀ x, t + m ≤ x → x < n → K' (x + f - m) = K x) :
    (∀ z, z ≤ t → ge_H K' z = ge_H K z) ∧ (∀ x, x ≤ f → ge_H K' (t + x) + 1 = ge_H K t + ge_H KD x) ∧ (∀ z, t + m ≤ z → z ≤ n → ge_H K' (z + f - m) = ge_H K z) := by
  have es := ge_e_spec w ht
  have eh := ge_e_H w ht
  have a : ∀ z, z ≤ t → ge_H K' z = ge_H K z := by
    intro z
    induction z with
    | zero => intro _; rfl
    | succ z ih => intro hz; simp only [ge_H]; rw [ih (by omega), h1 z (by omega)]
  have b : ∀ x, x ≤ f → ge_H K' (t + x) + 1 = ge_H K t + ge_H KD x := by
    intro x
    induction x with
    | zero =>
      intro _
      have e : ge_H K' (t + 0) = ge_H K t := a t (Nat.le_refl _)
      rw [e]; rfl
    | succ x ih =>
      intro hx
      have i1 := ih (by omega)
      have i2 := ge_H_s wd (j := x) (by omega)
      have i3 := wd.1 x (by omega)
      have i4 := w.1 t ht
      have i5 : ge_H K' (t + (x + 1)) = ge_H K' (t + x) + K' (t + x) - 1 := rfl
      rw [i5, h2 x (by omega)]
      omega
  refine ⟨a, b, ?_⟩
  have c : ∀ d, t + m + d ≤ n → ge_H K' (t + f + d) = ge_H K (t + m + d) := by
    intro d
    induction d with
    | zero =>
      intro _
      have := b f (Nat.le_refl _)
      rw [wd.2] at this
      rw [Nat.add_zero, Nat.add_zero]
      rw [← hm] at eh
      omega
    | succ d ih =>
      intro hd
      have i1 : ge_H K' (t + f + (d + 1)) = ge_H K' (t + f + d) + K' (t + f + d) - 1 := rfl
      have i2 : ge_H K (t + m + (d + 1)) = ge_H K (t + m + d) + K (t + m + d) - 1 := rfl
      have i3 := h3 (t + m + d) (by omega) (by omega)
      rw [show t + m + d + f - m = t + f + d by omega] at i3
      rw [i1, i2, ih (by omega), i3]
  intro z hz hz2
  have := c (z - (t + m)) (by omega)
  rw [show t + f + (z - (t + m)) = z + f - m by omega, show t + m + (z - (t + m)) = z by omega] at this
  exact this
theorem ge_sp_WF (w : ge_WF K n) (wd : ge_WF KD f) (ht : t < n) (hm : t + m = ge_e K n t) (h1 : ∀ x, x < t → K' x = K x) (h2 : ∀ x, x < f → K' (t + x) = KD x) (h3 : ∀ x, t + m ≤ x → x < n → K' (x + f - m) = K x) (hn : n' = n + f - m) :
    ge_WF K' n' := by
  obtain ⟨a, b, c⟩ := ge_sp_H w wd ht hm h1 h2 h3
  have es := ge_e_spec w ht
  refine ⟨fun j hj => ?_, ?_⟩
  · rcases Nat.lt_or_ge j t with z | z
    · rw [a j (by omega)]; exact w.1 j (by omega)
    · rcases Nat.lt_or_ge j (t + f) with y | y
      · have i1 := b (j - t) (by omega)
        have i2 := wd.1 (j - t) (by omega)
        have i3 := w.1 t ht
        rw [show t + (j - t) = j by omega] at i1
        omega
      · have := c (j + m - f) (by omega) (by omega)
        rw [show j + m - f + f - m = j by omega] at this
        rw [this]; exact w.1 _ (by omega)
  · rw [hn, c n (by omega) (Nat.le_refl _)]; exact w.2
theorem ge_sp_lam (w : ge_WF K n) (ht : t < n) (hm : t + m = ge_e K n t) {x : Nat} (hx : x ≤ t) : ge_e K n x ≤ t ∨ t + m ≤ ge_e K n x := by
  rcases Nat.lt_or_ge t (ge_e K n x) with z | z
  · right; rw [hm]; exact ge_e_nest w (by omega) hx z
  · exact Or.inl z
theorem ge_sp_e (w : ge_WF K n) (wd : ge_WF KD f) (ht : t < n) (hm : t + m = ge_e K n t) (h1 : ∀ x, x < t → K' x = K x) (h2 : ∀ x, x < f → K' (t + x) = KD x) (h3 : ∀ x, t + m ≤ x → x < n → K' (x + f - m) = K x) (hn : n' = n + f - m)
    {x : Nat} (hx : x < n) (hx2 : x ≤ t ∨ t + m ≤ x) : ge_e K' n' (ge_ph t m f x) = ge_ph t m f (ge_e K n x) := by
  obtain ⟨a, b, c⟩ := ge_sp_H w wd ht hm h1 h2 h3
  have w' := ge_sp_WF w wd ht hm h1 h2 h3 hn
  have f0 := ge_WF_pos wd
  have et := ge_e_spec w ht
  have ex := ge_e_spec w hx
  have hH : ∀ z, z ≤ n → (z ≤ t ∨ t + m ≤ z) → ge_H K' (ge_ph t m f z) = ge_H K z := by
    intro z hz hz2
    rcases Nat.lt_or_ge t z with y | y
    · rw [ge_ph_hi y]; exact c z (by omega) hz
    · rw [ge_ph_lo y]; exact a z y
  have hex : ge_e K n x ≤ t ∨ t + m ≤ ge_e K n x := by
    rcases hx2 with z | z
    · exact ge_sp_lam w ht hm z
    · right; omega
  refine ge_e_uq w' ?_ ?_ ?_ ?_
  · unfold ge_ph; split <;> omega
  · unfold ge_ph; split <;> split <;> omega
  · rw [hH x (by omega) hx2, hH _ ex.2.1 hex]; exact ex.2.2.1
  · intro k k1 k2
    rw [hH x (by omega) hx2]
    rcases Nat.lt_or_ge t k with y | y
    · rcases Nat.lt_or_ge k (t + f) with y2 | y2
      · have x1 : x ≤ t := by
          rcases hx2 with z | z
          · exact z
          · rw [ge_ph_hi (by omega)] at k1; omega
        have x2 : t < ge_e K n x := by
          rcases Nat.lt_or_ge t (ge_e K n x) with z | z
          · exact z
          · rw [ge_ph_lo z] at k2; omega
        have i1 := b (k - t) (by omega)
        have i2 := wd.1 (k - t) (by omega)
        rw [show t + (k - t) = k by omega] at i1
        have : ge_H K x ≤ ge_H K t := by
          rcases Nat.lt_or_ge x t with z | z
          · exact ex.2.2.2 t z x2
          · rw [show x = t by omega]; exact Nat.le_refl _
        omega
      · have i1 := c (k + m - f) (by omega) (by unfold ge_ph at k2; split at k2 <;> omega)
        rw [show k + m - f + f - m = k by omega] at i1
        rw [i1]
        refine ex.2.2.2 _ ?_ ?_
        · unfold ge_ph at k1; split at k1 <;> omega
        · unfold ge_ph at k2; split at k2 <;> omega
    · rw [a k y]
      refine ex.2.2.2 _ ?_ ?_
      · unfold ge_ph at k1; split at k1 <;> omega
      · unfold ge_ph at k2; split at k2 <;> omega
theorem ge_sp_K (h1 : ∀ x, x < t → K' x = K x) (h3 : ∀ x, t + m ≤ x → x < n → K' (x + f - m) = K x) (hm0 : 0 < m) {z : Nat} (k : ge_kp n t m z) : K' (ge_ph t m f z) = K z := by
  rcases k.2 with y | y
  · rw [ge_ph_lo (by omega)]; exact h1 z y
  · rw [ge_ph_hi (by omega)]; exact h3 z y k.1
theorem ge_sp_ins (w : ge_WF K n) (hk : ∀ x, x < n → K x ≤ 2) (wd : ge_WF KD f) (ht : t < n) (hm : t + m = ge_e K n t) (h1 : ∀ x, x < t → K' x = K x) (h2 : ∀ x, x < f → K' (t + x) = KD x) (h3 : ∀ x, t + m ≤ x → x < n → K' (x + f - m) = K x) (hn : n' = n + f - m)
    {z c : Nat} (k : ge_kp n t m z) (hc : c < 4 + 4 * K z) : ge_ins (ge_e K' n') (ge_ph t m f z) c = ge_pI t m f (ge_ins (ge_e K n) z c) ∧
      (ge_ins (ge_e K n) z c < 4 * (t + 1) ∨ 4 * (t + m) ≤ ge_ins (ge_e K n) z c) := by
  have et := ge_e_spec w ht
  have k2 := hk z k.1
  rcases Nat.lt_or_ge c 4 with y | y
  · rw [ge_ins_0 y, ge_ins_0 y]
    refine ⟨?_, by have := k.2; omega⟩
    unfold ge_pI; rw [show (4 * z + c) / 4 = z by omega, show (4 * z + c) % 4 = c by omega]
  · have hn1 := ge_e_1n w k.1 (by omega)
    have e1 : ge_ph t m f z + 1 = ge_ph t m f (z + 1) := by have := k.2; unfold ge_ph; split <;> split <;> omega
    rcases Nat.lt_or_ge c 8 with y2 | y2
    · rw [ge_ins_1 y y2, ge_ins_1 y y2, e1]
      refine ⟨?_, by have := k.2; omega⟩
      unfold ge_pI; rw [show (4 * (z + 1) + c % 4) / 4 = z + 1 by omega, show (4 * (z + 1) + c % 4) % 4 = c % 4 by omega]
    · rw [ge_ins_2 y2, ge_ins_2 y2, e1, ge_sp_e w wd ht hm h1 h2 h3 hn hn1 (by have := k.2; omega)]
      have hl : ge_e K n (z + 1) ≤ t ∨ t + m ≤ ge_e K n (z + 1) := by
        rcases k.2 with q | q
        · exact ge_sp_lam w ht hm (by omega)
        · right; have := (ge_e_spec w hn1).1; omega
      refine ⟨?_, by omega⟩
      unfold ge_pI
      rw [show (4 * ge_e K n (z + 1) + c % 4) / 4 = ge_e K n (z + 1) by omega, show (4 * ge_e K n (z + 1) + c % 4) % 4 = c % 4 by omega]
theorem ge_sp_own (w : ge_WF K n) (hk : ∀ x, x < n → K x ≤ 2) (ht : t < n) (hm : t + m = ge_e K n t) {i : Nat} (h2 : 2 ≤ i) (k : ge_kI n t m i) : ge_kp n t m (ge_own K n i) := by
  have et := ge_e_spec w ht
  have io := ge_io w hk h2 k.1
  refine ⟨io.1, ?_⟩
  by_cases c : 2 ≤ i % 4
  · unfold ge_own; rw [if_pos c]; have := k.2; omega
  · unfold ge_own; rw [if_neg c]
    have hy : 0 < i / 4 := by omega
    have hp := ge_par_spec w hy (by have := k.1; omega)
    rcases Nat.lt_or_ge (i / 4) (t + m) with z | z
    · left; have := k.2; omega
    · rcases Nat.lt_or_ge (ge_par K n (i / 4)) t with y | y
      · exact Or.inl y
      · rcases Nat.lt_or_ge (ge_par K n (i / 4)) (t + m) with y2 | y2
        · have := ge_e_nest w ht y (by omega)
          omega
        · exact Or.inr y2
theorem ge_sp_io (w : ge_WF K n) (hk : ∀ x, x < n → K x ≤ 2) (wd : ge_WF KD f) (ht : t < n) (hm : t + m = ge_e K n t) (h1 : ∀ x, x < t → K' x = K x) (h2 : ∀ x, x < f → K' (t + x) = KD x) (h3 : ∀ x, t + m ≤ x → x < n → K' (x + f - m) = K x) (hn : n' = n + f - m)
    (hk' : ∀ x, x < n' → K' x ≤ 2) {i : Nat} (h2i : 2 ≤ i) (k : ge_kI n t m i) : ge_own K' n' (ge_pI t m f i) = ge_ph t m f (ge_own K n i) ∧ ge_oc K' n' (ge_pI t m f i) = ge_oc K n i ∧ 2 ≤ ge_pI t m f i := by
  have et := ge_e_spec w ht
  have w' := ge_sp_WF w wd ht hm h1 h2 h3 hn
  have f0 := ge_WF_pos wd
  have io := ge_io w hk h2i k.1
  have kk := ge_sp_own w hk ht hm h2i k
  have sp := ge_sp_ins w hk wd ht hm h1 h2 h3 hn kk (ge_df_iff.mp io.2.1).1
  rw [io.2.2] at sp
  have hz : ge_ph t m f (ge_own K n i) < n' := by have := kk.2; have := kk.1; unfold ge_ph; split <;> omega
  have io2 := ge_io2 w' hk' hz (o := ge_oc K n i) (by rw [ge_sp_K h1 h3 (by omega) kk]; exact io.2.1)
  rw [sp.1] at io2
  exact ⟨io2.2.2.1, io2.2.2.2, io2.1⟩
end
section
variable {L R O A B pd pd' dp tk tk' rt : Nat → Int32} {n n' t m f : Nat}
/-- what the splice does to productions and tokens -/
def ge_Spl (pd pd' dp : Nat → Int32) (n n' t m f : Nat) : Prop := n' = n + f - m ∧ (∀ x, x < t → pd' x = pd x) ∧ (∀ x, x < f → pd' (t + x) = dp x) ∧ ∀ x, t + m ≤ x → x < n → pd' (x + f - m) = pd x
theorem ge_Spl_K (s : ge_Spl pd pd' dp n n' t m f) : (∀ x, x < t → ge_K L R pd' x = ge_K L R pd x) ∧ (∀ x, x < f → ge_K L R pd' (t + x) = ge_K L R dp x) ∧ (∀ x, t + m ≤ x → x < n → ge_K L R pd' (x + f - m) = ge_K L R pd x) := by
  refine ⟨fun x h => ?_, fun x h => ?_, fun x h h2 => ?_⟩ <;> unfold ge_K
  · rw [s.2.1 x h]
  · rw [s.2.2.1 x h]
  · rw [s.2.2.2 x h h2]
theorem ge_Spl_WF (w : ge_WF (ge_K L R pd) n) (wd : ge_WF (ge_K L R dp) f) (ht : t < n) (hm : t + m = ge_e (ge_K L R pd) n t) (s : ge_Spl pd pd' dp n n' t m f) : ge_WF (ge_K L R pd') n' := by
  obtain ⟨h1, h2, h3⟩ := ge_Spl_K (L := L) (R := R) s
  exact ge_sp_WF w wd ht hm h1 h2 h3 s.1
theorem ge_Spl_pd (s : ge_Spl pd pd' dp n n' t m f) (hm0 : 0 < m) {z : Nat} (k : ge_kp n t m z) : pd' (ge_ph t m f z) = pd z := by
  rcases k.2 with y | y
  · rw [ge_ph_lo (by omega)]; exact s.2.1 z y
  · rw [ge_ph_hi (by omega)]; exact s.2.2.2 z y k.1
theorem ge_Spl_r (w : ge_WF (ge_K L R pd) n) (wd : ge_WF (ge_K L R dp) f) (ht : t < n) (hm : t + m = ge_e (ge_K L R pd) n t) (s : ge_Spl pd pd' dp n n' t m f) {i : Nat} (h2i : 2 ≤ i) (k : ge_kI n t m i) :
    ge_r L R pd' n' (ge_pI t m f i) = ge_r L R pd n i ∧ ge_own (ge_K L R pd') n' (ge_pI t m f i) = ge_ph t m f (ge_own (ge_K L R pd) n i) ∧ 2 ≤ ge_pI t m f i ∧ ge_pI t m f i < 4 * n' ∧ ge_kp n t m (ge_own (ge_K L R pd) n i) := by
  obtain ⟨h1, h2, h3⟩ := ge_Spl_K (L := L) (R := R) s
  have hk : ∀ x, x < n → ge_K L R pd x ≤ 2 := fun x _ => ge_K_le L R pd x
  have hk' : ∀ x, x < n' → ge_K L R pd' x ≤ 2 := fun x _ => ge_K_le L R pd' x
  have et := ge_e_spec w ht
  have io := ge_sp_io w hk wd ht hm h1 h2 h3 s.1 hk' h2i k
  have kk := ge_sp_own w hk ht hm h2i k
  refine ⟨?_, io.1, io.2.2, ?_, kk⟩
  · unfold ge_r; rw [io.1, io.2.1, ge_Spl_pd s (by omega) kk]
  · have f0 := ge_WF_pos wd
    have := s.1; have := k.1; have := k.2
    unfold ge_pI ge_ph; split <;> omega
theorem ge_Spl_a1 (w : ge_WF (ge_K L R pd) n) (wd : ge_WF (ge_K L R dp) f) (ht : t < n) (hm : t + m = ge_e (ge_K L R pd) n t) (s : ge_Spl pd pd' dp n n' t m f) {i : Nat} (h2i : 2 ≤ i) (k : ge_kI n t m i)
    (C : Nat → Int32) (hC : ∃ c, c < 4 + 4 * ge_K L R pd (ge_own (ge_K L R pd) n i) ∧ C (ge_r L R pd n i) = nI c) :
    ge_a1 L R C pd' n' (ge_pI t m f i) = ge_pI t m f (ge_a1 L R C pd n i) ∧ (ge_a1 L R C pd n i < 4 * (t + 1) ∨ 4 * (t + m) ≤ ge_a1 L R C pd n i) := by
  obtain ⟨h1, h2, h3⟩ := ge_Spl_K (L := L) (R := R) s
  have hk : ∀ x, x < n → ge_K L R pd x ≤ 2 := fun x _ => ge_K_le L R pd x
  obtain ⟨r1, r2, r3, r4, kk⟩ := ge_Spl_r w wd ht hm s h2i k
  obtain ⟨c, hc, ec⟩ := hC
  have := hk _ kk.1
  unfold ge_a1
  rw [r1, r2, ec, nI_clamp (by omega)]
  exact ge_sp_ins w hk wd ht hm h1 h2 h3 s.1 kk hc
theorem ge_Spl_AR (w : ge_WF (ge_K L R pd) n) (wd : ge_WF (ge_K L R dp) f) (ro : ge_RO L R O A B) (hp : ∀ x, x < n → (pd x).toNatClampNeg < 8) (hp' : ∀ x, x < n' → (pd' x).toNatClampNeg < 8) (ht : t < n) (hm : t + m = ge_e (ge_K L R pd) n t) (s : ge_Spl pd pd' dp n n' t m f) {i j' : Nat} (h2i : 2 ≤ i) (k : ge_kI n t m i) :
    ge_AR L R O A B pd' n' (ge_pI t m f i) j' ↔ ∃ j, ge_AR L R O A B pd n i j ∧ j' = ge_pI t m f j ∧ (j < 4 * (t + 1) ∨ 4 * (t + m) ≤ j) := by
  have w' := ge_Spl_WF w wd ht hm s
  have hk : ∀ x, x < n → ge_K L R pd x ≤ 2 := fun x _ => ge_K_le L R pd x
  obtain ⟨r1, r2, r3, r4, kk⟩ := ge_Spl_r w wd ht hm s h2i k
  have io := ge_io w hk h2i k.1
  have ho : ge_oc (ge_K L R pd) n i < 12 := by have := (ge_df_iff.mp io.2.1).1; have := hk _ io.1; omega
  obtain ⟨o1, o2, o3⟩ := ro _ (hp _ io.1) _ ho
  rw [ge_AR_iff w' ro hp', r1]
  constructor
  · rintro ⟨_, _, q⟩
    rcases q with ⟨q1, q2⟩ | ⟨q1, q2⟩
    · have a := ge_Spl_a1 w wd ht hm s h2i k A (o2 q1)
      exact ⟨_, (ge_AR_iff w ro hp).mpr ⟨h2i, k.1, Or.inl ⟨q1, rfl⟩⟩, by rw [q2, a.1], a.2⟩
    · have a := ge_Spl_a1 w wd ht hm s h2i k B (o3 q1)
      exact ⟨_, (ge_AR_iff w ro hp).mpr ⟨h2i, k.1, Or.inr ⟨q1, rfl⟩⟩, by rw [q2, a.1], a.2⟩
  · rintro ⟨j, h, e, _⟩
    obtain ⟨_, _, q⟩ := (ge_AR_iff w ro hp).mp h
    refine ⟨r3, r4, ?_⟩
    rcases q with ⟨q1, q2⟩ | ⟨q1, q2⟩
    · have a := ge_Spl_a1 w wd ht hm s h2i k A (o2 q1)
      exact Or.inl ⟨q1, by rw [e, q2, a.1]⟩
    · have a := ge_Spl_a1 w wd ht hm s h2i k B (o3 q1)
      exact Or.inr ⟨q1, by rw [e, q2, a.1]⟩
theorem ge_Spl_vl (w : ge_WF (ge_K L R pd) n) (wd : ge_WF (ge_K L R dp) f) (ro : ge_RO L R O A B) (hp : ∀ x, x < n → (pd x).toNatClampNeg < 8) (ht : t < n) (hm : t + m = ge_e (ge_K L R pd) n t) (s : ge_Spl pd pd' dp n n' t m f)
    (htk : ∀ z, ge_kp n t m z → tk' (ge_ph t m f z) = tk z) {i : Nat} (h2i : 2 ≤ i) (k : ge_kI n t m i) (V V' : Nat → Int32) (hV : ∀ j, ge_AR L R O A B pd n i j → V' (ge_pI t m f j) = V j) :
    ge_vl L R O A B pd' tk' rt n' V' (ge_pI t m f i) = ge_vl L R O A B pd tk rt n V i := by
  have hk : ∀ x, x < n → ge_K L R pd x ≤ 2 := fun x _ => ge_K_le L R pd x
  obtain ⟨r1, r2, r3, r4, kk⟩ := ge_Spl_r w wd ht hm s h2i k
  have io := ge_io w hk h2i k.1
  have ho : ge_oc (ge_K L R pd) n i < 12 := by have := (ge_df_iff.mp io.2.1).1; have := hk _ io.1; omega
  obtain ⟨o1, o2, o3⟩ := ro _ (hp _ io.1) _ ho
  have o1' : 0 ≤ O (ge_r L R pd n i) := o1
  unfold ge_vl
  rw [if_neg (by omega), if_neg (by omega), r1, r2, htk _ kk]
  by_cases c2 : 2 ≤ O (ge_r L R pd n i)
  · have a := ge_Spl_a1 w wd ht hm s h2i k A (o2 c2)
    rw [a.1, hV _ ((ge_AR_iff w ro hp).mpr ⟨h2i, k.1, Or.inl ⟨c2, rfl⟩⟩)]
    by_cases c3 : 3 ≤ O (ge_r L R pd n i)
    · have a := ge_Spl_a1 w wd ht hm s h2i k B (o3 c3)
      rw [a.1, hV _ ((ge_AR_iff w ro hp).mpr ⟨h2i, k.1, Or.inr ⟨c3, rfl⟩⟩)]
    · rw [ge_i32_2 c2 c3, ge_vf_2, ge_vf_2]
  · rcases ge_i32_lt2 o1' c2 with e | e
    · rw [e, ge_vf_0, ge_vf_0]
    · rw [e, ge_vf_1, ge_vf_1]
end
end
section
/-! partial solutions and the demand stack -/
def ge_Pre (N : Nat) (AR : Nat → Nat → Prop) (vl : (Nat → Int32) → Nat → Int32) (D : Nat → Prop) (st V : Nat → Int32) : Prop :=
  (∀ i, i < N → ¬ D i → st i = 1 ∨ st i = 2) ∧
  (∃ ρ : Nat → Nat, ∀ i, i < N → ¬ D i → st i = 1 → ∀ j, AR i j → ¬ D j → st j = 1 ∧ ρ j < ρ i) ∧
  (∀ i, i < N → ¬ D i → st i = 1 → (∀ j, AR i j → ¬ D j) → V i = vl V i) ∧
  (∀ i, i < N → ¬ D i → st i = 2 → ∃ j, AR i j ∧ (D j ∨ st j = 2))
def ge_Part (N : Nat) (AR : Nat → Nat → Prop) (vl : (Nat → Int32) → Nat → Int32) (st V : Nat → Int32) : Prop :=
  (∀ i, i < N → st i = 0 ∨ st i = 1 ∨ st i = 2) ∧ (∀ i, i < 2 → st i = 1) ∧
  (∃ ρ : Nat → Nat, ∀ i, i < N → st i = 1 → ∀ j, AR i j → st j = 1 ∧ ρ j < ρ i) ∧
  (∀ i, i < N → st i = 1 → V i = vl V i) ∧
  (∀ i, i < N → st i = 2 → ∃ j, AR i j ∧ st j = 2)
theorem ge_01 : ¬ (0 : Int32) = 1 := by decide
theorem ge_02 : ¬ (0 : Int32) = 2 := by decide
theorem ge_12 : ¬ (1 : Int32) = 2 := by decide
theorem ge_31 : ¬ (3 : Int32) = 1 := by decide
theorem ge_32 : ¬ (3 : Int32) = 2 := by decide
theorem ge_30 : ¬ (3 : Int32) = 0 := by decide
theorem ge_Part_of {N : Nat} {AR : Nat → Nat → Prop} {vl : (Nat → Int32) → Nat → Int32} {D : Nat → Prop} {st st' V : Nat → Int32} (hA : ∀ i j, AR i j → i < N ∧ j < N) (h : ge_Pre N AR vl D st V)
    (h1 : ∀ i, i < N → st' i = st i ∨ st' i = 0) (h2 : ∀ i, i < N → D i → st' i = 0 ∨ (st' i = 1 ∧ V i = vl V i ∧ ∀ j, ¬ AR i j)) (h3 : ∀ i j, AR i j → (D j ∨ st' j = 0) → st' i = 0) (h4 : ∀ i, i < 2 → st' i = 1) :
    ge_Part N AR vl st' V := by
  obtain ⟨p1, ⟨ρ, p2⟩, p3, p4⟩ := h
  have nd : ∀ i j, AR i j → ¬ st' i = 0 → ¬ D j ∧ ¬ st' j = 0 := fun i j r z => ⟨fun d => z (h3 i j r (Or.inl d)), fun d => z (h3 i j r (Or.inr d))⟩
  refine ⟨?_, h4, ⟨ρ, ?_⟩, ?_, ?_⟩
  · intro i hi
    rcases Classical.em (D i) with d | d
    · rcases h2 i hi d with z | z
      · exact Or.inl z
      · exact Or.inr (Or.inl z.1)
    · rcases h1 i hi with z | z
      · rw [z]; exact Or.inr (p1 i hi d)
      · exact Or.inl z
  · intro i hi s j r
    have s0 : ¬ st' i = 0 := by rw [s]; decide
    obtain ⟨n1, n2⟩ := nd i j r s0
    rcases Classical.em (D i) with d | d
    · rcases h2 i hi d with z | z
      · exact absurd z s0
      · exact absurd r (z.2.2 j)
    · have e : st i = 1 := by
        rcases h1 i hi with z | z
        · rw [← z]; exact s
        · exact absurd z s0
      have q := p2 i hi d e j r n1
      refine ⟨?_, q.2⟩
      rcases h1 j (hA i j r).2 with z | z
      · rw [z]; exact q.1
      · exact absurd z n2
  · intro i hi s
    have s0 : ¬ st' i = 0 := by rw [s]; decide
    rcases Classical.em (D i) with d | d
    · rcases h2 i hi d with z | z
      · exact absurd z s0
      · exact z.2.1
    · have e : st i = 1 := by
        rcases h1 i hi with z | z
        · rw [← z]; exact s
        · exact absurd z s0
      exact p3 i hi d e (fun j r => (nd i j r s0).1)
  · intro i hi s
    have s0 : ¬ st' i = 0 := by rw [s]; decide
    rcases Classical.em (D i) with d | d
    · rcases h2 i hi d with z | z
      · exact absurd z s0
      · rw [s] at z; exact absurd z.1 (by decide)
    · have e : st i = 2 := by
        rcases h1 i hi with z | z
        · rw [← z]; exact s
        · exact absurd z s0
      obtain ⟨j, r, q⟩ := p4 i hi d e
      obtain ⟨n1, n2⟩ := nd i j r s0
      refine ⟨j, r, ?_⟩
      rcases h1 j (hA i j r).2 with z | z
      · rw [z]; exact q.resolve_left n1
      · exact absurd z n2
theorem ge_Part_Sol {N : Nat} {AR : Nat → Nat → Prop} {vl : (Nat → Int32) → Nat → Int32} {st V : Nat → Int32} (h : ge_Part N AR vl st V) (h0 : ∀ i, i < N → ¬ st i = 0) :
    ge_Sol N AR vl (fun i => st i = 1) V ∧ ∀ i, i < N → st i = 1 ∨ st i = 2 := by
  obtain ⟨p0, _, ⟨ρ, p1⟩, p2, p3⟩ := h
  have p0' : ∀ i, i < N → st i = 1 ∨ st i = 2 := fun i hi => (p0 i hi).resolve_left (h0 i hi)
  refine ⟨⟨fun i hi => ⟨fun s j r => (p1 i hi s j r).1, fun s => ?_⟩, ⟨ρ, fun i hi s j r => (p1 i hi s j r).2⟩, p2⟩, p0'⟩
  rcases p0' i hi with z | z
  · exact z
  · obtain ⟨j, r, q⟩ := p3 i hi z
    have e : st j = 1 := s j r
    rw [q] at e; exact absurd e (by decide)
theorem ge_max (ρ : Nat → Nat) : ∀ N, ∃ M, ∀ j, j < N → ρ j < M
  | 0 => ⟨0, fun j h => absurd h (Nat.not_lt_zero _)⟩
  | N + 1 => by
    obtain ⟨M, h⟩ := ge_max ρ N
    refine ⟨M + ρ N + 1, fun j hj => ?_⟩
    rcases Nat.lt_or_ge j N with z | z
    · have := h j z; omega
    · rw [show j = N by omega]; omega
/-- A: every stuck one has a stuck argument; or the top is about to be stuck -/
def ge_AB (N : Nat) (AR : Nat → Nat → Prop) (fu : (Nat → Int32) → Nat → Option Nat) (d : Nat) (sk : Nat → Nat) (st : Nat → Int32) : Prop :=
  (∀ i, i < N → st i = 2 → ∃ j, AR i j ∧ st j = 2) ∨
  (0 < d ∧ (∃ j, fu st (sk (d - 1)) = some j ∧ st j = 2) ∧ ∀ i, i < N → st i = 2 → ∃ j, AR i j ∧ (st j = 2 ∨ st j = 3))
def ge_Sk (N : Nat) (fu : (Nat → Int32) → Nat → Option Nat) (d : Nat) (sk : Nat → Nat) (st : Nat → Int32) : Prop :=
  (∀ k, k < d → sk k < N ∧ st (sk k) = 3) ∧ (∀ i, i < N → st i = 3 → ∃ k, k < d ∧ sk k = i) ∧
  (∀ k k', k < d → k' < d → sk k = sk k' → k = k') ∧ (∀ k, k + 1 < d → fu st (sk k) = some (sk (k + 1)))
def ge_Kw (N : Nat) (AR : Nat → Nat → Prop) (vl : (Nat → Int32) → Nat → Int32) (st V : Nat → Int32) : Prop :=
  (∀ i, i < N → st i = 0 ∨ st i = 1 ∨ st i = 2 ∨ st i = 3) ∧ (∀ i, i < 2 → st i = 1) ∧
  (∃ ρ : Nat → Nat, ∀ i, i < N → st i = 1 → ∀ j, AR i j → st j = 1 ∧ ρ j < ρ i) ∧ (∀ i, i < N → st i = 1 → V i = vl V i)
/-- what is used of a system -/
def ge_Sys (N : Nat) (AR : Nat → Nat → Prop) (vl : (Nat → Int32) → Nat → Int32) (fu : (Nat → Int32) → Nat → Option Nat) : Prop :=
  (∀ i j, AR i j → i < N ∧ j < N) ∧ (∀ (V V' : Nat → Int32) i, i < N → (∀ j, AR i j → V j = V' j) → vl V i = vl V' i) ∧
  (∀ st i, 2 ≤ i → i < N → fu st i = none → ∀ j, AR i j → st j = 1) ∧ (∀ st i j, 2 ≤ i → i < N → fu st i = some j → AR i j ∧ ¬ st j = 1) ∧
  (∀ (st st' : Nat → Int32) i j, fu st i = some j → (∀ a, st a = 1 → st' a = 1) → ¬ st' j = 1 → fu st' i = some j)
def ge_DI (N : Nat) (AR : Nat → Nat → Prop) (vl : (Nat → Int32) → Nat → Int32) (fu : (Nat → Int32) → Nat → Option Nat) (d : Nat) (sk : Nat → Nat) (st V : Nat → Int32) : Prop :=
  ge_Kw N AR vl st V ∧ ge_Sk N fu d sk st ∧ ge_AB N AR fu d sk st
section
variable {N : Nat} {AR : Nat → Nat → Prop} {vl : (Nat → Int32) → Nat → Int32} {fu : (Nat → Int32) → Nat → Option Nat} {d : Nat} {sk : Nat → Nat} {st V : Nat → Int32}
theorem ge_DI_top (h : ge_DI N AR vl fu d sk st V) {k : Nat} (hk : k < d) : 2 ≤ sk k ∧ sk k < N ∧ st (sk k) = 3 := by
  obtain ⟨a, b⟩ := h.2.1.1 k hk
  refine ⟨?_, a, b⟩
  rcases Nat.lt_or_ge (sk k) 2 with z | z
  · have := h.1.2.1 _ z; rw [b] at this; exact absurd this (by decide)
  · exact z
theorem ge_DI_0 (p : ge_Part N AR vl st V) {s : Nat} (hs : s < N) (h0 : st s = 0) (hsk : sk 0 = s) : ge_DI N AR vl fu 1 sk (upd st s 3) V := by
  obtain ⟨p0, p1, ⟨ρ, p2⟩, p3, p4⟩ := p
  have ne : ∀ i, i ≠ s → upd st s 3 i = st i := fun i z => pk_un z
  have known : ∀ i, upd st s 3 i = 1 → i ≠ s ∧ st i = 1 := by
    intro i z
    by_cases e : i = s
    · rw [e, pk_us] at z; exact absurd z (by decide)
    · rw [ne i e] at z; exact ⟨e, z⟩
  have stuck : ∀ i, upd st s 3 i = 2 → i ≠ s ∧ st i = 2 := by
    intro i z
    by_cases e : i = s
    · rw [e, pk_us] at z; exact absurd z (by decide)
    · rw [ne i e] at z; exact ⟨e, z⟩
  have kp : ∀ i, st i = 1 → upd st s 3 i = 1 := fun i z => by
    rw [ne i (fun e => by rw [e, h0] at z; exact absurd z (by decide))]; exact z
  have kp2 : ∀ i, st i = 2 → upd st s 3 i = 2 := fun i z => by
    rw [ne i (fun e => by rw [e, h0] at z; exact absurd z (by decide))]; exact z
  refine ⟨⟨?_, ?_, ⟨ρ, ?_⟩, ?_⟩, ⟨?_, ?_, ?_, ?_⟩, Or.inl ?_⟩
  · intro i hi
    by_cases e : i = s
    · rw [e, pk_us]; exact Or.inr (Or.inr (Or.inr rfl))
    · rw [ne i e]
      rcases p0 i hi with z | z | z
      · exact Or.inl z
      · exact Or.inr (Or.inl z)
      · exact Or.inr (Or.inr (Or.inl z))
  · intro i hi; exact kp i (p1 i hi)
  · intro i hi z j r
    have q := p2 i hi (known i z).2 j r
    exact ⟨kp j q.1, q.2⟩
  · intro i hi z; exact p3 i hi (known i z).2
  · intro k hk
    rw [show k = 0 by omega, hsk]; exact ⟨hs, pk_us⟩
  · intro i hi z
    by_cases e : i = s
    · exact ⟨0, by omega, by rw [hsk, e]⟩
    · rw [ne i e] at z
      rcases p0 i hi with q | q | q <;> rw [q] at z <;> exact absurd z (by decide)
  · intro k k' _ _ _; omega
  · intro k hk; omega
  · intro i hi z
    obtain ⟨j, r, q⟩ := p4 i hi (stuck i z).2
    exact ⟨j, r, kp2 j q⟩
theorem ge_DI_end (h : ge_DI N AR vl fu 0 sk st V) : ge_Part N AR vl st V := by
  obtain ⟨⟨k0, k1, k2, k3⟩, ⟨s0, s1, _, _⟩, ab⟩ := h
  refine ⟨?_, k1, k2, k3, ?_⟩
  · intro i hi
    rcases k0 i hi with z | z | z | z
    · exact Or.inl z
    · exact Or.inr (Or.inl z)
    · exact Or.inr (Or.inr z)
    · obtain ⟨k, hk, _⟩ := s1 i hi z; omega
  · rcases ab with a | b
    · exact a
    · exact absurd b.1 (by omega)
theorem ge_DI_known (sy : ge_Sys N AR vl fu) (h : ge_DI N AR vl fu (d + 1) sk st V) (hf : fu st (sk d) = none) : ge_DI N AR vl fu d sk (upd st (sk d) 1) (upd V (sk d) (vl V (sk d))) := by
  obtain ⟨t2, tN, t3⟩ := ge_DI_top h (Nat.lt_succ_self d)
  obtain ⟨⟨k0, k1, ⟨ρ, k2⟩, k3⟩, ⟨s0, s1, s2, s3⟩, ab⟩ := h
  obtain ⟨y1, y2, y3, y4, y5⟩ := sy
  have hA : ∀ i, i < N → st i = 2 → ∃ j, AR i j ∧ st j = 2 := by
    rcases ab with a | b
    · exact a
    · obtain ⟨j, q, _⟩ := b.2.1
      rw [show d + 1 - 1 = d by omega, hf] at q; exact absurd q (by simp)
  have args := y3 st (sk d) t2 tN hf
  obtain ⟨M, hM⟩ := ge_max ρ N
  generalize hi0 : sk d = i0 at *
  have ne : ∀ i, i ≠ i0 → upd st i0 1 i = st i := fun i z => pk_un z
  have neV : ∀ i, i ≠ i0 → upd V i0 (vl V i0) i = V i := fun i z => pk_un z
  have n1 : ∀ i, st i = 1 → i ≠ i0 := fun i z e => by rw [e, t3] at z; exact absurd z (by decide)
  have n2 : ∀ i, st i = 2 → i ≠ i0 := fun i z e => by rw [e, t3] at z; exact absurd z (by decide)
  have kp : ∀ i, st i = 1 → upd st i0 1 i = 1 := fun i z => by rw [ne i (n1 i z)]; exact z
  refine ⟨⟨?_, ?_, ⟨fun i => if i = i0 then M else ρ i, ?_⟩, ?_⟩, ⟨?_, ?_, ?_, ?_⟩, Or.inl ?_⟩
  · intro i hi
    by_cases e : i = i0
    · rw [e, pk_us]; exact Or.inr (Or.inl rfl)
    · rw [ne i e]; exact k0 i hi
  · intro i hi; exact kp i (k1 i hi)
  · intro i hi z j r
    by_cases e : i = i0
    · rw [e] at r
      have aj := args j r
      refine ⟨kp j aj, ?_⟩
      show (if j = i0 then M else ρ j) < (if i = i0 then M else ρ i)
      rw [if_pos e, if_neg (n1 j aj)]
      exact hM j (y1 _ _ r).2
    · rw [ne i e] at z
      have q := k2 i hi z j r
      refine ⟨kp j q.1, ?_⟩
      show (if j = i0 then M else ρ j) < (if i = i0 then M else ρ i)
      rw [if_neg e, if_neg (n1 j q.1)]
      exact q.2
  · intro i hi z
    by_cases e : i = i0
    · rw [e, pk_us]
      exact y2 _ _ i0 tN (fun j r => (neV j (n1 j (args j r))).symm)
    · rw [ne i e] at z
      rw [neV i e, k3 i hi z]
      exact y2 _ _ i hi (fun j r => (neV j (n1 j (k2 i hi z j r).1)).symm)
  · intro k hk
    have q := s0 k (by omega)
    refine ⟨q.1, ?_⟩
    rw [ne _ (fun e => by have := s2 k d (by omega) (by omega) (by rw [e, hi0]); omega)]
    exact q.2
  · intro i hi z
    by_cases e : i = i0
    · rw [e, pk_us] at z; exact absurd z (by decide)
    · rw [ne i e] at z
      obtain ⟨k, hk, ek⟩ := s1 i hi z
      refine ⟨k, ?_, ek⟩
      rcases Nat.lt_or_ge k d with q | q
      · exact q
      · exact absurd (by rw [← ek, show k = d by omega, hi0]) e
  · intro k k' h1 h2; exact s2 k k' (by omega) (by omega)
  · intro k hk
    refine y5 st _ _ _ (s3 k (by omega)) kp ?_
    rw [ne _ (fun e => by have := s2 (k + 1) d (by omega) (by omega) (by rw [e, hi0]); omega), (s0 (k + 1) (by omega)).2]
    decide
  · intro i hi z
    by_cases e : i = i0
    · rw [e, pk_us] at z; exact absurd z (by decide)
    · rw [ne i e] at z
      obtain ⟨j, r, q⟩ := hA i hi z
      exact ⟨j, r, by rw [ne j (n2 j q)]; exact q⟩
theorem ge_DI_push (sy : ge_Sys N AR vl fu) (h : ge_DI N AR vl fu (d + 1) sk st V) {j0 : Nat} (hf : fu st (sk d) = some j0) (h0 : st j0 = 0) {sk' : Nat → Nat} (e1 : ∀ k, k ≤ d → sk' k = sk k) (e2 : sk' (d + 1) = j0) :
    ge_DI N AR vl fu (d + 2) sk' (upd st j0 3) V ∧ 2 ≤ j0 ∧ j0 < N := by
  obtain ⟨t2, tN, t3⟩ := ge_DI_top h (Nat.lt_succ_self d)
  obtain ⟨⟨k0, k1, ⟨ρ, k2⟩, k3⟩, ⟨s0, s1, s2, s3⟩, ab⟩ := h
  obtain ⟨y1, y2, y3, y4, y5⟩ := sy
  have hA : ∀ i, i < N → st i = 2 → ∃ j, AR i j ∧ st j = 2 := by
    rcases ab with a | b
    · exact a
    · obtain ⟨j, q, q2⟩ := b.2.1
      rw [show d + 1 - 1 = d by omega, hf] at q
      rw [← Option.some.inj q, h0] at q2; exact absurd q2 (by decide)
  have hj := y4 st _ _ t2 tN hf
  have jN := (y1 _ _ hj.1).2
  have j2 : 2 ≤ j0 := by
    rcases Nat.lt_or_ge j0 2 with z | z
    · exact absurd (k1 j0 z) hj.2
    · exact z
  have ne : ∀ i, i ≠ j0 → upd st j0 3 i = st i := fun i z => pk_un z
  have kp : ∀ i, st i = 1 → upd st j0 3 i = 1 := fun i z => by
    rw [ne i (fun e => by rw [e, h0] at z; exact absurd z (by decide))]; exact z
  have kn : ∀ i, upd st j0 3 i = 1 → st i = 1 := by
    intro i z
    by_cases e : i = j0
    · rw [e, pk_us] at z; exact absurd z (by decide)
    · rw [ne i e] at z; exact z
  have nsk : ∀ k, k ≤ d → sk k ≠ j0 := fun k hk e => by
    have := (s0 k (by omega)).2; rw [e, h0] at this; exact absurd this (by decide)
  refine ⟨⟨⟨?_, ?_, ⟨ρ, ?_⟩, ?_⟩, ⟨?_, ?_, ?_, ?_⟩, Or.inl ?_⟩, j2, jN⟩
  · intro i hi
    by_cases e : i = j0
    · rw [e, pk_us]; exact Or.inr (Or.inr (Or.inr rfl))
    · rw [ne i e]; exact k0 i hi
  · intro i hi; exact kp i (k1 i hi)
  · intro i hi z j r
    have q := k2 i hi (kn i z) j r
    exact ⟨kp j q.1, q.2⟩
  · intro i hi z; exact k3 i hi (kn i z)
  · intro k hk
    rcases Nat.lt_or_ge k (d + 1) with z | z
    · rw [e1 k (by omega), ne _ (nsk k (by omega))]; exact s0 k z
    · rw [show k = d + 1 by omega, e2, pk_us]; exact ⟨jN, rfl⟩
  · intro i hi z
    by_cases e : i = j0
    · exact ⟨d + 1, by omega, by rw [e2, e]⟩
    · rw [ne i e] at z
      obtain ⟨k, hk, ek⟩ := s1 i hi z
      exact ⟨k, by omega, by rw [e1 k (by omega)]; exact ek⟩
  · intro k k' h1 h2 e
    rcases Nat.lt_or_ge k (d + 1) with z | z <;> rcases Nat.lt_or_ge k' (d + 1) with z' | z'
    · rw [e1 k (by omega), e1 k' (by omega)] at e; exact s2 k k' z z' e
    · rw [e1 k (by omega), show k' = d + 1 by omega, e2] at e; exact absurd e (nsk k (by omega))
    · rw [e1 k' (by omega), show k = d + 1 by omega, e2] at e; exact absurd e.symm (nsk k' (by omega))
    · omega
  · intro k hk
    rcases Nat.lt_or_ge k d with z | z
    · rw [e1 k (by omega), e1 (k + 1) (by omega)]
      refine y5 st _ _ _ (s3 k (by omega)) kp ?_
      rw [ne _ (nsk (k + 1) (by omega)), (s0 (k + 1) (by omega)).2]; decide
    · rw [show k = d by omega, e1 d (Nat.le_refl _), e2]
      refine y5 st _ _ _ hf kp ?_
      rw [pk_us]; decide
  · intro i hi z
    by_cases e : i = j0
    · rw [e, pk_us] at z; exact absurd z (by decide)
    · rw [ne i e] at z
      obtain ⟨j, r, q⟩ := hA i hi z
      exact ⟨j, r, by rw [ne j (fun e => by rw [e, h0] at q; exact absurd q (by decide))]; exact q⟩
theorem ge_DI_stuck (sy : ge_Sys N AR vl fu) (h : ge_DI N AR vl fu (d + 1) sk st V) {j0 : Nat} (hf : fu st (sk d) = some j0) (h0 : ¬ st j0 = 0) : ge_DI N AR vl fu d sk (upd st (sk d) 2) V := by
  obtain ⟨t2, tN, t3⟩ := ge_DI_top h (Nat.lt_succ_self d)
  obtain ⟨⟨k0, k1, ⟨ρ, k2⟩, k3⟩, ⟨s0, s1, s2, s3⟩, ab⟩ := h
  obtain ⟨y1, y2, y3, y4, y5⟩ := sy
  have hj := y4 st _ _ t2 tN hf
  have jN := (y1 _ _ hj.1).2
  generalize hi0 : sk d = i0 at *
  have ne : ∀ i, i ≠ i0 → upd st i0 2 i = st i := fun i z => pk_un z
  have kp : ∀ i, st i = 1 → upd st i0 2 i = 1 := fun i z => by
    rw [ne i (fun e => by rw [e, t3] at z; exact absurd z (by decide))]; exact z
  have kp2 : ∀ i, st i = 2 → upd st i0 2 i = 2 := fun i z => by
    rw [ne i (fun e => by rw [e, t3] at z; exact absurd z (by decide))]; exact z
  have kn : ∀ i, upd st i0 2 i = 1 → st i = 1 := by
    intro i z
    by_cases e : i = i0
    · rw [e, pk_us] at z; exact absurd z (by decide)
    · rw [ne i e] at z; exact z
  have nsk : ∀ k, k < d → sk k ≠ i0 := fun k hk e => by
    have := s2 k d (by omega) (by omega) (by rw [e, hi0]); omega
  have chain : ∀ k, k + 1 < d + 1 → fu (upd st i0 2) (sk k) = some (sk (k + 1)) := by
    intro k hk
    refine y5 st _ _ _ (s3 k (by omega)) kp ?_
    by_cases e : sk (k + 1) = i0
    · rw [e, pk_us]; decide
    · rw [ne _ e, (s0 (k + 1) (by omega)).2]; decide
  have jj : st j0 = 2 ∨ st j0 = 3 := by
    rcases k0 j0 jN with z | z | z | z
    · exact absurd z h0
    · exact absurd z hj.2
    · exact Or.inl z
    · exact Or.inr z
  refine ⟨⟨?_, ?_, ⟨ρ, ?_⟩, ?_⟩, ⟨?_, ?_, ?_, ?_⟩, ?_⟩
  · intro i hi
    by_cases e : i = i0
    · rw [e, pk_us]; exact Or.inr (Or.inr (Or.inl rfl))
    · rw [ne i e]; exact k0 i hi
  · intro i hi; exact kp i (k1 i hi)
  · intro i hi z j r
    have q := k2 i hi (kn i z) j r
    exact ⟨kp j q.1, q.2⟩
  · intro i hi z; exact k3 i hi (kn i z)
  · intro k hk
    rw [ne _ (nsk k hk)]; exact s0 k (by omega)
  · intro i hi z
    by_cases e : i = i0
    · rw [e, pk_us] at z; exact absurd z (by decide)
    · rw [ne i e] at z
      obtain ⟨k, hk, ek⟩ := s1 i hi z
      refine ⟨k, ?_, ek⟩
      rcases Nat.lt_or_ge k d with q | q
      · exact q
      · exact absurd (by rw [← ek, show k = d by omega, hi0]) e
  · intro k k' h1 h2; exact s2 k k' (by omega) (by omega)
  · intro k hk; exact chain k (by omega)
  · -- every stuck one now has a witness in 2 or 3
    have wit : ∀ i, i < N → upd st i0 2 i = 2 → ∃ j, AR i j ∧ (upd st i0 2 j = 2 ∨ upd st i0 2 j = 3) := by
      have up : ∀ j, (st j = 2 ∨ st j = 3) → (upd st i0 2 j = 2 ∨ upd st i0 2 j = 3) := by
        intro j z
        by_cases e : j = i0
        · rw [e, pk_us]; exact Or.inl rfl
        · rw [ne j e]; exact z
      intro i hi z
      by_cases e : i = i0
      · exact ⟨j0, by rw [e]; exact hj.1, up j0 jj⟩
      · rw [ne i e] at z
        rcases ab with a | b
        · obtain ⟨j, r, q⟩ := a i hi z
          exact ⟨j, r, up j (Or.inl q)⟩
        · obtain ⟨j, r, q⟩ := b.2.2 i hi z
          exact ⟨j, r, up j q⟩
    rcases Nat.eq_zero_or_pos d with z | z
    · -- the stack is empty: no 3 is left
      left
      intro i hi q
      obtain ⟨j, r, q2⟩ := wit i hi q
      refine ⟨j, r, ?_⟩
      rcases q2 with q2 | q2
      · exact q2
      · have jn := (y1 _ _ r).2
        by_cases e : j = i0
        · rw [e, pk_us]
        · rw [ne j e] at q2
          obtain ⟨k, hk, ek⟩ := s1 j jn q2
          have : k = d := by omega
          exact absurd (by rw [← ek, this, hi0]) e
    · right
      refine ⟨z, ⟨i0, ?_, pk_us⟩, wit⟩
      have := chain (d - 1) (by omega)
      rw [show d - 1 + 1 = d by omega, hi0] at this
      exact this
end
/-! the first unknown argument -/
def ge_fu (L R O A B pd : Nat → Int32) (n : Nat) (st : Nat → Int32) (i : Nat) : Option Nat :=
  if 2 ≤ O (ge_r L R pd n i) then (if st (ge_a1 L R A pd n i) = 1 then (if 3 ≤ O (ge_r L R pd n i) then (if st (ge_a1 L R B pd n i) = 1 then none else some (ge_a1 L R B pd n i)) else none) else some (ge_a1 L R A pd n i)) else none
theorem ge_sys {L R O A B pd tk rt : Nat → Int32} {n : Nat} (w : ge_WF (ge_K L R pd) n) (ro : ge_RO L R O A B) (hp : ∀ x, x < n → (pd x).toNatClampNeg < 8) :
    ge_Sys (4 * n) (ge_AR L R O A B pd n) (ge_vl L R O A B pd tk rt n) (ge_fu L R O A B pd n) := by
  refine ⟨fun i j r => ⟨((ge_AR_iff w ro hp).mp r).2.1, ge_AR_lt w r⟩, fun V V' i hi h => ge_vl_cg w ro hp V V' i hi h, ?_, ?_, ?_⟩
  · intro st i h2 hi hf j r
    have q := ((ge_AR_iff w ro hp).mp r).2.2
    unfold ge_fu at hf
    by_cases c2 : 2 ≤ O (ge_r L R pd n i)
    · rw [if_pos c2] at hf
      by_cases s1 : st (ge_a1 L R A pd n i) = 1
      · rw [if_pos s1] at hf
        rcases q with ⟨_, q⟩ | ⟨q1, q⟩
        · rw [q]; exact s1
        · rw [if_pos q1] at hf
          by_cases s2 : st (ge_a1 L R B pd n i) = 1
          · rw [q]; exact s2
          · rw [if_neg s2] at hf; exact absurd hf (by simp)
      · rw [if_neg s1] at hf; exact absurd hf (by simp)
    · rcases q with ⟨q1, q⟩ | ⟨q1, q⟩
      · exact absurd q1 c2
      · exact absurd (ge_i32_32 q1) c2
  · intro st i j h2 hi hf
    rw [ge_AR_iff w ro hp]
    unfold ge_fu at hf
    by_cases c2 : 2 ≤ O (ge_r L R pd n i)
    · rw [if_pos c2] at hf
      by_cases s1 : st (ge_a1 L R A pd n i) = 1
      · rw [if_pos s1] at hf
        by_cases c3 : 3 ≤ O (ge_r L R pd n i)
        · rw [if_pos c3] at hf
          by_cases s2 : st (ge_a1 L R B pd n i) = 1
          · rw [if_pos s2] at hf; exact absurd hf (by simp)
          · rw [if_neg s2] at hf
            have e := Option.some.inj hf
            exact ⟨⟨h2, hi, Or.inr ⟨c3, e.symm⟩⟩, by rw [← e]; exact s2⟩
        · rw [if_neg c3] at hf; exact absurd hf (by simp)
      · rw [if_neg s1] at hf
        have e := Option.some.inj hf
        exact ⟨⟨h2, hi, Or.inl ⟨c2, e.symm⟩⟩, by rw [← e]; exact s1⟩
    · rw [if_neg c2] at hf; exact absurd hf (by simp)
  · intro st st' i j hf kp hj
    unfold ge_fu at hf ⊢
    by_cases c2 : 2 ≤ O (ge_r L R pd n i)
    · rw [if_pos c2] at hf ⊢
      by_cases s1 : st (ge_a1 L R A pd n i) = 1
      · rw [if_pos s1] at hf
        rw [if_pos (kp _ s1)]
        by_cases c3 : 3 ≤ O (ge_r L R pd n i)
        · rw [if_pos c3] at hf ⊢
          by_cases s2 : st (ge_a1 L R B pd n i) = 1
          · rw [if_pos s2] at hf; exact absurd hf (by simp)
          · rw [if_neg s2] at hf
            have e := Option.some.inj hf
            rw [if_neg (by rw [e]; exact hj)]; exact hf
        · rw [if_neg c3] at hf; exact absurd hf (by simp)
      · rw [if_neg s1] at hf
        have e := Option.some.inj hf
        rw [if_neg (by rw [e]; exact hj)]; exact hf
    · rw [if_neg c2] at hf; exact absurd hf (by simp)
end
section
/-! numbers -/
theorem ge_m2 (a : Nat) : (2 : Int32) * nI a = nI (2 * a) := pk_mul 2 a
theorem ge_m3 (a : Nat) : (3 : Int32) * nI a = nI (3 * a) := pk_mul 3 a
theorem ge_m4 (a : Nat) : (4 : Int32) * nI a = nI (4 * a) := pk_mul 4 a
theorem ge_m12 (a : Nat) : (12 : Int32) * nI a = nI (12 * a) := pk_mul 12 a
theorem ge_m13 (a : Nat) : (13 : Int32) * nI a = nI (13 * a) := pk_mul 13 a
theorem ge_m16 (a : Nat) : (16 : Int32) * nI a = nI (16 * a) := pk_mul 16 a
theorem ge_m36 (a : Nat) : (36 : Int32) * nI a = nI (36 * a) := pk_mul 36 a
theorem ge_p2 (a : Nat) : nI a + 2 = nI (a + 2) := nI_add a 2
theorem ge_p3 (a : Nat) : nI a + 3 = nI (a + 3) := nI_add a 3
theorem ge_4p (a : Nat) : (4 : Int32) + nI a = nI (4 + a) := nI_add 4 a
theorem ge_2p (a : Nat) : (2 : Int32) + nI a = nI (2 + a) := nI_add 2 a
theorem ge_and3 {n : Nat} (h : n < 2 ^ 31) : nI n &&& 3 = nI (n % 4) := pk_andN (by omega) 2 (by decide)
theorem ge_and1 {n : Nat} (h : n < 2 ^ 31) : nI n &&& 1 = nI (n % 2) := pk_andN (by omega) 1 (by decide)
theorem ge_and15 {n : Nat} (h : n < 2 ^ 31) : nI n &&& 15 = nI (n % 16) := pk_andN (by omega) 4 (by decide)
theorem ge_shr2 {n : Nat} (h : n < 2 ^ 31) : nI n >>> ((2 : Int32) &&& 31) = nI (n / 4) := pk_shrN h _ 2 (by decide)
theorem ge_shr1 {n : Nat} (h : n < 2 ^ 31) : nI n >>> ((1 : Int32) &&& 31) = nI (n / 2) := pk_shrN h _ 1 (by decide)
theorem ge_shr4 {n : Nat} (h : n < 2 ^ 31) : nI n >>> ((4 : Int32) &&& 31) = nI (n / 16) := pk_shrN h _ 4 (by decide)
theorem ge_bit1 : ∀ i, i < 32 → bt 1 i = decide (i = 0) := by decide +kernel
/-- one bit -/
theorem ge_bit {x : Int32} {k : Nat} (hk : k < 32) : ((x >>> (nI k &&& 31)) &&& 1) = (if bt x k = true then 1 else 0) := by
  apply b_ext
  intro i hi
  rw [b_and, b_sshr k hk x hi, ge_bit1 i hi]
  by_cases h0 : i = 0
  · subst h0
    rw [if_pos (by omega), Nat.add_zero]
    by_cases hb : bt x k = true
    · rw [if_pos hb, hb]; decide
    · rw [if_neg hb, Bool.eq_false_iff.mpr hb]; decide
  · rw [decide_eq_false h0, Bool.and_false]
    split
    · rw [ge_bit1 i hi, decide_eq_false h0]
    · rw [b_0]
theorem ge_bit_t {x : Int32} {k : Nat} (hk : k < 32) : ((x >>> (nI k &&& 31)) &&& 1) = 1 ↔ bt x k = true := by
  rw [ge_bit hk]
  by_cases hb : bt x k = true
  · rw [if_pos hb]; exact ⟨fun _ => hb, fun _ => rfl⟩
  · rw [if_neg hb]; exact ⟨fun z => absurd z (by decide), fun z => absurd z hb⟩
theorem ge_bt1 {k i : Nat} (hk : k < 32) (hi : i < 32) : bt ((1 : Int32) <<< (nI k &&& 31)) i = decide (i = k) := by
  rw [b_shl k hk 1 hi, ge_bit1 (i - k) (by omega)]
  by_cases h : i = k
  · rw [h, decide_eq_true (by omega), decide_eq_true (by omega), decide_eq_true rfl]; rfl
  · rw [decide_eq_false h]
    by_cases h2 : k ≤ i
    · rw [decide_eq_false (by omega : ¬ i - k = 0), Bool.and_false]
    · rw [decide_eq_false h2, Bool.false_and]
theorem ge_nI_lt0 {n : Nat} (h : n < 2 ^ 31) : ¬ nI n < 0 := nI_pos h
theorem ge_bt_nI {n i : Nat} (h : n < 2 ^ 31) (hi : i < 32) : bt (nI n) i = n.testBit i := by
  unfold bt nI
  show (BitVec.ofNat 32 n).getLsbD i = _
  rw [BitVec.getLsbD_ofNat, decide_eq_true hi, Bool.true_and]
/-! the small methods of X -/
section
variable {f_symbolLimit f_productionLimit f_nodeLimit f_productionCount f_verdict f_size f_drafting f_target f_kept f_fed f_open : Int32} {a_lhsOf a_leftOf a_rightOf a_ruleOp a_ruleA a_ruleB a_argMask a_userMask a_graphSet a_reach a_treeProd a_treeToken a_parent a_placeOf a_second a_span a_nodeGraph a_state a_values a_oldState a_oldValues a_queue a_stack a_draftProd a_draftToken a_openSymbols : Nat → Int32}
theorem gx_childCount {p : Nat} (hp : p < 8) {post : Int32 → Prop} (h : post (nI (ge_kd a_leftOf a_rightOf p))) : wpX_childCount post (f_symbolLimit, f_productionLimit, f_nodeLimit, f_productionCount, f_verdict, f_size, f_drafting, f_target, f_kept, f_fed, f_open, a_lhsOf, a_leftOf, a_rightOf, a_ruleOp, a_ruleA, a_ruleB, a_argMask, a_userMask, a_graphSet, a_reach, a_treeProd, a_treeToken, a_parent, a_placeOf, a_second, a_span, a_nodeGraph, a_state, a_values, a_oldState, a_oldValues, a_queue, a_stack, a_draftProd, a_draftToken, a_openSymbols) (nI p) := by
  have e : (nI p).toNatClampNeg = p := nI_clamp (by omega)
  have hi : vp_in (nI p) 8 := vp_in_nI hp (by decide)
  unfold ge_kd at h
  simp only [wpX_childCount, e]
  refine ⟨hi, ?_⟩
  by_cases c : 0 ≤ a_leftOf p
  · rw [if_pos c] at h
    refine br_t c ⟨hi, ?_⟩
    by_cases c2 : 0 ≤ a_rightOf p
    · rw [if_pos c2] at h; exact br_t c2 h
    · rw [if_neg c2] at h; exact br_f c2 h
  · rw [if_neg c] at h; exact br_f c h
theorem gx_occurrences {p : Nat} (hp : p < 8) {post : Int32 → Prop} (h : post (nI (4 + 4 * ge_kd a_leftOf a_rightOf p))) : wpX_occurrences post (f_symbolLimit, f_productionLimit, f_nodeLimit, f_productionCount, f_verdict, f_size, f_drafting, f_target, f_kept, f_fed, f_open, a_lhsOf, a_leftOf, a_rightOf, a_ruleOp, a_ruleA, a_ruleB, a_argMask, a_userMask, a_graphSet, a_reach, a_treeProd, a_treeToken, a_parent, a_placeOf, a_second, a_span, a_nodeGraph, a_state, a_values, a_oldState, a_oldValues, a_queue, a_stack, a_draftProd, a_draftToken, a_openSymbols) (nI p) := by
  simp only [wpX_occurrences]
  refine gx_childCount hp ?_
  rw [ge_m4, ge_4p]; exact h
def ge_dI (k o : Nat) : Int32 := if ge_df k o = true then 1 else 0
theorem ge_dI_t {k o : Nat} (h : ge_df k o = true) : ge_dI k o = 1 := if_pos h
theorem ge_dI_f {k o : Nat} (h : ¬ ge_df k o = true) : ge_dI k o = 0 := if_neg h
theorem ge_dI_br {k o : Nat} {A B : Prop} (f : ge_df k o = true → B) (g : ¬ ge_df k o = true → A) : (ge_dI k o = 0 → A) ∧ (¬ ge_dI k o = 0 → B) := by
  by_cases h : ge_df k o = true
  · rw [ge_dI_t h]; exact br_f (by decide) (f h)
  · rw [ge_dI_f h]; exact br_t rfl (g h)
theorem gx_isDefined {p o : Nat} (hp : p < 8) (ho : o < 2 ^ 31) {post : Int32 → Prop} (h : post (ge_dI (ge_kd a_leftOf a_rightOf p) o)) : wpX_isDefined post (f_symbolLimit, f_productionLimit, f_nodeLimit, f_productionCount, f_verdict, f_size, f_drafting, f_target, f_kept, f_fed, f_open, a_lhsOf, a_leftOf, a_rightOf, a_ruleOp, a_ruleA, a_ruleB, a_argMask, a_userMask, a_graphSet, a_reach, a_treeProd, a_treeToken, a_parent, a_placeOf, a_second, a_span, a_nodeGraph, a_state, a_values, a_oldState, a_oldValues, a_queue, a_stack, a_draftProd, a_draftToken, a_openSymbols) (nI p) (nI o) := by
  simp only [wpX_isDefined]
  refine br_f (nI_pos ho) (gx_occurrences hp ?_)
  have k2 := ge_kd_le a_leftOf a_rightOf p
  have key : ∀ v, ge_dI (ge_kd a_leftOf a_rightOf p) o = v → post v := fun v e => e ▸ h
  refine pk_lt o (4 + 4 * ge_kd a_leftOf a_rightOf p) (fun h1 => ?_) (fun h1 => ?_)
  · refine pk_le 4 o (fun h2 => ?_) (fun h2 => ?_)
    · rw [ge_and3 ho]
      refine pk_le 2 (o % 4) (fun h3 => ?_) (fun h3 => ?_)
      · exact key _ (ge_dI_f (fun z => by have := ge_df_iff.mp z; omega))
      · exact key _ (ge_dI_t (ge_df_iff.mpr ⟨h1, Or.inr ⟨h2, h3⟩⟩))
    · refine pk_lt o 2 (fun h3 => ?_) (fun h3 => ?_)
      · exact key _ (ge_dI_f (fun z => by have := ge_df_iff.mp z; omega))
      · exact key _ (ge_dI_t (ge_df_iff.mpr ⟨h1, Or.inl ⟨h2, h3⟩⟩))
  · exact key _ (ge_dI_f (fun z => by have := (ge_df_iff.mp z).1; omega))
theorem gx_isDefined_neg {p : Int32} {o : Int32} (ho : o < 0) {post : Int32 → Prop} (h : post 0) : wpX_isDefined post (f_symbolLimit, f_productionLimit, f_nodeLimit, f_productionCount, f_verdict, f_size, f_drafting, f_target, f_kept, f_fed, f_open, a_lhsOf, a_leftOf, a_rightOf, a_ruleOp, a_ruleA, a_ruleB, a_argMask, a_userMask, a_graphSet, a_reach, a_treeProd, a_treeToken, a_parent, a_placeOf, a_second, a_span, a_nodeGraph, a_state, a_values, a_oldState, a_oldValues, a_queue, a_stack, a_draftProd, a_draftToken, a_openSymbols) p o := by
  simp only [wpX_isDefined]
  exact br_t ho h
theorem gx_isProduction {x : Int32} {c : Nat} (hc : c < 2 ^ 31) (hcc : f_productionCount = nI c) {post : Int32 → Prop} (h1 : ∀ p, p < c → x = nI p → post 1) (h2 : (x < 0 ∨ nI c ≤ x) → post 0) : wpX_isProduction post (f_symbolLimit, f_productionLimit, f_nodeLimit, f_productionCount, f_verdict, f_size, f_drafting, f_target, f_kept, f_fed, f_open, a_lhsOf, a_leftOf, a_rightOf, a_ruleOp, a_ruleA, a_ruleB, a_argMask, a_userMask, a_graphSet, a_reach, a_treeProd, a_treeToken, a_parent, a_placeOf, a_second, a_span, a_nodeGraph, a_state, a_values, a_oldState, a_oldValues, a_queue, a_stack, a_draftProd, a_draftToken, a_openSymbols) x := by
  simp only [wpX_isProduction]
  subst hcc
  by_cases h : x < 0
  · exact br_t h (h2 (Or.inl h))
  · refine br_f h ?_
    by_cases h' : nI c ≤ x
    · exact br_t h' (h2 (Or.inr h'))
    · obtain ⟨j, hj, rfl⟩ := nI_of h
      rw [nI_leI hc hj] at h'
      exact br_f (by rw [nI_leI hc hj]; exact h') (h1 j (by omega) rfl)
theorem gx_instanceAt {e : Nat → Nat} {y o : Nat} (hy : y < 24) (ho : o < 12) (hs : 8 ≤ o → a_second y = nI (e (y + 1))) {post : Int32 → Prop} (h : post (nI (ge_ins e y o))) : wpX_instanceAt post (f_symbolLimit, f_productionLimit, f_nodeLimit, f_productionCount, f_verdict, f_size, f_drafting, f_target, f_kept, f_fed, f_open, a_lhsOf, a_leftOf, a_rightOf, a_ruleOp, a_ruleA, a_ruleB, a_argMask, a_userMask, a_graphSet, a_reach, a_treeProd, a_treeToken, a_parent, a_placeOf, a_second, a_span, a_nodeGraph, a_state, a_values, a_oldState, a_oldValues, a_queue, a_stack, a_draftProd, a_draftToken, a_openSymbols) (nI y) (nI o) := by
  have ey : (nI y).toNatClampNeg = y := nI_clamp (by omega)
  simp only [wpX_instanceAt, wX_instanceAt_27, ey]
  refine pk_lt o 8 (fun h1 => ?_) (fun h1 => ?_)
  · refine pk_lt o 4 (fun h2 => ?_) (fun h2 => ?_)
    · rw [ge_ins_0 h2] at h
      rw [ge_and3 (by omega), ge_m4, nI_add, Nat.mod_eq_of_lt h2]; exact h
    · rw [ge_ins_1 h2 h1] at h
      refine nm_r (nI_1 y) ?_
      rw [ge_and3 (by omega), ge_m4, nI_add]; exact h
  · rw [ge_ins_2 h1] at h
    refine ⟨vp_in_nI hy (by decide), nm_r (hs h1) ?_⟩
    rw [ge_and3 (by omega), ge_m4, nI_add]; exact h
end
end
section
/-! X: the tree's arrays; owner, rule, arguments, value of an instance -/
def gx_T (L R O A B pd pa pl se : Nat → Int32) (n : Nat) : Prop :=
  n ≤ 24 ∧ ge_WF (ge_K L R pd) n ∧ ge_RO L R O A B ∧ (∀ x, x < n → (pd x).toNatClampNeg < 8 ∧ pd x = nI (pd x).toNatClampNeg) ∧
  (∀ y, 0 < y → y < n → pa y = nI (ge_par (ge_K L R pd) n y) ∧ pl y = nI (ge_pl (ge_K L R pd) n y)) ∧
  (∀ x, x < n → ge_K L R pd x = 2 → se x = nI (ge_e (ge_K L R pd) n (x + 1))) ∧ pa 0 = -1
theorem gx_T_hp {L R O A B pd pa pl se : Nat → Int32} {n : Nat} (T : gx_T L R O A B pd pa pl se n) : ∀ x, x < n → (pd x).toNatClampNeg < 8 := fun x h => (T.2.2.2.1 x h).1
/-- facts on the rule of an instance -/
theorem gx_T_io {L R O A B pd pa pl se : Nat → Int32} {n : Nat} (T : gx_T L R O A B pd pa pl se n) {i : Nat} (h2 : 2 ≤ i) (hi : i < 4 * n) :
    ge_own (ge_K L R pd) n i < n ∧ ge_oc (ge_K L R pd) n i < 12 ∧ (pd (ge_own (ge_K L R pd) n i)).toNatClampNeg < 8 ∧ ge_r L R pd n i < 96 ∧
    (2 ≤ O (ge_r L R pd n i) → ∃ a, a < 4 + 4 * ge_K L R pd (ge_own (ge_K L R pd) n i) ∧ A (ge_r L R pd n i) = nI a) ∧
    (3 ≤ O (ge_r L R pd n i) → ∃ a, a < 4 + 4 * ge_K L R pd (ge_own (ge_K L R pd) n i) ∧ B (ge_r L R pd n i) = nI a) := by
  have hk : ∀ x, x < n → ge_K L R pd x ≤ 2 := fun x _ => ge_K_le L R pd x
  have io := ge_io T.2.1 hk h2 hi
  have ho : ge_oc (ge_K L R pd) n i < 12 := by have := (ge_df_iff.mp io.2.1).1; have := hk _ io.1; omega
  have hp := gx_T_hp T _ io.1
  have q := T.2.2.1 _ hp _ ho
  refine ⟨io.1, ho, hp, by unfold ge_r; omega, q.2.1, q.2.2⟩
section
variable {f_symbolLimit f_productionLimit f_nodeLimit f_productionCount f_verdict f_size f_drafting f_target f_kept f_fed f_open : Int32} {a_lhsOf a_leftOf a_rightOf a_ruleOp a_ruleA a_ruleB a_argMask a_userMask a_graphSet a_reach a_treeProd a_treeToken a_parent a_placeOf a_second a_span a_nodeGraph a_state a_values a_oldState a_oldValues a_queue a_stack a_draftProd a_draftToken a_openSymbols : Nat → Int32}
theorem gx_ownerOf {n : Nat} (T : gx_T a_leftOf a_rightOf a_ruleOp a_ruleA a_ruleB a_treeProd a_parent a_placeOf a_second n) {i : Nat} (h2 : 2 ≤ i) (hi : i < 4 * n) {post : Int32 → Prop} (h : post (nI (ge_own (ge_K a_leftOf a_rightOf a_treeProd) n i))) : wpX_ownerOf post (f_symbolLimit, f_productionLimit, f_nodeLimit, f_productionCount, f_verdict, f_size, f_drafting, f_target, f_kept, f_fed, f_open, a_lhsOf, a_leftOf, a_rightOf, a_ruleOp, a_ruleA, a_ruleB, a_argMask, a_userMask, a_graphSet, a_reach, a_treeProd, a_treeToken, a_parent, a_placeOf, a_second, a_span, a_nodeGraph, a_state, a_values, a_oldState, a_oldValues, a_queue, a_stack, a_draftProd, a_draftToken, a_openSymbols) (nI i) := by
  have hn := T.1
  simp only [wpX_ownerOf, ge_and3 (show i < 2 ^ 31 by omega), ge_shr2 (show i < 2 ^ 31 by omega), nI_clamp (show i / 4 < 2 ^ 31 by omega)]
  refine pk_lt (i % 4) 2 (fun c => ?_) (fun c => ?_)
  · unfold ge_own at h; rw [if_neg (by omega)] at h
    refine ⟨vp_in_nI (by omega) (by decide), ?_⟩
    rw [(T.2.2.2.2.1 (i / 4) (by omega) (by omega)).1]; exact h
  · unfold ge_own at h; rw [if_pos c] at h; exact h
theorem gx_ruleOf {n : Nat} (T : gx_T a_leftOf a_rightOf a_ruleOp a_ruleA a_ruleB a_treeProd a_parent a_placeOf a_second n) {i : Nat} (h2 : 2 ≤ i) (hi : i < 4 * n) {post : Int32 → Prop} (h : post (nI (ge_r a_leftOf a_rightOf a_treeProd n i))) : wpX_ruleOf post (f_symbolLimit, f_productionLimit, f_nodeLimit, f_productionCount, f_verdict, f_size, f_drafting, f_target, f_kept, f_fed, f_open, a_lhsOf, a_leftOf, a_rightOf, a_ruleOp, a_ruleA, a_ruleB, a_argMask, a_userMask, a_graphSet, a_reach, a_treeProd, a_treeToken, a_parent, a_placeOf, a_second, a_span, a_nodeGraph, a_state, a_values, a_oldState, a_oldValues, a_queue, a_stack, a_draftProd, a_draftToken, a_openSymbols) (nI i) := by
  have hn := T.1
  obtain ⟨o1, o2, o3, o4, _, _⟩ := gx_T_io T h2 hi
  have fin : ∀ z, z = nI (ge_oc (ge_K a_leftOf a_rightOf a_treeProd) n i) → wX_ruleOf_25 post (nI i) z f_symbolLimit f_productionLimit f_nodeLimit f_productionCount f_verdict f_size f_drafting f_target f_kept f_fed f_open a_lhsOf a_leftOf a_rightOf a_ruleOp a_ruleA a_ruleB a_argMask a_userMask a_graphSet a_reach a_treeProd a_treeToken a_parent a_placeOf a_second a_span a_nodeGraph a_state a_values a_oldState a_oldValues a_queue a_stack a_draftProd a_draftToken a_openSymbols := by
    intro z ez
    subst ez
    unfold wX_ruleOf_25
    refine gx_ownerOf T h2 hi ⟨vp_in_nI (by omega) (by decide), ?_⟩
    rw [nI_clamp (by omega), (T.2.2.2.1 _ o1).2, ge_m12, nI_add]
    exact h
  simp only [wpX_ruleOf, ge_and3 (show i < 2 ^ 31 by omega), ge_shr2 (show i < 2 ^ 31 by omega), nI_clamp (show i / 4 < 2 ^ 31 by omega)]
  refine nm_e ?_
  refine pk_lt (i % 4) 2 (fun c => ?_) (fun c => ?_)
  · refine ⟨vp_in_nI (by omega) (by decide), fin _ ?_⟩
    rw [(T.2.2.2.2.1 (i / 4) (by omega) (by omega)).2, ge_m4, nI_add]
    unfold ge_oc; rw [if_neg (by omega)]
  · refine fin _ ?_
    unfold ge_oc; rw [if_pos c]
/-- the argument of i by the array C -/
theorem gx_arg {n : Nat} (T : gx_T a_leftOf a_rightOf a_ruleOp a_ruleA a_ruleB a_treeProd a_parent a_placeOf a_second n) {i : Nat} (h2 : 2 ≤ i) (hi : i < 4 * n) {C : Nat → Int32}
    (hc : ∃ a, a < 4 + 4 * ge_K a_leftOf a_rightOf a_treeProd (ge_own (ge_K a_leftOf a_rightOf a_treeProd) n i) ∧ C (ge_r a_leftOf a_rightOf a_treeProd n i) = nI a) {post : Int32 → Prop}
    (h : ge_a1 a_leftOf a_rightOf C a_treeProd n i < 96 → vp_in (nI (ge_a1 a_leftOf a_rightOf C a_treeProd n i)) 96 → (nI (ge_a1 a_leftOf a_rightOf C a_treeProd n i)).toNatClampNeg = ge_a1 a_leftOf a_rightOf C a_treeProd n i → post (nI (ge_a1 a_leftOf a_rightOf C a_treeProd n i))) :
    wpX_instanceAt post (f_symbolLimit, f_productionLimit, f_nodeLimit, f_productionCount, f_verdict, f_size, f_drafting, f_target, f_kept, f_fed, f_open, a_lhsOf, a_leftOf, a_rightOf, a_ruleOp, a_ruleA, a_ruleB, a_argMask, a_userMask, a_graphSet, a_reach, a_treeProd, a_treeToken, a_parent, a_placeOf, a_second, a_span, a_nodeGraph, a_state, a_values, a_oldState, a_oldValues, a_queue, a_stack, a_draftProd, a_draftToken, a_openSymbols) (nI (ge_own (ge_K a_leftOf a_rightOf a_treeProd) n i)) (C (ge_r a_leftOf a_rightOf a_treeProd n i)) := by
  have hn := T.1
  have hk : ∀ x, x < n → ge_K a_leftOf a_rightOf a_treeProd x ≤ 2 := fun x _ => ge_K_le _ _ _ x
  obtain ⟨o1, o2, o3, o4, _, _⟩ := gx_T_io T h2 hi
  obtain ⟨a, ha, ea⟩ := hc
  have k2 := hk _ o1
  have lt := ge_ins_lt T.2.1 hk o1 ha
  unfold ge_a1 at h
  rw [ea, nI_clamp (by omega)] at h
  rw [ea]
  refine gx_instanceAt (e := ge_e (ge_K a_leftOf a_rightOf a_treeProd) n) (by omega) (by omega) (fun z => T.2.2.2.2.2.1 _ o1 (by omega)) ?_
  exact h (by omega) (vp_in_nI (by omega) (by decide)) (nI_clamp (by omega))
def ge_fI (o : Option Nat) : Int32 := match o with
  | none => -1
  | some j => nI j
theorem gx_unknownArgument {n : Nat} (T : gx_T a_leftOf a_rightOf a_ruleOp a_ruleA a_ruleB a_treeProd a_parent a_placeOf a_second n) {i : Nat} (h2 : 2 ≤ i) (hi : i < 4 * n) {post : Int32 → Prop}
    (h : post (ge_fI (ge_fu a_leftOf a_rightOf a_ruleOp a_ruleA a_ruleB a_treeProd n a_state i))) : wpX_unknownArgument post (f_symbolLimit, f_productionLimit, f_nodeLimit, f_productionCount, f_verdict, f_size, f_drafting, f_target, f_kept, f_fed, f_open, a_lhsOf, a_leftOf, a_rightOf, a_ruleOp, a_ruleA, a_ruleB, a_argMask, a_userMask, a_graphSet, a_reach, a_treeProd, a_treeToken, a_parent, a_placeOf, a_second, a_span, a_nodeGraph, a_state, a_values, a_oldState, a_oldValues, a_queue, a_stack, a_draftProd, a_draftToken, a_openSymbols) (nI i) := by
  have hn := T.1
  obtain ⟨o1, o2, o3, o4, q1, q2⟩ := gx_T_io T h2 hi
  have hr : vp_in (nI (ge_r a_leftOf a_rightOf a_treeProd n i)) 96 := vp_in_nI o4 (by decide)
  have er : (nI (ge_r a_leftOf a_rightOf a_treeProd n i)).toNatClampNeg = ge_r a_leftOf a_rightOf a_treeProd n i := nI_clamp (by omega)
  have key : ∀ v, ge_fI (ge_fu a_leftOf a_rightOf a_ruleOp a_ruleA a_ruleB a_treeProd n a_state i) = v → post v := fun v e => e ▸ h
  unfold ge_fu at key
  simp only [wpX_unknownArgument]
  refine gx_ownerOf T h2 hi (gx_ruleOf T h2 hi ⟨hr, ?_⟩)
  rw [er]
  by_cases c2 : 2 ≤ a_ruleOp (ge_r a_leftOf a_rightOf a_treeProd n i)
  · rw [if_pos c2] at key
    refine br_t c2 ⟨hr, gx_arg T h2 hi (q1 c2) (fun l v e => ⟨v, ?_⟩)⟩
    rw [e]
    by_cases s1 : a_state (ge_a1 a_leftOf a_rightOf a_ruleA a_treeProd n i) = 1
    · rw [if_pos s1] at key
      refine br_t s1 ⟨hr, ?_⟩
      by_cases c3 : 3 ≤ a_ruleOp (ge_r a_leftOf a_rightOf a_treeProd n i)
      · rw [if_pos c3] at key
        refine br_t c3 ⟨hr, gx_arg T h2 hi (q2 c3) (fun l v e => ⟨v, ?_⟩)⟩
        rw [e]
        by_cases s2 : a_state (ge_a1 a_leftOf a_rightOf a_ruleB a_treeProd n i) = 1
        · rw [if_pos s2] at key; exact br_t s2 (key _ rfl)
        · rw [if_neg s2] at key; exact br_f s2 (key _ rfl)
      · rw [if_neg c3] at key; exact br_f c3 (key _ rfl)
    · rw [if_neg s1] at key; exact br_f s1 (key _ rfl)
  · rw [if_neg c2] at key; exact br_f c2 (key _ rfl)
theorem gx_compute {n : Nat} (T : gx_T a_leftOf a_rightOf a_ruleOp a_ruleA a_ruleB a_treeProd a_parent a_placeOf a_second n) {i : Nat} (h2 : 2 ≤ i) (hi : i < 4 * n) {rt : Nat → Int32} {post : Int32 → Prop}
    (h : post (ge_vl a_leftOf a_rightOf a_ruleOp a_ruleA a_ruleB a_treeProd a_treeToken rt n a_values i)) : wpX_compute post (f_symbolLimit, f_productionLimit, f_nodeLimit, f_productionCount, f_verdict, f_size, f_drafting, f_target, f_kept, f_fed, f_open, a_lhsOf, a_leftOf, a_rightOf, a_ruleOp, a_ruleA, a_ruleB, a_argMask, a_userMask, a_graphSet, a_reach, a_treeProd, a_treeToken, a_parent, a_placeOf, a_second, a_span, a_nodeGraph, a_state, a_values, a_oldState, a_oldValues, a_queue, a_stack, a_draftProd, a_draftToken, a_openSymbols) (nI i) := by
  have hn := T.1
  obtain ⟨o1, o2, o3, o4, q1, q2⟩ := gx_T_io T h2 hi
  have r0 : 0 ≤ a_ruleOp (ge_r a_leftOf a_rightOf a_treeProd n i) := (T.2.2.1 _ o3 _ o2).1
  have hr : vp_in (nI (ge_r a_leftOf a_rightOf a_treeProd n i)) 96 := vp_in_nI o4 (by decide)
  have er : (nI (ge_r a_leftOf a_rightOf a_treeProd n i)).toNatClampNeg = ge_r a_leftOf a_rightOf a_treeProd n i := nI_clamp (by omega)
  have key : ∀ v, ge_vl a_leftOf a_rightOf a_ruleOp a_ruleA a_ruleB a_treeProd a_treeToken rt n a_values i = v → post v := fun v e => e ▸ h
  unfold ge_vl ge_vf at key
  rw [if_neg (by omega)] at key
  simp only [wpX_compute]
  refine gx_ownerOf T h2 hi (gx_ruleOf T h2 hi ⟨hr, ?_⟩)
  rw [er, nI_clamp (show ge_own (ge_K a_leftOf a_rightOf a_treeProd) n i < 2 ^ 31 by omega)]
  refine nm_e ?_
  by_cases c0 : a_ruleOp (ge_r a_leftOf a_rightOf a_treeProd n i) = 0
  · rw [if_pos c0] at key; exact br_t c0 ⟨hr, key _ rfl⟩
  rw [if_neg c0] at key
  refine br_f c0 ?_
  by_cases c1 : a_ruleOp (ge_r a_leftOf a_rightOf a_treeProd n i) = 1
  · rw [if_pos c1] at key; exact br_t c1 ⟨vp_in_nI (by omega) (by decide), hr, key _ rfl⟩
  rw [if_neg c1] at key
  have c2 : 2 ≤ a_ruleOp (ge_r a_leftOf a_rightOf a_treeProd n i) := Classical.byContradiction fun z => (ge_i32_lt2 r0 z).elim c0 c1
  refine br_f c1 ⟨hr, gx_arg T h2 hi (q1 c2) (fun l v e => ⟨v, ?_⟩)⟩
  rw [e]
  refine nm_e ?_
  by_cases c3 : a_ruleOp (ge_r a_leftOf a_rightOf a_treeProd n i) = 2
  · rw [if_pos c3] at key; exact br_t c3 ⟨hr, key _ rfl⟩
  rw [if_neg c3] at key
  have c4 : 3 ≤ a_ruleOp (ge_r a_leftOf a_rightOf a_treeProd n i) := Classical.byContradiction fun z => c3 (ge_i32_2 c2 z)
  refine br_f c3 ⟨hr, gx_arg T h2 hi (q2 c4) (fun l v e => ⟨v, ?_⟩)⟩
  rw [e]
  refine nm_e ?_
  refine br_f (Int32.not_lt.mpr c4) ?_
  by_cases c5 : 5 < a_ruleOp (ge_r a_leftOf a_rightOf a_treeProd n i)
  · have d3 : ¬ a_ruleOp (ge_r a_leftOf a_rightOf a_treeProd n i) = 3 := fun z => by rw [z] at c5; exact absurd c5 (by decide)
    have d4 : ¬ a_ruleOp (ge_r a_leftOf a_rightOf a_treeProd n i) = 4 := fun z => by rw [z] at c5; exact absurd c5 (by decide)
    have d5 : ¬ a_ruleOp (ge_r a_leftOf a_rightOf a_treeProd n i) = 5 := fun z => by rw [z] at c5; exact absurd c5 (by decide)
    rw [if_neg d3, if_neg d4, if_neg d5] at key
    refine br_t c5 (br_c (fun z => ?_) (fun z => ?_))
    · rw [if_pos z] at key; exact key _ rfl
    · rw [if_neg z] at key; exact key _ rfl
  · refine br_f c5 ?_
    by_cases d3 : a_ruleOp (ge_r a_leftOf a_rightOf a_treeProd n i) = 3
    · rw [if_pos d3] at key; exact br_t d3 (key _ rfl)
    rw [if_neg d3] at key
    refine br_f d3 ?_
    by_cases d4 : a_ruleOp (ge_r a_leftOf a_rightOf a_treeProd n i) = 4
    · rw [if_pos d4] at key; exact br_t d4 (key _ rfl)
    rw [if_neg d4] at key
    refine br_f d4 ?_
    by_cases d5 : a_ruleOp (ge_r a_leftOf a_rightOf a_treeProd n i) = 5
    · rw [if_pos d5] at key; exact br_t d5 (key _ rfl)
    · exact br_f d5 trivial
end
end
section
/-! X: the demand stack -/
theorem ge_z_lt {st : Nat → Int32} {j : Nat} {v : Int32} (hj : j < 96) (h0 : st j = 0) (hv : ¬ v = 0) : ge_z (upd st j v) + 1 ≤ ge_z st := by
  refine ge_cn_lt (P := fun k => upd st j v k = 0) (Q := fun k => st k = 0) (a := j) ?_ h0 ?_ hj
  · rw [pk_us]; exact hv
  · intro k _ z
    by_cases e : k = j
    · rw [e]; exact h0
    · rw [pk_un e] at z; exact z
theorem ge_z_le {st : Nat → Int32} {j : Nat} {v : Int32} (hv : ¬ v = 0) : ge_z (upd st j v) ≤ ge_z st := by
  refine ge_cn_mono (P := fun k => upd st j v k = 0) (Q := fun k => st k = 0) ?_
  intro k _ z
  by_cases e : k = j
  · rw [e, pk_us] at z; exact absurd z hv
  · rw [pk_un e] at z; exact z
/-- what a demand of s keeps -/
def gx_DF (st0 V0 : Nat → Int32) (s : Nat) (st V : Nat → Int32) : Prop := (∀ i, ¬ st0 i = 0 → ¬ st i = 0) ∧ ¬ st s = 0 ∧ ∀ i, i < 2 → V i = V0 i
theorem gx_DF_st {st0 V0 st V : Nat → Int32} {s j : Nat} {v : Int32} (h : gx_DF st0 V0 s st V) (hv : ¬ v = 0) : gx_DF st0 V0 s (upd st j v) V := by
  refine ⟨fun i z => ?_, ?_, h.2.2⟩
  · by_cases e : i = j
    · rw [e, pk_us]; exact hv
    · rw [pk_un e]; exact h.1 i z
  · by_cases e : s = j
    · rw [e, pk_us]; exact hv
    · rw [pk_un e]; exact h.2.1
theorem gx_DF_V {st0 V0 st V : Nat → Int32} {s j : Nat} {v : Int32} (h : gx_DF st0 V0 s st V) (hj : 2 ≤ j) : gx_DF st0 V0 s st (upd V j v) :=
  ⟨h.1, h.2.1, fun i z => by rw [pk_un (by omega)]; exact h.2.2 i z⟩
section
variable {f_symbolLimit f_productionLimit f_nodeLimit f_productionCount f_verdict f_size f_drafting f_target f_kept f_fed f_open : Int32} {a_lhsOf a_leftOf a_rightOf a_ruleOp a_ruleA a_ruleB a_argMask a_userMask a_graphSet a_reach a_treeProd a_treeToken a_parent a_placeOf a_second a_span a_nodeGraph a_state a_values a_oldState a_oldValues a_queue a_stack a_draftProd a_draftToken a_openSymbols : Nat → Int32}
theorem gx_demand_loop {n : Nat} {rt st0 V0 : Nat → Int32} {s0 : Nat} (T : gx_T a_leftOf a_rightOf a_ruleOp a_ruleA a_ruleB a_treeProd a_parent a_placeOf a_second n) {post : SX → Prop}
    (hpost : ∀ st V sk, ge_Part (4 * n) (ge_AR a_leftOf a_rightOf a_ruleOp a_ruleA a_ruleB a_treeProd n) (ge_vl a_leftOf a_rightOf a_ruleOp a_ruleA a_ruleB a_treeProd a_treeToken rt n) st V → gx_DF st0 V0 s0 st V → post (f_symbolLimit, f_productionLimit, f_nodeLimit, f_productionCount, f_verdict, f_size, f_drafting, f_target, f_kept, f_fed, f_open, a_lhsOf, a_leftOf, a_rightOf, a_ruleOp, a_ruleA, a_ruleB, a_argMask, a_userMask, a_graphSet, a_reach, a_treeProd, a_treeToken, a_parent, a_placeOf, a_second, a_span, a_nodeGraph, st, V, a_oldState, a_oldValues, a_queue, sk, a_draftProd, a_draftToken, a_openSymbols)) :
    ∀ (fuel d s : Nat) (st V sk : Nat → Int32), ge_DI (4 * n) (ge_AR a_leftOf a_rightOf a_ruleOp a_ruleA a_ruleB a_treeProd n) (ge_vl a_leftOf a_rightOf a_ruleOp a_ruleA a_ruleB a_treeProd a_treeToken rt n) (ge_fu a_leftOf a_rightOf a_ruleOp a_ruleA a_ruleB a_treeProd n) d (fun k => (sk k).toNatClampNeg) st V →
      (∀ k, k < d → sk k = nI (sk k).toNatClampNeg) → ge_z st + d ≤ 96 → 2 * ge_z st + d + s ≤ 191 → 2 * ge_z st + d < fuel → gx_DF st0 V0 s0 st V →
      wX_demand_18 post f_symbolLimit f_productionLimit f_nodeLimit f_productionCount f_verdict f_size f_drafting f_target f_kept f_fed f_open fuel (nI d) (nI s) a_lhsOf a_leftOf a_rightOf a_ruleOp a_ruleA a_ruleB a_argMask a_userMask a_graphSet a_reach a_treeProd a_treeToken a_parent a_placeOf a_second a_span a_nodeGraph st V a_oldState a_oldValues a_queue sk a_draftProd a_draftToken a_openSymbols := by
  have hn := T.1
  have sy := ge_sys (tk := a_treeToken) (rt := rt) T.2.1 T.2.2.1 (gx_T_hp T)
  intro fuel
  induction fuel with
  | zero => intro d s st V sk _ _ _ _ h; omega
  | succ fuel ih =>
    intro d s st V sk hD hs hz hm hf hF
    refine br_f (nI_ge (b := 192) (by omega) (by decide)) ?_
    rcases Nat.eq_zero_or_pos d with z | z
    · subst z
      exact br_t (by decide) (hpost st V sk (ge_DI_end hD) hF)
    · obtain ⟨d, rfl⟩ : ∃ e, d = e + 1 := ⟨d - 1, by omega⟩
      obtain ⟨t2, tN, t3⟩ := ge_DI_top hD (Nat.lt_succ_self d)
      have es := hs d (by omega)
      refine br_f (nI_nle (by omega) (by omega)) ⟨by rw [nI_pred]; exact vp_in_nI (by omega) (by decide), nm_r (e' := nI (sk d).toNatClampNeg) (by rw [nI_pred, nI_clamp (by omega)]; exact es) ?_⟩
      generalize hi : (sk d).toNatClampNeg = i at t2 tN t3
      have iv : vp_in (nI i) 96 := vp_in_nI (by omega) (by decide)
      have ec : (nI i).toNatClampNeg = i := nI_clamp (by omega)
      refine gx_unknownArgument T t2 tN ?_
      cases hfu : ge_fu a_leftOf a_rightOf a_ruleOp a_ruleA a_ruleB a_treeProd n st i with
      | none =>
        refine br_f (by decide : ¬ (0 : Int32) ≤ -1) (gx_compute (rt := rt) T t2 tN ⟨iv, nm_r (congrArg (fun k => upd V k _) ec) ⟨iv, nm_r (congrArg (fun k => upd st k 1) ec) (nm_r (pk_m1 d) (nm_r (nI_1 s) ?_))⟩⟩)
        have hD' := ge_DI_known sy hD (by rw [hi]; exact hfu)
        rw [hi] at hD'
        have := ge_z_le (st := st) (j := i) (v := 1) (by decide)
        exact ih d (s + 1) _ _ sk hD' (fun k hk => hs k (by omega)) (by omega) (by omega) (by omega) (gx_DF_V (gx_DF_st hF (by decide)) t2)
      | some j =>
        have hj := sy.2.2.2.1 st i j t2 tN hfu
        have jN := (sy.1 _ _ hj.1).2
        have jv : vp_in (nI j) 96 := vp_in_nI (by omega) (by decide)
        have ej : (nI j).toNatClampNeg = j := nI_clamp (by omega)
        refine br_t (nI_pos' (by omega)) ⟨jv, ?_⟩
        by_cases c : st j = 0
        · have z1 := ge_z_lt (st := st) (j := j) (v := 3) (by omega) c (by decide)
          refine br_t (by show st (nI j).toNatClampNeg = 0; rw [ej]; exact c) ⟨jv, nm_r (congrArg (fun k => upd st k 3) ej) (nm_r (nI_1 (d + 1)) ⟨vp_in_nI (by omega) (by decide), nm_r (congrArg (fun k => upd sk k (nI j)) (nI_clamp (show d + 1 < 2 ^ 31 by omega))) (nm_r (nI_1 s) ?_)⟩)⟩
          have hD' := ge_DI_push sy hD (j0 := j) (sk' := fun k => (upd sk (d + 1) (nI j) k).toNatClampNeg) (by rw [hi]; exact hfu) c
            (fun k hk => by show (upd sk (d + 1) (nI j) k).toNatClampNeg = (sk k).toNatClampNeg; rw [pk_un (by omega)]) (by show (upd sk (d + 1) (nI j) (d + 1)).toNatClampNeg = j; rw [pk_us, ej])
          refine ih (d + 2) (s + 1) _ _ _ hD'.1 ?_ (by omega) (by omega) (by omega) (gx_DF_st hF (by decide))
          intro k hk
          by_cases e : k = d + 1
          · rw [e, pk_us, ej]
          · rw [pk_un e]; exact hs k (by omega)
        · refine br_f (by show ¬ st (nI j).toNatClampNeg = 0; rw [ej]; exact c) ⟨iv, nm_r (congrArg (fun k => upd st k 2) ec) (nm_r (pk_m1 d) (nm_r (nI_1 s) ?_))⟩
          have hD' := ge_DI_stuck sy hD (j0 := j) (by rw [hi]; exact hfu) c
          rw [hi] at hD'
          have := ge_z_le (st := st) (j := i) (v := 2) (by decide)
          exact ih d (s + 1) _ _ sk hD' (fun k hk => hs k (by omega)) (by omega) (by omega) (by omega) (gx_DF_st hF (by decide))
theorem gx_demand {n : Nat} {rt : Nat → Int32} {s : Nat} (T : gx_T a_leftOf a_rightOf a_ruleOp a_ruleA a_ruleB a_treeProd a_parent a_placeOf a_second n) {post : SX → Prop} (hs : s < 4 * n) (h0 : a_state s = 0)
    (hP : ge_Part (4 * n) (ge_AR a_leftOf a_rightOf a_ruleOp a_ruleA a_ruleB a_treeProd n) (ge_vl a_leftOf a_rightOf a_ruleOp a_ruleA a_ruleB a_treeProd a_treeToken rt n) a_state a_values)
    (hpost : ∀ st V sk, ge_Part (4 * n) (ge_AR a_leftOf a_rightOf a_ruleOp a_ruleA a_ruleB a_treeProd n) (ge_vl a_leftOf a_rightOf a_ruleOp a_ruleA a_ruleB a_treeProd a_treeToken rt n) st V → gx_DF a_state a_values s st V → post (f_symbolLimit, f_productionLimit, f_nodeLimit, f_productionCount, f_verdict, f_size, f_drafting, f_target, f_kept, f_fed, f_open, a_lhsOf, a_leftOf, a_rightOf, a_ruleOp, a_ruleA, a_ruleB, a_argMask, a_userMask, a_graphSet, a_reach, a_treeProd, a_treeToken, a_parent, a_placeOf, a_second, a_span, a_nodeGraph, st, V, a_oldState, a_oldValues, a_queue, sk, a_draftProd, a_draftToken, a_openSymbols)) :
    wpX_demand post (f_symbolLimit, f_productionLimit, f_nodeLimit, f_productionCount, f_verdict, f_size, f_drafting, f_target, f_kept, f_fed, f_open, a_lhsOf, a_leftOf, a_rightOf, a_ruleOp, a_ruleA, a_ruleB, a_argMask, a_userMask, a_graphSet, a_reach, a_treeProd, a_treeToken, a_parent, a_placeOf, a_second, a_span, a_nodeGraph, a_state, a_values, a_oldState, a_oldValues, a_queue, a_stack, a_draftProd, a_draftToken, a_openSymbols) (nI s) := by
  have hn := T.1
  have ec : (nI s).toNatClampNeg = s := nI_clamp (by omega)
  simp only [wpX_demand]
  refine nm_e ⟨vp_in_nI (by omega) (by decide), nm_r (congrArg (fun k => upd a_state k 3) ec) ⟨192, ?_⟩⟩
  have z1 := ge_z_lt (st := a_state) (j := s) (v := 3) (by omega) h0 (by decide)
  have z2 : ge_z a_state ≤ 96 := ge_cn_le _ _
  refine gx_demand_loop (st0 := a_state) (V0 := a_values) (s0 := s) T hpost 192 1 0 _ _ _ (ge_DI_0 hP hs h0 (by show (upd a_stack 0 (nI s) 0).toNatClampNeg = s; rw [pk_us, ec])) ?_ (by omega) (by omega) (by omega) ?_
  · intro k hk
    rw [show k = 0 by omega, pk_us, ec]
  · refine ⟨fun i z => ?_, by rw [pk_us]; decide, fun i _ => rfl⟩
    by_cases e : i = s
    · rw [e, pk_us]; decide
    · rw [pk_un e]; exact z
end
end
section
/-! X: invalidation and refresh -/
theorem ge_nz_lt {st : Nat → Int32} {j : Nat} (h2 : 2 ≤ j) (hj : j < 96) (h0 : ¬ st j = 0) : ge_nz (upd st j 0) + 1 ≤ ge_nz st := by
  refine ge_cn_lt (P := fun k => 2 ≤ k ∧ ¬ upd st j 0 k = 0) (Q := fun k => 2 ≤ k ∧ ¬ st k = 0) (a := j) ?_ ⟨h2, h0⟩ ?_ hj
  · intro z; exact z.2 pk_us
  · intro k _ z
    by_cases e : k = j
    · rw [e]; exact ⟨h2, h0⟩
    · rw [pk_un e] at z; exact z
def gx_Inv (N : Nat) (st q : Nat → Int32) (k : Nat) (st' q' : Nat → Int32) (k' : Nat) : Prop :=
  k ≤ k' ∧ (∀ j, j < k → q' j = q j) ∧ (∀ i, st' i = st i ∨ (st' i = 0 ∧ 2 ≤ i ∧ i < N ∧ ∃ j, j < k' ∧ q' j = nI i)) ∧
  (∀ j, k ≤ j → j < k' → ∃ i, i < N ∧ q' j = nI i) ∧ k' + ge_nz st' ≤ k + ge_nz st
theorem gx_Inv_r {N : Nat} {st q : Nat → Int32} {k : Nat} : gx_Inv N st q k st q k :=
  ⟨Nat.le_refl _, fun _ _ => rfl, fun _ => Or.inl rfl, fun j h1 h2 => by omega, Nat.le_refl _⟩
theorem gx_Inv_t {N : Nat} {st q st' q' st'' q'' : Nat → Int32} {k k' k'' : Nat} (a : gx_Inv N st q k st' q' k') (b : gx_Inv N st' q' k' st'' q'' k'') : gx_Inv N st q k st'' q'' k'' := by
  obtain ⟨a1, a2, a3, a4, a5⟩ := a
  obtain ⟨b1, b2, b3, b4, b5⟩ := b
  refine ⟨by omega, fun j h => by rw [b2 j (by omega), a2 j h], ?_, ?_, by omega⟩
  · intro i
    rcases b3 i with z | z
    · rcases a3 i with y | ⟨y1, y2, y3, j, hj, ej⟩
      · exact Or.inl (z.trans y)
      · exact Or.inr ⟨z.trans y1, y2, y3, j, by omega, by rw [b2 j hj]; exact ej⟩
    · exact Or.inr z
  · intro j h1 h2
    rcases Nat.lt_or_ge j k' with z | z
    · rw [b2 j z]; exact a4 j h1 z
    · exact b4 j z h2
theorem gx_Inv_1 {N : Nat} {st q : Nat → Int32} {k i : Nat} (h2 : 2 ≤ i) (hN : i < N) (h96 : i < 96) (h0 : ¬ st i = 0) : gx_Inv N st q k (upd st i 0) (upd q k (nI i)) (k + 1) := by
  refine ⟨by omega, fun j h => pk_un (by omega), ?_, ?_, ?_⟩
  · intro i'
    by_cases e : i' = i
    · rw [e, pk_us]; exact Or.inr ⟨rfl, h2, hN, k, by omega, pk_us⟩
    · rw [pk_un e]; exact Or.inl rfl
  · intro j h1 h3
    rw [show j = k by omega, pk_us]; exact ⟨i, hN, rfl⟩
  · have := ge_nz_lt h2 h96 h0; omega
theorem gx_Inv_0 {N : Nat} {st q st' q' : Nat → Int32} {k k' i : Nat} (a : gx_Inv N st q k st' q' k') (h : st i = 0) : st' i = 0 := by
  rcases a.2.2.1 i with z | z
  · rw [z]; exact h
  · exact z.1
/-- the user masks -/
def gx_UM (L R O A B um : Nat → Int32) : Prop := ∀ p, p < 8 → ∀ c, c < 12 → ∀ o, o < 12 → (bt (um (12 * p + c)) o = true ↔ ge_d1 L R O A B p o c)
section
variable {f_symbolLimit f_productionLimit f_nodeLimit f_productionCount f_verdict f_size f_drafting f_target f_kept f_fed f_open : Int32} {a_lhsOf a_leftOf a_rightOf a_ruleOp a_ruleA a_ruleB a_argMask a_userMask a_graphSet a_reach a_treeProd a_treeToken a_parent a_placeOf a_second a_span a_nodeGraph a_state a_values a_oldState a_oldValues a_queue a_stack a_draftProd a_draftToken a_openSymbols : Nat → Int32}
theorem gx_inval_loop {n : Nat} (T : gx_T a_leftOf a_rightOf a_ruleOp a_ruleA a_ruleB a_treeProd a_parent a_placeOf a_second n) {y c : Nat} (hy : y < n) {mask : Int32} (hm : ∀ o, o < 12 → (bt mask o = true ↔ ge_d1 a_leftOf a_rightOf a_ruleOp a_ruleA a_ruleB (a_treeProd y).toNatClampNeg o c))
    {st0 q0 : Nat → Int32} {k0 : Nat} (h0 : k0 + ge_nz st0 ≤ 95) {post : Int32 → SX → Prop}
    (hpost : ∀ st q k, gx_Inv (4 * n) st0 q0 k0 st q k → (∀ o, ge_d1 a_leftOf a_rightOf a_ruleOp a_ruleA a_ruleB (a_treeProd y).toNatClampNeg o c → st (ge_ins (ge_e (ge_K a_leftOf a_rightOf a_treeProd) n) y o) = 0) → post (nI k) (f_symbolLimit, f_productionLimit, f_nodeLimit, f_productionCount, f_verdict, f_size, f_drafting, f_target, f_kept, f_fed, f_open, a_lhsOf, a_leftOf, a_rightOf, a_ruleOp, a_ruleA, a_ruleB, a_argMask, a_userMask, a_graphSet, a_reach, a_treeProd, a_treeToken, a_parent, a_placeOf, a_second, a_span, a_nodeGraph, st, a_values, a_oldState, a_oldValues, q, a_stack, a_draftProd, a_draftToken, a_openSymbols)) :
    ∀ (fuel o k : Nat) (st q : Nat → Int32), gx_Inv (4 * n) st0 q0 k0 st q k → (∀ o', o' < o → ge_d1 a_leftOf a_rightOf a_ruleOp a_ruleA a_ruleB (a_treeProd y).toNatClampNeg o' c → st (ge_ins (ge_e (ge_K a_leftOf a_rightOf a_treeProd) n) y o') = 0) → o ≤ 12 → 12 - o < fuel →
      wX_invalidateUsers_24 post (nI y) mask f_symbolLimit f_productionLimit f_nodeLimit f_productionCount f_verdict f_size f_drafting f_target f_kept f_fed f_open fuel (nI k) (nI o) a_lhsOf a_leftOf a_rightOf a_ruleOp a_ruleA a_ruleB a_argMask a_userMask a_graphSet a_reach a_treeProd a_treeToken a_parent a_placeOf a_second a_span a_nodeGraph st a_values a_oldState a_oldValues q a_stack a_draftProd a_draftToken a_openSymbols := by
  have hn := T.1
  have hk : ∀ x, x < n → ge_K a_leftOf a_rightOf a_treeProd x ≤ 2 := fun x _ => ge_K_le _ _ _ x
  intro fuel
  induction fuel with
  | zero => intro o k st q _ _ _ h; omega
  | succ fuel ih =>
    intro o k st q hI hz ho hf
    refine pk_le 12 o (fun h => ?_) (fun h => ?_)
    · refine hpost st q k hI (fun o' d => hz o' ?_ d)
      have := (ge_df_iff.mp d.1).1
      have := ge_kd_le a_leftOf a_rightOf (a_treeProd y).toNatClampNeg
      omega
    · have nxt : ∀ st' q' k', gx_Inv (4 * n) st q k st' q' k' → (ge_d1 a_leftOf a_rightOf a_ruleOp a_ruleA a_ruleB (a_treeProd y).toNatClampNeg o c → st' (ge_ins (ge_e (ge_K a_leftOf a_rightOf a_treeProd) n) y o) = 0) →
          wX_invalidateUsers_24 post (nI y) mask f_symbolLimit f_productionLimit f_nodeLimit f_productionCount f_verdict f_size f_drafting f_target f_kept f_fed f_open fuel (nI k') (nI (o + 1)) a_lhsOf a_leftOf a_rightOf a_ruleOp a_ruleA a_ruleB a_argMask a_userMask a_graphSet a_reach a_treeProd a_treeToken a_parent a_placeOf a_second a_span a_nodeGraph st' a_values a_oldState a_oldValues q' a_stack a_draftProd a_draftToken a_openSymbols := by
        intro st' q' k' i1 i2
        refine ih (o + 1) k' st' q' (gx_Inv_t hI i1) (fun o' h' d => ?_) (by omega) (by omega)
        rcases Nat.lt_or_ge o' o with z | z
        · exact gx_Inv_0 i1 (hz o' z d)
        · rw [show o' = o by omega] at d ⊢; exact i2 d
      by_cases hb : bt mask o = true
      · have d := (hm o h).mp hb
        have ho2 : o < 4 + 4 * ge_K a_leftOf a_rightOf a_treeProd y := (ge_df_iff.mp d.1).1
        have io := ge_io2 T.2.1 hk hy d.1
        generalize hi : ge_ins (ge_e (ge_K a_leftOf a_rightOf a_treeProd) n) y o = i at nxt io
        refine br_t ((ge_bit_t (by omega)).mpr hb) (gx_instanceAt (e := ge_e (ge_K a_leftOf a_rightOf a_treeProd) n) (by omega) (by omega) (fun z => T.2.2.2.2.2.1 _ hy (by have := hk y hy; omega)) ?_)
        rw [hi]
        have iv : vp_in (nI i) 96 := vp_in_nI (by omega) (by decide)
        have ec : (nI i).toNatClampNeg = i := nI_clamp (by omega)
        refine ⟨iv, ?_⟩
        rw [ec]
        by_cases hs : st i = 0
        · exact br_t hs (nm_r (nI_1 o) (nxt st q k gx_Inv_r (fun _ => hs)))
        · have i1 := gx_Inv_1 (N := 4 * n) (st := st) (q := q) (k := k) io.1 io.2.1 (by omega) hs
          have i2 := hI.2.2.2.2
          have i3 := i1.2.2.2.2
          refine br_f hs ⟨iv, nm_e (nm_r (nI_1 k) ⟨vp_in_nI (by omega) (by decide), nm_r (congrArg (fun z => upd q z (nI i)) (nI_clamp (show k < 2 ^ 31 by omega))) (nm_r (nI_1 o) ?_)⟩)⟩
          exact nxt _ _ _ i1 (fun _ => pk_us)
      · refine br_f (fun z => hb ((ge_bit_t (by omega)).mp z)) (nm_r (nI_1 o) (nxt st q k gx_Inv_r (fun d => absurd ((hm o h).mpr d) hb)))
theorem gx_invalidateUsers {n : Nat} (T : gx_T a_leftOf a_rightOf a_ruleOp a_ruleA a_ruleB a_treeProd a_parent a_placeOf a_second n) (U : gx_UM a_leftOf a_rightOf a_ruleOp a_ruleA a_ruleB a_userMask) {y c k : Nat} (hy : y < n) (hc : c < 12) (h0 : k + ge_nz a_state ≤ 95) {post : Int32 → SX → Prop}
    (hpost : ∀ st q k', gx_Inv (4 * n) a_state a_queue k st q k' → (∀ o, ge_d1 a_leftOf a_rightOf a_ruleOp a_ruleA a_ruleB (a_treeProd y).toNatClampNeg o c → st (ge_ins (ge_e (ge_K a_leftOf a_rightOf a_treeProd) n) y o) = 0) → post (nI k') (f_symbolLimit, f_productionLimit, f_nodeLimit, f_productionCount, f_verdict, f_size, f_drafting, f_target, f_kept, f_fed, f_open, a_lhsOf, a_leftOf, a_rightOf, a_ruleOp, a_ruleA, a_ruleB, a_argMask, a_userMask, a_graphSet, a_reach, a_treeProd, a_treeToken, a_parent, a_placeOf, a_second, a_span, a_nodeGraph, st, a_values, a_oldState, a_oldValues, q, a_stack, a_draftProd, a_draftToken, a_openSymbols)) :
    wpX_invalidateUsers post (f_symbolLimit, f_productionLimit, f_nodeLimit, f_productionCount, f_verdict, f_size, f_drafting, f_target, f_kept, f_fed, f_open, a_lhsOf, a_leftOf, a_rightOf, a_ruleOp, a_ruleA, a_ruleB, a_argMask, a_userMask, a_graphSet, a_reach, a_treeProd, a_treeToken, a_parent, a_placeOf, a_second, a_span, a_nodeGraph, a_state, a_values, a_oldState, a_oldValues, a_queue, a_stack, a_draftProd, a_draftToken, a_openSymbols) (nI y) (nI c) (nI k) := by
  have hn := T.1
  have hp := T.2.2.2.1 y hy
  have ey : (nI y).toNatClampNeg = y := nI_clamp (by omega)
  simp only [wpX_invalidateUsers]
  rw [ey, hp.2, ge_m12, nI_add, nI_clamp (by omega)]
  refine ⟨vp_in_nI (by omega) (by decide), vp_in_nI (by omega) (by decide), nm_e ⟨13, ?_⟩⟩
  exact gx_inval_loop T hy (fun o ho => U _ hp.1 c hc o ho) h0 hpost 13 0 k a_state a_queue gx_Inv_r (fun o' h => absurd h (Nat.not_lt_zero _)) (by omega) (by omega)
theorem gx_refresh_2 {n : Nat} {rt : Nat → Int32} {k : Nat} (T : gx_T a_leftOf a_rightOf a_ruleOp a_ruleA a_ruleB a_treeProd a_parent a_placeOf a_second n) (hk : k ≤ 95) (hq : ∀ j, j < k → ∃ i, i < 4 * n ∧ a_queue j = nI i) {V0 : Nat → Int32} {post : SX → Prop}
    (hpost : ∀ st V sk, ge_Part (4 * n) (ge_AR a_leftOf a_rightOf a_ruleOp a_ruleA a_ruleB a_treeProd n) (ge_vl a_leftOf a_rightOf a_ruleOp a_ruleA a_ruleB a_treeProd a_treeToken rt n) st V → (∀ j, j < k → ¬ st (a_queue j).toNatClampNeg = 0) → (∀ i, ¬ a_state i = 0 → ¬ st i = 0) → (∀ i, i < 2 → V i = V0 i) → post (f_symbolLimit, f_productionLimit, f_nodeLimit, f_productionCount, f_verdict, f_size, f_drafting, f_target, f_kept, f_fed, f_open, a_lhsOf, a_leftOf, a_rightOf, a_ruleOp, a_ruleA, a_ruleB, a_argMask, a_userMask, a_graphSet, a_reach, a_treeProd, a_treeToken, a_parent, a_placeOf, a_second, a_span, a_nodeGraph, st, V, a_oldState, a_oldValues, a_queue, sk, a_draftProd, a_draftToken, a_openSymbols)) :
    ∀ (fuel h : Nat) (st V sk : Nat → Int32), ge_Part (4 * n) (ge_AR a_leftOf a_rightOf a_ruleOp a_ruleA a_ruleB a_treeProd n) (ge_vl a_leftOf a_rightOf a_ruleOp a_ruleA a_ruleB a_treeProd a_treeToken rt n) st V → (∀ j, j < h → ¬ st (a_queue j).toNatClampNeg = 0) → (∀ i, ¬ a_state i = 0 → ¬ st i = 0) → (∀ i, i < 2 → V i = V0 i) → h ≤ k → k - h < fuel →
      wX_refresh_88 post (nI k) fuel (nI h) f_symbolLimit f_productionLimit f_nodeLimit f_productionCount f_verdict f_size f_drafting f_target f_kept f_fed f_open a_lhsOf a_leftOf a_rightOf a_ruleOp a_ruleA a_ruleB a_argMask a_userMask a_graphSet a_reach a_treeProd a_treeToken a_parent a_placeOf a_second a_span a_nodeGraph st V a_oldState a_oldValues a_queue sk a_draftProd a_draftToken a_openSymbols := by
  have hn := T.1
  intro fuel
  induction fuel with
  | zero => intro h st V sk _ _ _ _ _ z; omega
  | succ fuel ih =>
    intro h st V sk hP h1 h2 h3 hh hf
    refine pk_le k h (fun z => ?_) (fun z => ?_)
    · have e : h = k := by omega
      subst e
      exact hpost st V sk hP h1 h2 h3
    · obtain ⟨i, hi, ei⟩ := hq h z
      have ec : (nI i).toNatClampNeg = i := nI_clamp (by omega)
      have hv : vp_in (nI h) 96 := vp_in_nI (by omega) (by decide)
      refine ⟨hv, ?_⟩
      rw [nI_clamp (show h < 2 ^ 31 by omega), ei]
      refine ⟨vp_in_nI (by omega) (by decide), ?_⟩
      rw [ec]
      by_cases c : st i = 0
      · refine br_t c ⟨hv, gx_demand T hi c hP (fun st' V' sk' hP' hF => nm_r (nI_1 h) (ih (h + 1) st' V' sk' hP' ?_ (fun i' z' => hF.1 i' (h2 i' z')) (fun i' z' => (hF.2.2 i' z').trans (h3 i' z')) (by omega) (by omega)))⟩
        intro j hj
        rcases Nat.lt_or_ge j h with y | y
        · exact hF.1 _ (h1 j y)
        · rw [show j = h by omega, ei, ec]; exact hF.2.1
      · refine br_f c (nm_r (nI_1 h) (ih (h + 1) st V sk hP ?_ h2 h3 (by omega) (by omega)))
        intro j hj
        rcases Nat.lt_or_ge j h with y | y
        · exact h1 j y
        · rw [show j = h by omega, ei, ec]; exact c
theorem gx_refresh_1 {n : Nat} (T : gx_T a_leftOf a_rightOf a_ruleOp a_ruleA a_ruleB a_treeProd a_parent a_placeOf a_second n) (U : gx_UM a_leftOf a_rightOf a_ruleOp a_ruleA a_ruleB a_userMask) {st0 q0 : Nat → Int32} {k0 : Nat} (h0 : k0 + ge_nz st0 ≤ 95) (hq0 : ∀ j, j < k0 → ∃ i, i < 4 * n ∧ q0 j = nI i) {post : SX → Prop}
    (hpost : ∀ st q k, gx_Inv (4 * n) st0 q0 k0 st q k → (∀ j, j < k → ∃ i, i < 4 * n ∧ q j = nI i) → (∀ j, j < k → ∀ i, ge_AR a_leftOf a_rightOf a_ruleOp a_ruleA a_ruleB a_treeProd n i (q j).toNatClampNeg → st i = 0) → k ≤ 95 → ∃ n88, wX_refresh_88 post (nI k) n88 0 f_symbolLimit f_productionLimit f_nodeLimit f_productionCount f_verdict f_size f_drafting f_target f_kept f_fed f_open a_lhsOf a_leftOf a_rightOf a_ruleOp a_ruleA a_ruleB a_argMask a_userMask a_graphSet a_reach a_treeProd a_treeToken a_parent a_placeOf a_second a_span a_nodeGraph st a_values a_oldState a_oldValues q a_stack a_draftProd a_draftToken a_openSymbols) :
    ∀ (fuel h k : Nat) (st q : Nat → Int32), gx_Inv (4 * n) st0 q0 k0 st q k → (∀ j, j < h → ∀ i, ge_AR a_leftOf a_rightOf a_ruleOp a_ruleA a_ruleB a_treeProd n i (q j).toNatClampNeg → st i = 0) → h ≤ k → 96 - h < fuel →
      wX_refresh_4 post fuel (nI k) (nI h) f_symbolLimit f_productionLimit f_nodeLimit f_productionCount f_verdict f_size f_drafting f_target f_kept f_fed f_open a_lhsOf a_leftOf a_rightOf a_ruleOp a_ruleA a_ruleB a_argMask a_userMask a_graphSet a_reach a_treeProd a_treeToken a_parent a_placeOf a_second a_span a_nodeGraph st a_values a_oldState a_oldValues q a_stack a_draftProd a_draftToken a_openSymbols := by
  have hn := T.1
  have hk2 : ∀ x, x < n → ge_K a_leftOf a_rightOf a_treeProd x ≤ 2 := fun x _ => ge_K_le _ _ _ x
  intro fuel
  induction fuel with
  | zero => intro h k st q _ _ _ z; omega
  | succ fuel ih =>
    intro h k st q hI h1 hh hf
    have hk : k ≤ 95 := by have := hI.2.2.2.2; omega
    have hq : ∀ j, j < k → ∃ i, i < 4 * n ∧ q j = nI i := by
      intro j hj
      rcases Nat.lt_or_ge j k0 with z | z
      · rw [hI.2.1 j z]; exact hq0 j z
      · exact hI.2.2.2.1 j z hj
    refine br_f (nI_ge (b := 96) (by omega) (by decide)) (pk_le k h (fun z => ?_) (fun z => ?_))
    · have e : h = k := by omega
      subst e
      exact hpost st q h hI hq h1 hk
    · obtain ⟨i, hi, ei⟩ := hq h z
      have ec : (nI i).toNatClampNeg = i := nI_clamp (by omega)
      have hv : vp_in (nI h) 96 := vp_in_nI (by omega) (by decide)
      have hxn : i / 4 < n := by omega
      refine ⟨hv, nm_r (e' := nI (i / 4)) (by rw [nI_clamp (by omega), ei, ge_shr2 (by omega)]) ⟨hv, nm_r (e' := nI (i % 4)) (by rw [nI_clamp (by omega), ei, ge_and3 (by omega)]) ?_⟩⟩
      have xv : vp_in (nI (i / 4)) 24 := vp_in_nI (by omega) (by decide)
      have nz1 := hI.2.2.2.2
      refine gx_invalidateUsers T U hxn (by omega) (by omega) (fun st1 q1 k1 i1 u1 => ⟨xv, ?_⟩)
      rw [nI_clamp (show i / 4 < 2 ^ 31 by omega)]
      have nxt : ∀ st' q' k', gx_Inv (4 * n) st1 q1 k1 st' q' k' → (0 < i / 4 → ∀ o, ge_d1 a_leftOf a_rightOf a_ruleOp a_ruleA a_ruleB (a_treeProd (ge_par (ge_K a_leftOf a_rightOf a_treeProd) n (i / 4))).toNatClampNeg o (4 * ge_pl (ge_K a_leftOf a_rightOf a_treeProd) n (i / 4) + i % 4) → st' (ge_ins (ge_e (ge_K a_leftOf a_rightOf a_treeProd) n) (ge_par (ge_K a_leftOf a_rightOf a_treeProd) n (i / 4)) o) = 0) →
          wX_refresh_4 post fuel (nI k') (nI (h + 1)) f_symbolLimit f_productionLimit f_nodeLimit f_productionCount f_verdict f_size f_drafting f_target f_kept f_fed f_open a_lhsOf a_leftOf a_rightOf a_ruleOp a_ruleA a_ruleB a_argMask a_userMask a_graphSet a_reach a_treeProd a_treeToken a_parent a_placeOf a_second a_span a_nodeGraph st' a_values a_oldState a_oldValues q' a_stack a_draftProd a_draftToken a_openSymbols := by
        intro st' q' k' i2 u2
        have i3 := gx_Inv_t i1 i2
        refine ih (h + 1) k' st' q' (gx_Inv_t hI i3) (fun j hj i' r => ?_) (by have := i3.1; omega) (by omega)
        rw [i3.2.1 j (by omega)] at r
        rcases Nat.lt_or_ge j h with y | y
        · exact gx_Inv_0 i3 (h1 j y i' r)
        · rw [show j = h by omega, ei, ec, show i = 4 * (i / 4) + i % 4 by omega] at r
          rcases ge_AR_use T.2.1 (by omega) r with ⟨_, o, d, e⟩ | ⟨x0, _, o, d, e⟩
          · rw [e]; exact gx_Inv_0 i2 (u1 o d)
          · rw [e]; exact u2 x0 o d
      rcases Nat.eq_zero_or_pos (i / 4) with x0 | x0
      · refine br_t (by rw [x0, T.2.2.2.2.2.2]; decide) (nm_r (nI_1 h) (nxt st1 q1 k1 gx_Inv_r (fun y => absurd y (by omega))))
      · have pp := T.2.2.2.2.1 (i / 4) x0 hxn
        have ps := ge_par_spec T.2.1 x0 hxn
        have pc : ge_pl (ge_K a_leftOf a_rightOf a_treeProd) n (i / 4) ≤ 2 := by unfold ge_pl; split <;> omega
        rw [pp.1, pp.2, ge_m4, nI_add]
        refine br_f (nI_pos (by omega)) ⟨xv, xv, gx_invalidateUsers T U (by omega) (by omega) (by have := i1.2.2.2.2; omega) (fun st2 q2 k2 i2 u2 => nm_r (nI_1 h) (nxt st2 q2 k2 i2 (fun _ => u2)))⟩
theorem gx_refresh {n : Nat} {rt : Nat → Int32} (T : gx_T a_leftOf a_rightOf a_ruleOp a_ruleA a_ruleB a_treeProd a_parent a_placeOf a_second n) (U : gx_UM a_leftOf a_rightOf a_ruleOp a_ruleA a_ruleB a_userMask) {k : Nat} {D : Nat → Prop}
    (hPre : ge_Pre (4 * n) (ge_AR a_leftOf a_rightOf a_ruleOp a_ruleA a_ruleB a_treeProd n) (ge_vl a_leftOf a_rightOf a_ruleOp a_ruleA a_ruleB a_treeProd a_treeToken rt n) D a_state a_values)
    (hD : ∀ i, i < 4 * n → D i → (∃ j, j < k ∧ a_queue j = nI i) ∧ (a_state i = 0 ∨ (a_state i = 1 ∧ i < 2 ∧ a_values i = rt i))) (h2 : ∀ i, i < 2 → a_state i = 1) (hnz : k + ge_nz a_state ≤ 95) (hq : ∀ j, j < k → ∃ i, i < 4 * n ∧ a_queue j = nI i) {post : SX → Prop}
    (hpost : ∀ st V q sk, ge_Sol (4 * n) (ge_AR a_leftOf a_rightOf a_ruleOp a_ruleA a_ruleB a_treeProd n) (ge_vl a_leftOf a_rightOf a_ruleOp a_ruleA a_ruleB a_treeProd a_treeToken rt n) (fun i => st i = 1) V → (∀ i, i < 4 * n → st i = 1 ∨ st i = 2) → (∀ i, i < 2 → V i = a_values i) → post (f_symbolLimit, f_productionLimit, f_nodeLimit, f_productionCount, f_verdict, f_size, f_drafting, f_target, f_kept, f_fed, f_open, a_lhsOf, a_leftOf, a_rightOf, a_ruleOp, a_ruleA, a_ruleB, a_argMask, a_userMask, a_graphSet, a_reach, a_treeProd, a_treeToken, a_parent, a_placeOf, a_second, a_span, a_nodeGraph, st, V, a_oldState, a_oldValues, q, sk, a_draftProd, a_draftToken, a_openSymbols)) :
    wpX_refresh post (f_symbolLimit, f_productionLimit, f_nodeLimit, f_productionCount, f_verdict, f_size, f_drafting, f_target, f_kept, f_fed, f_open, a_lhsOf, a_leftOf, a_rightOf, a_ruleOp, a_ruleA, a_ruleB, a_argMask, a_userMask, a_graphSet, a_reach, a_treeProd, a_treeToken, a_parent, a_placeOf, a_second, a_span, a_nodeGraph, a_state, a_values, a_oldState, a_oldValues, a_queue, a_stack, a_draftProd, a_draftToken, a_openSymbols) (nI k) := by
  have hn := T.1
  have sy := ge_sys (tk := a_treeToken) (rt := rt) T.2.1 T.2.2.1 (gx_T_hp T)
  simp only [wpX_refresh]
  refine ⟨97, gx_refresh_1 T U hnz hq ?_ 97 0 k a_state a_queue gx_Inv_r (fun j h => absurd h (Nat.not_lt_zero _)) (Nat.zero_le _) (by omega)⟩
  intro st1 q1 k1 hI hq1 hu hk1
  have inq : ∀ j, j < 4 * n → (D j ∨ st1 j = 0) → ∃ h, h < k1 ∧ q1 h = nI j := by
    have f : ∀ j, j < 4 * n → D j → ∃ h, h < k1 ∧ q1 h = nI j := by
      intro j hj d
      obtain ⟨h, hh, eh⟩ := (hD j hj d).1
      exact ⟨h, by have := hI.1; omega, by rw [hI.2.1 h hh]; exact eh⟩
    intro j hj z
    rcases z with z | z
    · exact f j hj z
    · rcases hI.2.2.1 j with y | y
      · refine f j hj (Classical.byContradiction fun nd => ?_)
        rw [z] at y
        rcases hPre.1 j hj nd with q | q <;> rw [← y] at q <;> exact absurd q (by decide)
      · exact y.2.2.2
  have hPart : ge_Part (4 * n) (ge_AR a_leftOf a_rightOf a_ruleOp a_ruleA a_ruleB a_treeProd n) (ge_vl a_leftOf a_rightOf a_ruleOp a_ruleA a_ruleB a_treeProd a_treeToken rt n) st1 a_values := by
    refine ge_Part_of sy.1 hPre (fun i _ => ?_) (fun i hi d => ?_) (fun i j r z => ?_) (fun i hi => ?_)
    · rcases hI.2.2.1 i with y | y
      · exact Or.inl y
      · exact Or.inr y.1
    · rcases hI.2.2.1 i with y | y
      · rw [y]
        rcases (hD i hi d).2 with q | q
        · exact Or.inl q
        · refine Or.inr ⟨q.1, ?_, ?_⟩
          · unfold ge_vl; rw [if_pos q.2.1]; exact q.2.2
          · intro j r; have := ((ge_AR_iff T.2.1 T.2.2.1 (gx_T_hp T)).mp r).1; omega
      · exact Or.inl y.1
    · obtain ⟨h, hh, eh⟩ := inq j (sy.1 i j r).2 z
      refine hu h hh i ?_
      rw [eh, nI_clamp (by have := (sy.1 i j r).2; omega)]; exact r
    · rcases hI.2.2.1 i with y | y
      · rw [y]; exact h2 i hi
      · omega
  refine ⟨k1 + 1, gx_refresh_2 (V0 := a_values) T hk1 hq1 ?_ (k1 + 1) 0 st1 a_values a_stack hPart (fun j h => absurd h (Nat.not_lt_zero _)) (fun _ z => z) (fun _ _ => rfl) (Nat.zero_le _) (by omega)⟩
  intro st V sk hP z1 z2 z3
  have nz : ∀ i, i < 4 * n → ¬ st i = 0 := by
    intro i hi z
    have z0 : st1 i = 0 := Classical.byContradiction fun y => z2 i y z
    obtain ⟨h, hh, eh⟩ := inq i hi (Or.inr z0)
    have := z1 h hh
    rw [eh, nI_clamp (by omega)] at this
    exact this z
  obtain ⟨s1, s2⟩ := ge_Part_Sol hP nz
  exact hpost st V q1 sk s1 s2 z3
end
end
section
/-! X: compose and hasLoop -/
def gx_AM (L R O A B am : Nat → Int32) : Prop := ∀ p, p < 8 → ∀ o, o < 12 → ∀ c, c < 32 → (bt (am (12 * p + o)) c = true ↔ ge_d1 L R O A B p o c)
def ge_jg (g j b : Nat) : Int32 := ((((nI g) >>> (nI j &&& 31)) &&& 1) ||| ((((nI g) >>> ((2 + nI j) &&& 31)) &&& 1) <<< ((1 : Int32) &&& 31))) <<< (nI b &&& 31)
theorem ge_jg4 : ∀ g, g < 16 → ∀ j, j < 2 → ∀ c, c < 32 → bt (ge_jg g j 4) c = (decide (4 ≤ c) && decide (c < 6) && Nat.testBit g (2 * (c - 4) + j)) := by decide +kernel
theorem ge_jg8 : ∀ g, g < 16 → ∀ j, j < 2 → ∀ c, c < 32 → bt (ge_jg g j 8) c = (decide (8 ≤ c) && decide (c < 10) && Nat.testBit g (2 * (c - 8) + j)) := by decide +kernel
theorem ge_jgb {q g j c : Nat} (hq : q = 1 ∨ q = 2) (hg : g < 16) (hj : j < 2) (hc : c < 32) : bt (ge_jg g j (4 * q)) c = true ↔ (c / 4 = q ∧ c % 4 < 2 ∧ Nat.testBit g (2 * (c % 4) + j) = true) := by
  rcases hq with rfl | rfl
  · rw [show 4 * 1 = 4 by rfl, ge_jg4 g hg j hj c hc, Bool.and_eq_true, Bool.and_eq_true, decide_eq_true_iff, decide_eq_true_iff]
    constructor
    · rintro ⟨⟨a, b⟩, d⟩
      exact ⟨by omega, by omega, by rw [show c % 4 = c - 4 by omega]; exact d⟩
    · rintro ⟨a, b, d⟩
      exact ⟨⟨by omega, by omega⟩, by rw [show c - 4 = c % 4 by omega]; exact d⟩
  · rw [show 4 * 2 = 8 by rfl, ge_jg8 g hg j hj c hc, Bool.and_eq_true, Bool.and_eq_true, decide_eq_true_iff, decide_eq_true_iff]
    constructor
    · rintro ⟨⟨a, b⟩, d⟩
      exact ⟨by omega, by omega, by rw [show c % 4 = c - 8 by omega]; exact d⟩
    · rintro ⟨a, b, d⟩
      exact ⟨⟨by omega, by omega⟩, by rw [show c - 8 = c % 4 by omega]; exact d⟩
section
variable {f_symbolLimit f_productionLimit f_nodeLimit f_productionCount f_verdict f_size f_drafting f_target f_kept f_fed f_open : Int32} {a_lhsOf a_leftOf a_rightOf a_ruleOp a_ruleA a_ruleB a_argMask a_userMask a_graphSet a_reach a_treeProd a_treeToken a_parent a_placeOf a_second a_span a_nodeGraph a_state a_values a_oldState a_oldValues a_queue a_stack a_draftProd a_draftToken a_openSymbols : Nat → Int32}
theorem gx_joinGraph {b g : Nat} (hb : b ≤ 8) {post : SX → Prop} (h : post (f_symbolLimit, f_productionLimit, f_nodeLimit, f_productionCount, f_verdict, f_size, f_drafting, f_target, f_kept, f_fed, f_open, a_lhsOf, a_leftOf, a_rightOf, a_ruleOp, a_ruleA, a_ruleB, a_argMask, a_userMask, a_graphSet, upd (upd a_reach (b + 2 + 0) (ge_jg g 0 b)) (b + 2 + 1) (ge_jg g 1 b), a_treeProd, a_treeToken, a_parent, a_placeOf, a_second, a_span, a_nodeGraph, a_state, a_values, a_oldState, a_oldValues, a_queue, a_stack, a_draftProd, a_draftToken, a_openSymbols)) : wpX_joinGraph post (f_symbolLimit, f_productionLimit, f_nodeLimit, f_productionCount, f_verdict, f_size, f_drafting, f_target, f_kept, f_fed, f_open, a_lhsOf, a_leftOf, a_rightOf, a_ruleOp, a_ruleA, a_ruleB, a_argMask, a_userMask, a_graphSet, a_reach, a_treeProd, a_treeToken, a_parent, a_placeOf, a_second, a_span, a_nodeGraph, a_state, a_values, a_oldState, a_oldValues, a_queue, a_stack, a_draftProd, a_draftToken, a_openSymbols) (nI b) (nI g) := by
  simp only [wpX_joinGraph]
  have e0 : nI b + 2 + nI 0 = nI (b + 2 + 0) := by rw [ge_p2, nI_add]
  have e1 : nI b + 2 + nI 1 = nI (b + 2 + 1) := by rw [ge_p2, nI_add]
  refine ⟨3, ?_⟩
  show wX_joinGraph_2 post (nI b) (nI g) f_symbolLimit f_productionLimit f_nodeLimit f_productionCount f_verdict f_size f_drafting f_target f_kept f_fed f_open 3 (nI 0) a_lhsOf a_leftOf a_rightOf a_ruleOp a_ruleA a_ruleB a_argMask a_userMask a_graphSet a_reach a_treeProd a_treeToken a_parent a_placeOf a_second a_span a_nodeGraph a_state a_values a_oldState a_oldValues a_queue a_stack a_draftProd a_draftToken a_openSymbols
  refine br_f (by decide) (nm_e ?_)
  rw [e0]
  refine ⟨vp_in_nI (by omega) (by decide), nm_r (e' := upd a_reach (b + 2 + 0) (ge_jg g 0 b)) (by rw [nI_clamp (by omega)]; rfl) (nm_r (nI_1 0) ?_)⟩
  refine br_f (by decide) (nm_e ?_)
  rw [e1]
  refine ⟨vp_in_nI (by omega) (by decide), nm_r (e' := upd (upd a_reach (b + 2 + 0) (ge_jg g 0 b)) (b + 2 + 1) (ge_jg g 1 b)) (by rw [nI_clamp (by omega)]; rfl) (nm_r (nI_1 1) ?_)⟩
  exact br_t (by decide) h
/-- the reach array as a relation -/
def gx_RR (re : Nat → Int32) (cnt o c : Nat) : Prop := o < cnt ∧ c < 32 ∧ bt (re o) c = true
theorem gx_comp_139 {L R O A B : Nat → Int32} {p g1 g2 : Nat} (hT : ∀ o, o < 4 → ∀ c, c < 32 → (bt (a_reach o) c = true ↔ ge_TC (ge_dir L R O A B p g1 g2) o c)) {post : Int32 → SX → Prop} (h : post (nI (ge_CG L R O A B p g1 g2)) (f_symbolLimit, f_productionLimit, f_nodeLimit, f_productionCount, f_verdict, f_size, f_drafting, f_target, f_kept, f_fed, f_open, a_lhsOf, a_leftOf, a_rightOf, a_ruleOp, a_ruleA, a_ruleB, a_argMask, a_userMask, a_graphSet, a_reach, a_treeProd, a_treeToken, a_parent, a_placeOf, a_second, a_span, a_nodeGraph, a_state, a_values, a_oldState, a_oldValues, a_queue, a_stack, a_draftProd, a_draftToken, a_openSymbols)) :
    wX_compose_139 post f_symbolLimit f_productionLimit f_nodeLimit f_productionCount f_verdict f_size f_drafting f_target f_kept f_fed f_open a_lhsOf a_leftOf a_rightOf a_ruleOp a_ruleA a_ruleB a_argMask a_userMask a_graphSet a_reach a_treeProd a_treeToken a_parent a_placeOf a_second a_span a_nodeGraph a_state a_values a_oldState a_oldValues a_queue a_stack a_draftProd a_draftToken a_openSymbols 5 0 0 := by
  have b : ∀ o, o < 4 → ∀ c, c < 32 → ((a_reach o >>> (nI c &&& 31)) &&& 1) = nI (ge_b (ge_TC (ge_dir L R O A B p g1 g2) o c)) := by
    intro o ho c hc
    rw [ge_bit hc]
    rcases Classical.em (ge_TC (ge_dir L R O A B p g1 g2) o c) with t | t
    · rw [if_pos ((hT o ho c hc).mpr t), ge_bt t]; rfl
    · rw [if_neg (fun z => t ((hT o ho c hc).mp z)), ge_bf t]; rfl
  have b0 := b 2 (by decide) 0 (by decide)
  have b1 := b 3 (by decide) 0 (by decide)
  have b2 := b 2 (by decide) 1 (by decide)
  have b3 := b 3 (by decide) 1 (by decide)
  unfold ge_CG at h
  have l0 := ge_b_le (ge_TC (ge_dir L R O A B p g1 g2) 2 0)
  have l1 := ge_b_le (ge_TC (ge_dir L R O A B p g1 g2) 3 0)
  have l2 := ge_b_le (ge_TC (ge_dir L R O A B p g1 g2) 2 1)
  have l3 := ge_b_le (ge_TC (ge_dir L R O A B p g1 g2) 3 1)
  generalize ge_b (ge_TC (ge_dir L R O A B p g1 g2) 2 0) = v0 at *
  generalize ge_b (ge_TC (ge_dir L R O A B p g1 g2) 3 0) = v1 at *
  generalize ge_b (ge_TC (ge_dir L R O A B p g1 g2) 2 1) = v2 at *
  generalize ge_b (ge_TC (ge_dir L R O A B p g1 g2) 3 1) = v3 at *
  have z0 : v0 = 0 ∨ v0 = 1 := by omega
  have z1 : v1 = 0 ∨ v1 = 1 := by omega
  have z2 : v2 = 0 ∨ v2 = 1 := by omega
  have z3 : v3 = 0 ∨ v3 = 1 := by omega
  refine br_f (by decide) ⟨vp_in_iff.mpr (by decide), nm_r (e' := nI v0) (by
    rw [show (2 + ((0 : Int32) &&& 1)).toNatClampNeg = 2 by decide, show (((0 : Int32) >>> ((1 : Int32) &&& 31)) &&& 31) = (nI 0 &&& 31) by decide, b0]
    rcases z0 with rfl | rfl <;> decide) (nm_r (e' := 1) (by decide) ?_)⟩
  refine br_f (by decide) ⟨vp_in_iff.mpr (by decide), nm_r (e' := nI (v0 + 2 * v1)) (by
    rw [show (2 + ((1 : Int32) &&& 1)).toNatClampNeg = 3 by decide, show (((1 : Int32) >>> ((1 : Int32) &&& 31)) &&& 31) = (nI 0 &&& 31) by decide, b1]
    rcases z0 with rfl | rfl <;> rcases z1 with rfl | rfl <;> decide) (nm_r (e' := 2) (by decide) ?_)⟩
  refine br_f (by decide) ⟨vp_in_iff.mpr (by decide), nm_r (e' := nI (v0 + 2 * v1 + 4 * v2)) (by
    rw [show (2 + ((2 : Int32) &&& 1)).toNatClampNeg = 2 by decide, show (((2 : Int32) >>> ((1 : Int32) &&& 31)) &&& 31) = (nI 1 &&& 31) by decide, b2]
    rcases z0 with rfl | rfl <;> rcases z1 with rfl | rfl <;> rcases z2 with rfl | rfl <;> decide) (nm_r (e' := 3) (by decide) ?_)⟩
  refine br_f (by decide) ⟨vp_in_iff.mpr (by decide), nm_r (e' := nI (v0 + 2 * v1 + 4 * v2 + 8 * v3)) (by
    rw [show (2 + ((3 : Int32) &&& 1)).toNatClampNeg = 3 by decide, show (((3 : Int32) >>> ((1 : Int32) &&& 31)) &&& 31) = (nI 1 &&& 31) by decide, b3]
    rcases z0 with rfl | rfl <;> rcases z1 with rfl | rfl <;> rcases z2 with rfl | rfl <;> rcases z3 with rfl | rfl <;> decide) (nm_r (e' := 4) (by decide) ?_)⟩
  exact br_t (by decide) h
/-- one mid of Warshall -/
theorem gx_comp_81 {cnt mid : Nat} (hc : cnt ≤ 12) (hm : mid < cnt) {r0 : Nat → Int32} {post : Int32 → SX → Prop} {J : Int32 → (Nat → Int32) → (Nat → Int32) → (Nat → Int32) → (Nat → Int32) → (Nat → Int32) → (Nat → Int32) → (Nat → Int32) → (Nat → Int32) → (Nat → Int32) → (Nat → Int32) → (Nat → Int32) → (Nat → Int32) → (Nat → Int32) → (Nat → Int32) → (Nat → Int32) → (Nat → Int32) → (Nat → Int32) → (Nat → Int32) → (Nat → Int32) → (Nat → Int32) → (Nat → Int32) → (Nat → Int32) → (Nat → Int32) → (Nat → Int32) → (Nat → Int32) → (Nat → Int32) → Prop}
    (hJ : ∀ re, (∀ o, o < cnt → ∀ c, c < 32 → bt (re o) c = (bt (r0 o) c || (bt (r0 o) mid && bt (r0 mid) c))) → J (nI (mid + 1)) a_lhsOf a_leftOf a_rightOf a_ruleOp a_ruleA a_ruleB a_argMask a_userMask a_graphSet re a_treeProd a_treeToken a_parent a_placeOf a_second a_span a_nodeGraph a_state a_values a_oldState a_oldValues a_queue a_stack a_draftProd a_draftToken a_openSymbols) :
    ∀ (fuel o : Nat) (re : Nat → Int32), (∀ o', o' < cnt → ∀ c, c < 32 → bt (re o') c = if o' < o then (bt (r0 o') c || (bt (r0 o') mid && bt (r0 mid) c)) else bt (r0 o') c) → o ≤ cnt → cnt - o < fuel →
      wX_compose_81 post J (nI cnt) (nI mid) f_symbolLimit f_productionLimit f_nodeLimit f_productionCount f_verdict f_size f_drafting f_target f_kept f_fed f_open fuel (nI o) a_lhsOf a_leftOf a_rightOf a_ruleOp a_ruleA a_ruleB a_argMask a_userMask a_graphSet re a_treeProd a_treeToken a_parent a_placeOf a_second a_span a_nodeGraph a_state a_values a_oldState a_oldValues a_queue a_stack a_draftProd a_draftToken a_openSymbols := by
  intro fuel
  induction fuel with
  | zero => intro o re _ _ h; omega
  | succ fuel ih =>
    intro o re hI ho hf
    refine pk_le cnt o (fun z => ?_) (fun z => ?_)
    · refine nm_r (nI_1 mid) (hJ re (fun o' h' c hc' => ?_))
      rw [hI o' h' c hc', if_pos (by omega)]
    · have ov : vp_in (nI o) 12 := vp_in_nI (by omega) (by decide)
      have eo : (nI o).toNatClampNeg = o := nI_clamp (by omega)
      have em : (nI mid).toNatClampNeg = mid := nI_clamp (by omega)
      have emid : ∀ c, c < 32 → bt (re mid) c = bt (r0 mid) c := by
        intro c hc'
        rw [hI mid hm c hc']
        split
        · cases bt (r0 mid) c <;> cases bt (r0 mid) mid <;> rfl
        · rfl
      have eoo : ∀ c, c < 32 → bt (re o) c = bt (r0 o) c := by
        intro c hc'
        rw [hI o z c hc', if_neg (by omega)]
      refine ⟨ov, ?_⟩
      rw [eo]
      by_cases hb : bt (re o) mid = true
      · refine br_t ((ge_bit_t (by omega)).mpr hb) ⟨ov, vp_in_nI (by omega) (by decide), ov, nm_r (e' := upd re o (re o ||| re mid)) (by rw [em]) (nm_r (nI_1 o) (ih (o + 1) _ ?_ (by omega) (by omega)))⟩
        intro o' h' c hc'
        by_cases e : o' = o
        · rw [e, pk_us, b_or, if_pos (by omega), eoo c hc', emid c hc', ← eoo mid (by omega), hb, Bool.true_and]
        · rw [pk_un e, hI o' h' c hc']
          by_cases l : o' < o
          · rw [if_pos l, if_pos (by omega)]
          · rw [if_neg l, if_neg (by omega)]
      · refine br_f (fun y => hb ((ge_bit_t (by omega)).mp y)) (nm_r (nI_1 o) (ih (o + 1) _ ?_ (by omega) (by omega)))
        intro o' h' c hc'
        by_cases e : o' = o
        · rw [e, if_pos (by omega), eoo c hc', ← eoo mid (by omega), Bool.eq_false_iff.mpr hb, Bool.false_and, Bool.or_false]
        · rw [hI o' h' c hc']
          by_cases l : o' < o
          · rw [if_pos l, if_pos (by omega)]
          · rw [if_neg l, if_neg (by omega)]
theorem gx_comp_71 {L R O A B : Nat → Int32} {p g1 g2 : Nat} {post : Int32 → SX → Prop}
    (hpost : ∀ re, (∀ o, o < 4 + 4 * ge_kd L R p → ∀ c, c < 32 → (bt (re o) c = true ↔ ge_TC (ge_dir L R O A B p g1 g2) o c)) → post (nI (ge_CG L R O A B p g1 g2)) (f_symbolLimit, f_productionLimit, f_nodeLimit, f_productionCount, f_verdict, f_size, f_drafting, f_target, f_kept, f_fed, f_open, a_lhsOf, a_leftOf, a_rightOf, a_ruleOp, a_ruleA, a_ruleB, a_argMask, a_userMask, a_graphSet, re, a_treeProd, a_treeToken, a_parent, a_placeOf, a_second, a_span, a_nodeGraph, a_state, a_values, a_oldState, a_oldValues, a_queue, a_stack, a_draftProd, a_draftToken, a_openSymbols)) :
    ∀ (fuel mid : Nat) (re : Nat → Int32), ge_W (ge_dir L R O A B p g1 g2) (gx_RR re (4 + 4 * ge_kd L R p)) mid → mid ≤ 4 + 4 * ge_kd L R p → 4 + 4 * ge_kd L R p - mid < fuel →
      wX_compose_71 post (nI (4 + 4 * ge_kd L R p)) f_symbolLimit f_productionLimit f_nodeLimit f_productionCount f_verdict f_size f_drafting f_target f_kept f_fed f_open fuel (nI mid) a_lhsOf a_leftOf a_rightOf a_ruleOp a_ruleA a_ruleB a_argMask a_userMask a_graphSet re a_treeProd a_treeToken a_parent a_placeOf a_second a_span a_nodeGraph a_state a_values a_oldState a_oldValues a_queue a_stack a_draftProd a_draftToken a_openSymbols := by
  have k2 := ge_kd_le L R p
  intro fuel
  induction fuel with
  | zero => intro mid re _ _ h; omega
  | succ fuel ih =>
    intro mid re hW hm hf
    refine pk_le (4 + 4 * ge_kd L R p) mid (fun z => ?_) (fun z => ?_)
    · have e : mid = 4 + 4 * ge_kd L R p := by omega
      have hT : ∀ o, o < 4 + 4 * ge_kd L R p → ∀ c, c < 32 → (bt (re o) c = true ↔ ge_TC (ge_dir L R O A B p g1 g2) o c) := by
        intro o ho c hc
        rw [← ge_W_e hW (fun x y d => by have := (ge_dir_r d).2; omega)]
        exact ⟨fun z => ⟨ho, hc, z⟩, fun z => z.2.2⟩
      exact ⟨5, gx_comp_139 (fun o ho c hc => hT o (by omega) c hc) (hpost re hT)⟩
    · refine ⟨4 + 4 * ge_kd L R p + 1, gx_comp_81 (r0 := re) (by omega) z ?_ _ 0 re (fun o' h' c hc => by rw [if_neg (by omega)]) (Nat.zero_le _) (by omega)⟩
      intro re' hre
      refine ih (mid + 1) re' (ge_W_s hW ?_) (by omega) (by omega)
      intro x y
      constructor
      · rintro ⟨a, b, d⟩
        rw [hre x a y b, Bool.or_eq_true, Bool.and_eq_true] at d
        rcases d with d | d
        · exact Or.inl ⟨a, b, d⟩
        · exact Or.inr ⟨⟨a, by omega, d.1⟩, z, b, d.2⟩
      · rintro (d | ⟨d1, d2⟩)
        · exact ⟨d.1, d.2.1, by rw [hre x d.1 y d.2.1, d.2.2, Bool.true_or]⟩
        · refine ⟨d1.1, d2.2.1, ?_⟩
          rw [hre x d1.1 y d2.2.1, d1.2.2, d2.2.2, Bool.true_and, Bool.or_true]
theorem gx_comp_10 {p : Nat} {g1 g2 cnt : Nat} (hc : cnt ≤ 12) (hp : p < 8) {post : Int32 → SX → Prop}
    (hpost : ∀ re, (∀ o, o < cnt → re o = a_argMask (12 * p + o)) → ((nI cnt ≤ 4 → wX_compose_54 post (nI g2) (nI cnt) f_symbolLimit f_productionLimit f_nodeLimit f_productionCount f_verdict f_size f_drafting f_target f_kept f_fed f_open a_lhsOf a_leftOf a_rightOf a_ruleOp a_ruleA a_ruleB a_argMask a_userMask a_graphSet re a_treeProd a_treeToken a_parent a_placeOf a_second a_span a_nodeGraph a_state a_values a_oldState a_oldValues a_queue a_stack a_draftProd a_draftToken a_openSymbols) ∧ (¬ nI cnt ≤ 4 → wpX_joinGraph (fun u => match u with | (f_symbolLimit, f_productionLimit, f_nodeLimit, f_productionCount, f_verdict, f_size, f_drafting, f_target, f_kept, f_fed, f_open, a_lhsOf, a_leftOf, a_rightOf, a_ruleOp, a_ruleA, a_ruleB, a_argMask, a_userMask, a_graphSet, a_reach, a_treeProd, a_treeToken, a_parent, a_placeOf, a_second, a_span, a_nodeGraph, a_state, a_values, a_oldState, a_oldValues, a_queue, a_stack, a_draftProd, a_draftToken, a_openSymbols) => (wX_compose_54 post (nI g2) (nI cnt) f_symbolLimit f_productionLimit f_nodeLimit f_productionCount f_verdict f_size f_drafting f_target f_kept f_fed f_open a_lhsOf a_leftOf a_rightOf a_ruleOp a_ruleA a_ruleB a_argMask a_userMask a_graphSet a_reach a_treeProd a_treeToken a_parent a_placeOf a_second a_span a_nodeGraph a_state a_values a_oldState a_oldValues a_queue a_stack a_draftProd a_draftToken a_openSymbols)) (f_symbolLimit, f_productionLimit, f_nodeLimit, f_productionCount, f_verdict, f_size, f_drafting, f_target, f_kept, f_fed, f_open, a_lhsOf, a_leftOf, a_rightOf, a_ruleOp, a_ruleA, a_ruleB, a_argMask, a_userMask, a_graphSet, re, a_treeProd, a_treeToken, a_parent, a_placeOf, a_second, a_span, a_nodeGraph, a_state, a_values, a_oldState, a_oldValues, a_queue, a_stack, a_draftProd, a_draftToken, a_openSymbols) 4 (nI g1)))) :
    ∀ (fuel o : Nat) (re : Nat → Int32), (∀ o', o' < o → re o' = a_argMask (12 * p + o')) → o ≤ cnt → cnt - o < fuel →
      wX_compose_10 post (nI p) (nI g1) (nI g2) (nI cnt) f_symbolLimit f_productionLimit f_nodeLimit f_productionCount f_verdict f_size f_drafting f_target f_kept f_fed f_open fuel (nI o) a_lhsOf a_leftOf a_rightOf a_ruleOp a_ruleA a_ruleB a_argMask a_userMask a_graphSet re a_treeProd a_treeToken a_parent a_placeOf a_second a_span a_nodeGraph a_state a_values a_oldState a_oldValues a_queue a_stack a_draftProd a_draftToken a_openSymbols := by
  intro fuel
  induction fuel with
  | zero => intro o re _ _ h; omega
  | succ fuel ih =>
    intro o re hI ho hf
    refine pk_le cnt o (fun z => ?_) (fun z => ?_)
    · exact hpost re (fun o' h' => hI o' (by omega))
    · have e : 12 * nI p + nI o = nI (12 * p + o) := by rw [ge_m12, nI_add]
      rw [e]
      refine ⟨vp_in_nI (by omega) (by decide), vp_in_nI (by omega) (by decide), nm_r (e' := upd re o (a_argMask (12 * p + o))) (by rw [nI_clamp (by omega), nI_clamp (by omega)]) (nm_r (nI_1 o) (ih (o + 1) _ ?_ (by omega) (by omega)))⟩
      intro o' h'
      by_cases q : o' = o
      · rw [q, pk_us]
      · rw [pk_un q]; exact hI o' (by omega)
theorem gx_compose {p g1 g2 : Nat} (hp : p < 8) (h1 : g1 < 16) (h2 : g2 < 16) (M : gx_AM a_leftOf a_rightOf a_ruleOp a_ruleA a_ruleB a_argMask) {post : Int32 → SX → Prop}
    (hpost : ∀ re, (∀ o, o < 4 + 4 * ge_kd a_leftOf a_rightOf p → ∀ c, c < 32 → (bt (re o) c = true ↔ ge_TC (ge_dir a_leftOf a_rightOf a_ruleOp a_ruleA a_ruleB p g1 g2) o c)) → post (nI (ge_CG a_leftOf a_rightOf a_ruleOp a_ruleA a_ruleB p g1 g2)) (f_symbolLimit, f_productionLimit, f_nodeLimit, f_productionCount, f_verdict, f_size, f_drafting, f_target, f_kept, f_fed, f_open, a_lhsOf, a_leftOf, a_rightOf, a_ruleOp, a_ruleA, a_ruleB, a_argMask, a_userMask, a_graphSet, re, a_treeProd, a_treeToken, a_parent, a_placeOf, a_second, a_span, a_nodeGraph, a_state, a_values, a_oldState, a_oldValues, a_queue, a_stack, a_draftProd, a_draftToken, a_openSymbols)) :
    wpX_compose post (f_symbolLimit, f_productionLimit, f_nodeLimit, f_productionCount, f_verdict, f_size, f_drafting, f_target, f_kept, f_fed, f_open, a_lhsOf, a_leftOf, a_rightOf, a_ruleOp, a_ruleA, a_ruleB, a_argMask, a_userMask, a_graphSet, a_reach, a_treeProd, a_treeToken, a_parent, a_placeOf, a_second, a_span, a_nodeGraph, a_state, a_values, a_oldState, a_oldValues, a_queue, a_stack, a_draftProd, a_draftToken, a_openSymbols) (nI p) (nI g1) (nI g2) := by
  have k2 := ge_kd_le a_leftOf a_rightOf p
  have fin : ∀ re, (∀ o, o < 4 + 4 * ge_kd a_leftOf a_rightOf p → ∀ c, c < 32 → (bt (re o) c = true ↔ ge_dir a_leftOf a_rightOf a_ruleOp a_ruleA a_ruleB p g1 g2 o c)) →
      wX_compose_71 post (nI (4 + 4 * ge_kd a_leftOf a_rightOf p)) f_symbolLimit f_productionLimit f_nodeLimit f_productionCount f_verdict f_size f_drafting f_target f_kept f_fed f_open 13 0 a_lhsOf a_leftOf a_rightOf a_ruleOp a_ruleA a_ruleB a_argMask a_userMask a_graphSet re a_treeProd a_treeToken a_parent a_placeOf a_second a_span a_nodeGraph a_state a_values a_oldState a_oldValues a_queue a_stack a_draftProd a_draftToken a_openSymbols := by
    intro re hre
    refine gx_comp_71 (L := a_leftOf) (R := a_rightOf) (O := a_ruleOp) (A := a_ruleA) (B := a_ruleB) (g1 := g1) (g2 := g2) hpost 13 0 re ?_ (Nat.zero_le _) (by omega)
    refine ⟨fun x y d => ?_, fun x y d => ?_, fun k hk => absurd hk (Nat.not_lt_zero _)⟩
    · have r := ge_dir_r d
      exact ⟨r.1, by omega, (hre x r.1 y (by omega)).mpr d⟩
    · exact ge_TC_i ((hre x d.1 y d.2.1).mp d.2.2)
  -- the graph rows
  have row : ∀ o c q g, o < 4 + 4 * ge_kd a_leftOf a_rightOf p → c < 32 → o / 4 = q → 1 ≤ q → 2 ≤ o % 4 → g < 16 → (if o < 8 then g1 else g2) = g →
      (bt (ge_jg g (o % 4 - 2) (4 * q)) c = true ↔ ge_dir a_leftOf a_rightOf a_ruleOp a_ruleA a_ruleB p g1 g2 o c) := by
    intro o c q g ho hc hq hq1 hr hg eg
    rw [ge_jgb (by omega) hg (by omega) hc]
    unfold ge_dir
    rw [eg]
    constructor
    · rintro ⟨a, b, d⟩
      exact Or.inr ⟨by omega, ho, hr, by omega, b, by rw [show 2 * (c % 4) + o % 4 - 2 = 2 * (c % 4) + (o % 4 - 2) by omega]; exact d⟩
    · rintro (d | ⟨_, _, _, d4, d5, d6⟩)
      · have := (ge_df_iff.mp d.1).2; omega
      · exact ⟨by omega, d5, by rw [show 2 * (c % 4) + (o % 4 - 2) = 2 * (c % 4) + o % 4 - 2 by omega]; exact d6⟩
  have rule : ∀ o c, o < 4 + 4 * ge_kd a_leftOf a_rightOf p → c < 32 → (o < 4 ∨ o % 4 < 2) → (bt (a_argMask (12 * p + o)) c = true ↔ ge_dir a_leftOf a_rightOf a_ruleOp a_ruleA a_ruleB p g1 g2 o c) := by
    intro o c ho hc hr
    rw [M p hp o (by omega) c hc]
    unfold ge_dir
    constructor
    · intro z; exact Or.inl z
    · rintro (z | z)
      · exact z
      · omega
  simp only [wpX_compose]
  refine gx_occurrences hp ⟨13, ?_⟩
  refine gx_comp_10 (by omega) hp ?_ 13 0 a_reach (fun o' h' => absurd h' (Nat.not_lt_zero _)) (Nat.zero_le _) (by omega)
  intro re hre
  refine pk_le (4 + 4 * ge_kd a_leftOf a_rightOf p) 4 (fun z => ?_) (fun z => ?_)
  · unfold wX_compose_54
    refine br_t (nI_le (b := 8) (by omega) (by decide)) ⟨13, fin re (fun o ho c hc => ?_)⟩
    rw [hre o ho]; exact rule o c ho hc (by omega)
  · refine gx_joinGraph (b := 4) (by omega) ?_
    show wX_compose_54 post _ _ f_symbolLimit f_productionLimit f_nodeLimit f_productionCount f_verdict f_size f_drafting f_target f_kept f_fed f_open a_lhsOf a_leftOf a_rightOf a_ruleOp a_ruleA a_ruleB a_argMask a_userMask a_graphSet _ a_treeProd a_treeToken a_parent a_placeOf a_second a_span a_nodeGraph a_state a_values a_oldState a_oldValues a_queue a_stack a_draftProd a_draftToken a_openSymbols
    unfold wX_compose_54
    refine pk_le (4 + 4 * ge_kd a_leftOf a_rightOf p) 8 (fun y => ?_) (fun y => ?_)
    · refine ⟨13, fin _ (fun o ho c hc => ?_)⟩
      by_cases e7 : o = 7
      · subst e7; exact row 7 c 1 g1 ho hc rfl (by omega) (by omega) h1 (if_pos (by omega))
      · rw [pk_un e7]
        by_cases e6 : o = 6
        · subst e6; exact row 6 c 1 g1 ho hc rfl (by omega) (by omega) h1 (if_pos (by omega))
        · rw [pk_un e6, hre o ho]; exact rule o c ho hc (by omega)
    · refine gx_joinGraph (b := 8) (by omega) ?_
      refine ⟨13, fin _ (fun o ho c hc => ?_)⟩
      by_cases e11 : o = 11
      · subst e11; exact row 11 c 2 g2 ho hc rfl (by omega) (by omega) h2 (if_neg (by omega))
      · rw [pk_un e11]
        by_cases e10 : o = 10
        · subst e10; exact row 10 c 2 g2 ho hc rfl (by omega) (by omega) h2 (if_neg (by omega))
        · rw [pk_un e10]
          by_cases e7 : o = 7
          · subst e7; exact row 7 c 1 g1 ho hc rfl (by omega) (by omega) h1 (if_pos (by omega))
          · rw [pk_un e7]
            by_cases e6 : o = 6
            · subst e6; exact row 6 c 1 g1 ho hc rfl (by omega) (by omega) h1 (if_pos (by omega))
            · rw [pk_un e6, hre o ho]; exact rule o c ho hc (by omega)
theorem gx_hasLoop {L R O A B : Nat → Int32} {p g1 g2 : Nat} (hp : p < 8) (eL : L = a_leftOf) (eR : R = a_rightOf) (hre : ∀ o, o < 4 + 4 * ge_kd L R p → ∀ c, c < 32 → (bt (a_reach o) c = true ↔ ge_TC (ge_dir L R O A B p g1 g2) o c)) {post : Int32 → Prop}
    (h1 : ge_LP L R O A B p g1 g2 → post 1) (h0 : ¬ ge_LP L R O A B p g1 g2 → post 0) : wpX_hasLoop post (f_symbolLimit, f_productionLimit, f_nodeLimit, f_productionCount, f_verdict, f_size, f_drafting, f_target, f_kept, f_fed, f_open, a_lhsOf, a_leftOf, a_rightOf, a_ruleOp, a_ruleA, a_ruleB, a_argMask, a_userMask, a_graphSet, a_reach, a_treeProd, a_treeToken, a_parent, a_placeOf, a_second, a_span, a_nodeGraph, a_state, a_values, a_oldState, a_oldValues, a_queue, a_stack, a_draftProd, a_draftToken, a_openSymbols) (nI p) := by
  subst eL eR
  have k2 := ge_kd_le L R p
  have key : ∀ (fuel o : Nat), (∀ o', o' < o → ¬ ge_TC (ge_dir L R O A B p g1 g2) o' o') → o ≤ 4 + 4 * ge_kd L R p → 4 + 4 * ge_kd L R p - o < fuel →
      wX_hasLoop_8 post (nI (4 + 4 * ge_kd L R p)) f_symbolLimit f_productionLimit f_nodeLimit f_productionCount f_verdict f_size f_drafting f_target f_kept f_fed f_open a_lhsOf L R a_ruleOp a_ruleA a_ruleB a_argMask a_userMask a_graphSet a_reach a_treeProd a_treeToken a_parent a_placeOf a_second a_span a_nodeGraph a_state a_values a_oldState a_oldValues a_queue a_stack a_draftProd a_draftToken a_openSymbols fuel (nI o) := by
    intro fuel
    induction fuel with
    | zero => intro o _ _ h; omega
    | succ fuel ih =>
      intro o hI ho hf
      refine pk_le (4 + 4 * ge_kd L R p) o (fun z => ?_) (fun z => ?_)
      · refine h0 ?_
        rintro ⟨o', t⟩
        have := (ge_TC_dom (A := fun x => x < 4 + 4 * ge_kd L R p) (B := fun _ => True) (fun x y d => ⟨(ge_dir_r d).1, trivial⟩) t).1
        exact hI o' (by omega) t
      · refine ⟨vp_in_nI (by omega) (by decide), ?_⟩
        rw [nI_clamp (by omega)]
        by_cases hb : bt (a_reach o) o = true
        · exact br_t ((ge_bit_t (by omega)).mpr hb) (h1 ⟨o, (hre o z o (by omega)).mp hb⟩)
        · refine br_f (fun y => hb ((ge_bit_t (by omega)).mp y)) (nm_r (nI_1 o) (ih (o + 1) ?_ (by omega) (by omega)))
          intro o' h' t
          rcases Nat.lt_or_ge o' o with q | q
          · exact hI o' q t
          · rw [show o' = o by omega] at t; exact hb ((hre o z o (by omega)).mpr t)
  simp only [wpX_hasLoop]
  exact gx_occurrences hp ⟨13, key 13 0 (fun o' h' => absurd h' (Nat.not_lt_zero _)) (Nat.zero_le _) (by omega)⟩
end
end
section
/-! X: the masks -/
def ge_dn (p o p' o' : Nat) : Prop := p' < p ∨ (p' = p ∧ o' < o)
def gx_MS (L R O A B am um : Nat → Int32) (p o : Nat) : Prop :=
  (∀ p', p' < 8 → ∀ o', o' < 12 → ∀ c, c < 32 → (bt (am (12 * p' + o')) c = true ↔ (ge_dn p o p' o' ∧ ge_d1 L R O A B p' o' c))) ∧
  (∀ p', p' < 8 → ∀ c, c < 12 → ∀ o', o' < 32 → (bt (um (12 * p' + c)) o' = true ↔ (ge_dn p o p' o' ∧ ge_d1 L R O A B p' o' c)))
theorem gx_MS_set {L R O A B am um am' um' : Nat → Int32} {p o : Nat} (hp : p < 8) (ho : o < 12) (h : gx_MS L R O A B am um p o) (h1 : ∀ r, r ≠ 12 * p + o → am' r = am r) (h2 : ∀ c, c < 32 → (bt (am' (12 * p + o)) c = true ↔ ge_d1 L R O A B p o c))
    (h3 : ∀ i, i < 96 → ∀ o', o' < 32 → (bt (um' i) o' = true ↔ (bt (um i) o' = true ∨ (o' = o ∧ ∃ c, c < 12 ∧ i = 12 * p + c ∧ ge_d1 L R O A B p o c)))) : gx_MS L R O A B am' um' p (o + 1) := by
  constructor
  · intro p' hp' o' ho' c hc
    by_cases e : 12 * p' + o' = 12 * p + o
    · have e1 : p' = p := by omega
      have e2 : o' = o := by omega
      subst e1 e2
      rw [h2 c hc]
      exact ⟨fun z => ⟨Or.inr ⟨rfl, by omega⟩, z⟩, fun z => z.2⟩
    · rw [h1 _ e, h.1 p' hp' o' ho' c hc]
      unfold ge_dn
      constructor
      · intro z; exact ⟨by omega, z.2⟩
      · intro z; exact ⟨by omega, z.2⟩
  · intro p' hp' c hc o' ho'
    rw [h3 _ (by omega) o' ho', h.2 p' hp' c hc o' ho']
    unfold ge_dn
    constructor
    · rintro (z | ⟨z1, c', z2, z3, z4⟩)
      · exact ⟨by omega, z.2⟩
      · have e1 : p' = p := by omega
        have e2 : c' = c := by omega
        subst e1 e2 z1
        exact ⟨Or.inr ⟨rfl, by omega⟩, z4⟩
    · rintro ⟨z1, z2⟩
      by_cases e : p' = p ∧ o' = o
      · right
        rw [e.1, e.2] at z2
        exact ⟨e.2, c, hc, by omega, z2⟩
      · exact Or.inl ⟨by omega, z2⟩
theorem gx_MS_skip {L R O A B am um : Nat → Int32} {p o : Nat} (hp : p < 8) (ho : o < 12) (h : gx_MS L R O A B am um p o) (hn : ∀ c, ¬ ge_d1 L R O A B p o c) : gx_MS L R O A B am um p (o + 1) := by
  refine gx_MS_set hp ho h (fun _ _ => rfl) (fun c hc => ?_) (fun i _ o' _ => ?_)
  · rw [h.1 p hp o ho c hc]; exact ⟨fun z => z.2, fun z => absurd z (hn c)⟩
  · constructor
    · intro z; exact Or.inl z
    · rintro (z | ⟨_, c, _, _, d⟩)
      · exact z
      · exact absurd d (hn c)
theorem gx_MS_next {L R O A B am um : Nat → Int32} {p : Nat} (h : gx_MS L R O A B am um p 12) : gx_MS L R O A B am um (p + 1) 0 := by
  constructor
  · intro p' hp' o' ho' c hc
    rw [h.1 p' hp' o' ho' c hc]; unfold ge_dn
    constructor
    · intro z; exact ⟨by omega, z.2⟩
    · intro z; exact ⟨by omega, z.2⟩
  · intro p' hp' c hc o' ho'
    rw [h.2 p' hp' c hc o' ho']; unfold ge_dn
    constructor
    · intro z; exact ⟨by omega, z.2⟩
    · intro z
      have := (ge_df_iff.mp z.2.1).1
      have := ge_kd_le L R p'
      exact ⟨by omega, z.2⟩
theorem gx_MS_0 {L R O A B am um : Nat → Int32} (h1 : ∀ i, i < 96 → am i = 0) (h2 : ∀ i, i < 96 → um i = 0) : gx_MS L R O A B am um 0 0 := by
  constructor
  · intro p' hp' o' ho' c hc
    rw [h1 _ (by omega), b_0]; unfold ge_dn
    exact ⟨fun z => absurd z (by decide), fun z => by omega⟩
  · intro p' hp' c hc o' ho'
    rw [h2 _ (by omega), b_0]; unfold ge_dn
    exact ⟨fun z => absurd z (by decide), fun z => by omega⟩
theorem gx_MS_end {L R O A B am um : Nat → Int32} {p : Nat} (h : gx_MS L R O A B am um p 0) (hz : ∀ p', p ≤ p' → p' < 8 → ∀ o, o < 12 → O (12 * p' + o) = 0) : gx_AM L R O A B am ∧ gx_UM L R O A B um := by
  have nd : ∀ p', p ≤ p' → p' < 8 → ∀ o c, ¬ ge_d1 L R O A B p' o c := by
    intro p' h1 h2 o c d
    have := (ge_df_iff.mp d.1).1
    have := ge_kd_le L R p'
    have e := hz p' h1 h2 o (by omega)
    rcases d.2.2 with d | d <;> rw [e] at d <;> exact absurd d.1 (by decide)
  constructor
  · intro p' hp' o ho c hc
    rw [h.1 p' hp' o ho c hc]; unfold ge_dn
    refine ⟨fun z => z.2, fun z => ⟨?_, z⟩⟩
    rcases Nat.lt_or_ge p' p with y | y
    · exact Or.inl y
    · exact absurd z (nd p' y hp' o c)
  · intro p' hp' c hc o ho
    rw [h.2 p' hp' c hc o (by omega)]; unfold ge_dn
    refine ⟨fun z => z.2, fun z => ⟨?_, z⟩⟩
    rcases Nat.lt_or_ge p' p with y | y
    · exact Or.inl y
    · exact absurd z (nd p' y hp' o c)
section
variable {f_symbolLimit f_productionLimit f_nodeLimit f_productionCount f_verdict f_size f_drafting f_target f_kept f_fed f_open : Int32} {a_lhsOf a_leftOf a_rightOf a_ruleOp a_ruleA a_ruleB a_argMask a_userMask a_graphSet a_reach a_treeProd a_treeToken a_parent a_placeOf a_second a_span a_nodeGraph a_state a_values a_oldState a_oldValues a_queue a_stack a_draftProd a_draftToken a_openSymbols : Nat → Int32}
theorem gx_index_loop {p : Nat} (hp : p < 8) (ro : ge_RO a_leftOf a_rightOf a_ruleOp a_ruleA a_ruleB) {post : SX → Prop}
    (hpost : ∀ am um, gx_MS a_leftOf a_rightOf a_ruleOp a_ruleA a_ruleB am um p 12 → post (f_symbolLimit, f_productionLimit, f_nodeLimit, f_productionCount, f_verdict, f_size, f_drafting, f_target, f_kept, f_fed, f_open, a_lhsOf, a_leftOf, a_rightOf, a_ruleOp, a_ruleA, a_ruleB, am, um, a_graphSet, a_reach, a_treeProd, a_treeToken, a_parent, a_placeOf, a_second, a_span, a_nodeGraph, a_state, a_values, a_oldState, a_oldValues, a_queue, a_stack, a_draftProd, a_draftToken, a_openSymbols)) :
    ∀ (fuel o : Nat) (am um : Nat → Int32), gx_MS a_leftOf a_rightOf a_ruleOp a_ruleA a_ruleB am um p o → o ≤ 12 → 12 - o < fuel → wX_indexRules_2 post (nI p) f_symbolLimit f_productionLimit f_nodeLimit f_productionCount f_verdict f_size f_drafting f_target f_kept f_fed f_open fuel (nI o) a_lhsOf a_leftOf a_rightOf a_ruleOp a_ruleA a_ruleB am um a_graphSet a_reach a_treeProd a_treeToken a_parent a_placeOf a_second a_span a_nodeGraph a_state a_values a_oldState a_oldValues a_queue a_stack a_draftProd a_draftToken a_openSymbols := by
  have k2 := ge_kd_le a_leftOf a_rightOf p
  intro fuel
  induction fuel with
  | zero => intro o am um _ _ h; omega
  | succ fuel ih =>
    intro o am um hM ho hf
    refine pk_le 12 o (fun z => ?_) (fun z => ?_)
    · have e : o = 12 := by omega
      subst e; exact hpost am um hM
    · refine nm_r (e' := nI (12 * p + o)) (by rw [ge_m12, nI_add]) (gx_isDefined hp (by omega) ?_)
      have nxt : ∀ am' um', gx_MS a_leftOf a_rightOf a_ruleOp a_ruleA a_ruleB am' um' p (o + 1) → wX_indexRules_2 post (nI p) f_symbolLimit f_productionLimit f_nodeLimit f_productionCount f_verdict f_size f_drafting f_target f_kept f_fed f_open fuel (nI (o + 1)) a_lhsOf a_leftOf a_rightOf a_ruleOp a_ruleA a_ruleB am' um' a_graphSet a_reach a_treeProd a_treeToken a_parent a_placeOf a_second a_span a_nodeGraph a_state a_values a_oldState a_oldValues a_queue a_stack a_draftProd a_draftToken a_openSymbols := fun am' um' h => ih (o + 1) am' um' h (by omega) (by omega)
      refine ge_dI_br (fun df => ?_) (fun df => nm_r (nI_1 o) (nxt am um (gx_MS_skip hp z hM (fun c d => df d.1))))
      have rv : vp_in (nI (12 * p + o)) 96 := vp_in_nI (by omega) (by decide)
      have er : (nI (12 * p + o)).toNatClampNeg = 12 * p + o := nI_clamp (by omega)
      refine ⟨rv, ?_⟩
      rw [er]
      obtain ⟨r0, r1, r2⟩ := ro p hp o z
      by_cases c2 : a_ruleOp (12 * p + o) < 2
      · refine br_t c2 (nm_r (nI_1 o) (nxt am um (gx_MS_skip hp z hM (fun c d => ?_))))
        rcases d.2.2 with d | d
        · exact absurd d.1 (Int32.not_le.mpr c2)
        · exact absurd (ge_i32_32 d.1) (Int32.not_le.mpr c2)
      · obtain ⟨a, ha, ea⟩ := r1 (Int32.not_lt.mp c2)
        rw [ea]
        have ea2 : 12 * nI p + nI a = nI (12 * p + a) := by rw [ge_m12, nI_add]
        have av : vp_in (nI (12 * p + a)) 96 := vp_in_nI (by omega) (by decide)
        have ec : (nI (12 * p + a)).toNatClampNeg = 12 * p + a := nI_clamp (by omega)
        rw [ea2, ec]
        refine br_f c2 ⟨rv, rv, nm_e ⟨rv, av, av, nm_e ⟨rv, ?_⟩⟩⟩
        by_cases c3 : a_ruleOp (12 * p + o) < 3
        · refine br_t c3 (nm_r (nI_1 o) (nxt _ _ (gx_MS_set hp z hM (fun r hr => pk_un hr) (fun c hc => ?_) (fun i hi o' ho' => ?_))))
          · rw [pk_us, ge_bt1 (by omega) hc, decide_eq_true_iff]
            constructor
            · intro e; exact ⟨df, by omega, Or.inl ⟨Int32.not_lt.mp c2, by rw [ea, e]⟩⟩
            · intro d
              rcases d.2.2 with d' | d'
              · rw [ea, nI_eq (by omega) (by omega)] at d'; exact d'.2.symm
              · exact absurd d'.1 (Int32.not_le.mpr c3)
          · by_cases ei : i = 12 * p + a
            · rw [ei, pk_us, b_or, Bool.or_eq_true, ge_bt1 (by omega) ho', decide_eq_true_iff]
              constructor
              · rintro (y | y)
                · exact Or.inl y
                · exact Or.inr ⟨y, a, by omega, rfl, df, ha, Or.inl ⟨Int32.not_lt.mp c2, ea⟩⟩
              · rintro (y | ⟨y, _⟩)
                · exact Or.inl y
                · exact Or.inr y
            · rw [pk_un ei]
              constructor
              · intro y; exact Or.inl y
              · rintro (y | ⟨y, c, hc, ec', d⟩)
                · exact y
                · rcases d.2.2 with d' | d'
                  · rw [ea, nI_eq (by omega) (by omega)] at d'; exact absurd (by rw [ec', d'.2]) ei
                  · exact absurd d'.1 (Int32.not_le.mpr c3)
        · obtain ⟨b, hb, eb⟩ := r2 (Int32.not_lt.mp c3)
          rw [eb]
          have eb2 : 12 * nI p + nI b = nI (12 * p + b) := by rw [ge_m12, nI_add]
          have bv : vp_in (nI (12 * p + b)) 96 := vp_in_nI (by omega) (by decide)
          have ecb : (nI (12 * p + b)).toNatClampNeg = 12 * p + b := nI_clamp (by omega)
          rw [eb2, ecb]
          have dd : ∀ c, c < 32 → (ge_d1 a_leftOf a_rightOf a_ruleOp a_ruleA a_ruleB p o c ↔ (c = a ∨ c = b)) := by
            intro c hc
            constructor
            · intro d
              rcases d.2.2 with d' | d'
              · rw [ea, nI_eq (by omega) (by omega)] at d'; exact Or.inl d'.2.symm
              · rw [eb, nI_eq (by omega) (by omega)] at d'; exact Or.inr d'.2.symm
            · rintro (e | e)
              · exact ⟨df, by omega, Or.inl ⟨Int32.not_lt.mp c2, by rw [ea, e]⟩⟩
              · exact ⟨df, by omega, Or.inr ⟨Int32.not_lt.mp c3, by rw [eb, e]⟩⟩
          refine br_f c3 ⟨rv, rv, rv, nm_e ⟨rv, bv, bv, nm_e (nm_r (nI_1 o) (nxt _ _ (gx_MS_set hp z hM (fun r hr => (pk_un hr).trans (pk_un hr)) (fun c hc => ?_) (fun i hi o' ho' => ?_))))⟩⟩
          · rw [pk_us, pk_us, b_or, Bool.or_eq_true, ge_bt1 (by omega) hc, ge_bt1 (by omega) hc, decide_eq_true_iff, decide_eq_true_iff, dd c hc]
          · have fa : (o' = o ∧ ∃ c, c < 12 ∧ i = 12 * p + c ∧ ge_d1 a_leftOf a_rightOf a_ruleOp a_ruleA a_ruleB p o c) ↔ (o' = o ∧ (i = 12 * p + a ∨ i = 12 * p + b)) := by
              constructor
              · rintro ⟨y, c, hc, ec', d⟩
                have := (dd c (by omega)).mp d
                exact ⟨y, by omega⟩
              · rintro ⟨y, y2⟩
                rcases y2 with y2 | y2
                · exact ⟨y, a, by omega, y2, (dd a (by omega)).mpr (Or.inl rfl)⟩
                · exact ⟨y, b, by omega, y2, (dd b (by omega)).mpr (Or.inr rfl)⟩
            rw [fa]
            by_cases e1 : i = 12 * p + b
            · rw [e1, pk_us, b_or, Bool.or_eq_true, ge_bt1 (by omega) ho', decide_eq_true_iff]
              by_cases e2 : 12 * p + b = 12 * p + a
              · rw [e2, pk_us, b_or, Bool.or_eq_true, ge_bt1 (by omega) ho', decide_eq_true_iff]
                constructor
                · rintro ((y | y) | y)
                  · exact Or.inl y
                  · exact Or.inr ⟨y, Or.inl rfl⟩
                  · exact Or.inr ⟨y, Or.inl rfl⟩
                · rintro (y | y)
                  · exact Or.inl (Or.inl y)
                  · exact Or.inr y.1
              · rw [pk_un e2]
                constructor
                · rintro (y | y)
                  · exact Or.inl y
                  · exact Or.inr ⟨y, Or.inr rfl⟩
                · rintro (y | y)
                  · exact Or.inl y
                  · exact Or.inr y.1
            · rw [pk_un e1]
              by_cases e2 : i = 12 * p + a
              · rw [e2, pk_us, b_or, Bool.or_eq_true, ge_bt1 (by omega) ho', decide_eq_true_iff]
                constructor
                · rintro (y | y)
                  · exact Or.inl y
                  · exact Or.inr ⟨y, Or.inl rfl⟩
                · rintro (y | y)
                  · exact Or.inl y
                  · exact Or.inr y.1
              · rw [pk_un e2]
                constructor
                · intro y; exact Or.inl y
                · rintro (y | y)
                  · exact y
                  · have := y.2; omega
theorem gx_indexRules {p : Nat} (hp : p < 8) (ro : ge_RO a_leftOf a_rightOf a_ruleOp a_ruleA a_ruleB) (h : gx_MS a_leftOf a_rightOf a_ruleOp a_ruleA a_ruleB a_argMask a_userMask p 0) {post : SX → Prop}
    (hpost : ∀ am um, gx_MS a_leftOf a_rightOf a_ruleOp a_ruleA a_ruleB am um (p + 1) 0 → post (f_symbolLimit, f_productionLimit, f_nodeLimit, f_productionCount, f_verdict, f_size, f_drafting, f_target, f_kept, f_fed, f_open, a_lhsOf, a_leftOf, a_rightOf, a_ruleOp, a_ruleA, a_ruleB, am, um, a_graphSet, a_reach, a_treeProd, a_treeToken, a_parent, a_placeOf, a_second, a_span, a_nodeGraph, a_state, a_values, a_oldState, a_oldValues, a_queue, a_stack, a_draftProd, a_draftToken, a_openSymbols)) : wpX_indexRules post (f_symbolLimit, f_productionLimit, f_nodeLimit, f_productionCount, f_verdict, f_size, f_drafting, f_target, f_kept, f_fed, f_open, a_lhsOf, a_leftOf, a_rightOf, a_ruleOp, a_ruleA, a_ruleB, a_argMask, a_userMask, a_graphSet, a_reach, a_treeProd, a_treeToken, a_parent, a_placeOf, a_second, a_span, a_nodeGraph, a_state, a_values, a_oldState, a_oldValues, a_queue, a_stack, a_draftProd, a_draftToken, a_openSymbols) (nI p) := by
  simp only [wpX_indexRules]
  exact ⟨13, gx_index_loop hp ro (fun am um h => hpost am um (gx_MS_next h)) 13 0 _ _ h (Nat.zero_le _) (by omega)⟩
end
end
section
/-! the least sets of graphs -/
def ge_ps (H : Nat → Nat → Prop) (x : Int32) (g : Nat) : Prop := (0 ≤ x → H x.toNatClampNeg g) ∧ (¬ 0 ≤ x → g = 0)
def ge_cl (lh L R O A B : Nat → Int32) (c : Nat) (H : Nat → Nat → Prop) : Prop := ∀ p, p < c → ∀ g1, g1 < 16 → ∀ g2, g2 < 16 → ge_ps H (L p) g1 → ge_ps H (R p) g2 → H (lh p).toNatClampNeg (ge_CG L R O A B p g1 g2)
def ge_LF (lh L R O A B : Nat → Int32) (c s g : Nat) : Prop := ∀ H : Nat → Nat → Prop, ge_cl lh L R O A B c H → H s g
def ge_Ci (lh L R O A B : Nat → Int32) (c : Nat) : Prop := ∃ p g1 g2, p < c ∧ g1 < 16 ∧ g2 < 16 ∧ ge_ps (ge_LF lh L R O A B c) (L p) g1 ∧ ge_ps (ge_LF lh L R O A B c) (R p) g2 ∧ ge_LP L R O A B p g1 g2
theorem ge_ps_mono {H H' : Nat → Nat → Prop} {x : Int32} {g : Nat} (h : 0 ≤ x → H x.toNatClampNeg g → H' x.toNatClampNeg g) (p : ge_ps H x g) : ge_ps H' x g := ⟨fun z => h z (p.1 z), p.2⟩
theorem ge_LF_cl {lh L R O A B : Nat → Int32} {c : Nat} : ge_cl lh L R O A B c (ge_LF lh L R O A B c) := by
  intro p hp g1 h1 g2 h2 a b H hH
  exact hH p hp g1 h1 g2 h2 (ge_ps_mono (fun _ z => z H hH) a) (ge_ps_mono (fun _ z => z H hH) b)
/-- productions in range -/
def ge_GR (lh L R : Nat → Int32) (c : Nat) : Prop := ∀ p, p < c → (∃ s, s < 4 ∧ lh p = nI s) ∧ (0 ≤ L p → ∃ s, s < 4 ∧ L p = nI s) ∧ (0 ≤ R p → ∃ s, s < 4 ∧ R p = nI s)
/-- X's sets -/
def gx_HX (gs : Nat → Int32) (s g : Nat) : Prop := bt (gs s) g = true
def gx_SND (lh L R O A B : Nat → Int32) (c : Nat) (gs : Nat → Int32) (v : Int32) : Prop :=
  (∀ s, s < 4 → ∀ g, g < 32 → bt (gs s) g = true → g < 16 ∧ ge_LF lh L R O A B c s g) ∧ (v = 1 ∨ v = 2) ∧ (v = 2 → ge_Ci lh L R O A B c)
def gx_CL (lh L R O A B : Nat → Int32) (gs : Nat → Int32) (v : Int32) (p : Nat) : Prop :=
  ∀ g1, g1 < 16 → ∀ g2, g2 < 16 → ge_ps (gx_HX gs) (L p) g1 → ge_ps (gx_HX gs) (R p) g2 → bt (gs (lh p).toNatClampNeg) (ge_CG L R O A B p g1 g2) = true ∧ (ge_LP L R O A B p g1 g2 → v = 2)
noncomputable def gx_nb (gs : Nat → Int32) : Nat := ge_cn (fun j => bt (gs (j / 16)) (j % 16) = true) 64
/-- sound and closed: the least sets, and the verdict -/
theorem gx_final {lh L R O A B gs : Nat → Int32} {c : Nat} {v : Int32} (G : ge_GR lh L R c) (S : gx_SND lh L R O A B c gs v) (C : ∀ p, p < c → gx_CL lh L R O A B gs v p) :
    (∀ s, s < 4 → ∀ g, g < 16 → (bt (gs s) g = true ↔ ge_LF lh L R O A B c s g)) ∧ (v = 1 ∨ v = 2) ∧ (v = 2 ↔ ge_Ci lh L R O A B c) := by
  have hc : ge_cl lh L R O A B c (fun s g => s < 4 → g < 16 → bt (gs s) g = true) := by
    intro p hp g1 h1 g2 h2 a b _ _
    refine (C p hp g1 h1 g2 h2 (ge_ps_mono (fun z y => ?_) a) (ge_ps_mono (fun z y => ?_) b)).1
    · obtain ⟨s, hs, es⟩ := (G p hp).2.1 z
      rw [es, nI_clamp (by omega)] at y ⊢; exact y hs h1
    · obtain ⟨s, hs, es⟩ := (G p hp).2.2 z
      rw [es, nI_clamp (by omega)] at y ⊢; exact y hs h2
  have h1 : ∀ s, s < 4 → ∀ g, g < 16 → (bt (gs s) g = true ↔ ge_LF lh L R O A B c s g) :=
    fun s hs g hg => ⟨fun z => (S.1 s hs g (by omega) z).2, fun z => z _ hc hs hg⟩
  refine ⟨h1, S.2.1, S.2.2, ?_⟩
  rintro ⟨p, g1, g2, hp, l1, l2, p1, p2, lp⟩
  refine (C p hp g1 l1 g2 l2 (ge_ps_mono (fun z y => ?_) p1) (ge_ps_mono (fun z y => ?_) p2)).2 lp
  · obtain ⟨s, hs, es⟩ := (G p hp).2.1 z
    rw [es, nI_clamp (by omega)] at y ⊢; exact (h1 s hs g1 l1).mpr y
  · obtain ⟨s, hs, es⟩ := (G p hp).2.2 z
    rw [es, nI_clamp (by omega)] at y ⊢; exact (h1 s hs g2 l2).mpr y
/-- the effect of one production's combination -/
def gx_CE (lh L R O A B gs : Nat → Int32) (v : Int32) (p k : Nat) (fo : Int32) (v' : Int32) : Prop :=
  (∀ g, g < 32 → (bt fo g = true ↔ (bt (gs (lh p).toNatClampNeg) g = true ∨ ∃ q, q < k ∧ ge_ps (gx_HX gs) (L p) (q / 16) ∧ ge_ps (gx_HX gs) (R p) (q % 16) ∧ ge_CG L R O A B p (q / 16) (q % 16) = g))) ∧
  (v' = v ∨ v' = 2) ∧ (v' = 2 ↔ (v = 2 ∨ ∃ q, q < k ∧ ge_ps (gx_HX gs) (L p) (q / 16) ∧ ge_ps (gx_HX gs) (R p) (q % 16) ∧ ge_LP L R O A B p (q / 16) (q % 16)))
theorem gx_CE_0 {lh L R O A B gs : Nat → Int32} {v : Int32} {p : Nat} : gx_CE lh L R O A B gs v p 0 (gs (lh p).toNatClampNeg) v := by
  refine ⟨fun g _ => ⟨Or.inl, ?_⟩, Or.inl rfl, Or.inl, ?_⟩
  · rintro (z | ⟨q, h, _⟩)
    · exact z
    · omega
  · rintro (z | ⟨q, h, _⟩)
    · exact z
    · omega
theorem gx_CE_skip {lh L R O A B gs : Nat → Int32} {v fo v' : Int32} {p k : Nat} (h : gx_CE lh L R O A B gs v p k fo v') (hn : ¬ (ge_ps (gx_HX gs) (L p) (k / 16) ∧ ge_ps (gx_HX gs) (R p) (k % 16))) : gx_CE lh L R O A B gs v p (k + 1) fo v' := by
  refine ⟨fun g hg => ?_, h.2.1, ?_⟩
  · rw [h.1 g hg]
    constructor
    · rintro (z | ⟨q, h1, h2⟩)
      · exact Or.inl z
      · exact Or.inr ⟨q, by omega, h2⟩
    · rintro (z | ⟨q, h1, h2, h3, h4⟩)
      · exact Or.inl z
      · rcases Nat.lt_or_ge q k with y | y
        · exact Or.inr ⟨q, y, h2, h3, h4⟩
        · rw [show q = k by omega] at h2 h3; exact absurd ⟨h2, h3⟩ hn
  · rw [h.2.2]
    constructor
    · rintro (z | ⟨q, h1, h2⟩)
      · exact Or.inl z
      · exact Or.inr ⟨q, by omega, h2⟩
    · rintro (z | ⟨q, h1, h2, h3, h4⟩)
      · exact Or.inl z
      · rcases Nat.lt_or_ge q k with y | y
        · exact Or.inr ⟨q, y, h2, h3, h4⟩
        · rw [show q = k by omega] at h2 h3; exact absurd ⟨h2, h3⟩ hn
theorem gx_CE_add {lh L R O A B gs : Nat → Int32} {v fo v' v'' : Int32} {p k : Nat} (h : gx_CE lh L R O A B gs v p k fo v') (h1 : ge_ps (gx_HX gs) (L p) (k / 16)) (h2 : ge_ps (gx_HX gs) (R p) (k % 16))
    (e1 : ge_LP L R O A B p (k / 16) (k % 16) → v'' = 2) (e2 : ¬ ge_LP L R O A B p (k / 16) (k % 16) → v'' = v') : gx_CE lh L R O A B gs v p (k + 1) (fo ||| ((1 : Int32) <<< (nI (ge_CG L R O A B p (k / 16) (k % 16)) &&& 31))) v'' := by
  have cg := ge_CG_lt L R O A B p (k / 16) (k % 16)
  refine ⟨fun g hg => ?_, ?_, ?_⟩
  · rw [b_or, Bool.or_eq_true, h.1 g hg, ge_bt1 (by omega) hg, decide_eq_true_iff]
    constructor
    · rintro ((z | ⟨q, q1, q2⟩) | z)
      · exact Or.inl z
      · exact Or.inr ⟨q, by omega, q2⟩
      · exact Or.inr ⟨k, by omega, h1, h2, z.symm⟩
    · rintro (z | ⟨q, q1, q2, q3, q4⟩)
      · exact Or.inl (Or.inl z)
      · rcases Nat.lt_or_ge q k with y | y
        · exact Or.inl (Or.inr ⟨q, y, q2, q3, q4⟩)
        · rw [show q = k by omega] at q4; exact Or.inr q4.symm
  · rcases Classical.em (ge_LP L R O A B p (k / 16) (k % 16)) with lp | lp
    · exact Or.inr (e1 lp)
    · rw [e2 lp]; exact h.2.1
  · rcases Classical.em (ge_LP L R O A B p (k / 16) (k % 16)) with lp | lp
    · exact ⟨fun _ => Or.inr ⟨k, by omega, h1, h2, lp⟩, fun _ => e1 lp⟩
    · rw [e2 lp, h.2.2]
      constructor
      · rintro (z | ⟨q, q1, q2⟩)
        · exact Or.inl z
        · exact Or.inr ⟨q, by omega, q2⟩
      · rintro (z | ⟨q, q1, q2, q3, q4⟩)
        · exact Or.inl z
        · rcases Nat.lt_or_ge q k with y | y
          · exact Or.inr ⟨q, y, q2, q3, q4⟩
          · rw [show q = k by omega] at q4; exact absurd q4 lp
theorem gx_CE_SND {lh L R O A B gs : Nat → Int32} {v fo v' : Int32} {p c : Nat} (hp : p < c) (G : ge_GR lh L R c) (S : gx_SND lh L R O A B c gs v) (h : gx_CE lh L R O A B gs v p 256 fo v') :
    gx_SND lh L R O A B c (upd gs (lh p).toNatClampNeg fo) v' := by
  obtain ⟨⟨s0, hs0, es0⟩, gl, gr⟩ := G p hp
  have lf1 : ∀ g, g < 16 → ge_ps (gx_HX gs) (L p) g → ge_ps (ge_LF lh L R O A B c) (L p) g := fun g hg => ge_ps_mono fun z y => by
    obtain ⟨s, hs, es⟩ := gl z
    rw [es, nI_clamp (by omega)] at y ⊢; exact (S.1 s hs g (by omega) y).2
  have lf2 : ∀ g, g < 16 → ge_ps (gx_HX gs) (R p) g → ge_ps (ge_LF lh L R O A B c) (R p) g := fun g hg => ge_ps_mono fun z y => by
    obtain ⟨s, hs, es⟩ := gr z
    rw [es, nI_clamp (by omega)] at y ⊢; exact (S.1 s hs g (by omega) y).2
  refine ⟨fun s hs g hg z => ?_, ?_, ?_⟩
  · by_cases e : s = (lh p).toNatClampNeg
    · rw [e, pk_us] at z
      rcases (h.1 g hg).mp z with y | ⟨q, q1, q2, q3, q4⟩
      · rw [← e] at y; exact S.1 s hs g hg y
      · rw [← q4, e]
        exact ⟨ge_CG_lt _ _ _ _ _ _ _ _, ge_LF_cl p hp _ (by omega) _ (by omega) (lf1 _ (by omega) q2) (lf2 _ (by omega) q3)⟩
    · rw [pk_un e] at z; exact S.1 s hs g hg z
  · rcases h.2.1 with e | e
    · rw [e]; exact S.2.1
    · exact Or.inr e
  · intro e
    rcases h.2.2.mp e with y | ⟨q, q1, q2, q3, q4⟩
    · exact S.2.2 y
    · exact ⟨p, q / 16, q % 16, hp, by omega, by omega, lf1 _ (by omega) q2, lf2 _ (by omega) q3, q4⟩
theorem gx_CE_CL {lh L R O A B gs : Nat → Int32} {v fo v' : Int32} {p : Nat} (h : gx_CE lh L R O A B gs v p 256 fo v') (e : fo = gs (lh p).toNatClampNeg) : gx_CL lh L R O A B gs v' p := by
  intro g1 h1 g2 h2 p1 p2
  have a : (16 * g1 + g2) / 16 = g1 := by omega
  have b : (16 * g1 + g2) % 16 = g2 := by omega
  constructor
  · rw [← e]
    exact (h.1 _ (by have := ge_CG_lt L R O A B p g1 g2; omega)).mpr (Or.inr ⟨16 * g1 + g2, by omega, by rw [a]; exact p1, by rw [b]; exact p2, by rw [a, b]⟩)
  · intro lp
    exact h.2.2.mpr (Or.inr ⟨16 * g1 + g2, by omega, by rw [a]; exact p1, by rw [b]; exact p2, by rw [a, b]; exact lp⟩)
theorem gx_CE_nb {lh L R O A B gs : Nat → Int32} {v fo v' : Int32} {p c : Nat} (hp : p < c) (G : ge_GR lh L R c) (S : gx_SND lh L R O A B c gs v) (h : gx_CE lh L R O A B gs v p 256 fo v') (e : ¬ fo = gs (lh p).toNatClampNeg) :
    gx_nb gs + 1 ≤ gx_nb (upd gs (lh p).toNatClampNeg fo) := by
  obtain ⟨⟨s0, hs0, es0⟩, gl, gr⟩ := G p hp
  have S' := gx_CE_SND hp G S h
  have es1 : (lh p).toNatClampNeg = s0 := by rw [es0]; exact nI_clamp (by omega)
  rw [es1] at S' e ⊢
  have : ∃ g, g < 32 ∧ bt fo g = true ∧ ¬ bt (gs s0) g = true := by
    refine Classical.byContradiction fun hn => e (b_ext fun g hg => ?_)
    have a := h.1 g hg
    rw [es1] at a
    by_cases z : bt (gs s0) g = true
    · rw [z]; exact a.mpr (Or.inl z)
    · rw [Bool.eq_false_iff.mpr z]
      exact Bool.eq_false_iff.mpr fun y => hn ⟨g, hg, y, z⟩
  obtain ⟨g, hg, g1, g2⟩ := this
  have g16 := (S'.1 s0 hs0 g hg (by rw [pk_us]; exact g1)).1
  refine ge_cn_lt (a := 16 * s0 + g) ?_ ?_ ?_ (by omega)
  · rw [show (16 * s0 + g) / 16 = s0 by omega, show (16 * s0 + g) % 16 = g by omega]; exact g2
  · rw [show (16 * s0 + g) / 16 = s0 by omega, show (16 * s0 + g) % 16 = g by omega, pk_us]; exact g1
  · intro k hk z
    by_cases ek : k / 16 = s0
    · rw [ek, pk_us]
      rw [ek] at z
      have a := h.1 (k % 16) (by omega)
      rw [es1] at a
      exact a.mpr (Or.inl z)
    · rw [pk_un ek]; exact z
theorem gx_fs {gs : Nat → Int32} {x : Int32} {g : Nat} (hg : g < 32) : bt (if 0 ≤ x then gs x.toNatClampNeg else 1) g = true ↔ ge_ps (gx_HX gs) x g := by
  unfold ge_ps gx_HX
  by_cases h : 0 ≤ x
  · rw [if_pos h]; exact ⟨fun z => ⟨fun _ => z, fun y => absurd h y⟩, fun z => z.1 h⟩
  · rw [if_neg h, ge_bit1 g hg, decide_eq_true_iff]; exact ⟨fun z => ⟨fun y => absurd y h, fun _ => z⟩, fun z => z.2 h⟩
section
variable {f_symbolLimit f_productionLimit f_nodeLimit f_productionCount f_verdict f_size f_drafting f_target f_kept f_fed f_open : Int32} {a_lhsOf a_leftOf a_rightOf a_ruleOp a_ruleA a_ruleB a_argMask a_userMask a_graphSet a_reach a_treeProd a_treeToken a_parent a_placeOf a_second a_span a_nodeGraph a_state a_values a_oldState a_oldValues a_queue a_stack a_draftProd a_draftToken a_openSymbols : Nat → Int32}
theorem gx_comb_66 {p : Nat} {v0 : Int32} (hp : p < 8) (hs : ∃ s, s < 4 ∧ a_lhsOf p = nI s) (M : gx_AM a_leftOf a_rightOf a_ruleOp a_ruleA a_ruleB a_argMask) {x2 x3 : Int32} (e2 : x2 = if 0 ≤ a_leftOf p then a_graphSet (a_leftOf p).toNatClampNeg else 1) (e3 : x3 = if 0 ≤ a_rightOf p then a_graphSet (a_rightOf p).toNatClampNeg else 1) {post : Int32 → SX → Prop}
    (hpost : ∀ fo v re z, gx_CE a_lhsOf a_leftOf a_rightOf a_ruleOp a_ruleA a_ruleB a_graphSet v0 p 256 fo v → ((z = 0 ∧ fo = a_graphSet (a_lhsOf p).toNatClampNeg) ∨ (z = 1 ∧ ¬ fo = a_graphSet (a_lhsOf p).toNatClampNeg)) → post z (f_symbolLimit, f_productionLimit, f_nodeLimit, f_productionCount, v, f_size, f_drafting, f_target, f_kept, f_fed, f_open, a_lhsOf, a_leftOf, a_rightOf, a_ruleOp, a_ruleA, a_ruleB, a_argMask, a_userMask, upd a_graphSet (a_lhsOf p).toNatClampNeg fo, re, a_treeProd, a_treeToken, a_parent, a_placeOf, a_second, a_span, a_nodeGraph, a_state, a_values, a_oldState, a_oldValues, a_queue, a_stack, a_draftProd, a_draftToken, a_openSymbols)) :
    ∀ (fuel k : Nat) (fo v : Int32) (re : Nat → Int32), gx_CE a_lhsOf a_leftOf a_rightOf a_ruleOp a_ruleA a_ruleB a_graphSet v0 p k fo v → k ≤ 256 → 256 - k < fuel →
      wX_combine_66 post (nI p) x2 x3 fuel fo (nI k) f_symbolLimit f_productionLimit f_nodeLimit f_productionCount v f_size f_drafting f_target f_kept f_fed f_open a_lhsOf a_leftOf a_rightOf a_ruleOp a_ruleA a_ruleB a_argMask a_userMask a_graphSet re a_treeProd a_treeToken a_parent a_placeOf a_second a_span a_nodeGraph a_state a_values a_oldState a_oldValues a_queue a_stack a_draftProd a_draftToken a_openSymbols := by
  obtain ⟨s, hs, es⟩ := hs
  have pv : vp_in (nI p) 8 := vp_in_nI hp (by decide)
  have ep : (nI p).toNatClampNeg = p := nI_clamp (by omega)
  have sv : vp_in (nI s) 4 := vp_in_nI hs (by decide)
  intro fuel
  induction fuel with
  | zero => intro k fo v re _ _ h; omega
  | succ fuel ih =>
    intro k fo v re hC hk hf
    refine pk_le 256 k (fun z => ?_) (fun z => ?_)
    · have e : k = 256 := by omega
      subst e
      refine ⟨pv, ?_⟩
      rw [ep]
      refine ⟨by rw [es]; exact sv, br_c (fun y => ?_) (fun y => ?_)⟩
      · unfold wX_combine_163
        rw [ep]
        exact ⟨pv, by rw [es]; exact sv, nm_e ⟨narrow_b0, hpost fo v re 0 hC (Or.inl ⟨rfl, y⟩)⟩⟩
      · unfold wX_combine_163
        rw [ep]
        exact ⟨pv, by rw [es]; exact sv, nm_e ⟨narrow_b1, hpost fo v re 1 hC (Or.inr ⟨rfl, y⟩)⟩⟩
    · refine nm_r (ge_shr4 (by omega)) (nm_r (ge_and15 (by omega)) ?_)
      by_cases b1 : bt x2 (k / 16) = true
      · refine br_t ((ge_bit_t (by omega)).mpr b1) ?_
        have p1 : ge_ps (gx_HX a_graphSet) (a_leftOf p) (k / 16) := (gx_fs (by omega)).mp (by rw [← e2]; exact b1)
        by_cases b2 : bt x3 (k % 16) = true
        · have p2 : ge_ps (gx_HX a_graphSet) (a_rightOf p) (k % 16) := (gx_fs (by omega)).mp (by rw [← e3]; exact b2)
          refine br_t ((ge_bit_t (by omega)).mpr b2) (gx_compose hp (by omega) (by omega) M (fun re' hre => nm_e (gx_hasLoop hp rfl rfl hre (fun lp => ?_) (fun lp => ?_))))
          · exact br_f (by decide) (nm_r (nI_1 k) (ih (k + 1) _ _ _ (gx_CE_add hC p1 p2 (fun _ => rfl) (fun y => absurd lp y)) (by omega) (by omega)))
          · exact br_t rfl (nm_r (nI_1 k) (ih (k + 1) _ _ _ (gx_CE_add hC p1 p2 (fun y => absurd y lp) (fun _ => rfl)) (by omega) (by omega)))
        · refine br_f (fun y => b2 ((ge_bit_t (by omega)).mp y)) (nm_r (nI_1 k) (ih (k + 1) _ _ _ (gx_CE_skip hC (fun y => b2 (by rw [e3]; exact (gx_fs (by omega)).mpr y.2))) (by omega) (by omega)))
      · refine br_f (fun y => b1 ((ge_bit_t (by omega)).mp y)) (nm_r (nI_1 k) (ih (k + 1) _ _ _ (gx_CE_skip hC (fun y => b1 (by rw [e2]; exact (gx_fs (by omega)).mpr y.1))) (by omega) (by omega)))
theorem gx_combine {p c : Nat} (hp : p < 8) (hpc : p < c) (G : ge_GR a_lhsOf a_leftOf a_rightOf c) (M : gx_AM a_leftOf a_rightOf a_ruleOp a_ruleA a_ruleB a_argMask) {post : Int32 → SX → Prop}
    (hpost : ∀ fo v re z, gx_CE a_lhsOf a_leftOf a_rightOf a_ruleOp a_ruleA a_ruleB a_graphSet f_verdict p 256 fo v → ((z = 0 ∧ fo = a_graphSet (a_lhsOf p).toNatClampNeg) ∨ (z = 1 ∧ ¬ fo = a_graphSet (a_lhsOf p).toNatClampNeg)) → post z (f_symbolLimit, f_productionLimit, f_nodeLimit, f_productionCount, v, f_size, f_drafting, f_target, f_kept, f_fed, f_open, a_lhsOf, a_leftOf, a_rightOf, a_ruleOp, a_ruleA, a_ruleB, a_argMask, a_userMask, upd a_graphSet (a_lhsOf p).toNatClampNeg fo, re, a_treeProd, a_treeToken, a_parent, a_placeOf, a_second, a_span, a_nodeGraph, a_state, a_values, a_oldState, a_oldValues, a_queue, a_stack, a_draftProd, a_draftToken, a_openSymbols)) :
    wpX_combine post (f_symbolLimit, f_productionLimit, f_nodeLimit, f_productionCount, f_verdict, f_size, f_drafting, f_target, f_kept, f_fed, f_open, a_lhsOf, a_leftOf, a_rightOf, a_ruleOp, a_ruleA, a_ruleB, a_argMask, a_userMask, a_graphSet, a_reach, a_treeProd, a_treeToken, a_parent, a_placeOf, a_second, a_span, a_nodeGraph, a_state, a_values, a_oldState, a_oldValues, a_queue, a_stack, a_draftProd, a_draftToken, a_openSymbols) (nI p) := by
  obtain ⟨gs, gl, gr⟩ := G p hpc
  obtain ⟨s, hs, es⟩ := gs
  have pv : vp_in (nI p) 8 := vp_in_nI hp (by decide)
  have ep : (nI p).toNatClampNeg = p := nI_clamp (by omega)
  have c49 : ∀ x2 x3, (x2 = if 0 ≤ a_leftOf p then a_graphSet (a_leftOf p).toNatClampNeg else 1) → (x3 = if 0 ≤ a_rightOf p then a_graphSet (a_rightOf p).toNatClampNeg else 1) → wX_combine_49 post (nI p) x2 x3 f_symbolLimit f_productionLimit f_nodeLimit f_productionCount f_verdict f_size f_drafting f_target f_kept f_fed f_open a_lhsOf a_leftOf a_rightOf a_ruleOp a_ruleA a_ruleB a_argMask a_userMask a_graphSet a_reach a_treeProd a_treeToken a_parent a_placeOf a_second a_span a_nodeGraph a_state a_values a_oldState a_oldValues a_queue a_stack a_draftProd a_draftToken a_openSymbols := by
    intro x2 x3 e2 e3
    unfold wX_combine_49
    rw [ep]
    exact ⟨pv, by rw [es]; exact vp_in_nI hs (by decide), nm_e ⟨257, gx_comb_66 hp ⟨s, hs, es⟩ M e2 e3 hpost 257 0 _ _ _ gx_CE_0 (Nat.zero_le _) (by omega)⟩⟩
  have c24 : ∀ x2, (x2 = if 0 ≤ a_leftOf p then a_graphSet (a_leftOf p).toNatClampNeg else 1) → wX_combine_24 post (nI p) x2 f_symbolLimit f_productionLimit f_nodeLimit f_productionCount f_verdict f_size f_drafting f_target f_kept f_fed f_open a_lhsOf a_leftOf a_rightOf a_ruleOp a_ruleA a_ruleB a_argMask a_userMask a_graphSet a_reach a_treeProd a_treeToken a_parent a_placeOf a_second a_span a_nodeGraph a_state a_values a_oldState a_oldValues a_queue a_stack a_draftProd a_draftToken a_openSymbols := by
    intro x2 e2
    unfold wX_combine_24
    rw [ep]
    refine ⟨pv, br_c (fun z => ⟨pv, ?_, c49 _ _ e2 (if_pos z).symm⟩) (fun z => c49 _ _ e2 (if_neg z).symm)⟩
    obtain ⟨s', hs', es'⟩ := gr z
    rw [es']; exact vp_in_nI hs' (by decide)
  simp only [wpX_combine]
  rw [ep]
  refine ⟨pv, br_c (fun z => ⟨pv, ?_, c24 _ (if_pos z).symm⟩) (fun z => c24 _ (if_neg z).symm)⟩
  obtain ⟨s', hs', es'⟩ := gl z
  rw [es']; exact vp_in_nI hs' (by decide)
theorem gx_check_65 {c rd : Nat} (hc : c ≤ 8) (G : ge_GR a_lhsOf a_leftOf a_rightOf c) (M : gx_AM a_leftOf a_rightOf a_ruleOp a_ruleA a_ruleB a_argMask) (ec : f_productionCount = nI c) {post : Int32 → SX → Prop} {fl : Nat}
    (hJ : ∀ x1 gs v re, gx_SND a_lhsOf a_leftOf a_rightOf a_ruleOp a_ruleA a_ruleB c gs v → ((x1 = 0 ∧ ∀ p, p < c → gx_CL a_lhsOf a_leftOf a_rightOf a_ruleOp a_ruleA a_ruleB gs v p) ∨ (x1 = 1 ∧ rd + 1 ≤ gx_nb gs)) → wX_check_51 post fl x1 (nI (rd + 1)) f_symbolLimit f_productionLimit f_nodeLimit f_productionCount v f_size f_drafting f_target f_kept f_fed f_open a_lhsOf a_leftOf a_rightOf a_ruleOp a_ruleA a_ruleB a_argMask a_userMask gs re a_treeProd a_treeToken a_parent a_placeOf a_second a_span a_nodeGraph a_state a_values a_oldState a_oldValues a_queue a_stack a_draftProd a_draftToken a_openSymbols) :
    ∀ (fuel pi : Nat) (x1 v : Int32) (gs re : Nat → Int32), gx_SND a_lhsOf a_leftOf a_rightOf a_ruleOp a_ruleA a_ruleB c gs v → ((x1 = 0 ∧ rd ≤ gx_nb gs ∧ ∀ p, p < pi → gx_CL a_lhsOf a_leftOf a_rightOf a_ruleOp a_ruleA a_ruleB gs v p) ∨ (x1 = 1 ∧ rd + 1 ≤ gx_nb gs)) → pi ≤ c → c - pi < fuel →
      wX_check_65 post (wX_check_51 post fl) (nI rd) fuel x1 (nI pi) f_symbolLimit f_productionLimit f_nodeLimit f_productionCount v f_size f_drafting f_target f_kept f_fed f_open a_lhsOf a_leftOf a_rightOf a_ruleOp a_ruleA a_ruleB a_argMask a_userMask gs re a_treeProd a_treeToken a_parent a_placeOf a_second a_span a_nodeGraph a_state a_values a_oldState a_oldValues a_queue a_stack a_draftProd a_draftToken a_openSymbols := by
  subst ec
  intro fuel
  induction fuel with
  | zero => intro pi x1 v gs re _ _ _ h; omega
  | succ fuel ih =>
    intro pi x1 v gs re S hx hpi hf
    refine pk_le c pi (fun z => ?_) (fun z => ?_)
    · have e : pi = c := by omega
      subst e
      refine nm_r (nI_1 rd) (hJ x1 gs v re S ?_)
      rcases hx with ⟨a, b, d⟩ | a
      · exact Or.inl ⟨a, d⟩
      · exact Or.inr a
    · refine gx_combine (c := c) (by omega) z G M (fun fo v' re' zz hC hz => ?_)
      have S' := gx_CE_SND z G S hC
      rcases hz with ⟨rfl, e⟩ | ⟨rfl, e⟩
      · have eg : upd gs (a_lhsOf pi).toNatClampNeg fo = gs := by
          funext j
          by_cases ej : j = (a_lhsOf pi).toNatClampNeg
          · rw [ej, pk_us, e]
          · rw [pk_un ej]
        rw [eg] at S'
        refine br_t rfl (nm_r (nI_1 pi) ?_)
        rw [eg]
        refine ih (pi + 1) x1 v' gs re' S' ?_ (by omega) (by omega)
        rcases hx with ⟨a, b, d⟩ | a
        · refine Or.inl ⟨a, b, fun p hp => ?_⟩
          rcases Nat.lt_or_ge p pi with y | y
          · intro g1 h1 g2 h2 p1 p2
            have q := d p y g1 h1 g2 h2 p1 p2
            refine ⟨q.1, fun lp => ?_⟩
            rcases hC.2.1 with e' | e'
            · rw [e']; exact q.2 lp
            · exact e'
          · rw [show p = pi by omega]; exact gx_CE_CL hC e
        · exact Or.inr a
      · have nb := gx_CE_nb z G S hC e
        refine br_f (by decide) (nm_r (nI_1 pi) (ih (pi + 1) 1 v' _ re' S' (Or.inr ⟨rfl, ?_⟩) (by omega) (by omega)))
        rcases hx with ⟨a, b, d⟩ | a
        · omega
        · omega
theorem gx_check_51 {c : Nat} (hc : c ≤ 8) (G : ge_GR a_lhsOf a_leftOf a_rightOf c) (M : gx_AM a_leftOf a_rightOf a_ruleOp a_ruleA a_ruleB a_argMask) (ec : f_productionCount = nI c) {post : Int32 → SX → Prop}
    (hpost : ∀ gs v re, gx_SND a_lhsOf a_leftOf a_rightOf a_ruleOp a_ruleA a_ruleB c gs v → (∀ p, p < c → gx_CL a_lhsOf a_leftOf a_rightOf a_ruleOp a_ruleA a_ruleB gs v p) → post v (f_symbolLimit, f_productionLimit, f_nodeLimit, f_productionCount, v, f_size, f_drafting, f_target, f_kept, f_fed, f_open, a_lhsOf, a_leftOf, a_rightOf, a_ruleOp, a_ruleA, a_ruleB, a_argMask, a_userMask, gs, re, a_treeProd, a_treeToken, a_parent, a_placeOf, a_second, a_span, a_nodeGraph, a_state, a_values, a_oldState, a_oldValues, a_queue, a_stack, a_draftProd, a_draftToken, a_openSymbols)) :
    ∀ (fuel rd : Nat) (x1 v : Int32) (gs re : Nat → Int32), gx_SND a_lhsOf a_leftOf a_rightOf a_ruleOp a_ruleA a_ruleB c gs v → ((x1 = 0 ∧ ∀ p, p < c → gx_CL a_lhsOf a_leftOf a_rightOf a_ruleOp a_ruleA a_ruleB gs v p) ∨ (x1 = 1 ∧ rd ≤ gx_nb gs)) → rd ≤ 65 → 65 - rd < fuel →
      wX_check_51 post fuel x1 (nI rd) f_symbolLimit f_productionLimit f_nodeLimit f_productionCount v f_size f_drafting f_target f_kept f_fed f_open a_lhsOf a_leftOf a_rightOf a_ruleOp a_ruleA a_ruleB a_argMask a_userMask gs re a_treeProd a_treeToken a_parent a_placeOf a_second a_span a_nodeGraph a_state a_values a_oldState a_oldValues a_queue a_stack a_draftProd a_draftToken a_openSymbols := by
  intro fuel
  induction fuel with
  | zero => intro rd x1 v gs re _ _ _ h; omega
  | succ fuel ih =>
    intro rd x1 v gs re S hx hr hf
    have nb : gx_nb gs ≤ 64 := ge_cn_le _ _
    rcases hx with ⟨rfl, d⟩ | ⟨rfl, d⟩
    · exact br_c (fun _ => hpost gs v re S d) (fun _ => br_t rfl (hpost gs v re S d))
    · refine pk_lt 64 rd (fun z => by omega) (fun z => br_f (by decide) ⟨c + 1, ?_⟩)
      refine gx_check_65 hc G M ec (fun x1 gs v re S h => ih (rd + 1) x1 v gs re S h (by omega) ?_) (c + 1) 0 0 v gs re S (Or.inl ⟨rfl, d, fun p hp => absurd hp (Nat.not_lt_zero _)⟩) (Nat.zero_le _) (by omega)
      omega
theorem gx_check_28 {c : Nat} (hc : c ≤ 8) (G : ge_GR a_lhsOf a_leftOf a_rightOf c) (ro : ge_RO a_leftOf a_rightOf a_ruleOp a_ruleA a_ruleB) (hz : ∀ p', c ≤ p' → p' < 8 → ∀ o, o < 12 → a_ruleOp (12 * p' + o) = 0) (ec : f_productionCount = nI c) (hgs : ∀ s, s < 4 → a_graphSet s = 0) (hv : f_verdict = 1) {post : Int32 → SX → Prop}
    (hpost : ∀ am um gs v re, gx_AM a_leftOf a_rightOf a_ruleOp a_ruleA a_ruleB am → gx_UM a_leftOf a_rightOf a_ruleOp a_ruleA a_ruleB um → gx_SND a_lhsOf a_leftOf a_rightOf a_ruleOp a_ruleA a_ruleB c gs v → (∀ p, p < c → gx_CL a_lhsOf a_leftOf a_rightOf a_ruleOp a_ruleA a_ruleB gs v p) → post v (f_symbolLimit, f_productionLimit, f_nodeLimit, f_productionCount, v, f_size, f_drafting, f_target, f_kept, f_fed, f_open, a_lhsOf, a_leftOf, a_rightOf, a_ruleOp, a_ruleA, a_ruleB, am, um, gs, re, a_treeProd, a_treeToken, a_parent, a_placeOf, a_second, a_span, a_nodeGraph, a_state, a_values, a_oldState, a_oldValues, a_queue, a_stack, a_draftProd, a_draftToken, a_openSymbols)) :
    ∀ (fuel p : Nat) (am um : Nat → Int32), gx_MS a_leftOf a_rightOf a_ruleOp a_ruleA a_ruleB am um p 0 → p ≤ c → c - p < fuel → wX_check_28 post fuel (nI p) f_symbolLimit f_productionLimit f_nodeLimit f_productionCount f_verdict f_size f_drafting f_target f_kept f_fed f_open a_lhsOf a_leftOf a_rightOf a_ruleOp a_ruleA a_ruleB am um a_graphSet a_reach a_treeProd a_treeToken a_parent a_placeOf a_second a_span a_nodeGraph a_state a_values a_oldState a_oldValues a_queue a_stack a_draftProd a_draftToken a_openSymbols := by
  subst ec
  intro fuel
  induction fuel with
  | zero => intro p am um _ _ h; omega
  | succ fuel ih =>
    intro p am um hM hp hf
    refine pk_le c p (fun z => ?_) (fun z => ?_)
    · have e : p = c := by omega
      subst e
      obtain ⟨m1, m2⟩ := gx_MS_end hM hz
      subst hv
      refine ⟨66, gx_check_51 (a_argMask := am) (a_userMask := um) hc G m1 rfl (fun gs v re S C => hpost am um gs v re m1 m2 S C) 66 0 1 1 a_graphSet a_reach ?_ (Or.inr ⟨rfl, Nat.zero_le _⟩) (by omega) (by omega)⟩
      refine ⟨fun s hs g hg y => ?_, Or.inl rfl, fun y => absurd y (by decide)⟩
      rw [hgs s hs, b_0] at y; exact absurd y (by decide)
    · exact gx_indexRules (by omega) ro hM (fun am' um' h => nm_r (nI_1 p) (ih (p + 1) am' um' h (by omega) (by omega)))
end
end
section
/-! what the splice leaves of the old solution -/
section
variable {L R O A B pd pd' dp tk tk' rt st st' V V' : Nat → Int32} {n n' t m f : Nat}
def ge_qI (t m f i : Nat) : Nat := if i < 4 * t + 4 then i else i + 4 * m - 4 * f
theorem ge_pI_lo {i : Nat} (h : i < 4 * t + 4) : ge_pI t m f i = i := by unfold ge_pI; rw [ge_ph_lo (by omega)]; omega
theorem ge_pI_hi {i : Nat} (h : 4 * t + 4 ≤ i) (hm : m ≤ i / 4) : ge_pI t m f i = i + 4 * f - 4 * m := by unfold ge_pI; rw [ge_ph_hi (by omega)]; omega
theorem ge_qp {i : Nat} (hm : 0 < m) (hf : 0 < f) (h : i < 4 * (t + 1) ∨ 4 * (t + m) ≤ i) : ge_qI t m f (ge_pI t m f i) = i := by
  rcases Nat.lt_or_ge i (4 * t + 4) with z | z
  · rw [ge_pI_lo z]; unfold ge_qI; rw [if_pos z]
  · rw [ge_pI_hi z (by omega)]; unfold ge_qI; rw [if_neg (by omega)]; omega
/-- every instance of the new tree that is not new comes from a kept one -/
theorem ge_sp_sur (hm : 0 < m) (hf : 0 < f) (hn : n' = n + f - m) (htm : t + m ≤ n) {i : Nat} (hi : i < 4 * n') (hd : ¬ (4 * t + 2 ≤ i ∧ i < 4 * (t + f))) : ∃ i0, ge_kI n t m i0 ∧ i = ge_pI t m f i0 := by
  rcases Nat.lt_or_ge i (4 * t + 2) with z | z
  · exact ⟨i, ⟨by omega, Or.inl z⟩, (ge_pI_lo (by omega)).symm⟩
  · exact ⟨i + 4 * m - 4 * f, ⟨by omega, Or.inr (by omega)⟩, by rw [ge_pI_hi (by omega) (by omega)]; omega⟩
theorem ge_Spl_loc (w : ge_WF (ge_K L R pd) n) (wd : ge_WF (ge_K L R dp) f) (ro : ge_RO L R O A B) (hp : ∀ x, x < n → (pd x).toNatClampNeg < 8) (ht : t < n) (hm : t + m = ge_e (ge_K L R pd) n t) (s : ge_Spl pd pd' dp n n' t m f) {i j : Nat} (h2i : 2 ≤ i) (k : ge_kI n t m i)
    (r : ge_AR L R O A B pd n i j) : j < 4 * (t + 1) ∨ 4 * (t + m) ≤ j := by
  have hk : ∀ x, x < n → ge_K L R pd x ≤ 2 := fun x _ => ge_K_le L R pd x
  have io := ge_io w hk h2i k.1
  have ho : ge_oc (ge_K L R pd) n i < 12 := by have := (ge_df_iff.mp io.2.1).1; have := hk _ io.1; omega
  obtain ⟨o1, o2, o3⟩ := ro _ (hp _ io.1) _ ho
  rcases ((ge_AR_iff w ro hp).mp r).2.2 with ⟨q1, q2⟩ | ⟨q1, q2⟩
  · rw [q2]; exact (ge_Spl_a1 w wd ht hm s h2i k A (o2 q1)).2
  · rw [q2]; exact (ge_Spl_a1 w wd ht hm s h2i k B (o3 q1)).2
theorem ge_sp_Pre (w : ge_WF (ge_K L R pd) n) (wd : ge_WF (ge_K L R dp) f) (ro : ge_RO L R O A B) (hp : ∀ x, x < n → (pd x).toNatClampNeg < 8) (hp' : ∀ x, x < n' → (pd' x).toNatClampNeg < 8) (ht : t < n) (hm : t + m = ge_e (ge_K L R pd) n t) (s : ge_Spl pd pd' dp n n' t m f)
    (htk : ∀ z, ge_kp n t m z → tk' (ge_ph t m f z) = tk z)
    (S : ge_Sol (4 * n) (ge_AR L R O A B pd n) (ge_vl L R O A B pd tk rt n) (fun i => st i = 1) V) (h12 : ∀ i, i < 4 * n → st i = 1 ∨ st i = 2)
    (hs : ∀ i, ge_kI n t m i → st' (ge_pI t m f i) = st i) (hV : ∀ i, ge_kI n t m i → V' (ge_pI t m f i) = V i) :
    ge_Pre (4 * n') (ge_AR L R O A B pd' n') (ge_vl L R O A B pd' tk' rt n') (fun i => 4 * t + 2 ≤ i ∧ i < 4 * (t + f)) st' V' := by
  have et := ge_e_spec w ht
  have hf := ge_WF_pos wd
  have w' := ge_Spl_WF w wd ht hm s
  obtain ⟨s1, ⟨ρ, s2⟩, s3⟩ := S
  have sur : ∀ i, i < 4 * n' → ¬ (4 * t + 2 ≤ i ∧ i < 4 * (t + f)) → ∃ i0, ge_kI n t m i0 ∧ i = ge_pI t m f i0 := fun i hi hd => ge_sp_sur (by omega) hf s.1 (by omega) hi hd
  have kI : ∀ j, j < 4 * n → (j < 4 * (t + 1) ∨ 4 * (t + m) ≤ j) → ¬ (4 * t + 2 ≤ ge_pI t m f j ∧ ge_pI t m f j < 4 * (t + f)) → ge_kI n t m j := by
    intro j hj h hd
    refine ⟨hj, ?_⟩
    rcases h with h | h
    · rw [ge_pI_lo (by omega)] at hd; omega
    · exact Or.inr h
  have two : ∀ i j, ge_AR L R O A B pd' n' i j → 2 ≤ i := fun i j r => ((ge_AR_iff w' ro hp').mp r).1
  have i2 : ∀ i0, ge_kI n t m i0 → 2 ≤ ge_pI t m f i0 → 2 ≤ i0 := by
    intro i0 k h
    rcases Nat.lt_or_ge i0 (4 * t + 4) with z | z
    · rw [ge_pI_lo z] at h; exact h
    · omega
  refine ⟨?_, ⟨fun i => ρ (ge_qI t m f i), ?_⟩, ?_, ?_⟩
  · intro i hi hd
    obtain ⟨i0, k, rfl⟩ := sur i hi hd
    rw [hs i0 k]; exact h12 i0 k.1
  · intro i hi hd h1 j r hj
    obtain ⟨i0, k, rfl⟩ := sur i hi hd
    rw [hs i0 k] at h1
    have h2 := i2 i0 k (two _ _ r)
    obtain ⟨j0, r0, rfl, hj0⟩ := (ge_Spl_AR w wd ro hp hp' ht hm s h2 k).mp r
    have kj := kI j0 (ge_AR_lt w r0) hj0 hj
    show st' (ge_pI t m f j0) = 1 ∧ ρ (ge_qI t m f (ge_pI t m f j0)) < ρ (ge_qI t m f (ge_pI t m f i0))
    rw [hs j0 kj, ge_qp (by omega) hf hj0, ge_qp (by omega) hf (by have := k.2; omega)]
    exact ⟨(s1 i0 k.1).mp h1 j0 r0, s2 i0 k.1 h1 j0 r0⟩
  · intro i hi hd h1 hj
    obtain ⟨i0, k, rfl⟩ := sur i hi hd
    rw [hs i0 k] at h1
    rw [hV i0 k, s3 i0 k.1 h1]
    rcases Nat.lt_or_ge i0 2 with z | z
    · rw [ge_pI_lo (by omega)]
      unfold ge_vl; rw [if_pos z, if_pos z]
    · refine (ge_Spl_vl w wd ro hp ht hm s htk z k V V' (fun j r => ?_)).symm
      have lc := ge_Spl_loc w wd ro hp ht hm s z k r
      have r' := (ge_Spl_AR w wd ro hp hp' ht hm s z k).mpr ⟨j, r, rfl, lc⟩
      exact hV j (kI j (ge_AR_lt w r) lc (hj _ r'))
  · intro i hi hd h1
    obtain ⟨i0, k, rfl⟩ := sur i hi hd
    rw [hs i0 k] at h1
    have : ∃ j0, ge_AR L R O A B pd n i0 j0 ∧ ¬ st j0 = 1 := by
      refine Classical.byContradiction fun hn => ?_
      have : st i0 = 1 := (s1 i0 k.1).mpr fun j r => Classical.byContradiction fun y => hn ⟨j, r, y⟩
      rw [h1] at this; exact absurd this (by decide)
    obtain ⟨j0, r, y⟩ := this
    have z : 2 ≤ i0 := ((ge_AR_iff w ro hp).mp r).1
    have lc := ge_Spl_loc w wd ro hp ht hm s z k r
    refine ⟨ge_pI t m f j0, (ge_Spl_AR w wd ro hp hp' ht hm s z k).mpr ⟨j0, r, rfl, lc⟩, ?_⟩
    rcases Classical.em (4 * t + 2 ≤ ge_pI t m f j0 ∧ ge_pI t m f j0 < 4 * (t + f)) with d | d
    · exact Or.inl d
    · right
      have kj := kI j0 (ge_AR_lt w r) lc d
      rw [hs j0 kj]
      exact (h12 j0 kj.1).resolve_left y
theorem ge_Pre_0 (w : ge_WF (ge_K L R pd) n) (ro : ge_RO L R O A B) (hp : ∀ x, x < n → (pd x).toNatClampNeg < 8) (h1 : ∀ i, i < 2 → st i = 1) (h2 : ∀ i, i < 2 → V i = rt i) :
    ge_Pre (4 * n) (ge_AR L R O A B pd n) (ge_vl L R O A B pd tk rt n) (fun i => 4 * 0 + 2 ≤ i ∧ i < 4 * (0 + n)) st V := by
  have lo : ∀ i, i < 4 * n → ¬ (4 * 0 + 2 ≤ i ∧ i < 4 * (0 + n)) → i < 2 := fun i hi hd => by omega
  refine ⟨fun i hi hd => Or.inl (h1 i (lo i hi hd)), ⟨fun _ => 0, fun i hi hd _ j r => ?_⟩, fun i hi hd _ _ => ?_, fun i hi hd z => ?_⟩
  · have := ((ge_AR_iff w ro hp).mp r).1; have := lo i hi hd; omega
  · unfold ge_vl; rw [if_pos (lo i hi hd)]; exact h2 i (lo i hi hd)
  · rw [h1 i (lo i hi hd)] at z; exact absurd z (by decide)
/-- a changed root value -/
theorem ge_Pre_root (w : ge_WF (ge_K L R pd) n) (ro : ge_RO L R O A B) (hp : ∀ x, x < n → (pd x).toNatClampNeg < 8) {a : Nat} (ha : a < 2) {v : Int32}
    (S : ge_Sol (4 * n) (ge_AR L R O A B pd n) (ge_vl L R O A B pd tk rt n) (fun i => st i = 1) V) (h12 : ∀ i, i < 4 * n → st i = 1 ∨ st i = 2) :
    ge_Pre (4 * n) (ge_AR L R O A B pd n) (ge_vl L R O A B pd tk (upd rt a v) n) (fun i => i = a) st (upd V a v) := by
  obtain ⟨s1, ⟨ρ, s2⟩, s3⟩ := S
  refine ⟨fun i hi _ => h12 i hi, ⟨ρ, fun i hi _ h1 j r _ => ⟨(s1 i hi).mp h1 j r, s2 i hi h1 j r⟩⟩, fun i hi hd h1 hj => ?_, fun i hi _ h2 => ?_⟩
  · rw [pk_un hd, s3 i hi h1]
    have e : ge_vl L R O A B pd tk (upd rt a v) n V i = ge_vl L R O A B pd tk rt n V i := by
      unfold ge_vl
      by_cases z : i < 2
      · rw [if_pos z, if_pos z, pk_un hd]
      · rw [if_neg z, if_neg z]
    rw [← e]
    exact ge_vl_cg w ro hp V (upd V a v) i hi (fun j r => (pk_un (hj j r)).symm)
  · have : ∃ j, ge_AR L R O A B pd n i j ∧ ¬ st j = 1 := by
      refine Classical.byContradiction fun hn => ?_
      have : st i = 1 := (s1 i hi).mpr fun j r => Classical.byContradiction fun y => hn ⟨j, r, y⟩
      rw [h2] at this; exact absurd this (by decide)
    obtain ⟨j, r, y⟩ := this
    exact ⟨j, r, Or.inr ((h12 j (ge_AR_lt w r)).resolve_left y)⟩
/-! the graphs of kept nodes -/
theorem ge_LC_cg {gr gr' : Nat → Nat} {x : Nat} (h0 : gr' x = gr x) (h1 : 1 ≤ ge_K L R pd x → gr' (x + 1) = gr (x + 1)) (h2 : ge_K L R pd x = 2 → gr' (ge_e (ge_K L R pd) n (x + 1)) = gr (ge_e (ge_K L R pd) n (x + 1))) (h : ge_LC L R O A B pd n gr x) : ge_LC L R O A B pd n gr' x := by
  unfold ge_LC at h ⊢
  rw [h0, h]
  congr 1
  · by_cases z : 1 ≤ ge_K L R pd x
    · rw [if_pos z, if_pos z, h1 z]
    · rw [if_neg z, if_neg z]
  · by_cases z : ge_K L R pd x = 2
    · rw [if_pos z, if_pos z, h2 z]
    · rw [if_neg z, if_neg z]
/-- a write at y leaves the condition of every node but y and its parent -/
theorem ge_LC_upd (w : ge_WF (ge_K L R pd) n) {ng : Nat → Int32} {x y : Nat} {v : Int32} (hx : x < n) (hxy : x ≠ y) (hpar : 0 < y → y < n → x ≠ ge_par (ge_K L R pd) n y) (h : ge_LC L R O A B pd n (fun z => (ng z).toNatClampNeg) x) :
    ge_LC L R O A B pd n (fun z => (upd ng y v z).toNatClampNeg) x := by
  refine ge_LC_cg (gr := fun z => (ng z).toNatClampNeg) ?_ ?_ ?_ h
  · show (upd ng y v x).toNatClampNeg = _; rw [pk_un hxy]
  · intro k
    show (upd ng y v (x + 1)).toNatClampNeg = _
    rw [pk_un (fun e => hpar (by omega) (by rw [← e]; exact ge_e_1n w hx k) (by rw [← e, ge_par_1 w hx k]))]
  · intro k
    show (upd ng y v _).toNatClampNeg = _
    have := (ge_child_in2 w hx k).1
    rw [pk_un (fun e => hpar (by omega) (by rw [← e]; exact ge_e_2n w hx k) (by rw [← e, ge_par_2 w hx k]))]
theorem ge_LC_spl (w : ge_WF (ge_K L R pd) n) (wd : ge_WF (ge_K L R dp) f) (ht : t < n) (hm : t + m = ge_e (ge_K L R pd) n t) (s : ge_Spl pd pd' dp n n' t m f) {ng ng' : Nat → Int32} (hg : ∀ z, ge_kp n t m z → ng' (ge_ph t m f z) = ng z)
    {z : Nat} (k : ge_kp n t m z) (hz : 0 < t → z ≠ ge_par (ge_K L R pd) n t) (h : ge_LC L R O A B pd n (fun z => (ng z).toNatClampNeg) z) : ge_LC L R O A B pd' n' (fun z => (ng' z).toNatClampNeg) (ge_ph t m f z) := by
  obtain ⟨h1, h2, h3⟩ := ge_Spl_K (L := L) (R := R) s
  have et := ge_e_spec w ht
  have eK : ge_K L R pd' (ge_ph t m f z) = ge_K L R pd z := ge_sp_K h1 h3 (by omega) k
  have e1 : ge_ph t m f z + 1 = ge_ph t m f (z + 1) := by have := k.2; unfold ge_ph; split <;> split <;> omega
  have kc : ∀ q c, ge_ch (ge_K L R pd) n z q c → ge_kp n t m c := by
    intro q c hc
    have hq := ge_ch_in w k.1 hc
    refine ⟨hq.2.1, ?_⟩
    rcases Nat.lt_or_ge c t with y | y
    · exact Or.inl y
    · rcases Nat.lt_or_ge c (t + m) with y2 | y2
      · exfalso
        rcases Nat.lt_or_ge t c with y3 | y3
        · have ps := ge_par_spec w (y := c) (by omega) hq.2.1
          rw [hq.2.2.2.2.2.2.2.1] at ps
          rcases Nat.lt_or_ge z t with y4 | y4
          · have := ps.2.2 t y4 y3; omega
          · have := k.2; omega
        · have ec : c = t := by omega
          rw [ec] at hq
          exact hz (by omega) hq.2.2.2.2.2.2.2.1.symm
      · exact Or.inr y2
  unfold ge_LC at h ⊢
  dsimp only at h ⊢
  rw [hg z k, h, eK, ge_Spl_pd s (by omega) k]
  congr 1
  · by_cases y : 1 ≤ ge_K L R pd z
    · rw [if_pos y, if_pos y, e1, hg (z + 1) (kc 1 (z + 1) (Or.inl ⟨rfl, y, rfl⟩))]
    · rw [if_neg y, if_neg y]
  · by_cases y : ge_K L R pd z = 2
    · have hn1 := ge_e_1n w k.1 (by omega)
      rw [if_pos y, if_pos y, e1, ge_sp_e w wd ht hm h1 h2 h3 s.1 hn1 (by have := k.2; omega), hg _ (kc 2 _ (Or.inr ⟨rfl, y, rfl⟩))]
    · rw [if_neg y, if_neg y]
end
end
section
/-! X: moving nodes, linking, graphs -/
def ge_mv (a : Nat → Int32) (x y : Nat) : Nat → Int32 := fun i => if i / 4 = y then a (4 * x + i % 4) else a i
/-- node arrays as images of the old ones under src -/
def gx_SR (src : Nat → Nat) (pd0 tk0 ng0 st0 V0 pd tk ng st V : Nat → Int32) : Prop :=
  (∀ z, pd z = pd0 (src z)) ∧ (∀ z, tk z = tk0 (src z)) ∧ (∀ z, ng z = ng0 (src z)) ∧ (∀ i, st i = st0 (4 * src (i / 4) + i % 4)) ∧ (∀ i, V i = V0 (4 * src (i / 4) + i % 4))
def ge_up (src : Nat → Nat) (x y : Nat) : Nat → Nat := fun z => if z = y then src x else src z
theorem gx_SR_mv {src : Nat → Nat} {pd0 tk0 ng0 st0 V0 pd tk ng st V : Nat → Int32} {x y : Nat} (h : gx_SR src pd0 tk0 ng0 st0 V0 pd tk ng st V) : gx_SR (ge_up src x y) pd0 tk0 ng0 st0 V0 (upd pd y (pd x)) (upd tk y (tk x)) (upd ng y (ng x)) (ge_mv st x y) (ge_mv V x y) := by
  obtain ⟨a, b, c, d, e⟩ := h
  have one : ∀ (u u0 : Nat → Int32), (∀ z, u z = u0 (src z)) → ∀ z, upd u y (u x) z = u0 (ge_up src x y z) := by
    intro u u0 hu z
    unfold ge_up
    by_cases q : z = y
    · rw [q, pk_us, if_pos rfl]; exact hu x
    · rw [pk_un q, if_neg q]; exact hu z
  have four : ∀ (u u0 : Nat → Int32), (∀ i, u i = u0 (4 * src (i / 4) + i % 4)) → ∀ i, ge_mv u x y i = u0 (4 * ge_up src x y (i / 4) + i % 4) := by
    intro u u0 hu i
    unfold ge_up ge_mv
    by_cases q : i / 4 = y
    · rw [if_pos q, if_pos q, hu, show (4 * x + i % 4) / 4 = x by omega, show (4 * x + i % 4) % 4 = i % 4 by omega]
    · rw [if_neg q, if_neg q]; exact hu i
  exact ⟨one pd pd0 a, one tk tk0 b, one ng ng0 c, four st st0 d, four V V0 e⟩
theorem ge_i32_am (x y z : Int32) : x + (y - z) = x + y - z := by grind
theorem ge_i32_m1 (x : Int32) : x + (-1) = x - 1 := by grind
theorem ge_mvI {x f m : Nat} (h : m ≤ x + f) : nI x + (nI f - nI m) = nI (x + f - m) := by rw [ge_i32_am, nI_add, pk_sub h]
section
variable {f_symbolLimit f_productionLimit f_nodeLimit f_productionCount f_verdict f_size f_drafting f_target f_kept f_fed f_open : Int32} {a_lhsOf a_leftOf a_rightOf a_ruleOp a_ruleA a_ruleB a_argMask a_userMask a_graphSet a_reach a_treeProd a_treeToken a_parent a_placeOf a_second a_span a_nodeGraph a_state a_values a_oldState a_oldValues a_queue a_stack a_draftProd a_draftToken a_openSymbols : Nat → Int32}
theorem gx_move_38 {x y : Nat} (hx : x < 24) (hy : y < 24) (hxy : x ≠ y) {post : SX → Prop} (h : post (f_symbolLimit, f_productionLimit, f_nodeLimit, f_productionCount, f_verdict, f_size, f_drafting, f_target, f_kept, f_fed, f_open, a_lhsOf, a_leftOf, a_rightOf, a_ruleOp, a_ruleA, a_ruleB, a_argMask, a_userMask, a_graphSet, a_reach, a_treeProd, a_treeToken, a_parent, a_placeOf, a_second, a_span, a_nodeGraph, ge_mv a_state x y, ge_mv a_values x y, a_oldState, a_oldValues, a_queue, a_stack, a_draftProd, a_draftToken, a_openSymbols)) :
    ∀ (fuel a : Nat) (st V : Nat → Int32), (∀ i, st i = if i / 4 = y ∧ i % 4 < a then a_state (4 * x + i % 4) else a_state i) → (∀ i, V i = if i / 4 = y ∧ i % 4 < a then a_values (4 * x + i % 4) else a_values i) → a ≤ 4 → 4 - a < fuel →
      wX_moveNode_38 post (nI x) (nI y) f_symbolLimit f_productionLimit f_nodeLimit f_productionCount f_verdict f_size f_drafting f_target f_kept f_fed f_open fuel (nI a) a_lhsOf a_leftOf a_rightOf a_ruleOp a_ruleA a_ruleB a_argMask a_userMask a_graphSet a_reach a_treeProd a_treeToken a_parent a_placeOf a_second a_span a_nodeGraph st V a_oldState a_oldValues a_queue a_stack a_draftProd a_draftToken a_openSymbols := by
  intro fuel
  induction fuel with
  | zero => intro a st V _ _ _ h; omega
  | succ fuel ih =>
    intro a st V h1 h2 ha hf
    have full : ∀ (u u0 : Nat → Int32), (∀ i, u i = if i / 4 = y ∧ i % 4 < 4 then u0 (4 * x + i % 4) else u0 i) → u = ge_mv u0 x y := by
      intro u u0 hu
      funext i
      rw [hu i]; unfold ge_mv
      by_cases q : i / 4 = y
      · rw [if_pos q, if_pos ⟨q, by omega⟩]
      · rw [if_neg q, if_neg (fun z => q z.1)]
    have one : ∀ (u u0 : Nat → Int32), a < 4 → (∀ i, u i = if i / 4 = y ∧ i % 4 < a then u0 (4 * x + i % 4) else u0 i) → ∀ i, upd u (4 * y + a) (u (4 * x + a)) i = if i / 4 = y ∧ i % 4 < a + 1 then u0 (4 * x + i % 4) else u0 i := by
      intro u u0 ha4 hu i
      by_cases q : i = 4 * y + a
      · rw [q, pk_us, if_pos (by omega), hu, if_neg (by omega), show (4 * y + a) % 4 = a by omega]
      · rw [pk_un q, hu i]
        by_cases q2 : i / 4 = y ∧ i % 4 < a
        · rw [if_pos q2, if_pos (by omega)]
        · rw [if_neg q2, if_neg (by omega)]
    refine pk_le 4 a (fun z => ?_) (fun z => ?_)
    · have e : a = 4 := by omega
      subst e
      rw [full st a_state h1, full V a_values h2]
      exact h
    · have e1 : 4 * nI x + nI a = nI (4 * x + a) := by rw [ge_m4, nI_add]
      have e2 : 4 * nI y + nI a = nI (4 * y + a) := by rw [ge_m4, nI_add]
      rw [e1, e2]
      have v1 : vp_in (nI (4 * x + a)) 96 := vp_in_nI (by omega) (by decide)
      have v2 : vp_in (nI (4 * y + a)) 96 := vp_in_nI (by omega) (by decide)
      have c1 : (nI (4 * x + a)).toNatClampNeg = 4 * x + a := nI_clamp (by omega)
      have c2 : (nI (4 * y + a)).toNatClampNeg = 4 * y + a := nI_clamp (by omega)
      refine ⟨v1, v2, nm_r (e' := upd st (4 * y + a) (st (4 * x + a))) (by rw [c1, c2]) ⟨v1, v2, nm_r (e' := upd V (4 * y + a) (V (4 * x + a))) (by rw [c1, c2]) (nm_r (nI_1 a) ?_)⟩⟩
      exact ih (a + 1) _ _ (one st a_state z h1) (one V a_values z h2) (by omega) (by omega)
theorem gx_moveNode {x y : Nat} (hx : x < 24) (hy : y < 24) (hxy : x ≠ y) {post : SX → Prop}
    (h : post (f_symbolLimit, f_productionLimit, f_nodeLimit, f_productionCount, f_verdict, f_size, f_drafting, f_target, f_kept, f_fed, f_open, a_lhsOf, a_leftOf, a_rightOf, a_ruleOp, a_ruleA, a_ruleB, a_argMask, a_userMask, a_graphSet, a_reach, upd a_treeProd y (a_treeProd x), upd a_treeToken y (a_treeToken x), a_parent, a_placeOf, a_second, a_span, upd a_nodeGraph y (a_nodeGraph x), ge_mv a_state x y, ge_mv a_values x y, a_oldState, a_oldValues, a_queue, a_stack, a_draftProd, a_draftToken, a_openSymbols)) : wpX_moveNode post (f_symbolLimit, f_productionLimit, f_nodeLimit, f_productionCount, f_verdict, f_size, f_drafting, f_target, f_kept, f_fed, f_open, a_lhsOf, a_leftOf, a_rightOf, a_ruleOp, a_ruleA, a_ruleB, a_argMask, a_userMask, a_graphSet, a_reach, a_treeProd, a_treeToken, a_parent, a_placeOf, a_second, a_span, a_nodeGraph, a_state, a_values, a_oldState, a_oldValues, a_queue, a_stack, a_draftProd, a_draftToken, a_openSymbols) (nI x) (nI y) := by
  have v1 : vp_in (nI x) 24 := vp_in_nI hx (by decide)
  have v2 : vp_in (nI y) 24 := vp_in_nI hy (by decide)
  simp only [wpX_moveNode]
  rw [nI_clamp (show x < 2 ^ 31 by omega), nI_clamp (show y < 2 ^ 31 by omega)]
  refine ⟨v1, v2, nm_e ⟨v1, v2, nm_e ⟨v1, v2, nm_e ⟨5, gx_move_38 hx hy hxy h 5 0 _ _ (fun i => ?_) (fun i => ?_) (by omega) (by omega)⟩⟩⟩⟩
  · rw [if_neg (by omega)]
  · rw [if_neg (by omega)]
/-- the tail moves up -/
theorem gx_shift_up {n fr d : Nat} (hn : n + d ≤ 24) (hd : 0 < d) (es : f_size = nI n) {x2 : Int32} (e2 : ∀ x, nI x + x2 = nI (x + d)) {pd0 tk0 ng0 st0 V0 : Nat → Int32} {post : SX → Prop}
    (hpost : ∀ src pd tk ng st V, gx_SR src pd0 tk0 ng0 st0 V0 pd tk ng st V → (∀ z, src z = if fr + d ≤ z ∧ z < n + d then z - d else z) → post (f_symbolLimit, f_productionLimit, f_nodeLimit, f_productionCount, f_verdict, f_size, f_drafting, f_target, f_kept, f_fed, f_open, a_lhsOf, a_leftOf, a_rightOf, a_ruleOp, a_ruleA, a_ruleB, a_argMask, a_userMask, a_graphSet, a_reach, pd, tk, a_parent, a_placeOf, a_second, a_span, ng, st, V, a_oldState, a_oldValues, a_queue, a_stack, a_draftProd, a_draftToken, a_openSymbols)) :
    ∀ (fuel k : Nat) (src : Nat → Nat) (pd tk ng st V : Nat → Int32), gx_SR src pd0 tk0 ng0 st0 V0 pd tk ng st V → (∀ z, src z = if fr + k + d ≤ z ∧ z < n + d then z - d else z) → fr + k ≤ n → k < fuel →
      wX_shiftTail_11 post (nI fr) x2 fuel (nI (fr + k) - 1) f_symbolLimit f_productionLimit f_nodeLimit f_productionCount f_verdict f_size f_drafting f_target f_kept f_fed f_open a_lhsOf a_leftOf a_rightOf a_ruleOp a_ruleA a_ruleB a_argMask a_userMask a_graphSet a_reach pd tk a_parent a_placeOf a_second a_span ng st V a_oldState a_oldValues a_queue a_stack a_draftProd a_draftToken a_openSymbols := by
  intro fuel
  induction fuel with
  | zero => intro k src pd tk ng st V _ _ _ h; omega
  | succ fuel ih =>
    intro k src pd tk ng st V hS hs hk hf
    rcases Nat.eq_zero_or_pos k with z | z
    · subst z
      refine br_t ?_ (hpost src pd tk ng st V hS hs)
      rw [Int32.lt_iff_toInt_lt, Nat.add_zero, show nI fr - 1 = nI fr - nI 1 from rfl, pk_sub_toInt (by omega) (by omega), nI_toInt (by omega)]
      omega
    · obtain ⟨k, rfl⟩ : ∃ j, k = j + 1 := ⟨k - 1, by omega⟩
      rw [show fr + (k + 1) = fr + k + 1 by omega, nI_pred]
      refine br_f (nI_nlt (by omega) (by omega)) ?_
      rw [e2]
      refine gx_moveNode (by omega) (by omega) (by omega) (nm_r (ge_i32_m1 _) (ih k _ _ _ _ _ _ (gx_SR_mv hS) (fun z => ?_) (by omega) (by omega)))
      unfold ge_up
      rw [hs, hs]
      by_cases q : z = fr + k + d
      · rw [if_pos q, if_neg (by omega), if_pos (by omega)]; omega
      · rw [if_neg q]
        by_cases q2 : fr + (k + 1) + d ≤ z ∧ z < n + d
        · rw [if_pos q2, if_pos (by omega)]
        · rw [if_neg q2, if_neg (by omega)]
/-- the tail moves down -/
theorem gx_shift_down {n fr d : Nat} (hn : n ≤ 24) (hd : 0 < d) (hfr : d ≤ fr) (es : f_size = nI n) {x2 : Int32} (e2 : ∀ x, d ≤ x → nI x + x2 = nI (x - d)) {pd0 tk0 ng0 st0 V0 : Nat → Int32} {post : SX → Prop}
    (hpost : ∀ src pd tk ng st V, gx_SR src pd0 tk0 ng0 st0 V0 pd tk ng st V → (∀ z, src z = if fr ≤ z + d ∧ z + d < n then z + d else z) → post (f_symbolLimit, f_productionLimit, f_nodeLimit, f_productionCount, f_verdict, f_size, f_drafting, f_target, f_kept, f_fed, f_open, a_lhsOf, a_leftOf, a_rightOf, a_ruleOp, a_ruleA, a_ruleB, a_argMask, a_userMask, a_graphSet, a_reach, pd, tk, a_parent, a_placeOf, a_second, a_span, ng, st, V, a_oldState, a_oldValues, a_queue, a_stack, a_draftProd, a_draftToken, a_openSymbols)) :
    ∀ (fuel x : Nat) (src : Nat → Nat) (pd tk ng st V : Nat → Int32), gx_SR src pd0 tk0 ng0 st0 V0 pd tk ng st V → (∀ z, src z = if fr ≤ z + d ∧ z + d < x then z + d else z) → fr ≤ x → x ≤ n → n - x < fuel →
      wX_shiftTail_39 post x2 fuel (nI x) f_symbolLimit f_productionLimit f_nodeLimit f_productionCount f_verdict f_size f_drafting f_target f_kept f_fed f_open a_lhsOf a_leftOf a_rightOf a_ruleOp a_ruleA a_ruleB a_argMask a_userMask a_graphSet a_reach pd tk a_parent a_placeOf a_second a_span ng st V a_oldState a_oldValues a_queue a_stack a_draftProd a_draftToken a_openSymbols := by
  subst es
  intro fuel
  induction fuel with
  | zero => intro x src pd tk ng st V _ _ _ _ h; omega
  | succ fuel ih =>
    intro x src pd tk ng st V hS hs hx1 hx2 hf
    refine pk_le n x (fun z => ?_) (fun z => ?_)
    · have e : x = n := by omega
      subst e
      exact hpost src pd tk ng st V hS hs
    · rw [e2 x (by omega)]
      refine gx_moveNode (by omega) (by omega) (by omega) (nm_r (nI_1 x) (ih (x + 1) _ _ _ _ _ _ (gx_SR_mv hS) (fun z => ?_) (by omega) (by omega) (by omega)))
      unfold ge_up
      rw [hs, hs]
      by_cases q : z = x - d
      · rw [if_pos q, if_neg (by omega), if_pos (by omega)]; omega
      · rw [if_neg q]
        by_cases q2 : fr ≤ z + d ∧ z + d < x
        · rw [if_pos q2, if_pos (by omega)]
        · rw [if_neg q2, if_neg (by omega)]
theorem gx_SR_r {pd tk ng st V : Nat → Int32} : gx_SR (fun z => z) pd tk ng st V pd tk ng st V :=
  ⟨fun _ => rfl, fun _ => rfl, fun _ => rfl, fun i => by rw [show 4 * (i / 4) + i % 4 = i by omega], fun i => by rw [show 4 * (i / 4) + i % 4 = i by omega]⟩
theorem gx_shiftTail {n t m f : Nat} (hn : n ≤ 24) (hn' : n + f - m ≤ 24) (hm : t + m ≤ n) (hf : f ≤ 24) (es : f_size = nI n) {post : SX → Prop}
    (hpost : ∀ src pd tk ng st V, gx_SR src a_treeProd a_treeToken a_nodeGraph a_state a_values pd tk ng st V → (∀ z, z ≤ t → z < t + f → src z = z) → (∀ z, t + f ≤ z → z < n + f - m → src z = z + m - f) → post (f_symbolLimit, f_productionLimit, f_nodeLimit, f_productionCount, f_verdict, f_size, f_drafting, f_target, f_kept, f_fed, f_open, a_lhsOf, a_leftOf, a_rightOf, a_ruleOp, a_ruleA, a_ruleB, a_argMask, a_userMask, a_graphSet, a_reach, pd, tk, a_parent, a_placeOf, a_second, a_span, ng, st, V, a_oldState, a_oldValues, a_queue, a_stack, a_draftProd, a_draftToken, a_openSymbols)) :
    wpX_shiftTail post (f_symbolLimit, f_productionLimit, f_nodeLimit, f_productionCount, f_verdict, f_size, f_drafting, f_target, f_kept, f_fed, f_open, a_lhsOf, a_leftOf, a_rightOf, a_ruleOp, a_ruleA, a_ruleB, a_argMask, a_userMask, a_graphSet, a_reach, a_treeProd, a_treeToken, a_parent, a_placeOf, a_second, a_span, a_nodeGraph, a_state, a_values, a_oldState, a_oldValues, a_queue, a_stack, a_draftProd, a_draftToken, a_openSymbols) (nI (t + m)) (nI f - nI m) := by
  simp only [wpX_shiftTail]
  have et : (nI f - nI m).toInt = (f : Int) - m := pk_sub_toInt (by omega) (by omega)
  have le0 : nI f - nI m ≤ 0 ↔ f ≤ m := by rw [Int32.le_iff_toInt_le, et, show (0 : Int32).toInt = 0 from by decide]; omega
  have ge0 : 0 ≤ nI f - nI m ↔ m ≤ f := by rw [Int32.le_iff_toInt_le, et, show (0 : Int32).toInt = 0 from by decide]; omega
  rcases Nat.lt_trichotomy f m with c | c | c
  · refine br_t (le0.mpr (by omega)) (br_f (fun z => by have := ge0.mp z; omega) ⟨n + 1, ?_⟩)
    refine gx_shift_down (n := n) (fr := t + m) (d := m - f) hn (by omega) (by omega) es (fun x hx => by rw [ge_mvI (by omega)]; congr 1; omega) (fun src pd tk ng st V h h2 => hpost src pd tk ng st V h (fun z _ _ => ?_) (fun z _ _ => ?_)) (n + 1) (t + m) (fun z => z) _ _ _ _ _ gx_SR_r (fun z => ?_) (Nat.le_refl _) (by omega) (by omega)
    · rw [h2 z, if_neg (by omega)]
    · rw [h2 z, if_pos (by omega)]; omega
    · rw [if_neg (by omega)]
  · refine br_t (le0.mpr (by omega)) (br_t (ge0.mpr (by omega)) (hpost (fun z => z) _ _ _ _ _ gx_SR_r (fun z _ _ => rfl) (fun z _ _ => ?_)))
    show z = z + m - f; omega
  · refine br_f (fun z => by have := le0.mp z; omega) (nm_e ⟨n + 1, ?_⟩)
    have := gx_shift_up (post := post) (n := n) (fr := t + m) (d := f - m) (by omega) (by omega) es (x2 := nI f - nI m) (fun x => by rw [ge_mvI (by omega)]; congr 1; omega) (fun src pd tk ng st V h h2 => hpost src pd tk ng st V h (fun z _ _ => by rw [h2 z, if_neg (by omega)]) (fun z _ _ => by rw [h2 z, if_pos (by omega)]; omega)) (n + 1) (n - (t + m)) (fun z => z) _ _ _ _ _ gx_SR_r (fun z => by rw [if_neg (by omega)]) (by omega) (by omega)
    rw [show t + m + (n - (t + m)) = n by omega, ← es] at this
    exact this
end
end
section
/-! X: link and the graphs of nodes -/
def gx_LI (L R pd : Nat → Int32) (n x : Nat) (pa pl se sp : Nat → Int32) : Prop :=
  (∀ z, x ≤ z → z < n → sp z = nI (ge_e (ge_K L R pd) n z - z)) ∧
  (∀ y, 0 < y → y < n → x ≤ ge_par (ge_K L R pd) n y → pa y = nI (ge_par (ge_K L R pd) n y) ∧ pl y = nI (ge_pl (ge_K L R pd) n y)) ∧
  (∀ z, x ≤ z → z < n → ge_K L R pd z = 2 → se z = nI (ge_e (ge_K L R pd) n (z + 1)))
section
variable {f_symbolLimit f_productionLimit f_nodeLimit f_productionCount f_verdict f_size f_drafting f_target f_kept f_fed f_open : Int32} {a_lhsOf a_leftOf a_rightOf a_ruleOp a_ruleA a_ruleB a_argMask a_userMask a_graphSet a_reach a_treeProd a_treeToken a_parent a_placeOf a_second a_span a_nodeGraph a_state a_values a_oldState a_oldValues a_queue a_stack a_draftProd a_draftToken a_openSymbols : Nat → Int32}
theorem gx_link_7 {n : Nat} (hn : n ≤ 24) (w : ge_WF (ge_K a_leftOf a_rightOf a_treeProd) n) (hp : ∀ x, x < n → (a_treeProd x).toNatClampNeg < 8 ∧ a_treeProd x = nI (a_treeProd x).toNatClampNeg) {post : SX → Prop}
    (hpost : ∀ pa pl se sp, gx_LI a_leftOf a_rightOf a_treeProd n 0 pa pl se sp → post (f_symbolLimit, f_productionLimit, f_nodeLimit, f_productionCount, f_verdict, f_size, f_drafting, f_target, f_kept, f_fed, f_open, a_lhsOf, a_leftOf, a_rightOf, a_ruleOp, a_ruleA, a_ruleB, a_argMask, a_userMask, a_graphSet, a_reach, a_treeProd, a_treeToken, upd pa 0 (-1), upd pl 0 0, se, sp, a_nodeGraph, a_state, a_values, a_oldState, a_oldValues, a_queue, a_stack, a_draftProd, a_draftToken, a_openSymbols)) :
    ∀ (fuel k : Nat) (pa pl se sp : Nat → Int32), gx_LI a_leftOf a_rightOf a_treeProd n k pa pl se sp → k ≤ n → k < fuel →
      wX_link_7 post f_symbolLimit f_productionLimit f_nodeLimit f_productionCount f_verdict f_size f_drafting f_target f_kept f_fed f_open fuel (nI k - 1) a_lhsOf a_leftOf a_rightOf a_ruleOp a_ruleA a_ruleB a_argMask a_userMask a_graphSet a_reach a_treeProd a_treeToken pa pl se sp a_nodeGraph a_state a_values a_oldState a_oldValues a_queue a_stack a_draftProd a_draftToken a_openSymbols := by
  have hk : ∀ x, x < n → ge_K a_leftOf a_rightOf a_treeProd x ≤ 2 := fun x _ => ge_K_le _ _ _ x
  intro fuel
  induction fuel with
  | zero => intro k pa pl se sp _ _ h; omega
  | succ fuel ih =>
    intro k pa pl se sp hL hk1 hf
    rcases Nat.eq_zero_or_pos k with z | z
    · subst z
      exact br_t (by decide) (nm_e (nm_e (hpost pa pl se sp hL)))
    · obtain ⟨x, rfl⟩ : ∃ j, k = j + 1 := ⟨k - 1, by omega⟩
      have hx : x < n := by omega
      have xv : vp_in (nI x) 24 := vp_in_nI (by omega) (by decide)
      have ex : (nI x).toNatClampNeg = x := nI_clamp (by omega)
      rw [nI_pred]
      refine br_f (nI_pos (by omega)) ⟨xv, ?_⟩
      rw [ex, (hp x hx).2]
      refine gx_childCount (hp x hx).1 (nm_r (nI_1 x) ?_)
      have k2 := hk x hx
      have spn := ge_e_spec w hx
      -- the end of a node's turn
      have fin : ∀ pa' pl' se' e, e = ge_e (ge_K a_leftOf a_rightOf a_treeProd) n x →
          (∀ y, 0 < y → y < n → x ≤ ge_par (ge_K a_leftOf a_rightOf a_treeProd) n y → pa' y = nI (ge_par (ge_K a_leftOf a_rightOf a_treeProd) n y) ∧ pl' y = nI (ge_pl (ge_K a_leftOf a_rightOf a_treeProd) n y)) →
          (∀ z, x ≤ z → z < n → ge_K a_leftOf a_rightOf a_treeProd z = 2 → se' z = nI (ge_e (ge_K a_leftOf a_rightOf a_treeProd) n (z + 1))) →
          wX_link_7 post f_symbolLimit f_productionLimit f_nodeLimit f_productionCount f_verdict f_size f_drafting f_target f_kept f_fed f_open fuel (nI x + (-1)) a_lhsOf a_leftOf a_rightOf a_ruleOp a_ruleA a_ruleB a_argMask a_userMask a_graphSet a_reach a_treeProd a_treeToken pa' pl' se' (upd sp x (nI e - nI x)) a_nodeGraph a_state a_values a_oldState a_oldValues a_queue a_stack a_draftProd a_draftToken a_openSymbols := by
        intro pa' pl' se' e ee q1 q2
        rw [ge_i32_m1, pk_sub (by omega)]
        refine ih x pa' pl' se' _ ⟨fun z h1 h2 => ?_, q1, q2⟩ (by omega) (by omega)
        by_cases e' : z = x
        · rw [e', pk_us, ee]
        · rw [pk_un e']; exact hL.1 z (by omega) h2
      have parx : ∀ y, 0 < y → y < n → ge_par (ge_K a_leftOf a_rightOf a_treeProd) n y = x → (y = x + 1 ∧ 1 ≤ ge_K a_leftOf a_rightOf a_treeProd x ∧ ge_pl (ge_K a_leftOf a_rightOf a_treeProd) n y = 1) ∨ (y = ge_e (ge_K a_leftOf a_rightOf a_treeProd) n (x + 1) ∧ ge_K a_leftOf a_rightOf a_treeProd x = 2 ∧ ge_pl (ge_K a_leftOf a_rightOf a_treeProd) n y = 2) := by
        intro y h1 h2 h3
        have := ge_par_cases w hk h1 h2
        rw [h3] at this; exact this
      have kk : ge_kd a_leftOf a_rightOf (a_treeProd x).toNatClampNeg = ge_K a_leftOf a_rightOf a_treeProd x := rfl
      rw [kk]
      rcases Nat.eq_zero_or_pos (ge_K a_leftOf a_rightOf a_treeProd x) with c0 | c0
      · refine ⟨1, ?_⟩
        rw [c0]
        refine br_t (by decide) ⟨xv, nm_r (e' := upd sp x (nI (x + 1) - nI x)) (by rw [ex]) (nm_e (fin pa pl se (x + 1) (ge_e_0 w hx c0).symm (fun y h1 h2 h3 => ?_) (fun z h1 h2 h3 => ?_)))⟩
        · rcases Nat.lt_or_ge x (ge_par (ge_K a_leftOf a_rightOf a_treeProd) n y) with q | q
          · exact hL.2.1 y h1 h2 q
          · rcases parx y h1 h2 (by omega) with q' | q'
            · have := q'.2.1; omega
            · have := q'.2.1; omega
        · by_cases e : z = x
          · rw [e] at h3; omega
          · exact hL.2.2 z (by omega) h2 h3
      · have hn1 := ge_e_1n w hx c0
        have s1 := ge_e_spec w hn1
        have ev1 : vp_in (nI (x + 1)) 24 := vp_in_nI (by omega) (by decide)
        have ec1 : (nI (x + 1)).toNatClampNeg = x + 1 := nI_clamp (by omega)
        have sp1 := hL.1 (x + 1) (by omega) hn1
        have en1 : nI (x + 1) + sp (x + 1) = nI (ge_e (ge_K a_leftOf a_rightOf a_treeProd) n (x + 1)) := by rw [sp1, nI_add]; congr 1; omega
        rcases Nat.lt_or_ge (ge_K a_leftOf a_rightOf a_treeProd x) 2 with c1 | c1
        · have c1' : ge_K a_leftOf a_rightOf a_treeProd x = 1 := by omega
          refine ⟨2, ?_⟩
          rw [c1']
          refine br_f (by decide) ⟨ev1, nm_r (e' := upd pa (x + 1) (nI x)) (by rw [ec1]) ⟨ev1, nm_r (e' := upd pl (x + 1) 1) (by rw [ec1]) (br_f (by decide) ⟨ev1, nm_r (e' := nI (ge_e (ge_K a_leftOf a_rightOf a_treeProd) n (x + 1))) (by rw [ec1]; exact en1) (nm_r (e' := 2) (by decide) ?_)⟩)⟩⟩
          refine br_t (by decide) ⟨xv, nm_r (e' := upd sp x (nI (ge_e (ge_K a_leftOf a_rightOf a_treeProd) n (x + 1)) - nI x)) (by rw [ex]) (nm_e (fin _ _ se _ (ge_e_1 w hx c1').symm (fun y h1 h2 h3 => ?_) (fun z h1 h2 h3 => ?_)))⟩
          · rcases Nat.lt_or_ge x (ge_par (ge_K a_leftOf a_rightOf a_treeProd) n y) with q | q
            · have ne : y ≠ x + 1 := fun e => by rw [e, ge_par_1 w hx c0] at q; omega
              rw [pk_un ne, pk_un ne]; exact hL.2.1 y h1 h2 q
            · have ep : ge_par (ge_K a_leftOf a_rightOf a_treeProd) n y = x := by omega
              rcases parx y h1 h2 ep with q' | q'
              · rw [ep, q'.2.2, q'.1, pk_us, pk_us]; exact ⟨rfl, rfl⟩
              · have := q'.2.1; omega
          · by_cases e : z = x
            · rw [e] at h3; omega
            · exact hL.2.2 z (by omega) h2 h3
        · have c2 : ge_K a_leftOf a_rightOf a_treeProd x = 2 := by omega
          have hn2 := ge_e_2n w hx c2
          have s2 := ge_e_spec w hn2
          have ci := ge_child_in2 w hx c2
          have ev2 : vp_in (nI (ge_e (ge_K a_leftOf a_rightOf a_treeProd) n (x + 1))) 24 := vp_in_nI (by omega) (by decide)
          have ec2 : (nI (ge_e (ge_K a_leftOf a_rightOf a_treeProd) n (x + 1))).toNatClampNeg = ge_e (ge_K a_leftOf a_rightOf a_treeProd) n (x + 1) := nI_clamp (by omega)
          have sp2 := hL.1 _ (by omega) hn2
          have en2 : nI (ge_e (ge_K a_leftOf a_rightOf a_treeProd) n (x + 1)) + sp (ge_e (ge_K a_leftOf a_rightOf a_treeProd) n (x + 1)) = nI (ge_e (ge_K a_leftOf a_rightOf a_treeProd) n x) := by rw [sp2, nI_add, ci.2.2]; congr 1; omega
          refine ⟨3, ?_⟩
          rw [c2]
          refine br_f (by decide) ⟨ev1, nm_r (e' := upd pa (x + 1) (nI x)) (by rw [ec1]) ⟨ev1, nm_r (e' := upd pl (x + 1) 1) (by rw [ec1]) (br_f (by decide) ⟨ev1, nm_r (e' := nI (ge_e (ge_K a_leftOf a_rightOf a_treeProd) n (x + 1))) (by rw [ec1]; exact en1) (nm_r (e' := 2) (by decide) ?_)⟩)⟩⟩
          refine br_f (by decide) ⟨ev2, nm_r (e' := upd (upd pa (x + 1) (nI x)) (ge_e (ge_K a_leftOf a_rightOf a_treeProd) n (x + 1)) (nI x)) (by rw [ec2]) ⟨ev2, nm_r (e' := upd (upd pl (x + 1) 1) (ge_e (ge_K a_leftOf a_rightOf a_treeProd) n (x + 1)) 2) (by rw [ec2]) (br_t rfl ⟨xv, nm_r (e' := upd se x (nI (ge_e (ge_K a_leftOf a_rightOf a_treeProd) n (x + 1)))) (by rw [ex]) ⟨ev2, nm_r (e' := nI (ge_e (ge_K a_leftOf a_rightOf a_treeProd) n x)) (by rw [ec2]; exact en2) (nm_r (e' := 3) (by decide) ?_)⟩⟩)⟩⟩
          refine br_t (by decide) ⟨xv, nm_r (e' := upd sp x (nI (ge_e (ge_K a_leftOf a_rightOf a_treeProd) n x) - nI x)) (by rw [ex]) (nm_e (fin _ _ _ _ rfl (fun y h1 h2 h3 => ?_) (fun z h1 h2 h3 => ?_)))⟩
          · rcases Nat.lt_or_ge x (ge_par (ge_K a_leftOf a_rightOf a_treeProd) n y) with q | q
            · have ne : y ≠ x + 1 := fun e => by rw [e, ge_par_1 w hx c0] at q; omega
              have ne2 : y ≠ ge_e (ge_K a_leftOf a_rightOf a_treeProd) n (x + 1) := fun e => by rw [e, ge_par_2 w hx c2] at q; omega
              rw [pk_un ne2, pk_un ne2, pk_un ne, pk_un ne]; exact hL.2.1 y h1 h2 q
            · have ep : ge_par (ge_K a_leftOf a_rightOf a_treeProd) n y = x := by omega
              rcases parx y h1 h2 ep with q' | q'
              · have ne2 : y ≠ ge_e (ge_K a_leftOf a_rightOf a_treeProd) n (x + 1) := by have := q'.1; omega
                rw [ep, q'.2.2, pk_un ne2, pk_un ne2, q'.1, pk_us, pk_us]; exact ⟨rfl, rfl⟩
              · rw [ep, q'.2.2, q'.1, pk_us, pk_us]; exact ⟨rfl, rfl⟩
          · by_cases e : z = x
            · rw [e, pk_us]
            · rw [pk_un e]; exact hL.2.2 z (by omega) h2 h3
theorem gx_link {n : Nat} (hn : n ≤ 24) (w : ge_WF (ge_K a_leftOf a_rightOf a_treeProd) n) (ro : ge_RO a_leftOf a_rightOf a_ruleOp a_ruleA a_ruleB) (hp : ∀ x, x < n → (a_treeProd x).toNatClampNeg < 8 ∧ a_treeProd x = nI (a_treeProd x).toNatClampNeg) (es : f_size = nI n) {post : SX → Prop}
    (hpost : ∀ pa pl se sp, gx_T a_leftOf a_rightOf a_ruleOp a_ruleA a_ruleB a_treeProd pa pl se n → (∀ z, z < n → sp z = nI (ge_e (ge_K a_leftOf a_rightOf a_treeProd) n z - z)) → post (f_symbolLimit, f_productionLimit, f_nodeLimit, f_productionCount, f_verdict, f_size, f_drafting, f_target, f_kept, f_fed, f_open, a_lhsOf, a_leftOf, a_rightOf, a_ruleOp, a_ruleA, a_ruleB, a_argMask, a_userMask, a_graphSet, a_reach, a_treeProd, a_treeToken, pa, pl, se, sp, a_nodeGraph, a_state, a_values, a_oldState, a_oldValues, a_queue, a_stack, a_draftProd, a_draftToken, a_openSymbols)) : wpX_link post (f_symbolLimit, f_productionLimit, f_nodeLimit, f_productionCount, f_verdict, f_size, f_drafting, f_target, f_kept, f_fed, f_open, a_lhsOf, a_leftOf, a_rightOf, a_ruleOp, a_ruleA, a_ruleB, a_argMask, a_userMask, a_graphSet, a_reach, a_treeProd, a_treeToken, a_parent, a_placeOf, a_second, a_span, a_nodeGraph, a_state, a_values, a_oldState, a_oldValues, a_queue, a_stack, a_draftProd, a_draftToken, a_openSymbols) := by
  subst es
  simp only [wpX_link]
  refine nm_e ⟨n + 1, gx_link_7 hn w hp (fun pa pl se sp h => hpost _ _ se sp ⟨hn, w, ro, hp, fun y h1 h2 => ?_, fun x h1 h2 => h.2.2 x (Nat.zero_le _) h1 h2, pk_us⟩ (fun z hz => h.1 z (Nat.zero_le _) hz)) (n + 1) n _ _ _ _ ⟨fun z h1 h2 => by omega, fun y h1 h2 h3 => ?_, fun z h1 h2 => by omega⟩ (Nat.le_refl _) (by omega)⟩
  · rw [pk_un (by omega), pk_un (by omega)]; exact h.2.1 y h1 h2 (Nat.zero_le _)
  · have := (ge_par_spec w h1 h2).1; omega
/-- the graph of x out of those of its children -/
theorem gx_graphAt {n x : Nat} (T : gx_T a_leftOf a_rightOf a_ruleOp a_ruleA a_ruleB a_treeProd a_parent a_placeOf a_second n) (M : gx_AM a_leftOf a_rightOf a_ruleOp a_ruleA a_ruleB a_argMask) (hx : x < n)
    (hc : ∀ q c, ge_ch (ge_K a_leftOf a_rightOf a_treeProd) n x q c → a_nodeGraph c = nI (a_nodeGraph c).toNatClampNeg ∧ (a_nodeGraph c).toNatClampNeg < 16) {post : Int32 → SX → Prop}
    (hpost : ∀ re, post (nI (ge_CG a_leftOf a_rightOf a_ruleOp a_ruleA a_ruleB (a_treeProd x).toNatClampNeg (if 1 ≤ ge_K a_leftOf a_rightOf a_treeProd x then (a_nodeGraph (x + 1)).toNatClampNeg else 0) (if ge_K a_leftOf a_rightOf a_treeProd x = 2 then (a_nodeGraph (ge_e (ge_K a_leftOf a_rightOf a_treeProd) n (x + 1))).toNatClampNeg else 0))) (f_symbolLimit, f_productionLimit, f_nodeLimit, f_productionCount, f_verdict, f_size, f_drafting, f_target, f_kept, f_fed, f_open, a_lhsOf, a_leftOf, a_rightOf, a_ruleOp, a_ruleA, a_ruleB, a_argMask, a_userMask, a_graphSet, re, a_treeProd, a_treeToken, a_parent, a_placeOf, a_second, a_span, a_nodeGraph, a_state, a_values, a_oldState, a_oldValues, a_queue, a_stack, a_draftProd, a_draftToken, a_openSymbols)) :
    wpX_graphAt post (f_symbolLimit, f_productionLimit, f_nodeLimit, f_productionCount, f_verdict, f_size, f_drafting, f_target, f_kept, f_fed, f_open, a_lhsOf, a_leftOf, a_rightOf, a_ruleOp, a_ruleA, a_ruleB, a_argMask, a_userMask, a_graphSet, a_reach, a_treeProd, a_treeToken, a_parent, a_placeOf, a_second, a_span, a_nodeGraph, a_state, a_values, a_oldState, a_oldValues, a_queue, a_stack, a_draftProd, a_draftToken, a_openSymbols) (nI x) := by
  have hn := T.1
  have w := T.2.1
  have hp := T.2.2.2.1 x hx
  have k2 := ge_K_le a_leftOf a_rightOf a_treeProd x
  have xv : vp_in (nI x) 24 := vp_in_nI (by omega) (by decide)
  have ex : (nI x).toNatClampNeg = x := nI_clamp (by omega)
  have kk : ge_kd a_leftOf a_rightOf (a_treeProd x).toNatClampNeg = ge_K a_leftOf a_rightOf a_treeProd x := rfl
  have f49 : ∀ g1 g2, g1 < 16 → g2 < 16 → g1 = (if 1 ≤ ge_K a_leftOf a_rightOf a_treeProd x then (a_nodeGraph (x + 1)).toNatClampNeg else 0) → g2 = (if ge_K a_leftOf a_rightOf a_treeProd x = 2 then (a_nodeGraph (ge_e (ge_K a_leftOf a_rightOf a_treeProd) n (x + 1))).toNatClampNeg else 0) → wX_graphAt_49 post (nI x) (nI g1) (nI g2) f_symbolLimit f_productionLimit f_nodeLimit f_productionCount f_verdict f_size f_drafting f_target f_kept f_fed f_open a_lhsOf a_leftOf a_rightOf a_ruleOp a_ruleA a_ruleB a_argMask a_userMask a_graphSet a_reach a_treeProd a_treeToken a_parent a_placeOf a_second a_span a_nodeGraph a_state a_values a_oldState a_oldValues a_queue a_stack a_draftProd a_draftToken a_openSymbols := by
    intro g1 g2 l1 l2 e1 e2
    unfold wX_graphAt_49
    refine ⟨xv, ?_⟩
    rw [ex, hp.2]
    refine gx_compose hp.1 l1 l2 M (fun re _ => ?_)
    rw [e1, e2]; exact hpost re
  have f28 : ∀ g1, g1 < 16 → g1 = (if 1 ≤ ge_K a_leftOf a_rightOf a_treeProd x then (a_nodeGraph (x + 1)).toNatClampNeg else 0) → wX_graphAt_28 post (nI x) (nI (ge_K a_leftOf a_rightOf a_treeProd x)) (nI g1) f_symbolLimit f_productionLimit f_nodeLimit f_productionCount f_verdict f_size f_drafting f_target f_kept f_fed f_open a_lhsOf a_leftOf a_rightOf a_ruleOp a_ruleA a_ruleB a_argMask a_userMask a_graphSet a_reach a_treeProd a_treeToken a_parent a_placeOf a_second a_span a_nodeGraph a_state a_values a_oldState a_oldValues a_queue a_stack a_draftProd a_draftToken a_openSymbols := by
    intro g1 l1 e1
    unfold wX_graphAt_28
    refine pk_eq (ge_K a_leftOf a_rightOf a_treeProd x) 2 (fun c => ?_) (fun c => f49 g1 0 l1 (by omega) e1 (if_neg c).symm)
    have h2n := ge_e_2n w hx c
    have hs := T.2.2.2.2.2.1 x hx c
    have gc := hc 2 _ (Or.inr ⟨rfl, c, rfl⟩)
    refine ⟨xv, ?_⟩
    rw [ex, hs]
    refine ⟨vp_in_nI (by omega) (by decide), ?_⟩
    rw [nI_clamp (by omega), gc.1]
    exact f49 g1 _ l1 gc.2 e1 (if_pos c).symm
  simp only [wpX_graphAt]
  refine ⟨xv, ?_⟩
  rw [ex, hp.2]
  refine gx_childCount hp.1 ?_
  rw [kk]
  refine pk_lt (ge_K a_leftOf a_rightOf a_treeProd x) 1 (fun c => f28 0 (by omega) (if_neg (by omega)).symm) (fun c => ?_)
  have h1n := ge_e_1n w hx c
  have gc := hc 1 _ (Or.inl ⟨rfl, c, rfl⟩)
  rw [nI_1]
  refine ⟨vp_in_nI (by omega) (by decide), ?_⟩
  rw [nI_clamp (by omega), gc.1]
  exact f28 _ gc.2 (if_pos c).symm
theorem gx_upg_40 {n : Nat} (T : gx_T a_leftOf a_rightOf a_ruleOp a_ruleA a_ruleB a_treeProd a_parent a_placeOf a_second n) (M : gx_AM a_leftOf a_rightOf a_ruleOp a_ruleA a_ruleB a_argMask) {post : SX → Prop}
    (hpost : ∀ ng re, (∀ z, z < n → ng z = nI (ng z).toNatClampNeg ∧ (ng z).toNatClampNeg < 16) → (∀ z, z < n → ge_LC a_leftOf a_rightOf a_ruleOp a_ruleA a_ruleB a_treeProd n (fun z => (ng z).toNatClampNeg) z) → post (f_symbolLimit, f_productionLimit, f_nodeLimit, f_productionCount, f_verdict, f_size, f_drafting, f_target, f_kept, f_fed, f_open, a_lhsOf, a_leftOf, a_rightOf, a_ruleOp, a_ruleA, a_ruleB, a_argMask, a_userMask, a_graphSet, re, a_treeProd, a_treeToken, a_parent, a_placeOf, a_second, a_span, ng, a_state, a_values, a_oldState, a_oldValues, a_queue, a_stack, a_draftProd, a_draftToken, a_openSymbols)) :
    ∀ (fuel s : Nat) (y : Int32) (ng re : Nat → Int32), (∀ z, z < n → ng z = nI (ng z).toNatClampNeg ∧ (ng z).toNatClampNeg < 16) →
      ((y = -1 ∧ ∀ z, z < n → ge_LC a_leftOf a_rightOf a_ruleOp a_ruleA a_ruleB a_treeProd n (fun z => (ng z).toNatClampNeg) z) ∨ ∃ x, y = nI x ∧ x < n ∧ x + s ≤ 23 ∧ ∀ z, z < n → z ≠ x → ge_LC a_leftOf a_rightOf a_ruleOp a_ruleA a_ruleB a_treeProd n (fun z => (ng z).toNatClampNeg) z) → s ≤ 24 → 24 - s < fuel →
      wX_updateGraphs_40 post fuel y (nI s) f_symbolLimit f_productionLimit f_nodeLimit f_productionCount f_verdict f_size f_drafting f_target f_kept f_fed f_open a_lhsOf a_leftOf a_rightOf a_ruleOp a_ruleA a_ruleB a_argMask a_userMask a_graphSet re a_treeProd a_treeToken a_parent a_placeOf a_second a_span ng a_state a_values a_oldState a_oldValues a_queue a_stack a_draftProd a_draftToken a_openSymbols := by
  have hn := T.1
  have w := T.2.1
  intro fuel
  induction fuel with
  | zero => intro s y ng re _ _ _ h; omega
  | succ fuel ih =>
    intro s y ng re hg hy hs hf
    rcases hy with ⟨rfl, hL⟩ | ⟨x, rfl, hx, hxs, hL⟩
    · exact br_c (fun _ => hpost ng re hg hL) (fun _ => br_t (by decide) (hpost ng re hg hL))
    · have xv : vp_in (nI x) 24 := vp_in_nI (by omega) (by decide)
      have ex : (nI x).toNatClampNeg = x := nI_clamp (by omega)
      refine br_f (nI_ge (b := 24) (by omega) (by decide)) (br_f (nI_pos (by omega)) (gx_graphAt T M hx (fun q c hc => hg c (ge_ch_in w hx hc).2.1) (fun re' => ⟨xv, ?_⟩)))
      rw [ex]
      generalize hG : ge_CG a_leftOf a_rightOf a_ruleOp a_ruleA a_ruleB (a_treeProd x).toNatClampNeg (if 1 ≤ ge_K a_leftOf a_rightOf a_treeProd x then (ng (x + 1)).toNatClampNeg else 0) (if ge_K a_leftOf a_rightOf a_treeProd x = 2 then (ng (ge_e (ge_K a_leftOf a_rightOf a_treeProd) n (x + 1))).toNatClampNeg else 0) = g
      have hg16 : g < 16 := by rw [← hG]; exact ge_CG_lt _ _ _ _ _ _ _ _
      have eg : (nI g).toNatClampNeg = g := nI_clamp (by omega)
      by_cases c : nI g = ng x
      · refine br_t c (nm_r (nI_1 s) (ih (s + 1) (-1) ng re' hg (Or.inl ⟨rfl, fun z hz => ?_⟩) (by omega) (by omega)))
        by_cases e : z = x
        · subst e
          unfold ge_LC
          dsimp only
          rw [hG, ← c, eg]
        · exact hL z hz e
      · have hg' : ∀ z, z < n → upd ng x (nI g) z = nI (upd ng x (nI g) z).toNatClampNeg ∧ (upd ng x (nI g) z).toNatClampNeg < 16 := by
          intro z hz
          by_cases e : z = x
          · rw [e, pk_us, eg]; exact ⟨rfl, hg16⟩
          · rw [pk_un e]; exact hg z hz
        have hLx : ge_LC a_leftOf a_rightOf a_ruleOp a_ruleA a_ruleB a_treeProd n (fun z => (upd ng x (nI g) z).toNatClampNeg) x := by
          unfold ge_LC
          dsimp only
          rw [pk_us, eg, ← hG]
          congr 1
          · by_cases k : 1 ≤ ge_K a_leftOf a_rightOf a_treeProd x
            · rw [if_pos k, if_pos k, pk_un (by omega)]
            · rw [if_neg k, if_neg k]
          · by_cases k : ge_K a_leftOf a_rightOf a_treeProd x = 2
            · have := ge_child_in2 w hx k
              rw [if_pos k, if_pos k, pk_un (by omega)]
            · rw [if_neg k, if_neg k]
        refine br_f c ?_
        simp only [wpX_storeGraph, ex]
        refine ⟨xv, nm_e ⟨xv, nm_r (nI_1 s) (ih (s + 1) _ _ re' hg' ?_ (by omega) (by omega))⟩⟩
        rcases Nat.eq_zero_or_pos x with x0 | x0
        · subst x0
          refine Or.inl ⟨T.2.2.2.2.2.2, fun z hz => ?_⟩
          by_cases e : z = 0
          · rw [e]; exact hLx
          · exact ge_LC_upd w hz e (fun y => absurd y (by omega)) (hL z hz e)
        · have ps := ge_par_spec w x0 hx
          refine Or.inr ⟨_, (T.2.2.2.2.1 x x0 hx).1, by omega, by omega, fun z hz hne => ?_⟩
          by_cases e : z = x
          · rw [e]; exact hLx
          · exact ge_LC_upd w hz e (fun _ _ => hne) (hL z hz e)
theorem gx_upg_9 {n t f : Nat} (T : gx_T a_leftOf a_rightOf a_ruleOp a_ruleA a_ruleB a_treeProd a_parent a_placeOf a_second n) (M : gx_AM a_leftOf a_rightOf a_ruleOp a_ruleA a_ruleB a_argMask) (ht : t < n) (hf0 : t + f = ge_e (ge_K a_leftOf a_rightOf a_treeProd) n t) {post : SX → Prop}
    (hpost : ∀ ng re, (∀ z, z < n → ng z = nI (ng z).toNatClampNeg ∧ (ng z).toNatClampNeg < 16) → (∀ z, z < n → ge_LC a_leftOf a_rightOf a_ruleOp a_ruleA a_ruleB a_treeProd n (fun z => (ng z).toNatClampNeg) z) → post (f_symbolLimit, f_productionLimit, f_nodeLimit, f_productionCount, f_verdict, f_size, f_drafting, f_target, f_kept, f_fed, f_open, a_lhsOf, a_leftOf, a_rightOf, a_ruleOp, a_ruleA, a_ruleB, a_argMask, a_userMask, a_graphSet, re, a_treeProd, a_treeToken, a_parent, a_placeOf, a_second, a_span, ng, a_state, a_values, a_oldState, a_oldValues, a_queue, a_stack, a_draftProd, a_draftToken, a_openSymbols)) :
    ∀ (fuel k : Nat) (ng re : Nat → Int32), (∀ z, z < n → (z < t ∨ t + k ≤ z) → ng z = nI (ng z).toNatClampNeg ∧ (ng z).toNatClampNeg < 16) →
      (∀ z, z < n → (z < t ∨ t + k ≤ z) → (0 < t → z ≠ ge_par (ge_K a_leftOf a_rightOf a_treeProd) n t) → ge_LC a_leftOf a_rightOf a_ruleOp a_ruleA a_ruleB a_treeProd n (fun z => (ng z).toNatClampNeg) z) → k ≤ f → k < fuel →
      wX_updateGraphs_9 post (nI t) fuel (nI (t + k) - 1) f_symbolLimit f_productionLimit f_nodeLimit f_productionCount f_verdict f_size f_drafting f_target f_kept f_fed f_open a_lhsOf a_leftOf a_rightOf a_ruleOp a_ruleA a_ruleB a_argMask a_userMask a_graphSet re a_treeProd a_treeToken a_parent a_placeOf a_second a_span ng a_state a_values a_oldState a_oldValues a_queue a_stack a_draftProd a_draftToken a_openSymbols := by
  have hn := T.1
  have w := T.2.1
  have et := ge_e_spec w ht
  intro fuel
  induction fuel with
  | zero => intro k ng re _ _ _ h; omega
  | succ fuel ih =>
    intro k ng re hg hL hk hf
    rcases Nat.eq_zero_or_pos k with z | z
    · subst z
      refine br_t ?_ ⟨vp_in_nI (by omega) (by decide), nm_e ⟨25, ?_⟩⟩
      · rw [Int32.lt_iff_toInt_lt, Nat.add_zero, show nI t - 1 = nI t - nI 1 from rfl, pk_sub_toInt (by omega) (by omega), nI_toInt (by omega)]
        omega
      · rw [nI_clamp (by omega)]
        refine gx_upg_40 T M hpost 25 0 _ ng re (fun z hz => hg z hz (by omega)) ?_ (by omega) (by omega)
        rcases Nat.eq_zero_or_pos t with t0 | t0
        · refine Or.inl ⟨by rw [t0]; exact T.2.2.2.2.2.2, fun z hz => hL z hz (by omega) (fun y => absurd y (by omega))⟩
        · have ps := ge_par_spec w t0 ht
          exact Or.inr ⟨_, (T.2.2.2.2.1 t t0 ht).1, by omega, by omega, fun z hz hne => hL z hz (by omega) (fun _ => hne)⟩
    · obtain ⟨k, rfl⟩ : ∃ j, k = j + 1 := ⟨k - 1, by omega⟩
      have hx : t + k < n := by omega
      have xv : vp_in (nI (t + k)) 24 := vp_in_nI (by omega) (by decide)
      have ex : (nI (t + k)).toNatClampNeg = t + k := nI_clamp (by omega)
      rw [show t + (k + 1) = t + k + 1 by omega, nI_pred]
      refine br_f (nI_nlt (by omega) (by omega)) (gx_graphAt T M hx (fun q c hc => hg c (ge_ch_in w hx hc).2.1 (by have := (ge_ch_in w hx hc).1; omega)) (fun re' => ⟨xv, ?_⟩))
      rw [ex]
      generalize hG : ge_CG a_leftOf a_rightOf a_ruleOp a_ruleA a_ruleB (a_treeProd (t + k)).toNatClampNeg (if 1 ≤ ge_K a_leftOf a_rightOf a_treeProd (t + k) then (ng (t + k + 1)).toNatClampNeg else 0) (if ge_K a_leftOf a_rightOf a_treeProd (t + k) = 2 then (ng (ge_e (ge_K a_leftOf a_rightOf a_treeProd) n (t + k + 1))).toNatClampNeg else 0) = g
      have hg16 : g < 16 := by rw [← hG]; exact ge_CG_lt _ _ _ _ _ _ _ _
      have eg : (nI g).toNatClampNeg = g := nI_clamp (by omega)
      refine nm_e (nm_r (ge_i32_m1 _) (ih k _ re' (fun z hz h => ?_) (fun z hz h hp => ?_) (by omega) (by omega)))
      · by_cases e : z = t + k
        · rw [e, pk_us, eg]; exact ⟨rfl, hg16⟩
        · rw [pk_un e]; exact hg z hz (by omega)
      · by_cases e : z = t + k
        · subst e
          unfold ge_LC
          dsimp only
          rw [pk_us, eg, ← hG]
          congr 1
          · by_cases k' : 1 ≤ ge_K a_leftOf a_rightOf a_treeProd (t + k)
            · rw [if_pos k', if_pos k', pk_un (by omega)]
            · rw [if_neg k', if_neg k']
          · by_cases k' : ge_K a_leftOf a_rightOf a_treeProd (t + k) = 2
            · have := ge_child_in2 w hx k'
              rw [if_pos k', if_pos k', pk_un (by omega)]
            · rw [if_neg k', if_neg k']
        · refine ge_LC_upd w hz e (fun h0 h1 ep => ?_) (hL z hz (by omega) hp)
          have ps := ge_par_spec w h0 h1
          rw [← ep] at ps
          rcases Nat.eq_zero_or_pos k with k0 | k0
          · subst k0
            exact hp (by omega) ep
          · rcases Nat.lt_or_ge z t with q | q
            · have := ps.2.2 t q (by omega); omega
            · omega
theorem gx_updateGraphs {n t f : Nat} (T : gx_T a_leftOf a_rightOf a_ruleOp a_ruleA a_ruleB a_treeProd a_parent a_placeOf a_second n) (M : gx_AM a_leftOf a_rightOf a_ruleOp a_ruleA a_ruleB a_argMask) (ht : t < n) (hf0 : t + f = ge_e (ge_K a_leftOf a_rightOf a_treeProd) n t) (ef : f_fed = nI f)
    (hg : ∀ z, z < n → (z < t ∨ t + f ≤ z) → a_nodeGraph z = nI (a_nodeGraph z).toNatClampNeg ∧ (a_nodeGraph z).toNatClampNeg < 16)
    (hL : ∀ z, z < n → (z < t ∨ t + f ≤ z) → (0 < t → z ≠ ge_par (ge_K a_leftOf a_rightOf a_treeProd) n t) → ge_LC a_leftOf a_rightOf a_ruleOp a_ruleA a_ruleB a_treeProd n (fun z => (a_nodeGraph z).toNatClampNeg) z) {post : SX → Prop}
    (hpost : ∀ ng re, (∀ z, z < n → ng z = nI (ng z).toNatClampNeg ∧ (ng z).toNatClampNeg < 16) → (∀ z, z < n → ge_LC a_leftOf a_rightOf a_ruleOp a_ruleA a_ruleB a_treeProd n (fun z => (ng z).toNatClampNeg) z) → post (f_symbolLimit, f_productionLimit, f_nodeLimit, f_productionCount, f_verdict, f_size, f_drafting, f_target, f_kept, f_fed, f_open, a_lhsOf, a_leftOf, a_rightOf, a_ruleOp, a_ruleA, a_ruleB, a_argMask, a_userMask, a_graphSet, re, a_treeProd, a_treeToken, a_parent, a_placeOf, a_second, a_span, ng, a_state, a_values, a_oldState, a_oldValues, a_queue, a_stack, a_draftProd, a_draftToken, a_openSymbols)) :
    wpX_updateGraphs post (f_symbolLimit, f_productionLimit, f_nodeLimit, f_productionCount, f_verdict, f_size, f_drafting, f_target, f_kept, f_fed, f_open, a_lhsOf, a_leftOf, a_rightOf, a_ruleOp, a_ruleA, a_ruleB, a_argMask, a_userMask, a_graphSet, a_reach, a_treeProd, a_treeToken, a_parent, a_placeOf, a_second, a_span, a_nodeGraph, a_state, a_values, a_oldState, a_oldValues, a_queue, a_stack, a_draftProd, a_draftToken, a_openSymbols) (nI t) := by
  subst ef
  simp only [wpX_updateGraphs]
  exact nm_r (e' := nI (t + f) - 1) (by rw [nI_add]) ⟨f + 1, gx_upg_9 T M ht hf0 hpost (f + 1) f _ _ hg hL (Nat.le_refl _) (by omega)⟩
end
end
section
/-! X: splice, plant, the count of changes -/
/-- a tree of n nodes with everything that X keeps of it -/
def gx_TR (L R O A B pd tk pa pl se sp ng st V rt : Nat → Int32) (n : Nat) : Prop :=
  gx_T L R O A B pd pa pl se n ∧ (∀ z, z < n → sp z = nI (ge_e (ge_K L R pd) n z - z)) ∧ (∀ z, z < n → ng z = nI (ng z).toNatClampNeg ∧ (ng z).toNatClampNeg < 16) ∧
  (∀ z, z < n → ge_LC L R O A B pd n (fun z => (ng z).toNatClampNeg) z) ∧ ge_Sol (4 * n) (ge_AR L R O A B pd n) (ge_vl L R O A B pd tk rt n) (fun i => st i = 1) V ∧ (∀ i, i < 4 * n → st i = 1 ∨ st i = 2)
/-- what the splice does to a node array with new part d -/
def gx_N3 (a a' d : Nat → Int32) (n' t m f : Nat) : Prop := (∀ x, x < t → a' x = a x) ∧ (∀ x, x < f → a' (t + x) = d x) ∧ ∀ z, t + f ≤ z → z < n' → a' z = a (z + m - f)
/-- what the splice does to an instance array outside the new part -/
def gx_I2 (a a' : Nat → Int32) (n' t m f : Nat) : Prop := (∀ i, i < 4 * t + 2 → a' i = a i) ∧ ∀ i, 4 * (t + f) ≤ i → i < 4 * n' → a' i = a (i + 4 * m - 4 * f)
/-- what is to be shown of the new tree ahead of the evaluation -/
def gx_New (L R O A B rt pd tk ng st V : Nat → Int32) (n' t f : Nat) : Prop :=
  ge_WF (ge_K L R pd) n' ∧ t + f = ge_e (ge_K L R pd) n' t ∧ (∀ x, x < n' → (pd x).toNatClampNeg < 8 ∧ pd x = nI (pd x).toNatClampNeg) ∧
  (∀ z, z < n' → (z < t ∨ t + f ≤ z) → ng z = nI (ng z).toNatClampNeg ∧ (ng z).toNatClampNeg < 16) ∧
  (∀ z, z < n' → (z < t ∨ t + f ≤ z) → (0 < t → z ≠ ge_par (ge_K L R pd) n' t) → ge_LC L R O A B pd n' (fun z => (ng z).toNatClampNeg) z) ∧
  ∀ st', (∀ i, i < 4 * n' → (i < 4 * t + 2 ∨ 4 * (t + f) ≤ i) → st' i = st i) → ge_Pre (4 * n') (ge_AR L R O A B pd n') (ge_vl L R O A B pd tk rt n') (fun i => 4 * t + 2 ≤ i ∧ i < 4 * (t + f)) st' V
theorem ge_nz_int {st : Nat → Int32} {a b : Nat} (h2 : 2 ≤ a) (hab : a ≤ b) (hb : b ≤ 96) (h : ∀ i, a ≤ i → i < b → st i = 0) : (b - a) + ge_nz st ≤ 94 := by
  have e1 : ge_cn (fun k => 2 ≤ k ∧ k < 96) 96 = 94 := ge_cn_int 2 96 96 (by omega) (by omega)
  have e2 := ge_cn_split (fun k => 2 ≤ k ∧ k < 96) (fun k => a ≤ k ∧ k < b) 96
  have e3 : ge_cn (fun k => (2 ≤ k ∧ k < 96) ∧ (a ≤ k ∧ k < b)) 96 = b - a := by
    rw [ge_cn_eq (Q := fun k => a ≤ k ∧ k < b) (fun k hk => by constructor <;> intro <;> omega)]
    exact ge_cn_int a 96 b hab hb
  have e4 : ge_nz st ≤ ge_cn (fun k => (2 ≤ k ∧ k < 96) ∧ ¬ (a ≤ k ∧ k < b)) 96 := by
    refine ge_cn_mono fun k hk z => ⟨⟨z.1, hk⟩, fun y => z.2 (h k y.1 y.2)⟩
  omega
section
variable {f_symbolLimit f_productionLimit f_nodeLimit f_productionCount f_verdict f_size f_drafting f_target f_kept f_fed f_open : Int32} {a_lhsOf a_leftOf a_rightOf a_ruleOp a_ruleA a_ruleB a_argMask a_userMask a_graphSet a_reach a_treeProd a_treeToken a_parent a_placeOf a_second a_span a_nodeGraph a_state a_values a_oldState a_oldValues a_queue a_stack a_draftProd a_draftToken a_openSymbols : Nat → Int32}
theorem gx_spl_90 {n t f : Nat} {rt : Nat → Int32} (T : gx_T a_leftOf a_rightOf a_ruleOp a_ruleA a_ruleB a_treeProd a_parent a_placeOf a_second n) (U : gx_UM a_leftOf a_rightOf a_ruleOp a_ruleA a_ruleB a_userMask) (hf0 : 0 < f) (hf1 : t + f ≤ n) (ef : f_fed = nI f)
    (h2 : ∀ i, i < 2 → a_state i = 1)
    (hP : ∀ st', (∀ i, i < 4 * n → (i < 4 * t + 2 ∨ 4 * (t + f) ≤ i) → st' i = a_state i) → ge_Pre (4 * n) (ge_AR a_leftOf a_rightOf a_ruleOp a_ruleA a_ruleB a_treeProd n) (ge_vl a_leftOf a_rightOf a_ruleOp a_ruleA a_ruleB a_treeProd a_treeToken rt n) (fun i => 4 * t + 2 ≤ i ∧ i < 4 * (t + f)) st' a_values) {post : SX → Prop}
    (hpost : ∀ st V q sk, ge_Sol (4 * n) (ge_AR a_leftOf a_rightOf a_ruleOp a_ruleA a_ruleB a_treeProd n) (ge_vl a_leftOf a_rightOf a_ruleOp a_ruleA a_ruleB a_treeProd a_treeToken rt n) (fun i => st i = 1) V → (∀ i, i < 4 * n → st i = 1 ∨ st i = 2) → (∀ i, i < 2 → V i = a_values i) → post (f_symbolLimit, f_productionLimit, f_nodeLimit, f_productionCount, f_verdict, f_size, f_drafting, f_target, f_kept, f_fed, f_open, a_lhsOf, a_leftOf, a_rightOf, a_ruleOp, a_ruleA, a_ruleB, a_argMask, a_userMask, a_graphSet, a_reach, a_treeProd, a_treeToken, a_parent, a_placeOf, a_second, a_span, a_nodeGraph, st, V, a_oldState, a_oldValues, q, sk, a_draftProd, a_draftToken, a_openSymbols)) :
    ∀ (fuel k : Nat) (st q : Nat → Int32), (∀ i, (i < 4 * t + 2 ∨ 4 * t + 2 + k ≤ i) → st i = a_state i) → (∀ i, 4 * t + 2 ≤ i → i < 4 * t + 2 + k → st i = 0) → (∀ j, j < k → q j = nI (4 * t + 2 + j)) → k ≤ 4 * f - 2 → 4 * f - 2 - k < fuel →
      wX_splice_90 post (nI t) f_symbolLimit f_productionLimit f_nodeLimit f_productionCount f_verdict f_size f_drafting f_target f_kept f_fed f_open fuel (nI k) (nI (4 * t + 2 + k)) a_lhsOf a_leftOf a_rightOf a_ruleOp a_ruleA a_ruleB a_argMask a_userMask a_graphSet a_reach a_treeProd a_treeToken a_parent a_placeOf a_second a_span a_nodeGraph st a_values a_oldState a_oldValues q a_stack a_draftProd a_draftToken a_openSymbols := by
  subst ef
  have hn := T.1
  intro fuel
  induction fuel with
  | zero => intro k st q _ _ _ _ h; omega
  | succ fuel ih =>
    intro k st q h1 h0 hq hk hf
    have e1 : 4 * (nI t + nI f) = nI (4 * (t + f)) := by rw [nI_add, ge_m4]
    refine pk_le (4 * (t + f)) (4 * t + 2 + k) (fun z => ?_) (fun z => ?_) e1
    · have ek : k = 4 * f - 2 := by omega
      subst ek
      refine gx_refresh (rt := rt) T U (D := fun i => 4 * t + 2 ≤ i ∧ i < 4 * (t + f)) (hP st (fun i _ h => h1 i (by omega))) (fun i hi d => ⟨⟨i - (4 * t + 2), by omega, ?_⟩, Or.inl (h0 i d.1 (by omega))⟩) (fun i hi => ?_) ?_ (fun j hj => ⟨4 * t + 2 + j, by omega, hq j hj⟩) (fun st' V q' sk s1 s2 s3 => hpost st' V q' sk s1 s2 s3)
      · rw [hq _ (by omega)]; congr 1; omega
      · rw [h1 i (by omega)]; exact h2 i hi
      · have := ge_nz_int (st := st) (a := 4 * t + 2) (b := 4 * (t + f)) (by omega) (by omega) (by omega) (fun i h1 h2 => h0 i h1 (by omega))
        omega
    · have iv : vp_in (nI (4 * t + 2 + k)) 96 := vp_in_nI (by omega) (by decide)
      have ec : (nI (4 * t + 2 + k)).toNatClampNeg = 4 * t + 2 + k := nI_clamp (by omega)
      refine ⟨iv, nm_r (e' := upd st (4 * t + 2 + k) 0) (by rw [ec]) (nm_r (nI_1 k) ⟨vp_in_nI (by omega) (by decide), nm_r (e' := upd q k (nI (4 * t + 2 + k))) (by rw [nI_clamp (by omega)]) (nm_r (nI_1 _) ?_)⟩)⟩
      refine ih (k + 1) _ _ (fun i h => ?_) (fun i h h' => ?_) (fun j hj => ?_) (by omega) (by omega)
      · rw [pk_un (by omega)]; exact h1 i (by omega)
      · by_cases e : i = 4 * t + 2 + k
        · rw [e, pk_us]
        · rw [pk_un e]; exact h0 i h (by omega)
      · by_cases e : j = k
        · rw [e, pk_us]
        · rw [pk_un e]; exact hq j (by omega)
theorem gx_spl_15 {n n' t m f : Nat} {rt : Nat → Int32} (hn' : n' ≤ 24) (hnn : n' + m = n + f) (hn : n ≤ 24) (hf0 : 0 < f) (hf1 : t + f ≤ n') (es : f_size = nI n) (ef : f_fed = nI f) (ro : ge_RO a_leftOf a_rightOf a_ruleOp a_ruleA a_ruleB) (M : gx_AM a_leftOf a_rightOf a_ruleOp a_ruleA a_ruleB a_argMask) (U : gx_UM a_leftOf a_rightOf a_ruleOp a_ruleA a_ruleB a_userMask)
    (h2 : ∀ i, i < 2 → a_state i = 1) {post : SX → Prop}
    (H : ∀ pd tk, (∀ x, x < t ∨ t + f ≤ x → pd x = a_treeProd x) → (∀ x, x < f → pd (t + x) = a_draftProd x) → (∀ x, x < t ∨ t + f ≤ x → tk x = a_treeToken x) → (∀ x, x < f → tk (t + x) = a_draftToken x) → gx_New a_leftOf a_rightOf a_ruleOp a_ruleA a_ruleB rt pd tk a_nodeGraph a_state a_values n' t f)
    (hpost : ∀ pd tk pa pl se sp ng st V q sk re, (∀ x, x < t ∨ t + f ≤ x → pd x = a_treeProd x) → (∀ x, x < f → pd (t + x) = a_draftProd x) → (∀ x, x < t ∨ t + f ≤ x → tk x = a_treeToken x) → (∀ x, x < f → tk (t + x) = a_draftToken x) →
      gx_TR a_leftOf a_rightOf a_ruleOp a_ruleA a_ruleB pd tk pa pl se sp ng st V rt n' → (∀ i, i < 2 → V i = a_values i) →
      post (f_symbolLimit, f_productionLimit, f_nodeLimit, f_productionCount, f_verdict, nI n', f_drafting, f_target, f_kept, f_fed, f_open, a_lhsOf, a_leftOf, a_rightOf, a_ruleOp, a_ruleA, a_ruleB, a_argMask, a_userMask, a_graphSet, re, pd, tk, pa, pl, se, sp, ng, st, V, a_oldState, a_oldValues, q, sk, a_draftProd, a_draftToken, a_openSymbols)) :
    ∀ (fuel k : Nat) (pd tk : Nat → Int32), (∀ x, x < t ∨ t + k ≤ x → pd x = a_treeProd x) → (∀ x, x < k → pd (t + x) = a_draftProd x) → (∀ x, x < t ∨ t + k ≤ x → tk x = a_treeToken x) → (∀ x, x < k → tk (t + x) = a_draftToken x) → k ≤ f → f - k < fuel →
      wX_splice_15 post (nI t) (nI m) f_symbolLimit f_productionLimit f_nodeLimit f_productionCount f_verdict f_size f_drafting f_target f_kept f_fed f_open fuel (nI k) a_lhsOf a_leftOf a_rightOf a_ruleOp a_ruleA a_ruleB a_argMask a_userMask a_graphSet a_reach pd tk a_parent a_placeOf a_second a_span a_nodeGraph a_state a_values a_oldState a_oldValues a_queue a_stack a_draftProd a_draftToken a_openSymbols := by
  subst es ef
  intro fuel
  induction fuel with
  | zero => intro k pd tk _ _ _ _ _ h; omega
  | succ fuel ih =>
    intro k pd tk p1 p2 t1 t2 hk hf
    refine pk_le f k (fun z => ?_) (fun z => ?_)
    · have ek : k = f := by omega
      subst ek
      obtain ⟨w, we, wp, wg, wl, wP⟩ := H pd tk p1 p2 t1 t2
      refine nm_r (e' := nI n') (by rw [ge_mvI (by omega)]; congr 1; omega) (gx_link hn' w ro wp rfl (fun pa pl se sp T hsp => gx_updateGraphs T M (by omega) we rfl wg wl (fun ng re hg hl => nm_r (e' := nI (4 * t + 2)) (by rw [ge_m4, ge_p2]) ⟨4 * k, ?_⟩)))
      exact gx_spl_90 T U hf0 hf1 rfl h2 wP (fun st V q sk s1 s2 s3 => hpost pd tk pa pl se sp ng st V q sk re p1 p2 t1 t2 ⟨T, hsp, hg, hl, s1, s2⟩ s3) (4 * k) 0 a_state a_queue (fun _ _ => rfl) (fun i h h' => by omega) (fun j h => absurd h (Nat.not_lt_zero _)) (by omega) (by omega)
    · have kv : vp_in (nI k) 24 := vp_in_nI (by omega) (by decide)
      have xv : vp_in (nI (t + k)) 24 := vp_in_nI (by omega) (by decide)
      have ek : (nI k).toNatClampNeg = k := nI_clamp (by omega)
      have ex : (nI (t + k)).toNatClampNeg = t + k := nI_clamp (by omega)
      have ea : nI t + nI k = nI (t + k) := nI_add t k
      rw [ea, ek, ex]
      refine ⟨kv, xv, nm_e ⟨kv, xv, nm_e (nm_r (nI_1 k) (ih (k + 1) _ _ (fun x h => ?_) (fun x h => ?_) (fun x h => ?_) (fun x h => ?_) (by omega) (by omega)))⟩⟩
      · rw [pk_un (by omega)]; exact p1 x (by omega)
      · by_cases e : x = k
        · rw [e, pk_us]
        · rw [pk_un (by omega)]; exact p2 x (by omega)
      · rw [pk_un (by omega)]; exact t1 x (by omega)
      · by_cases e : x = k
        · rw [e, pk_us]
        · rw [pk_un (by omega)]; exact t2 x (by omega)
theorem gx_splice {n n' t m f : Nat} {rt : Nat → Int32} (hn' : n' ≤ 24) (hnn : n' + m = n + f) (hn : n ≤ 24) (hm : t + m ≤ n) (hf0 : 0 < f) (hf1 : t + f ≤ n') (es : f_size = nI n) (ef : f_fed = nI f) (ro : ge_RO a_leftOf a_rightOf a_ruleOp a_ruleA a_ruleB) (M : gx_AM a_leftOf a_rightOf a_ruleOp a_ruleA a_ruleB a_argMask) (U : gx_UM a_leftOf a_rightOf a_ruleOp a_ruleA a_ruleB a_userMask)
    (h2 : ∀ i, i < 2 → a_state i = 1) {post : SX → Prop}
    (H : ∀ pd tk ng st V, gx_N3 a_treeProd pd a_draftProd n' t m f → gx_N3 a_treeToken tk a_draftToken n' t m f → (∀ x, x < t → ng x = a_nodeGraph x) → (∀ z, t + f ≤ z → z < n' → ng z = a_nodeGraph (z + m - f)) → gx_I2 a_state st n' t m f → gx_I2 a_values V n' t m f →
      gx_New a_leftOf a_rightOf a_ruleOp a_ruleA a_ruleB rt pd tk ng st V n' t f)
    (hpost : ∀ pd tk pa pl se sp ng st V q sk re, gx_N3 a_treeProd pd a_draftProd n' t m f → gx_N3 a_treeToken tk a_draftToken n' t m f →
      gx_TR a_leftOf a_rightOf a_ruleOp a_ruleA a_ruleB pd tk pa pl se sp ng st V rt n' → (∀ i, i < 2 → V i = a_values i) →
      post (f_symbolLimit, f_productionLimit, f_nodeLimit, f_productionCount, f_verdict, nI n', f_drafting, f_target, f_kept, f_fed, f_open, a_lhsOf, a_leftOf, a_rightOf, a_ruleOp, a_ruleA, a_ruleB, a_argMask, a_userMask, a_graphSet, re, pd, tk, pa, pl, se, sp, ng, st, V, a_oldState, a_oldValues, q, sk, a_draftProd, a_draftToken, a_openSymbols)) :
    wpX_splice post (f_symbolLimit, f_productionLimit, f_nodeLimit, f_productionCount, f_verdict, f_size, f_drafting, f_target, f_kept, f_fed, f_open, a_lhsOf, a_leftOf, a_rightOf, a_ruleOp, a_ruleA, a_ruleB, a_argMask, a_userMask, a_graphSet, a_reach, a_treeProd, a_treeToken, a_parent, a_placeOf, a_second, a_span, a_nodeGraph, a_state, a_values, a_oldState, a_oldValues, a_queue, a_stack, a_draftProd, a_draftToken, a_openSymbols) (nI t) (nI m) := by
  subst ef
  simp only [wpX_splice]
  rw [nI_add]
  refine gx_shiftTail hn (by omega) hm (by omega) es (fun src pd0 tk0 ng0 st0 V0 hS s1 s2 => ⟨f + 1, ?_⟩)
  obtain ⟨a1, a2, a3, a4, a5⟩ := hS
  have lo4 : ∀ i, i < 4 * t + 2 → 4 * src (i / 4) + i % 4 = i := fun i h => by rw [s1 (i / 4) (by omega) (by omega)]; omega
  have hi4 : ∀ i, 4 * (t + f) ≤ i → i < 4 * n' → 4 * src (i / 4) + i % 4 = i + 4 * m - 4 * f := fun i h h' => by rw [s2 (i / 4) (by omega) (by omega)]; omega
  have N3 : ∀ (u u0 u1 d : Nat → Int32), (∀ z, u0 z = u (src z)) → (∀ x, x < t ∨ t + f ≤ x → u1 x = u0 x) → (∀ x, x < f → u1 (t + x) = d x) → gx_N3 u u1 d n' t m f := by
    intro u u0 u1 d e1 e2 e3
    refine ⟨fun x h => ?_, e3, fun z h h' => ?_⟩
    · rw [e2 x (Or.inl h), e1, s1 x (by omega) (by omega)]
    · rw [e2 z (Or.inr h), e1, s2 z h (by omega)]
  refine gx_spl_15 (rt := rt) (a_treeProd := pd0) (a_treeToken := tk0) (a_nodeGraph := ng0) (a_state := st0) (a_values := V0) hn' hnn hn hf0 hf1 es rfl ro M U (fun i hi => ?_) (fun pd tk p1 p2 t1 t2 => ?_) (fun pd tk pa pl se sp ng st V q sk re p1 p2 t1 t2 TR hV => ?_) (f + 1) 0 pd0 tk0 (fun _ _ => rfl) (fun x h => absurd h (Nat.not_lt_zero _)) (fun _ _ => rfl) (fun x h => absurd h (Nat.not_lt_zero _)) (Nat.zero_le _) (by omega)
  · rw [a4, lo4 i (by omega)]; exact h2 i hi
  · refine H pd tk ng0 st0 V0 (N3 _ _ _ _ a1 p1 p2) (N3 _ _ _ _ a2 t1 t2) (fun x h => ?_) (fun z h h' => ?_) ⟨fun i h => ?_, fun i h h' => ?_⟩ ⟨fun i h => ?_, fun i h h' => ?_⟩
    · rw [a3, s1 x (by omega) (by omega)]
    · rw [a3, s2 z h (by omega)]
    · rw [a4, lo4 i h]
    · rw [a4, hi4 i h h']
    · rw [a5, lo4 i h]
    · rw [a5, hi4 i h h']
  · refine hpost pd tk pa pl se sp ng st V q sk re (N3 _ _ _ _ a1 p1 p2) (N3 _ _ _ _ a2 t1 t2) TR (fun i hi => ?_)
    rw [hV i hi, a5, lo4 i (by omega)]
theorem gx_remember {n : Nat} (hn : n ≤ 24) (es : f_size = nI n) {post : SX → Prop} (hpost : ∀ os ov, (∀ i, i < 4 * n → os i = a_state i) → (∀ i, i < 4 * n → ov i = a_values i) → post (f_symbolLimit, f_productionLimit, f_nodeLimit, f_productionCount, f_verdict, f_size, f_drafting, f_target, f_kept, f_fed, f_open, a_lhsOf, a_leftOf, a_rightOf, a_ruleOp, a_ruleA, a_ruleB, a_argMask, a_userMask, a_graphSet, a_reach, a_treeProd, a_treeToken, a_parent, a_placeOf, a_second, a_span, a_nodeGraph, a_state, a_values, os, ov, a_queue, a_stack, a_draftProd, a_draftToken, a_openSymbols)) : wpX_rememberInstances post (f_symbolLimit, f_productionLimit, f_nodeLimit, f_productionCount, f_verdict, f_size, f_drafting, f_target, f_kept, f_fed, f_open, a_lhsOf, a_leftOf, a_rightOf, a_ruleOp, a_ruleA, a_ruleB, a_argMask, a_userMask, a_graphSet, a_reach, a_treeProd, a_treeToken, a_parent, a_placeOf, a_second, a_span, a_nodeGraph, a_state, a_values, a_oldState, a_oldValues, a_queue, a_stack, a_draftProd, a_draftToken, a_openSymbols) := by
  subst es
  have key : ∀ (fuel k : Nat) (os ov : Nat → Int32), (∀ i, i < k → os i = a_state i) → (∀ i, i < k → ov i = a_values i) → k ≤ 4 * n → 4 * n - k < fuel → wX_rememberInstances_2 post f_symbolLimit f_productionLimit f_nodeLimit f_productionCount f_verdict (nI n) f_drafting f_target f_kept f_fed f_open fuel (nI k) a_lhsOf a_leftOf a_rightOf a_ruleOp a_ruleA a_ruleB a_argMask a_userMask a_graphSet a_reach a_treeProd a_treeToken a_parent a_placeOf a_second a_span a_nodeGraph a_state a_values os ov a_queue a_stack a_draftProd a_draftToken a_openSymbols := by
    intro fuel
    induction fuel with
    | zero => intro k os ov _ _ _ h; omega
    | succ fuel ih =>
      intro k os ov h1 h2 hk hf
      refine pk_le (4 * n) k (fun z => ?_) (fun z => ?_) (ge_m4 n)
      · have e : k = 4 * n := by omega
        subst e; exact hpost os ov h1 h2
      · have kv : vp_in (nI k) 96 := vp_in_nI (by omega) (by decide)
        have ek : (nI k).toNatClampNeg = k := nI_clamp (by omega)
        rw [ek]
        refine ⟨kv, kv, nm_e ⟨kv, kv, nm_e (nm_r (nI_1 k) (ih (k + 1) _ _ (fun i h => ?_) (fun i h => ?_) (by omega) (by omega)))⟩⟩
        · by_cases e : i = k
          · rw [e, pk_us]
          · rw [pk_un e]; exact h1 i (by omega)
        · by_cases e : i = k
          · rw [e, pk_us]
          · rw [pk_un e]; exact h2 i (by omega)
  simp only [wpX_rememberInstances]
  exact ⟨4 * n + 1, key _ 0 _ _ (fun i h => absurd h (Nat.not_lt_zero _)) (fun i h => absurd h (Nat.not_lt_zero _)) (Nat.zero_le _) (by omega)⟩
/-- the place of the old instance i now -/
def ge_now (t m f i : Nat) : Nat := if i / 4 ≤ t then i else i + 4 * f - 4 * m
def gx_chg (os ov st V : Nat → Int32) (t m f i : Nat) : Prop := (i / 4 ≤ t ∨ t + m ≤ i / 4) ∧ (¬ os i = st (ge_now t m f i) ∨ (st (ge_now t m f i) = 1 ∧ ¬ ov i = V (ge_now t m f i)))
theorem gx_countChanges {n n0 t m f : Nat} (hn : n ≤ 24) (hn0 : n0 ≤ 24) (hnn : n + m = n0 + f) (hf : t + f ≤ n) (hf0 : 0 < f) (hm : t + m ≤ n0) (hm0 : 0 < m) (es : f_size = nI n) {post : Int32 → Prop}
    (hpost : post (nI (ge_cn (gx_chg a_oldState a_oldValues a_state a_values t m f) (4 * n0)))) : wpX_countChanges post (f_symbolLimit, f_productionLimit, f_nodeLimit, f_productionCount, f_verdict, f_size, f_drafting, f_target, f_kept, f_fed, f_open, a_lhsOf, a_leftOf, a_rightOf, a_ruleOp, a_ruleA, a_ruleB, a_argMask, a_userMask, a_graphSet, a_reach, a_treeProd, a_treeToken, a_parent, a_placeOf, a_second, a_span, a_nodeGraph, a_state, a_values, a_oldState, a_oldValues, a_queue, a_stack, a_draftProd, a_draftToken, a_openSymbols) (nI t) (nI m) (nI f) := by
  subst es
  have key : ∀ (fuel k : Nat), k ≤ 4 * n0 → 4 * n0 - k < fuel → wX_countChanges_18 post (nI t) (nI m) (nI f) (nI (4 * n0)) f_symbolLimit f_productionLimit f_nodeLimit f_productionCount f_verdict (nI n) f_drafting f_target f_kept f_fed f_open a_lhsOf a_leftOf a_rightOf a_ruleOp a_ruleA a_ruleB a_argMask a_userMask a_graphSet a_reach a_treeProd a_treeToken a_parent a_placeOf a_second a_span a_nodeGraph a_state a_values a_oldState a_oldValues a_queue a_stack a_draftProd a_draftToken a_openSymbols fuel (nI (ge_cn (gx_chg a_oldState a_oldValues a_state a_values t m f) k)) (nI k) := by
    intro fuel
    induction fuel with
    | zero => intro k _ h; omega
    | succ fuel ih =>
      intro k hk hf'
      refine pk_le (4 * n0) k (fun z => ?_) (fun z => ?_)
      · have e : k = 4 * n0 := by omega
        subst e; exact hpost
      · refine nm_r (ge_shr2 (by omega)) ?_
        have ih' := ih (k + 1) (by omega) (by omega)
        have yes : gx_chg a_oldState a_oldValues a_state a_values t m f k → wX_countChanges_18 post (nI t) (nI m) (nI f) (nI (4 * n0)) f_symbolLimit f_productionLimit f_nodeLimit f_productionCount f_verdict (nI n) f_drafting f_target f_kept f_fed f_open a_lhsOf a_leftOf a_rightOf a_ruleOp a_ruleA a_ruleB a_argMask a_userMask a_graphSet a_reach a_treeProd a_treeToken a_parent a_placeOf a_second a_span a_nodeGraph a_state a_values a_oldState a_oldValues a_queue a_stack a_draftProd a_draftToken a_openSymbols fuel (nI (ge_cn (gx_chg a_oldState a_oldValues a_state a_values t m f) k + 1)) (nI (k + 1)) := by
          intro c
          have e : ge_cn (gx_chg a_oldState a_oldValues a_state a_values t m f) (k + 1) = ge_cn (gx_chg a_oldState a_oldValues a_state a_values t m f) k + 1 := by simp only [ge_cn]; rw [ge_bt c]
          rw [← e]; exact ih'
        have no : ¬ gx_chg a_oldState a_oldValues a_state a_values t m f k → wX_countChanges_18 post (nI t) (nI m) (nI f) (nI (4 * n0)) f_symbolLimit f_productionLimit f_nodeLimit f_productionCount f_verdict (nI n) f_drafting f_target f_kept f_fed f_open a_lhsOf a_leftOf a_rightOf a_ruleOp a_ruleA a_ruleB a_argMask a_userMask a_graphSet a_reach a_treeProd a_treeToken a_parent a_placeOf a_second a_span a_nodeGraph a_state a_values a_oldState a_oldValues a_queue a_stack a_draftProd a_draftToken a_openSymbols fuel (nI (ge_cn (gx_chg a_oldState a_oldValues a_state a_values t m f) k)) (nI (k + 1)) := by
          intro c
          have e : ge_cn (gx_chg a_oldState a_oldValues a_state a_values t m f) (k + 1) = ge_cn (gx_chg a_oldState a_oldValues a_state a_values t m f) k := by simp only [ge_cn]; rw [ge_bf c]; rfl
          rw [← e]; exact ih'
        have c64 : (k / 4 ≤ t ∨ t + m ≤ k / 4) → ∀ z0, z0 = nI (ge_now t m f k) → wX_countChanges_64 post (wX_countChanges_18 post (nI t) (nI m) (nI f) (nI (4 * n0)) f_symbolLimit f_productionLimit f_nodeLimit f_productionCount f_verdict (nI n) f_drafting f_target f_kept f_fed f_open a_lhsOf a_leftOf a_rightOf a_ruleOp a_ruleA a_ruleB a_argMask a_userMask a_graphSet a_reach a_treeProd a_treeToken a_parent a_placeOf a_second a_span a_nodeGraph a_state a_values a_oldState a_oldValues a_queue a_stack a_draftProd a_draftToken a_openSymbols fuel) (nI t) (nI m) (nI f) (nI (ge_cn (gx_chg a_oldState a_oldValues a_state a_values t m f) k)) (nI (4 * n0)) (nI k) z0 f_symbolLimit f_productionLimit f_nodeLimit f_productionCount f_verdict (nI n) f_drafting f_target f_kept f_fed f_open a_lhsOf a_leftOf a_rightOf a_ruleOp a_ruleA a_ruleB a_argMask a_userMask a_graphSet a_reach a_treeProd a_treeToken a_parent a_placeOf a_second a_span a_nodeGraph a_state a_values a_oldState a_oldValues a_queue a_stack a_draftProd a_draftToken a_openSymbols := by
          intro hc z0 ez
          subst ez
          have lt : ge_now t m f k < 96 := by unfold ge_now; split <;> omega
          have kv : vp_in (nI k) 96 := vp_in_nI (by omega) (by decide)
          have zv : vp_in (nI (ge_now t m f k)) 96 := vp_in_nI lt (by decide)
          have ek : (nI k).toNatClampNeg = k := nI_clamp (by omega)
          have ez : (nI (ge_now t m f k)).toNatClampNeg = ge_now t m f k := nI_clamp (by omega)
          unfold wX_countChanges_64
          rw [ek, ez]
          refine ⟨kv, zv, br_c (fun q => ⟨zv, br_c (fun q2 => ⟨kv, zv, br_c (fun q3 => nm_r (nI_1 k) (no ?_)) (fun q3 => nm_r (nI_1 _) (nm_r (nI_1 k) (yes ?_)))⟩) (fun q2 => nm_r (nI_1 k) (no ?_))⟩) (fun q => nm_r (nI_1 _) (nm_r (nI_1 k) (yes ⟨hc, Or.inl q⟩)))⟩
          · rintro ⟨_, y | y⟩
            · exact y q
            · exact y.2 q3
          · exact ⟨hc, Or.inr ⟨q2, q3⟩⟩
          · rintro ⟨_, y | y⟩
            · exact y q
            · exact q2 y.1
        have c45 : (k / 4 ≤ t ∨ t + m ≤ k / 4) → wX_countChanges_45 post (wX_countChanges_18 post (nI t) (nI m) (nI f) (nI (4 * n0)) f_symbolLimit f_productionLimit f_nodeLimit f_productionCount f_verdict (nI n) f_drafting f_target f_kept f_fed f_open a_lhsOf a_leftOf a_rightOf a_ruleOp a_ruleA a_ruleB a_argMask a_userMask a_graphSet a_reach a_treeProd a_treeToken a_parent a_placeOf a_second a_span a_nodeGraph a_state a_values a_oldState a_oldValues a_queue a_stack a_draftProd a_draftToken a_openSymbols fuel) (nI t) (nI m) (nI f) (nI (ge_cn (gx_chg a_oldState a_oldValues a_state a_values t m f) k)) (nI (4 * n0)) (nI k) (nI (k / 4)) f_symbolLimit f_productionLimit f_nodeLimit f_productionCount f_verdict (nI n) f_drafting f_target f_kept f_fed f_open a_lhsOf a_leftOf a_rightOf a_ruleOp a_ruleA a_ruleB a_argMask a_userMask a_graphSet a_reach a_treeProd a_treeToken a_parent a_placeOf a_second a_span a_nodeGraph a_state a_values a_oldState a_oldValues a_queue a_stack a_draftProd a_draftToken a_openSymbols := by
          intro hc
          unfold wX_countChanges_45
          refine pk_lt t (k / 4) (fun q => c64 hc _ ?_) (fun q => c64 hc _ ?_)
          · unfold ge_now; rw [if_neg (by omega), show 4 * (nI f - nI m) = nI (4 * f) - nI (4 * m) by rw [← ge_m4, ← ge_m4]; grind, ge_mvI (by omega)]
          · unfold ge_now; rw [if_pos q]
        refine pk_le (k / 4) t (fun q => c45 (Or.inl q)) (fun q => ?_)
        refine pk_lt (k / 4) (t + m) (fun q2 => nm_r (nI_1 k) (no ?_)) (fun q2 => c45 (Or.inr q2)) rfl (nI_add t m)
        rintro ⟨y, _⟩; omega
  simp only [wpX_countChanges]
  refine nm_r (e' := nI (4 * n0)) (by rw [nI_add, pk_sub (by omega), ge_m4]; congr 1; omega) ⟨4 * n0 + 1, key _ 0 (Nat.zero_le _) (by omega)⟩
end
end
section
/-! Y: kids, defined, end, inst -/
def gy_G (lh L R O A B sy ru : Nat → Int32) : Prop := (∀ p, p < 8 → sy (3 * p) = lh p ∧ sy (3 * p + 1) = L p ∧ sy (3 * p + 2) = R p) ∧ (∀ r, r < 96 → ru (3 * r) = O r ∧ ru (3 * r + 1) = A r ∧ ru (3 * r + 2) = B r)
/-- Y's tree holds X's -/
def gy_T (pd tk tr : Nat → Int32) (n : Nat) : Prop := ∀ x, x < n → tr (2 * x) = pd x ∧ tr (2 * x + 1) = tk x
theorem ge_rem4 {o : Nat} (h : o < 2 ^ 31) : nI o - nI o / 4 * 4 = nI (o % 4) := pk_rem (d := 4) h (by omega) (by omega)
theorem ge_rem12 {o : Nat} (h : o < 2 ^ 31) : nI o - nI o / 12 * 12 = nI (o % 12) := pk_rem (d := 12) h (by omega) (by omega)
theorem ge_rem24 {o : Nat} (h : o < 2 ^ 31) : nI o - nI o / 24 * 24 = nI (o % 24) := pk_rem (d := 24) h (by omega) (by omega)
theorem ge_div12 {o : Nat} (h : o < 2 ^ 31) : nI o / 12 = nI (o / 12) := pk_div (d := 12) h (by omega) (by omega)
theorem ge_div4 {o : Nat} (h : o < 2 ^ 31) : nI o / 4 = nI (o / 4) := pk_div (d := 4) h (by omega) (by omega)
section
variable {y_S y_P y_N y_count y_verdict y_size y_fed y_holes y_target y_drafting : Int32} {b_sym b_rules b_root b_want b_tree b_oldTree b_draft b_val b_oldVal b_known b_oldKnown b_has b_dep : Nat → Int32}
variable {lh L R O A B pd tk : Nat → Int32}
theorem gy_kids {p : Nat} (G : gy_G lh L R O A B b_sym b_rules) (hp : p < 8) {post : Int32 → Prop} (h : post (nI (ge_kd L R p))) : wpY_kids post (y_S, y_P, y_N, y_count, y_verdict, y_size, y_fed, y_holes, y_target, y_drafting, b_sym, b_rules, b_root, b_want, b_tree, b_oldTree, b_draft, b_val, b_oldVal, b_known, b_oldKnown, b_has, b_dep) (nI p) := by
  obtain ⟨g0, g1, g2⟩ := G.1 p hp
  have v1 : vp_in (nI (3 * p + 1)) 24 := vp_in_nI (by omega) (by decide)
  have v2 : vp_in (nI (3 * p + 2)) 24 := vp_in_nI (by omega) (by decide)
  unfold ge_kd at h
  simp only [wpY_kids, ge_m3, nI_1, ge_p2, nI_clamp (show 3 * p + 1 < 2 ^ 31 by omega), nI_clamp (show 3 * p + 2 < 2 ^ 31 by omega), g1, g2]
  refine ⟨v1, ?_⟩
  by_cases c : 0 ≤ L p
  · rw [if_pos c] at h
    refine br_t c ⟨v2, ?_⟩
    by_cases c2 : 0 ≤ R p
    · rw [if_pos c2] at h; exact br_t c2 h
    · rw [if_neg c2] at h; exact br_f c2 h
  · rw [if_neg c] at h; exact br_f c h
theorem gy_defined {p o : Nat} (G : gy_G lh L R O A B b_sym b_rules) (hp : p < 8) (ho : o < 2 ^ 31) {post : Int32 → Prop} (h : post (ge_dI (ge_kd L R p) o)) : wpY_defined post (y_S, y_P, y_N, y_count, y_verdict, y_size, y_fed, y_holes, y_target, y_drafting, b_sym, b_rules, b_root, b_want, b_tree, b_oldTree, b_draft, b_val, b_oldVal, b_known, b_oldKnown, b_has, b_dep) (nI p) (nI o) := by
  simp only [wpY_defined]
  refine br_f (nI_pos ho) (gy_kids G hp ?_)
  have k2 := ge_kd_le L R p
  have key : ∀ v, ge_dI (ge_kd L R p) o = v → post v := fun v e => e ▸ h
  rw [ge_m4, ge_p3]
  refine pk_lt (4 * ge_kd L R p + 3) o (fun h1 => ?_) (fun h1 => ?_)
  · exact key _ (ge_dI_f (fun z => by have := (ge_df_iff.mp z).1; omega))
  · refine pk_le 4 o (fun h2 => ⟨by decide, ?_⟩) (fun h2 => ?_)
    · rw [ge_rem4 ho]
      refine pk_le 2 (o % 4) (fun h3 => ?_) (fun h3 => ?_)
      · exact key _ (ge_dI_f (fun z => by have := ge_df_iff.mp z; omega))
      · exact key _ (ge_dI_t (ge_df_iff.mpr ⟨by omega, Or.inr ⟨h2, h3⟩⟩))
    · refine pk_lt o 2 (fun h3 => ?_) (fun h3 => ?_)
      · exact key _ (ge_dI_f (fun z => by have := ge_df_iff.mp z; omega))
      · exact key _ (ge_dI_t (ge_df_iff.mpr ⟨by omega, Or.inl ⟨h2, h3⟩⟩))
theorem gy_defined_neg {p o : Int32} (ho : o < 0) {post : Int32 → Prop} (h : post 0) : wpY_defined post (y_S, y_P, y_N, y_count, y_verdict, y_size, y_fed, y_holes, y_target, y_drafting, b_sym, b_rules, b_root, b_want, b_tree, b_oldTree, b_draft, b_val, b_oldVal, b_known, b_oldKnown, b_has, b_dep) p o := by
  simp only [wpY_defined]
  exact br_t ho h
theorem gy_end {n x : Nat} (hn : n ≤ 24) (G : gy_G lh L R O A B b_sym b_rules) (w : ge_WF (ge_K L R pd) n) (hp : ∀ x, x < n → (pd x).toNatClampNeg < 8 ∧ pd x = nI (pd x).toNatClampNeg) (T : gy_T pd tk b_tree n) (es : y_size = nI n) (hx : x < n) {post : Int32 → Prop}
    (h : post (nI (ge_e (ge_K L R pd) n x))) : wpY_end post (y_S, y_P, y_N, y_count, y_verdict, y_size, y_fed, y_holes, y_target, y_drafting, b_sym, b_rules, b_root, b_want, b_tree, b_oldTree, b_draft, b_val, b_oldVal, b_known, b_oldKnown, b_has, b_dep) (nI x) := by
  subst es
  have ex := ge_e_spec w hx
  have eh := ge_e_H w hx
  have hH : ∀ i, i ≤ n → ge_H (ge_K L R pd) i ≤ i + 1 := by
    intro i
    induction i with
    | zero => intro _; exact Nat.le_refl _
    | succ i ih =>
      intro hi
      have := ih (by omega)
      have := ge_K_le L R pd i
      simp only [ge_H]; omega
  have key : ∀ (fuel i : Nat), x ≤ i → i ≤ ge_e (ge_K L R pd) n x → ge_e (ge_K L R pd) n x - i < fuel → wY_end_4 post y_S y_P y_N y_count y_verdict (nI n) y_fed y_holes y_target y_drafting b_sym b_rules b_root b_want b_tree b_oldTree b_draft b_val b_oldVal b_known b_oldKnown b_has b_dep fuel (nI i) (nI (ge_H (ge_K L R pd) i + 1 - ge_H (ge_K L R pd) x)) := by
    intro fuel
    induction fuel with
    | zero => intro i _ _ h; omega
    | succ fuel ih =>
      intro i h1 h2 hf
      have hi := hH i (by omega)
      rcases Nat.lt_or_ge i (ge_e (ge_K L R pd) n x) with z | z
      · have hge : ge_H (ge_K L R pd) x ≤ ge_H (ge_K L R pd) i := by
          rcases Nat.lt_or_ge x i with y | y
          · exact ex.2.2.2 i y z
          · rw [show i = x by omega]; exact Nat.le_refl _
        have hs := ge_H_s w (j := i) (by omega)
        have k2 := ge_K_le L R pd i
        refine br_f (nI_nle (by omega) (by omega)) (br_f (nI_ge (by omega) (by omega)) ?_)
        rw [ge_m2, nI_clamp (by omega), (T i (by omega)).1, (hp i (by omega)).2]
        refine ⟨vp_in_nI (by omega) (by decide), gy_kids G (hp i (by omega)).1 (nm_r (e' := nI (ge_H (ge_K L R pd) (i + 1) + 1 - ge_H (ge_K L R pd) x)) ?_ (nm_r (nI_1 i) (ih (i + 1) (by omega) (by omega) (by omega))))⟩
        show nI _ + (nI (ge_K L R pd i) - nI 1) = _
        rw [ge_mvI (by omega)]; congr 1; omega
      · have e : i = ge_e (ge_K L R pd) n x := by omega
        subst e
        rw [eh, Nat.sub_self]
        exact br_t (by decide) h
  simp only [wpY_end]
  have k0 := key (ge_e (ge_K L R pd) n x + 1) x (Nat.le_refl _) (by omega) (by omega)
  rw [show ge_H (ge_K L R pd) x + 1 - ge_H (ge_K L R pd) x = 1 by omega] at k0
  exact ⟨_, k0⟩
theorem gy_end0 (es : y_size = 0) {post : Int32 → Prop} (h : post 0) : wpY_end post (y_S, y_P, y_N, y_count, y_verdict, y_size, y_fed, y_holes, y_target, y_drafting, b_sym, b_rules, b_root, b_want, b_tree, b_oldTree, b_draft, b_val, b_oldVal, b_known, b_oldKnown, b_has, b_dep) 0 := by
  subst es
  simp only [wpY_end]
  exact ⟨1, br_f (by decide) (br_t (by decide) h)⟩
theorem gy_inst {n y o : Nat} (hn : n ≤ 24) (G : gy_G lh L R O A B b_sym b_rules) (w : ge_WF (ge_K L R pd) n) (hp : ∀ x, x < n → (pd x).toNatClampNeg < 8 ∧ pd x = nI (pd x).toNatClampNeg) (T : gy_T pd tk b_tree n) (es : y_size = nI n) (hy : y < n) (ho : o < 4 + 4 * ge_K L R pd y) {post : Int32 → Prop}
    (h : post (nI (ge_ins (ge_e (ge_K L R pd) n) y o))) : wpY_inst post (y_S, y_P, y_N, y_count, y_verdict, y_size, y_fed, y_holes, y_target, y_drafting, b_sym, b_rules, b_root, b_want, b_tree, b_oldTree, b_draft, b_val, b_oldVal, b_known, b_oldKnown, b_has, b_dep) (nI y) (nI o) := by
  have k2 := ge_K_le L R pd y
  simp only [wpY_inst]
  rw [ge_rem4 (by omega), nI_1, ge_m4, ge_m4, nI_add, nI_add]
  refine pk_le 4 o (fun h1 => ?_) (fun h1 => ⟨by decide, ?_⟩)
  · have hn1 := ge_e_1n w hy (by omega)
    refine pk_le 8 o (fun h2 => ?_) (fun h2 => ⟨by decide, ?_⟩)
    · refine gy_end hn G w hp T es hn1 ⟨by decide, ?_⟩
      rw [ge_m4, nI_add, ← ge_ins_2 h2]; exact h
    · rw [← ge_ins_1 (e := ge_e (ge_K L R pd) n) h1 h2]; exact h
  · rw [Nat.mod_eq_of_lt h1, ← ge_ins_0 (e := ge_e (ge_K L R pd) n) h1]; exact h
end
end
section
/-! Y: the sweep -/
theorem ge_vn1 : vp_nar .boolean 1 = 1 := rfl
theorem ge_vn0 : vp_nar .boolean 0 = 0 := rfl
theorem ge_vn {x : Int32} (h : x = 0 ∨ x = 1) : vp_nar .boolean x = x := by rcases h with rfl | rfl <;> rfl
theorem ge_nb {x : Int32} (h : x = 0 ∨ x = 1) : narrow .boolean (.int x) = .int x := by
  rcases h with rfl | rfl
  · exact narrow_b0
  · exact narrow_b1
/-- does the rule o of y fire; md: the sweep for values -/
def gy_fr (md : Bool) (O A B : Nat → Int32) (e : Nat → Nat) (kn : Nat → Int32) (p y o : Nat) : Prop :=
  (md = true → ¬ 2 ≤ O (12 * p + o) ∨ (¬ kn (ge_ins e y (A (12 * p + o)).toNatClampNeg) = 0 ∧ (3 ≤ O (12 * p + o) → ¬ kn (ge_ins e y (B (12 * p + o)).toNatClampNeg) = 0))) ∧
  (¬ md = true → 2 ≤ O (12 * p + o) ∧ (¬ kn (ge_ins e y (A (12 * p + o)).toNatClampNeg) = 0 ∨ (3 ≤ O (12 * p + o) ∧ ¬ kn (ge_ins e y (B (12 * p + o)).toNatClampNeg) = 0)))
section
variable {y_S y_P y_N y_count y_verdict y_size y_fed y_holes y_target y_drafting : Int32} {b_sym b_rules b_root b_want b_tree b_oldTree b_draft b_val b_oldVal b_known b_oldKnown b_has b_dep : Nat → Int32}
variable {lh L R O A B pd tk : Nat → Int32}
theorem gy_sw_372 {post : Int32 → SY → Prop} {x1 x2 x3 x4 x6 x11 x12 x13 x17 x18 z0 : Int32} {fuel i y to : Nat} (hto : to < 96) (hy : y < 24)
    (hA : (¬ b_known to = 0 ∨ z0 = 0) → wY_sweep_117 post x1 x2 x3 x4 y_S y_P y_N y_count y_verdict y_size y_fed y_holes y_target y_drafting fuel (nI (i + 1)) x6 b_sym b_rules b_root b_want b_tree b_oldTree b_draft b_val b_oldVal b_known b_oldKnown b_has b_dep)
    (hC : b_known to = 0 → ¬ z0 = 0 → wY_sweep_117 post x1 x2 x3 x4 y_S y_P y_N y_count y_verdict y_size y_fed y_holes y_target y_drafting fuel (nI (i + 1)) 0 b_sym b_rules b_root b_want b_tree b_oldTree b_draft (upd b_val to (ge_vf x11 x12 x13 (b_tree (2 * y + 1)) x17 x18)) b_oldVal (upd b_known to 1) b_oldKnown b_has b_dep) :
    wY_sweep_372 post (wY_sweep_117 post x1 x2 x3 x4 y_S y_P y_N y_count y_verdict y_size y_fed y_holes y_target y_drafting fuel) x1 x2 x3 x4 (nI i) x6 (nI y) x11 x12 x13 (nI to) x17 x18 z0 y_S y_P y_N y_count y_verdict y_size y_fed y_holes y_target y_drafting b_sym b_rules b_root b_want b_tree b_oldTree b_draft b_val b_oldVal b_known b_oldKnown b_has b_dep := by
  have tv : vp_in (nI to) 96 := vp_in_nI hto (by decide)
  have et : (nI to).toNatClampNeg = to := nI_clamp (by omega)
  have yv : vp_in (nI (2 * y + 1)) 48 := vp_in_nI (by omega) (by decide)
  have ey : (nI (2 * y + 1)).toNatClampNeg = 2 * y + 1 := nI_clamp (by omega)
  unfold wY_sweep_372
  rw [et, ge_m2, nI_1 (2 * y), ey]
  refine ⟨tv, br_c (fun c => br_c (fun d => nm_r (nI_1 i) (hA (Or.inr d))) (fun d => ⟨tv, nm_r (e' := upd b_known to 1) (by rw [ge_vn1]) ?_⟩)) (fun c => nm_r (nI_1 i) (hA (Or.inl c)))⟩
  have h := hC c d
  have key : ∀ v, ge_vf x11 x12 x13 (b_tree (2 * y + 1)) x17 x18 = v → wY_sweep_117 post x1 x2 x3 x4 y_S y_P y_N y_count y_verdict y_size y_fed y_holes y_target y_drafting fuel (nI (i + 1)) 0 b_sym b_rules b_root b_want b_tree b_oldTree b_draft (upd b_val to v) b_oldVal (upd b_known to 1) b_oldKnown b_has b_dep := fun v e => e ▸ h
  unfold ge_vf at key
  refine br_c (fun c0 => ?_) (fun c0 => ?_)
  · rw [if_pos c0] at key; exact ⟨tv, nm_e (nm_r (nI_1 i) (key _ rfl))⟩
  rw [if_neg c0] at key
  refine br_c (fun c0 => ?_) (fun c0 => ?_)
  · rw [if_pos c0] at key; exact ⟨yv, tv, nm_e (nm_r (nI_1 i) (key _ rfl))⟩
  rw [if_neg c0] at key
  refine br_c (fun c0 => ?_) (fun c0 => ?_)
  · rw [if_pos c0] at key; exact ⟨tv, nm_e (nm_r (nI_1 i) (key _ rfl))⟩
  rw [if_neg c0] at key
  refine br_c (fun c0 => ?_) (fun c0 => ?_)
  · rw [if_pos c0] at key; exact ⟨tv, nm_e (nm_r (nI_1 i) (key _ rfl))⟩
  rw [if_neg c0] at key
  refine br_c (fun c0 => ?_) (fun c0 => ?_)
  · rw [if_pos c0] at key; exact ⟨tv, nm_e (nm_r (nI_1 i) (key _ rfl))⟩
  rw [if_neg c0] at key
  refine br_c (fun c0 => ?_) (fun c0 => ?_)
  · rw [if_pos c0] at key; exact ⟨tv, nm_e (nm_r (nI_1 i) (key _ rfl))⟩
  rw [if_neg c0] at key
  refine br_c (fun c0 => ?_) (fun c0 => ?_)
  · rw [if_pos c0] at key; exact ⟨tv, nm_e (nm_r (nI_1 i) (key _ rfl))⟩
  · rw [if_neg c0] at key; exact ⟨tv, nm_e (nm_r (nI_1 i) (key _ rfl))⟩
/-- one turn of the sweep's loop -/
theorem gy_sw_step {rt : Nat → Int32} {post : Int32 → SY → Prop} {x2 x3 : Int32} {md : Bool} {n first last fuel i idle : Nat} (hn : n ≤ 24) (hl : last ≤ n) (hfst : first ≤ 24) (G : gy_G lh L R O A B b_sym b_rules) (ro : ge_RO L R O A B) (w : 0 < n → ge_WF (ge_K L R pd) n) (hp : ∀ x, x < n → (pd x).toNatClampNeg < 8 ∧ pd x = nI (pd x).toNatClampNeg) (T : gy_T pd tk b_tree n) (es : y_size = nI n)
    (hmd : md = true ↔ ¬ 0 ≤ x2) (hi : i < 27936) (hid : idle < 288)
    (hA : ¬ (first ≤ i / 12 % 24 ∧ i / 12 % 24 < last ∧ ge_df (ge_K L R pd (i / 12 % 24)) (i % 12) = true ∧ b_known (ge_ins (ge_e (ge_K L R pd) n) (i / 12 % 24) (i % 12)) = 0 ∧ gy_fr md O A B (ge_e (ge_K L R pd) n) b_known (pd (i / 12 % 24)).toNatClampNeg (i / 12 % 24) (i % 12)) →
      wY_sweep_117 post (nI first) x2 x3 (nI last) y_S y_P y_N y_count y_verdict y_size y_fed y_holes y_target y_drafting fuel (nI (i + 1)) (nI (idle + 1)) b_sym b_rules b_root b_want b_tree b_oldTree b_draft b_val b_oldVal b_known b_oldKnown b_has b_dep)
    (hC : first ≤ i / 12 % 24 → i / 12 % 24 < last → ge_df (ge_K L R pd (i / 12 % 24)) (i % 12) = true → b_known (ge_ins (ge_e (ge_K L R pd) n) (i / 12 % 24) (i % 12)) = 0 → gy_fr md O A B (ge_e (ge_K L R pd) n) b_known (pd (i / 12 % 24)).toNatClampNeg (i / 12 % 24) (i % 12) →
      wY_sweep_117 post (nI first) x2 x3 (nI last) y_S y_P y_N y_count y_verdict y_size y_fed y_holes y_target y_drafting fuel (nI (i + 1)) 0 b_sym b_rules b_root b_want b_tree b_oldTree b_draft (upd b_val (ge_ins (ge_e (ge_K L R pd) n) (i / 12 % 24) (i % 12)) (ge_vl L R O A B pd tk rt n b_val (ge_ins (ge_e (ge_K L R pd) n) (i / 12 % 24) (i % 12)))) b_oldVal (upd b_known (ge_ins (ge_e (ge_K L R pd) n) (i / 12 % 24) (i % 12)) 1) b_oldKnown b_has b_dep) :
    wY_sweep_117 post (nI first) x2 x3 (nI last) y_S y_P y_N y_count y_verdict y_size y_fed y_holes y_target y_drafting (fuel + 1) (nI i) (nI idle) b_sym b_rules b_root b_want b_tree b_oldTree b_draft b_val b_oldVal b_known b_oldKnown b_has b_dep := by
  refine br_f (nI_ge (b := 27936) hi (by decide)) (br_f (nI_ge (b := 288) hid (by decide)) ⟨by decide, by decide, nm_r (e' := nI (i / 12 % 24)) (by rw [ge_div12 (by omega), ge_rem24 (by omega)]) ⟨by decide, nm_r (ge_rem12 (by omega)) ?_⟩⟩)
  rw [ge_m2]
  refine ⟨vp_in_nI (by omega) (by decide), nm_e (nm_e (nm_r (nI_1 idle) ?_))⟩
  rw [nI_clamp (show 2 * (i / 12 % 24) < 2 ^ 31 by omega)]
  generalize hy : i / 12 % 24 = y at *
  generalize ho : i % 12 = o at *
  have hy24 : y < 24 := by omega
  have ho12 : o < 12 := by omega
  refine pk_lt y first (fun c => nm_r (nI_1 i) (hA (fun z => by omega))) (fun c1 => ?_)
  refine pk_le last y (fun c => nm_r (nI_1 i) (hA (fun z => by omega))) (fun c2 => ?_)
  have hyn : y < n := by omega
  have w := w (by omega)
  have hk : ∀ x, x < n → ge_K L R pd x ≤ 2 := fun x _ => ge_K_le L R pd x
  have hpy := hp y hyn
  rw [(T y hyn).1, hpy.2]
  have kk : ge_kd L R (pd y).toNatClampNeg = ge_K L R pd y := rfl
  refine gy_defined G hpy.1 (by omega) (ge_dI_br (fun df => ?_) (fun df => nm_r (nI_1 i) (hA (fun z => df z.2.2.1))))
  rw [kk] at df
  obtain ⟨r0, r1, r2⟩ := ro _ hpy.1 o ho12
  have io := ge_io2 w hk hyn df
  have er : ge_r L R pd n (ge_ins (ge_e (ge_K L R pd) n) y o) = 12 * (pd y).toNatClampNeg + o := by unfold ge_r; rw [io.2.2.1, io.2.2.2]
  have e36 : 36 * nI (pd y).toNatClampNeg + 3 * nI o = nI (3 * (12 * (pd y).toNatClampNeg + o)) := by rw [ge_m36, ge_m3, nI_add]; congr 1; omega
  rw [e36]
  have hr := G.2 (12 * (pd y).toNatClampNeg + o) (by omega)
  generalize hrr : 12 * (pd y).toNatClampNeg + o = r at *
  have r96 : r < 96 := by omega
  rw [nI_1 (3 * r), ge_p2 (3 * r), nI_clamp (show 3 * r < 2 ^ 31 by omega), nI_clamp (show 3 * r + 1 < 2 ^ 31 by omega), nI_clamp (show 3 * r + 2 < 2 ^ 31 by omega), hr.1, hr.2.1, hr.2.2]
  refine ⟨vp_in_nI (by omega) (by decide), nm_e ⟨vp_in_nI (by omega) (by decide), nm_e ⟨vp_in_nI (by omega) (by decide), nm_e (gy_inst hn G w hp T es hyn (ge_df_iff.mp df).1 ?_)⟩⟩⟩
  have h372 : ∀ x17 x18 z0, (gy_fr md O A B (ge_e (ge_K L R pd) n) b_known (pd y).toNatClampNeg y o ↔ ¬ z0 = 0) → ge_vf (O r) (A r) (B r) (tk y) x17 x18 = ge_vf (O r) (A r) (B r) (tk y) (b_val (ge_ins (ge_e (ge_K L R pd) n) y (A r).toNatClampNeg)) (b_val (ge_ins (ge_e (ge_K L R pd) n) y (B r).toNatClampNeg)) →
      wY_sweep_372 post (wY_sweep_117 post (nI first) x2 x3 (nI last) y_S y_P y_N y_count y_verdict y_size y_fed y_holes y_target y_drafting fuel) (nI first) x2 x3 (nI last) (nI i) (nI (idle + 1)) (nI y) (O r) (A r) (B r) (nI (ge_ins (ge_e (ge_K L R pd) n) y o)) x17 x18 z0 y_S y_P y_N y_count y_verdict y_size y_fed y_holes y_target y_drafting b_sym b_rules b_root b_want b_tree b_oldTree b_draft b_val b_oldVal b_known b_oldKnown b_has b_dep := by
    intro x17 x18 z0 hz hv
    refine gy_sw_372 (by omega) hy24 (fun h => hA (fun z => ?_)) (fun h h' => ?_)
    · rcases h with h | h
      · exact h z.2.2.2.1
      · exact hz.mp z.2.2.2.2 h
    · rw [(T y hyn).2, hv]
      have := hC c1 c2 df h (hz.mpr h')
      unfold ge_vl ge_a1 at this
      rw [if_neg (by omega), er, io.2.2.1] at this
      exact this
  have frd : gy_fr md O A B (ge_e (ge_K L R pd) n) b_known (pd y).toNatClampNeg y o ↔ ((md = true → ¬ 2 ≤ O r ∨ (¬ b_known (ge_ins (ge_e (ge_K L R pd) n) y (A r).toNatClampNeg) = 0 ∧ (3 ≤ O r → ¬ b_known (ge_ins (ge_e (ge_K L R pd) n) y (B r).toNatClampNeg) = 0))) ∧
      (¬ md = true → 2 ≤ O r ∧ (¬ b_known (ge_ins (ge_e (ge_K L R pd) n) y (A r).toNatClampNeg) = 0 ∨ (3 ≤ O r ∧ ¬ b_known (ge_ins (ge_e (ge_K L R pd) n) y (B r).toNatClampNeg) = 0)))) := by
    unfold gy_fr; rw [hrr]
  -- the joins of the two argument instances
  have h283 : ∀ a b, a < 96 → b < 96 → (2 ≤ O r → a = ge_ins (ge_e (ge_K L R pd) n) y (A r).toNatClampNeg) → (3 ≤ O r → b = ge_ins (ge_e (ge_K L R pd) n) y (B r).toNatClampNeg) → (¬ 3 ≤ O r → b = a) →
      wY_sweep_283 post (wY_sweep_117 post (nI first) x2 x3 (nI last) y_S y_P y_N y_count y_verdict y_size y_fed y_holes y_target y_drafting fuel) (nI first) x2 x3 (nI last) (nI i) (nI (idle + 1)) (nI y) (O r) (A r) (B r) (nI (ge_ins (ge_e (ge_K L R pd) n) y o)) (nI a) (nI b) y_S y_P y_N y_count y_verdict y_size y_fed y_holes y_target y_drafting b_sym b_rules b_root b_want b_tree b_oldTree b_draft b_val b_oldVal b_known b_oldKnown b_has b_dep := by
    intro a b ha hb ea eb eba
    have av : vp_in (nI a) 96 := vp_in_nI ha (by decide)
    have bv : vp_in (nI b) 96 := vp_in_nI hb (by decide)
    have hv : ge_vf (O r) (A r) (B r) (tk y) (b_val a) (b_val b) = ge_vf (O r) (A r) (B r) (tk y) (b_val (ge_ins (ge_e (ge_K L R pd) n) y (A r).toNatClampNeg)) (b_val (ge_ins (ge_e (ge_K L R pd) n) y (B r).toNatClampNeg)) := by
      by_cases c2 : 2 ≤ O r
      · rw [ea c2]
        by_cases c3 : 3 ≤ O r
        · rw [eb c3]
        · rw [ge_i32_2 c2 c3, ge_vf_2, ge_vf_2]
      · rcases ge_i32_lt2 r0 c2 with e | e
        · rw [e, ge_vf_0, ge_vf_0]
        · rw [e, ge_vf_1, ge_vf_1]
    have kn : 2 ≤ O r → ((¬ b_known (ge_ins (ge_e (ge_K L R pd) n) y (A r).toNatClampNeg) = 0 ∧ (3 ≤ O r → ¬ b_known (ge_ins (ge_e (ge_K L R pd) n) y (B r).toNatClampNeg) = 0)) ↔ (¬ b_known a = 0 ∧ ¬ b_known b = 0)) := by
      intro c2
      rw [← ea c2]
      by_cases c3 : 3 ≤ O r
      · rw [← eb c3]; exact ⟨fun z => ⟨z.1, z.2 c3⟩, fun z => ⟨z.1, fun _ => z.2⟩⟩
      · rw [eba c3]; exact ⟨fun z => ⟨z.1, z.1⟩, fun z => ⟨z.1, fun y => absurd y c3⟩⟩
    have kn2 : 2 ≤ O r → ((¬ b_known (ge_ins (ge_e (ge_K L R pd) n) y (A r).toNatClampNeg) = 0 ∨ (3 ≤ O r ∧ ¬ b_known (ge_ins (ge_e (ge_K L R pd) n) y (B r).toNatClampNeg) = 0)) ↔ (¬ b_known a = 0 ∨ ¬ b_known b = 0)) := by
      intro c2
      rw [← ea c2]
      by_cases c3 : 3 ≤ O r
      · rw [← eb c3]
        exact ⟨fun z => z.elim Or.inl (fun y => Or.inr y.2), fun z => z.elim Or.inl (fun y => Or.inr ⟨c3, y⟩)⟩
      · rw [eba c3]; exact ⟨fun z => z.elim Or.inl (fun y => absurd y.1 c3), fun z => z.elim Or.inl Or.inl⟩
    unfold wY_sweep_283
    rw [nI_clamp (by omega), nI_clamp (by omega)]
    refine ⟨av, nm_e ⟨bv, nm_e (br_c (fun m => ?_) (fun m => ?_))⟩⟩
    · have mdf : ¬ md = true := fun z => hmd.mp z m
      refine br_c (fun c2 => ?_) (fun c2 => ⟨av, br_c (fun k1 => ⟨bv, br_c (fun k2 => ?_) (fun k2 => ?_)⟩) (fun k1 => ?_)⟩)
      · exact h372 _ _ 0 (by rw [frd]; exact ⟨fun z => absurd (z.2 mdf).1 (Int32.not_le.mpr c2), fun z => absurd rfl z⟩) hv
      · exact h372 _ _ 0 (by rw [frd]; exact ⟨fun z => absurd ((kn2 (Int32.not_lt.mp c2)).mp (z.2 mdf).2) (fun y => y.elim (fun y => y k1) (fun y => y k2)), fun z => absurd rfl z⟩) hv
      · exact h372 _ _ 1 (by rw [frd]; exact ⟨fun _ => by decide, fun _ => ⟨fun z => absurd z mdf, fun _ => ⟨Int32.not_lt.mp c2, (kn2 (Int32.not_lt.mp c2)).mpr (Or.inr k2)⟩⟩⟩) hv
      · exact h372 _ _ 1 (by rw [frd]; exact ⟨fun _ => by decide, fun _ => ⟨fun z => absurd z mdf, fun _ => ⟨Int32.not_lt.mp c2, (kn2 (Int32.not_lt.mp c2)).mpr (Or.inl k1)⟩⟩⟩) hv
    · have mdt : md = true := hmd.mpr m
      refine br_c (fun c2 => ?_) (fun c2 => ⟨av, br_c (fun k1 => ?_) (fun k1 => ⟨bv, br_c (fun k2 => ?_) (fun k2 => ?_)⟩)⟩)
      · exact h372 _ _ 1 (by rw [frd]; exact ⟨fun _ => by decide, fun _ => ⟨fun _ => Or.inl (Int32.not_le.mpr c2), fun z => absurd mdt z⟩⟩) hv
      · exact h372 _ _ 0 (by rw [frd]; exact ⟨fun z => absurd (z.1 mdt) (fun y => y.elim (fun y => y (Int32.not_lt.mp c2)) (fun y => ((kn (Int32.not_lt.mp c2)).mp y).1 k1)), fun z => absurd rfl z⟩) hv
      · exact h372 _ _ 0 (by rw [frd]; exact ⟨fun z => absurd (z.1 mdt) (fun y => y.elim (fun y => y (Int32.not_lt.mp c2)) (fun y => ((kn (Int32.not_lt.mp c2)).mp y).2 k2)), fun z => absurd rfl z⟩) hv
      · exact h372 _ _ 1 (by rw [frd]; exact ⟨fun _ => by decide, fun _ => ⟨fun _ => Or.inr ((kn (Int32.not_lt.mp c2)).mpr ⟨k1, k2⟩), fun z => absurd mdt z⟩⟩) hv
  have h262 : ∀ a, a < 96 → (2 ≤ O r → a = ge_ins (ge_e (ge_K L R pd) n) y (A r).toNatClampNeg) →
      wY_sweep_262 post (wY_sweep_117 post (nI first) x2 x3 (nI last) y_S y_P y_N y_count y_verdict y_size y_fed y_holes y_target y_drafting fuel) (nI first) x2 x3 (nI last) (nI i) (nI (idle + 1)) (nI y) (O r) (A r) (B r) (nI (ge_ins (ge_e (ge_K L R pd) n) y o)) (nI a) y_S y_P y_N y_count y_verdict y_size y_fed y_holes y_target y_drafting b_sym b_rules b_root b_want b_tree b_oldTree b_draft b_val b_oldVal b_known b_oldKnown b_has b_dep := by
    intro a ha ea
    unfold wY_sweep_262
    refine br_c (fun c3 => h283 a a ha ha ea (fun z => absurd z (Int32.not_le.mpr c3)) (fun _ => rfl)) (fun c3 => ?_)
    obtain ⟨b, hb, eb⟩ := r2 (Int32.not_lt.mp c3)
    have hb' : b < 4 + 4 * ge_K L R pd y := hb
    have k2 := hk y hyn
    rw [eb]
    refine gy_inst hn G w hp T es hyn hb' ?_
    have lt := ge_ins_lt w hk hyn hb'
    have := h283 a (ge_ins (ge_e (ge_K L R pd) n) y b) ha (by omega) ea (fun _ => by rw [eb, nI_clamp (by omega)]) (fun z => absurd (Int32.not_lt.mp c3) z)
    rw [eb] at this
    exact this
  refine br_c (fun c2 => h262 0 (by omega) (fun z => absurd z (Int32.not_le.mpr c2))) (fun c2 => ?_)
  obtain ⟨a, ha, ea⟩ := r1 (Int32.not_lt.mp c2)
  have ha' : a < 4 + 4 * ge_K L R pd y := ha
  have k2 := hk y hyn
  rw [ea]
  refine gy_inst hn G w hp T es hyn ha' ?_
  have lt := ge_ins_lt w hk hyn ha'
  have := h262 (ge_ins (ge_e (ge_K L R pd) n) y a) (by omega) (fun _ => by rw [ea, nI_clamp (by omega)])
  rw [ea] at this
  exact this
end
end
section
/-! Y: the sweep's loops -/
theorem ge_cov288 {i q : Nat} (hi : 288 ≤ i) (hq : q < 288) : ∃ k, k < i ∧ i ≤ k + 288 ∧ k % 288 = q := by
  rcases Nat.lt_or_ge q (i % 288) with z | z
  · exact ⟨i - i % 288 + q, by omega, by omega, by omega⟩
  · exact ⟨i - i % 288 - 288 + q, by omega, by omega, by omega⟩
noncomputable def gy_kc (kn : Nat → Int32) : Nat := ge_cn (fun j => kn j = 1) 96
theorem gy_kc_lt {kn : Nat → Int32} {j : Nat} (hj : j < 96) (h0 : kn j = 0) : gy_kc kn + 1 ≤ gy_kc (upd kn j 1) := by
  refine ge_cn_lt (P := fun k => kn k = 1) (Q := fun k => upd kn j 1 k = 1) (a := j) (by rw [h0]; decide) pk_us ?_ hj
  intro k _ z
  by_cases e : k = j
  · rw [e, pk_us]
  · rw [pk_un e]; exact z
/-- does the rule at (y, o) fire now -/
def gy_cond (md : Bool) (L R O A B pd : Nat → Int32) (n first last : Nat) (kn : Nat → Int32) (y o : Nat) : Prop :=
  first ≤ y ∧ y < last ∧ ge_df (ge_K L R pd y) o = true ∧ kn (ge_ins (ge_e (ge_K L R pd) n) y o) = 0 ∧ gy_fr md O A B (ge_e (ge_K L R pd) n) kn (pd y).toNatClampNeg y o
section
variable {y_S y_P y_N y_count y_verdict y_size y_fed y_holes y_target y_drafting : Int32} {b_sym b_rules b_root b_want b_tree b_oldTree b_draft b_val b_oldVal b_known b_oldKnown b_has b_dep : Nat → Int32}
variable {lh L R O A B pd tk : Nat → Int32}
theorem gy_sw_loop {post : Int32 → SY → Prop} {x2 : Int32} {md : Bool} {n first last goal : Nat} (hn : n ≤ 24) (hl : last ≤ n) (hfst : first ≤ 24) (hgoal : goal < 96) (G : gy_G lh L R O A B b_sym b_rules) (ro : ge_RO L R O A B) (w : 0 < n → ge_WF (ge_K L R pd) n) (hp : ∀ x, x < n → (pd x).toNatClampNeg < 8 ∧ pd x = nI (pd x).toNatClampNeg) (T : gy_T pd tk b_tree n) (es : y_size = nI n)
    (hmd : md = true ↔ ¬ 0 ≤ x2) {rt : Nat → Int32} {P : (Nat → Int32) → (Nat → Int32) → Prop} {C : (Nat → Int32) → Nat → Nat → Prop}
    (hPb : ∀ kn V, P kn V → ∀ j, j < 96 → kn j = 0 ∨ kn j = 1)
    (hA : ∀ kn V y o, y < 24 → o < 12 → P kn V → ¬ gy_cond md L R O A B pd n first last kn y o → C kn y o)
    (hC : ∀ kn V y o, y < 24 → o < 12 → P kn V → gy_cond md L R O A B pd n first last kn y o → P (upd kn (ge_ins (ge_e (ge_K L R pd) n) y o) 1) (upd V (ge_ins (ge_e (ge_K L R pd) n) y o) (ge_vl L R O A B pd tk rt n V (ge_ins (ge_e (ge_K L R pd) n) y o))))
    (hpost : ∀ kn V, P kn V → (∀ y, y < 24 → ∀ o, o < 12 → C kn y o) → post (kn goal) (y_S, y_P, y_N, y_count, y_verdict, y_size, y_fed, y_holes, y_target, y_drafting, b_sym, b_rules, b_root, b_want, b_tree, b_oldTree, b_draft, V, b_oldVal, kn, b_oldKnown, b_has, b_dep)) :
    ∀ (fuel i idle : Nat) (kn V : Nat → Int32), P kn V → (∀ k, k < i → i ≤ k + idle → C kn (k / 12 % 24) (k % 12)) → i ≤ 288 * gy_kc kn + idle → idle ≤ i → idle ≤ 288 → i ≤ 27936 → 27936 - i < fuel →
      wY_sweep_117 post (nI first) x2 (nI goal) (nI last) y_S y_P y_N y_count y_verdict y_size y_fed y_holes y_target y_drafting fuel (nI i) (nI idle) b_sym b_rules b_root b_want b_tree b_oldTree b_draft V b_oldVal kn b_oldKnown b_has b_dep := by
  have gv : vp_in (nI goal) 96 := vp_in_nI hgoal (by decide)
  have eg : (nI goal).toNatClampNeg = goal := nI_clamp (by omega)
  intro fuel
  induction fuel with
  | zero => intro i idle kn V _ _ _ _ _ _ h; omega
  | succ fuel ih =>
    intro i idle kn V hP hcl hcnt h1 h2 hi hf
    rcases Nat.lt_or_ge idle 288 with z | z
    · have hi' : i < 27936 := by
        have : gy_kc kn ≤ 96 := ge_cn_le _ _
        omega
      refine gy_sw_step (rt := rt) hn hl hfst G ro w hp T es hmd hi' z (fun h => ?_) (fun c1 c2 c3 c4 c5 => ?_)
      · refine ih (i + 1) (idle + 1) kn V hP (fun k hk hk2 => ?_) (by omega) (by omega) (by omega) (by omega) (by omega)
        rcases Nat.lt_or_ge k i with y | y
        · exact hcl k y (by omega)
        · rw [show k = i by omega]; exact hA kn V _ _ (by omega) (by omega) hP h
      · have cc : gy_cond md L R O A B pd n first last kn (i / 12 % 24) (i % 12) := ⟨c1, c2, c3, c4, c5⟩
        have io := ge_io2 (w (by omega)) (fun x _ => ge_K_le L R pd x) (show i / 12 % 24 < n by omega) c3
        have kc := gy_kc_lt (by omega) c4
        exact ih (i + 1) 0 _ _ (hC kn V _ _ (by omega) (by omega) hP cc) (fun k hk hk2 => by omega) (by omega) (by omega) (by omega) (by omega) (by omega)
    · have e : idle = 288 := by omega
      subst e
      have all : ∀ y, y < 24 → ∀ o, o < 12 → C kn y o := by
        intro y hy o ho
        obtain ⟨k, k1, k2, k3⟩ := ge_cov288 (i := i) (q := 12 * y + o) (by omega) (by omega)
        have := hcl k k1 k2
        rw [show k / 12 % 24 = y by omega, show k % 12 = o by omega] at this
        exact this
      have fin : vp_in (nI goal) 96 ∧ (narrow .boolean (.int (kn (nI goal).toNatClampNeg)) = .int (kn (nI goal).toNatClampNeg) ∧ post (kn (nI goal).toNatClampNeg) (y_S, y_P, y_N, y_count, y_verdict, y_size, y_fed, y_holes, y_target, y_drafting, b_sym, b_rules, b_root, b_want, b_tree, b_oldTree, b_draft, V, b_oldVal, kn, b_oldKnown, b_has, b_dep)) := by
        rw [eg]
        exact ⟨gv, ge_nb (hPb kn V hP goal hgoal), hpost kn V hP all⟩
      exact br_c (fun _ => fin) (fun _ => br_t (nI_le (a := 288) (by omega) (by decide)) fin)
/-- the sweep's first loop -/
theorem gy_sw_3 {post : Int32 → SY → Prop} {x1 x2 x3 : Int32} {ini kn0 V0 : Nat → Int32} (hini : ∀ j, j < 96 → ini j = 0 ∨ ini j = 1) (hx2 : ∀ j, j < 96 → ini j = if 0 ≤ x2 then (if nI j = x2 then 1 else 0) else (if 2 ≤ j then 0 else 1)) (hb : ∀ j, j < 96 → kn0 j = 0 ∨ kn0 j = 1)
    (hpost : ∀ kn V ok ov, (∀ j, j < 96 → kn j = ini j ∧ V j = (if 2 ≤ j then 0 else b_root j) ∧ ok j = kn0 j ∧ ov j = V0 j) →
      wpY_end (fun r_2 => (∃ n117 : Nat, wY_sweep_117 post x1 x2 x3 r_2 y_S y_P y_N y_count y_verdict y_size y_fed y_holes y_target y_drafting n117 0 0 b_sym b_rules b_root b_want b_tree b_oldTree b_draft V ov kn ok b_has b_dep)) (y_S, y_P, y_N, y_count, y_verdict, y_size, y_fed, y_holes, y_target, y_drafting, b_sym, b_rules, b_root, b_want, b_tree, b_oldTree, b_draft, V, ov, kn, ok, b_has, b_dep) x1) :
    ∀ (fuel i : Nat) (kn V ok ov : Nat → Int32), (∀ j, j < i → kn j = ini j ∧ V j = (if 2 ≤ j then 0 else b_root j) ∧ ok j = kn0 j ∧ ov j = V0 j) → (∀ j, i ≤ j → kn j = kn0 j ∧ V j = V0 j) → i ≤ 96 → 96 - i < fuel →
      wY_sweep_3 post x1 x2 x3 y_S y_P y_N y_count y_verdict y_size y_fed y_holes y_target y_drafting fuel (nI i) b_sym b_rules b_root b_want b_tree b_oldTree b_draft V ov kn ok b_has b_dep := by
  intro fuel
  induction fuel with
  | zero => intro i kn V ok ov _ _ _ h; omega
  | succ fuel ih =>
    intro i kn V ok ov h1 h2 hi hf
    refine pk_le 96 i (fun z => ?_) (fun z => ?_)
    · have e : i = 96 := by omega
      subst e; exact hpost kn V ok ov h1
    · have iv : vp_in (nI i) 96 := vp_in_nI z (by decide)
      have ei : (nI i).toNatClampNeg = i := nI_clamp (by omega)
      have hi0 := h2 i (Nat.le_refl _)
      have key : ∀ z0, z0 = ini i → wY_sweep_73 post (wY_sweep_3 post x1 x2 x3 y_S y_P y_N y_count y_verdict y_size y_fed y_holes y_target y_drafting fuel) x1 x2 x3 (nI i) z0 (nI i) y_S y_P y_N y_count y_verdict y_size y_fed y_holes y_target y_drafting b_sym b_rules b_root b_want b_tree b_oldTree b_draft V (upd ov i (V i)) kn (upd ok i (kn i)) b_has b_dep := by
        intro z0 ez
        subst ez
        have nxt : ∀ v, v = (if 2 ≤ i then 0 else b_root i) → wY_sweep_3 post x1 x2 x3 y_S y_P y_N y_count y_verdict y_size y_fed y_holes y_target y_drafting fuel (nI (i + 1)) b_sym b_rules b_root b_want b_tree b_oldTree b_draft (upd V i v) (upd ov i (V i)) (upd kn i (ini i)) (upd ok i (kn i)) b_has b_dep := by
          intro v ev
          refine ih (i + 1) _ _ _ _ (fun j hj => ?_) (fun j hj => ?_) (by omega) (by omega)
          · by_cases e : j = i
            · subst e; rw [pk_us, pk_us, pk_us, pk_us]; exact ⟨rfl, ev, hi0.1, hi0.2⟩
            · rw [pk_un e, pk_un e, pk_un e, pk_un e]; exact h1 j (by omega)
          · rw [pk_un (by omega), pk_un (by omega)]; exact h2 j (by omega)
        unfold wY_sweep_73
        rw [ei, ge_vn (hini i z)]
        refine ⟨iv, nm_e (pk_le 2 i (fun c => ⟨iv, nm_e (nm_r (nI_1 i) (nxt _ (if_pos c).symm))⟩) (fun c => ⟨vp_in_nI c (by decide), iv, nm_e (nm_r (nI_1 i) (nxt _ (if_neg (by omega)).symm))⟩))⟩
      refine ⟨iv, iv, nm_r (e' := upd ok i (kn i)) (by rw [ei, ge_vn (by rw [hi0.1]; exact hb i z)]) ⟨iv, iv, nm_r (e' := upd ov i (V i)) (by rw [ei]) ?_⟩⟩
      have hx := hx2 i z
      refine br_c (fun c => ?_) (fun c => ?_)
      · rw [if_pos c] at hx
        refine br_c (fun d => ?_) (fun d => ?_)
        · rw [if_pos d] at hx; exact key 1 hx.symm
        · rw [if_neg d] at hx; exact key 0 hx.symm
      · rw [if_neg c] at hx
        refine pk_le 2 i (fun d => ?_) (fun d => ?_)
        · rw [if_pos d] at hx; exact key 0 hx.symm
        · rw [if_neg (by omega)] at hx; exact key 1 hx.symm
/-- the sweep for values: the solution -/
theorem gy_sweep1 {post : Int32 → SY → Prop} {n goal : Nat} (hn : n ≤ 24) (hgoal : goal < 96) (G : gy_G lh L R O A B b_sym b_rules) (ro : ge_RO L R O A B) (w : 0 < n → ge_WF (ge_K L R pd) n) (hp : ∀ x, x < n → (pd x).toNatClampNeg < 8 ∧ pd x = nI (pd x).toNatClampNeg) (T : gy_T pd tk b_tree n) (es : y_size = nI n) (hb : ∀ j, j < 96 → b_known j = 0 ∨ b_known j = 1)
    (hpost : ∀ kn V ok ov, (∀ j, j < 96 → kn j = 0 ∨ kn j = 1) → (0 < n → ge_Sol (4 * n) (ge_AR L R O A B pd n) (ge_vl L R O A B pd tk b_root n) (fun i => kn i = 1) V) → (∀ j, j < 96 → ok j = b_known j ∧ ov j = b_val j) → post (kn goal) (y_S, y_P, y_N, y_count, y_verdict, y_size, y_fed, y_holes, y_target, y_drafting, b_sym, b_rules, b_root, b_want, b_tree, b_oldTree, b_draft, V, ov, kn, ok, b_has, b_dep)) :
    wpY_sweep post (y_S, y_P, y_N, y_count, y_verdict, y_size, y_fed, y_holes, y_target, y_drafting, b_sym, b_rules, b_root, b_want, b_tree, b_oldTree, b_draft, b_val, b_oldVal, b_known, b_oldKnown, b_has, b_dep) 0 (-1) (nI goal) := by
  have hk : ∀ x, x < n → ge_K L R pd x ≤ 2 := fun x _ => ge_K_le L R pd x
  have hp8 : ∀ x, x < n → (pd x).toNatClampNeg < 8 := fun x h => (hp x h).1
  simp only [wpY_sweep]
  refine ⟨97, gy_sw_3 (ini := fun j => if 2 ≤ j then 0 else 1) (kn0 := b_known) (V0 := b_val) (fun j _ => ?_) (fun j _ => by rw [if_neg (show ¬ (0 : Int32) ≤ -1 by decide)]) hb (fun kn V ok ov h => ?_) 97 0 _ _ _ _ (fun j h => absurd h (Nat.not_lt_zero _)) (fun j _ => ⟨rfl, rfl⟩) (by omega) (by omega)⟩
  · by_cases c : 2 ≤ j
    · rw [if_pos c]; exact Or.inl rfl
    · rw [if_neg c]; exact Or.inr rfl
  have hend : ∀ {q : Int32 → Prop}, q (nI n) → wpY_end q (y_S, y_P, y_N, y_count, y_verdict, y_size, y_fed, y_holes, y_target, y_drafting, b_sym, b_rules, b_root, b_want, b_tree, b_oldTree, b_draft, V, ov, kn, ok, b_has, b_dep) 0 := by
    intro q hq
    rcases Nat.eq_zero_or_pos n with z | z
    · subst z; exact gy_end0 es hq
    · refine gy_end (x := 0) hn G (w z) hp T es z ?_
      rw [ge_e_root (w z)]; exact hq
  refine hend ⟨27937, ?_⟩
  refine gy_sw_loop (first := 0) (last := n) (goal := goal) (md := true) (rt := b_root) (P := fun kn V => (∀ j, j < 96 → kn j = 0 ∨ kn j = 1) ∧ (0 < n → ge_Kw (4 * n) (ge_AR L R O A B pd n) (ge_vl L R O A B pd tk b_root n) kn V))
    (C := fun kn y o => y < n → ge_df (ge_K L R pd y) o = true → (∀ a, ge_AR L R O A B pd n (ge_ins (ge_e (ge_K L R pd) n) y o) a → kn a = 1) → kn (ge_ins (ge_e (ge_K L R pd) n) y o) = 1)
    hn (Nat.le_refl _) (by omega) hgoal G ro w hp T es ⟨fun _ => by decide, fun _ => rfl⟩ (fun kn V hP => hP.1) (fun kn V y o hy ho hP hc y1 df ha => ?_) (fun kn V y o hy ho hP hc => ?_) (fun kn V hP hC => ?_) 27937 0 0 kn V ⟨fun j hj => ?_, fun z => ?_⟩ (fun k hk _ => absurd hk (Nat.not_lt_zero _)) (by omega) (by omega) (by omega) (by omega) (by omega)
  · -- nothing fires: closed
    have io := ge_io2 (w (by omega)) hk y1 df
    rcases hP.1 _ (show ge_ins (ge_e (ge_K L R pd) n) y o < 96 by omega) with z | z
    · exfalso
      refine hc ⟨Nat.zero_le _, y1, df, z, fun _ => ?_, fun q => absurd rfl q⟩
      have er : ge_r L R pd n (ge_ins (ge_e (ge_K L R pd) n) y o) = 12 * (pd y).toNatClampNeg + o := by unfold ge_r; rw [io.2.2.1, io.2.2.2]
      have ar := @ge_AR_iff L R O A B pd n (w (by omega)) ro hp8 (ge_ins (ge_e (ge_K L R pd) n) y o)
      unfold ge_a1 at ar
      rw [er, io.2.2.1] at ar
      by_cases c2 : 2 ≤ O (12 * (pd y).toNatClampNeg + o)
      · refine Or.inr ⟨?_, fun c3 => ?_⟩
        · rw [ha _ (ar.mpr ⟨io.1, io.2.1, Or.inl ⟨c2, rfl⟩⟩)]; decide
        · rw [ha _ (ar.mpr ⟨io.1, io.2.1, Or.inr ⟨c3, rfl⟩⟩)]; decide
      · exact Or.inl c2
    · exact z
  · obtain ⟨c1, c2, df, c4, c5⟩ := hc
    have wn := w (show 0 < n by omega)
    have io := ge_io2 wn hk c2 df
    have sy := ge_sys (tk := tk) (rt := b_root) wn ro hp8
    have args : ∀ a, ge_AR L R O A B pd n (ge_ins (ge_e (ge_K L R pd) n) y o) a → kn a = 1 := by
      intro a r
      have a96 : a < 96 := by have := (sy.1 _ _ r).2; omega
      have er : ge_r L R pd n (ge_ins (ge_e (ge_K L R pd) n) y o) = 12 * (pd y).toNatClampNeg + o := by unfold ge_r; rw [io.2.2.1, io.2.2.2]
      have ar := ((ge_AR_iff wn ro hp8).mp r).2.2
      unfold ge_a1 at ar
      rw [er, io.2.2.1] at ar
      refine (hP.1 a a96).resolve_left (fun z => ?_)
      rcases ar with ⟨q1, q2⟩ | ⟨q1, q2⟩
      · rcases c5.1 rfl with f | f
        · exact f q1
        · rw [q2] at z; exact f.1 z
      · rcases c5.1 rfl with f | f
        · exact f (ge_i32_32 q1)
        · rw [q2] at z; exact f.2 q1 z
    generalize ge_ins (ge_e (ge_K L R pd) n) y o = i0 at *
    obtain ⟨k0, k1, ⟨ρ, k2⟩, k3⟩ := hP.2 (by omega)
    obtain ⟨M, hM⟩ := ge_max ρ (4 * n)
    have n1 : ∀ i, kn i = 1 → i ≠ i0 := fun i z e => by rw [e, c4] at z; exact absurd z (by decide)
    have kp : ∀ i, kn i = 1 → upd kn i0 1 i = 1 := fun i z => by rw [pk_un (n1 i z)]; exact z
    have nV : ∀ i, i ≠ i0 → upd V i0 (ge_vl L R O A B pd tk b_root n V i0) i = V i := fun i z => pk_un z
    refine ⟨fun j hj => ?_, fun _ => ⟨fun i hi => ?_, fun i hi => kp i (k1 i hi), ⟨fun i => if i = i0 then M else ρ i, fun i hi z j r => ?_⟩, fun i hi z => ?_⟩⟩
    · by_cases e : j = i0
      · rw [e, pk_us]; exact Or.inr rfl
      · rw [pk_un e]; exact hP.1 j hj
    · by_cases e : i = i0
      · rw [e, pk_us]; exact Or.inr (Or.inl rfl)
      · rw [pk_un e]; exact k0 i hi
    · by_cases e : i = i0
      · rw [e] at r
        have aj := args j r
        refine ⟨kp j aj, ?_⟩
        show (if j = i0 then M else ρ j) < (if i = i0 then M else ρ i)
        rw [if_pos e, if_neg (n1 j aj)]
        exact hM j (sy.1 _ _ r).2
      · rw [pk_un e] at z
        have q := k2 i hi z j r
        refine ⟨kp j q.1, ?_⟩
        show (if j = i0 then M else ρ j) < (if i = i0 then M else ρ i)
        rw [if_neg e, if_neg (n1 j q.1)]
        exact q.2
    · by_cases e : i = i0
      · rw [e, pk_us]
        exact sy.2.1 _ _ i0 io.2.1 (fun j r => (nV j (n1 j (args j r))).symm)
      · rw [pk_un e] at z
        rw [nV i e, k3 i hi z]
        exact sy.2.1 _ _ i hi (fun j r => (nV j (n1 j (k2 i hi z j r).1)).symm)
  · refine hpost kn V ok ov hP.1 (fun z => ?_) (fun j hj => ⟨(h j hj).2.2.1, (h j hj).2.2.2⟩)
    obtain ⟨k0, k1, ⟨ρ, k2⟩, k3⟩ := hP.2 z
    refine ⟨fun i hi => ⟨fun s j r => (k2 i hi s j r).1, fun s => ?_⟩, ⟨ρ, fun i hi s j r => (k2 i hi s j r).2⟩, k3⟩
    rcases Nat.lt_or_ge i 2 with q | q
    · exact k1 i q
    · have io := ge_io (w z) hk q hi
      have ho : ge_oc (ge_K L R pd) n i < 12 := by have := (ge_df_iff.mp io.2.1).1; have := hk _ io.1; omega
      have := hC _ (by omega) _ ho io.1 io.2.1
      rw [io.2.2] at this
      exact this s
  · rw [(h j hj).1]
    by_cases c : 2 ≤ j
    · rw [if_pos c]; exact Or.inl rfl
    · rw [if_neg c]; exact Or.inr rfl
  · have two : ∀ i j, ge_AR L R O A B pd n i j → 2 ≤ i := fun i j r => ((ge_AR_iff (w z) ro hp8).mp r).1
    have lo : ∀ i, i < 4 * n → kn i = 1 → i < 2 := by
      intro i hi q
      rw [(h i (by omega)).1] at q
      by_cases c : 2 ≤ i
      · rw [if_pos c] at q; exact absurd q (by decide)
      · omega
    refine ⟨fun i hi => ?_, fun i hi => ?_, ⟨fun _ => 0, fun i hi q j r => ?_⟩, fun i hi q => ?_⟩
    · rw [(h i (by omega)).1]
      by_cases c : 2 ≤ i
      · rw [if_pos c]; exact Or.inl rfl
      · rw [if_neg c]; exact Or.inr (Or.inl rfl)
    · rw [(h i (by omega)).1, if_neg (by omega)]
    · have := lo i hi q; have := two i j r; omega
    · have := lo i hi q
      rw [(h i (by omega)).2.1, if_neg (by omega)]
      unfold ge_vl; rw [if_pos this]
/-- the sweep for dependencies -/
theorem gy_sweep2 {post : Int32 → SY → Prop} {n x seed goal : Nat} (hn : n ≤ 24) (hx : x < n) (hseed : seed < 96) (hgoal : goal < 96) (G : gy_G lh L R O A B b_sym b_rules) (ro : ge_RO L R O A B) (w : ge_WF (ge_K L R pd) n) (hp : ∀ x, x < n → (pd x).toNatClampNeg < 8 ∧ pd x = nI (pd x).toNatClampNeg) (T : gy_T pd tk b_tree n) (es : y_size = nI n) (hb : ∀ j, j < 96 → b_known j = 0 ∨ b_known j = 1)
    (hpost : ∀ kn V ok ov, (∀ j, j < 96 → kn j = 0 ∨ kn j = 1) → (kn goal = 1 ↔ ge_Dp L R O A B pd n x (ge_e (ge_K L R pd) n x) seed goal) → post (kn goal) (y_S, y_P, y_N, y_count, y_verdict, y_size, y_fed, y_holes, y_target, y_drafting, b_sym, b_rules, b_root, b_want, b_tree, b_oldTree, b_draft, V, ov, kn, ok, b_has, b_dep)) :
    wpY_sweep post (y_S, y_P, y_N, y_count, y_verdict, y_size, y_fed, y_holes, y_target, y_drafting, b_sym, b_rules, b_root, b_want, b_tree, b_oldTree, b_draft, b_val, b_oldVal, b_known, b_oldKnown, b_has, b_dep) (nI x) (nI seed) (nI goal) := by
  have hk : ∀ x, x < n → ge_K L R pd x ≤ 2 := fun x _ => ge_K_le L R pd x
  have ex := ge_e_spec w hx
  simp only [wpY_sweep]
  refine ⟨97, gy_sw_3 (ini := fun j => if j = seed then 1 else 0) (kn0 := b_known) (V0 := b_val) (fun j _ => ?_) (fun j hj => ?_) hb (fun kn V ok ov h => ?_) 97 0 _ _ _ _ (fun j h => absurd h (Nat.not_lt_zero _)) (fun j _ => ⟨rfl, rfl⟩) (by omega) (by omega)⟩
  · by_cases c : j = seed
    · rw [if_pos c]; exact Or.inr rfl
    · rw [if_neg c]; exact Or.inl rfl
  · rw [if_pos (nI_pos' (by omega))]
    by_cases c : j = seed
    · rw [if_pos c, if_pos (by rw [c])]
    · rw [if_neg c, if_neg (fun z => c ((nI_eq (by omega) (by omega)).mp z))]
  refine gy_end hn G w hp T es hx ⟨27937, ?_⟩
  have d1r : ∀ y o c, y < n → ge_d1 L R O A B (pd y).toNatClampNeg o c → c < 12 := by
    intro y o c _ d
    have := d.2.1
    have := ge_kd_le L R (pd y).toNatClampNeg
    omega
  refine gy_sw_loop (first := x) (last := ge_e (ge_K L R pd) n x) (goal := goal) (md := false) (rt := fun _ => 0) (P := fun kn _ => (∀ j, j < 96 → kn j = 0 ∨ kn j = 1) ∧ kn seed = 1 ∧ ∀ j, kn j = 1 → j < 96 → ge_Dp L R O A B pd n x (ge_e (ge_K L R pd) n x) seed j)
    (C := fun kn y o => x ≤ y → y < ge_e (ge_K L R pd) n x → ∀ c, ge_d1 L R O A B (pd y).toNatClampNeg o c → kn (ge_ins (ge_e (ge_K L R pd) n) y c) = 1 → kn (ge_ins (ge_e (ge_K L R pd) n) y o) = 1)
    hn ex.2.1 (by omega) hgoal G ro (fun _ => w) hp T es ⟨fun z => absurd z (by decide), fun z => absurd (nI_pos' (by omega)) z⟩ (fun kn V hP => hP.1) (fun kn V y o hy ho hP hc y1 y2 c d hkc => ?_) (fun kn V y o hy ho hP hc => ?_) (fun kn V hP hC => ?_) 27937 0 0 kn V ⟨fun j hj => ?_, ?_, fun j q hj => ?_⟩ (fun k hk _ => absurd hk (Nat.not_lt_zero _)) (by omega) (by omega) (by omega) (by omega) (by omega)
  · have yn : y < n := by omega
    have io := ge_io2 w hk yn d.1
    have c12 := d1r y o c yn d
    rcases hP.1 _ (show ge_ins (ge_e (ge_K L R pd) n) y o < 96 by omega) with z | z
    · exfalso
      refine hc ⟨y1, y2, d.1, z, fun q => absurd q (by decide), fun _ => ?_⟩
      have nk : ¬ kn (ge_ins (ge_e (ge_K L R pd) n) y c) = 0 := by rw [hkc]; decide
      rcases d.2.2 with ⟨q1, q2⟩ | ⟨q1, q2⟩
      · exact ⟨q1, Or.inl (by rw [q2, nI_clamp (by omega)]; exact nk)⟩
      · exact ⟨ge_i32_32 q1, Or.inr ⟨q1, by rw [q2, nI_clamp (by omega)]; exact nk⟩⟩
    · exact z
  · obtain ⟨c1, c2, df, c4, c5⟩ := hc
    have yn : y < n := by omega
    have io := ge_io2 w hk yn df
    have ho' : o < 12 := ho
    obtain ⟨r0, r1, r2⟩ := ro _ (hp y yn).1 o ho'
    have dp : ge_Dp L R O A B pd n x (ge_e (ge_K L R pd) n x) seed (ge_ins (ge_e (ge_K L R pd) n) y o) := by
      obtain ⟨o2, f⟩ := c5.2 (by decide)
      have use : ∀ c, ge_d1 L R O A B (pd y).toNatClampNeg o c → ¬ kn (ge_ins (ge_e (ge_K L R pd) n) y c) = 0 → ge_Dp L R O A B pd n x (ge_e (ge_K L R pd) n x) seed (ge_ins (ge_e (ge_K L R pd) n) y o) := by
        intro c d nz
        have lt := ge_ins_lt w hk yn d.2.1
        exact ge_Dp_c c1 c2 d (hP.2.2 _ ((hP.1 _ (by omega)).resolve_left nz) (by omega))
      rcases f with f | ⟨o3, f⟩
      · obtain ⟨c, hc, ec⟩ := r1 o2
        have : c < 12 := by have := ge_kd_le L R (pd y).toNatClampNeg; omega
        rw [ec, nI_clamp (by omega)] at f
        exact use c ⟨df, hc, Or.inl ⟨o2, ec⟩⟩ f
      · obtain ⟨c, hc, ec⟩ := r2 o3
        have : c < 12 := by have := ge_kd_le L R (pd y).toNatClampNeg; omega
        rw [ec, nI_clamp (by omega)] at f
        exact use c ⟨df, hc, Or.inr ⟨o3, ec⟩⟩ f
    refine ⟨fun j hj => ?_, ?_, fun j q hj => ?_⟩
    · by_cases e : j = ge_ins (ge_e (ge_K L R pd) n) y o
      · rw [e, pk_us]; exact Or.inr rfl
      · rw [pk_un e]; exact hP.1 j hj
    · by_cases e : seed = ge_ins (ge_e (ge_K L R pd) n) y o
      · rw [← e, pk_us]
      · rw [pk_un e]; exact hP.2.1
    · by_cases e : j = ge_ins (ge_e (ge_K L R pd) n) y o
      · rw [e]; exact dp
      · rw [pk_un e] at q; exact hP.2.2 j q hj
  · refine hpost kn V ok ov hP.1 ⟨fun q => hP.2.2 goal q hgoal, fun q => ?_⟩
    refine q (fun j => kn j = 1) hP.2.1 (fun y o c y1 y2 d hkc => ?_)
    have := (ge_df_iff.mp d.1).1
    have := ge_kd_le L R (pd y).toNatClampNeg
    exact hC y (by omega) o (by omega) y1 y2 c d hkc
  · rw [(h j hj).1]
    by_cases c : j = seed
    · rw [if_pos c]; exact Or.inr rfl
    · rw [if_neg c]; exact Or.inl rfl
  · rw [(h seed hseed).1, if_pos rfl]
  · rw [(h j hj).1] at q
    by_cases c : j = seed
    · rw [c]; exact ge_Dp_r
    · rw [if_neg c] at q; exact absurd q (by decide)
end
end
section
/-! Y: join and check -/
theorem ge_rem1728 {o : Nat} (h : o < 2 ^ 31) : nI o - nI o / 1728 * 1728 = nI (o % 1728) := pk_rem (d := 1728) h (by omega) (by omega)
theorem ge_rem144 {o : Nat} (h : o < 2 ^ 31) : nI o - nI o / 144 * 144 = nI (o % 144) := pk_rem (d := 144) h (by omega) (by omega)
theorem ge_rem16 {o : Nat} (h : o < 2 ^ 31) : nI o - nI o / 16 * 16 = nI (o % 16) := pk_rem (d := 16) h (by omega) (by omega)
theorem ge_rem2048 {o : Nat} (h : o < 2 ^ 31) : nI o - nI o / 2048 * 2048 = nI (o % 2048) := pk_rem (d := 2048) h (by omega) (by omega)
theorem ge_div144 {o : Nat} (h : o < 2 ^ 31) : nI o / 144 = nI (o / 144) := pk_div (d := 144) h (by omega) (by omega)
theorem ge_div16 {o : Nat} (h : o < 2 ^ 31) : nI o / 16 = nI (o / 16) := pk_div (d := 16) h (by omega) (by omega)
theorem ge_div256 {o : Nat} (h : o < 2 ^ 31) : nI o / 256 = nI (o / 256) := pk_div (d := 256) h (by omega) (by omega)
theorem ge_m12r (a : Nat) : nI a * 12 = nI (a * 12) := pk_mul a 12
def gy_HY (ha : Nat → Int32) (s g : Nat) : Prop := ha (16 * s + g) = 1
/-- after four doubling passes a relation is transitively closed -/
def gy_PI (D : Nat → Nat → Prop) (de : Nat → Int32) (i : Nat) : Prop :=
  (∀ a, a < 12 → ∀ c, c < 12 → ¬ de (12 * a + c) = 0 → ge_TC D a c) ∧ (∀ a, a < 12 → ∀ c, c < 12 → ge_P D (2 ^ (i / 1728) - 1) a c → ¬ de (12 * a + c) = 0) ∧
  (∀ k, 1728 * (i / 1728) ≤ k → k < i → ge_P D (2 ^ (i / 1728) - 1) (k % 1728 / 144) (k % 144 / 12) → ge_P D (2 ^ (i / 1728) - 1) (k % 144 / 12) (k % 12) → ¬ de (12 * (k % 1728 / 144) + k % 12) = 0)
theorem gy_PI_s {D : Nat → Nat → Prop} (hD : ∀ x y, D x y → x < 12 ∧ y < 12) {de de' : Nat → Int32} {i : Nat} (h : gy_PI D de i) (h1 : ∀ j, ¬ de j = 0 → ¬ de' j = 0)
    (h2 : ¬ de (12 * (i % 1728 / 144) + i % 144 / 12) = 0 → ¬ de (12 * (i % 144 / 12) + i % 12) = 0 → ¬ de' (12 * (i % 1728 / 144) + i % 12) = 0)
    (h3 : ∀ j, ¬ de' j = 0 → de j = 0 → j = 12 * (i % 1728 / 144) + i % 12 ∧ ¬ de (12 * (i % 1728 / 144) + i % 144 / 12) = 0 ∧ ¬ de (12 * (i % 144 / 12) + i % 12) = 0) : gy_PI D de' (i + 1) := by
  obtain ⟨a1, a2, a3⟩ := h
  have sound : ∀ a, a < 12 → ∀ c, c < 12 → ¬ de' (12 * a + c) = 0 → ge_TC D a c := by
    intro a ha c hc z
    by_cases y : de (12 * a + c) = 0
    · obtain ⟨q1, q2, q3⟩ := h3 _ z y
      have e1 : i % 1728 / 144 = a := by omega
      have e2 : i % 12 = c := by omega
      rw [e1] at q2; rw [e2] at q3
      exact ge_TC_t (a1 a ha _ (by omega) q2) (a1 _ (by omega) c hc q3)
    · exact a1 a ha c hc y
  have step : ∀ k, 1728 * (i / 1728) ≤ k → k < i + 1 → ge_P D (2 ^ (i / 1728) - 1) (k % 1728 / 144) (k % 144 / 12) → ge_P D (2 ^ (i / 1728) - 1) (k % 144 / 12) (k % 12) → ¬ de' (12 * (k % 1728 / 144) + k % 12) = 0 := by
    intro k k1 k2 p1 p2
    rcases Nat.lt_or_ge k i with z | z
    · exact h1 _ (a3 k k1 z p1 p2)
    · have e : k = i := by omega
      subst e
      exact h2 (a2 _ (by omega) _ (by omega) p1) (a2 _ (by omega) _ (by omega) p2)
  rcases Nat.lt_or_ge ((i + 1) % 1728) 1 with z | z
  · -- a pass ends
    have e : (i + 1) / 1728 = i / 1728 + 1 := by omega
    refine ⟨sound, ?_, fun k k1 k2 => by omega⟩
    intro a ha c hc p
    rw [e] at p
    have pw : 2 ^ (i / 1728 + 1) - 1 = (2 ^ (i / 1728) - 1) + (2 ^ (i / 1728) - 1) + 1 := by
      have : 0 < 2 ^ (i / 1728) := Nat.two_pow_pos _
      rw [Nat.pow_succ]; omega
    rw [pw] at p
    rcases ge_P_dec _ _ p with q | ⟨y, q1, q2⟩
    · exact h1 _ (a2 a ha c hc q)
    · have hy : y < 12 := (ge_TC_dom hD (ge_P_tc _ q1)).2
      have := step (1728 * (i / 1728) + 144 * a + 12 * y + c) (by omega) (by omega)
      rw [show (1728 * (i / 1728) + 144 * a + 12 * y + c) % 1728 / 144 = a by omega, show (1728 * (i / 1728) + 144 * a + 12 * y + c) % 144 / 12 = y by omega, show (1728 * (i / 1728) + 144 * a + 12 * y + c) % 12 = c by omega] at this
      exact this q1 q2
  · have e : (i + 1) / 1728 = i / 1728 := by omega
    refine ⟨sound, fun a ha c hc p => h1 _ (a2 a ha c hc (by rw [← e]; exact p)), fun k k1 k2 p1 p2 => ?_⟩
    rw [e] at k1 p1 p2
    exact step k k1 k2 p1 p2
theorem gy_PI_0 {D : Nat → Nat → Prop} {de : Nat → Int32} (h : ∀ a, a < 12 → ∀ c, c < 12 → (¬ de (12 * a + c) = 0 ↔ D a c)) : gy_PI D de 0 :=
  ⟨fun a ha c hc z => ge_TC_i ((h a ha c hc).mp z), fun a ha c hc p => (h a ha c hc).mpr p, fun k k1 k2 => by omega⟩
theorem gy_PI_e {D : Nat → Nat → Prop} (hD : ∀ x y, D x y → x < 12 ∧ y < 12) {de : Nat → Int32} (h : gy_PI D de 6912) : ∀ a, a < 12 → ∀ c, c < 12 → (¬ de (12 * a + c) = 0 ↔ ge_TC D a c) := by
  intro a ha c hc
  refine ⟨h.1 a ha c hc, fun t => ?_⟩
  have := h.2.1 a ha c hc
  rw [show 2 ^ (6912 / 1728) - 1 = 15 by decide] at this
  exact this (ge_TC_P (fun x y d => (hD x y d).2) t)
section
variable {y_S y_P y_N y_count y_verdict y_size y_fed y_holes y_target y_drafting : Int32} {b_sym b_rules b_root b_want b_tree b_oldTree b_draft b_val b_oldVal b_known b_oldKnown b_has b_dep : Nat → Int32}
variable {lh L R O A B : Nat → Int32}
theorem gy_possible {x : Int32} {g : Nat} (hx : 0 ≤ x → ∃ s, s < 4 ∧ x = nI s) (hg : g < 16) (hb : ∀ j, j < 64 → b_has j = 0 ∨ b_has j = 1) {post : Int32 → Prop} (h : ∀ v, (¬ v = 0 ↔ ge_ps (gy_HY b_has) x g) → post v) : wpY_possible post (y_S, y_P, y_N, y_count, y_verdict, y_size, y_fed, y_holes, y_target, y_drafting, b_sym, b_rules, b_root, b_want, b_tree, b_oldTree, b_draft, b_val, b_oldVal, b_known, b_oldKnown, b_has, b_dep) x (nI g) := by
  simp only [wpY_possible]
  refine br_c (fun c => ?_) (fun c => ?_)
  · obtain ⟨s, hs, es⟩ := hx c
    subst es
    rw [ge_m16, nI_add, nI_clamp (by omega)]
    refine ⟨vp_in_nI (by omega) (by decide), ge_nb (hb _ (by omega)), h _ ?_⟩
    unfold ge_ps gy_HY
    rw [nI_clamp (by omega)]
    rcases hb (16 * s + g) (by omega) with e | e <;> rw [e]
    · exact ⟨fun z => absurd rfl z, fun z => absurd (z.1 c) (by decide)⟩
    · exact ⟨fun _ => ⟨fun _ => rfl, fun z => absurd c z⟩, fun _ => by decide⟩
  · refine pk_eq g 0 (fun e => h 1 ?_) (fun e => h 0 ?_)
    · exact ⟨fun _ => ⟨fun z => absurd z c, fun _ => e⟩, fun _ => by decide⟩
    · exact ⟨fun z => absurd rfl z, fun z => absurd (z.2 c) e⟩
theorem gy_direct {p g1 g2 o x : Nat} (G : gy_G lh L R O A B b_sym b_rules) (ro : ge_RO L R O A B) (hp : p < 8) (ho : o < 12) (hx : x < 12) (h1 : g1 < 16) (h2 : g2 < 16) (k1 : ge_kd L R p < 1 → g1 = 0) (k2 : ge_kd L R p < 2 → g2 = 0) {post : Int32 → Prop}
    (h : ∀ v, (v = 0 ∨ v = 1) → (¬ v = 0 ↔ ge_dir L R O A B p g1 g2 o x) → post v) : wpY_direct post (y_S, y_P, y_N, y_count, y_verdict, y_size, y_fed, y_holes, y_target, y_drafting, b_sym, b_rules, b_root, b_want, b_tree, b_oldTree, b_draft, b_val, b_oldVal, b_known, b_oldKnown, b_has, b_dep) (nI p) (nI g1) (nI g2) (nI o) (nI x) := by
  have yes : ge_dir L R O A B p g1 g2 o x → post 1 := fun d => h 1 (Or.inr rfl) ⟨fun _ => d, fun _ => by decide⟩
  have no : ¬ ge_dir L R O A B p g1 g2 o x → post 0 := fun d => h 0 (Or.inl rfl) ⟨fun z => absurd rfl z, fun z => absurd z d⟩
  obtain ⟨r0, r1, r2⟩ := ro p hp o ho
  have kd2 := ge_kd_le L R p
  have hr := G.2 (12 * p + o) (by omega)
  have key : ∀ g, g < 16 → g = (if o < 8 then g1 else g2) → wY_direct_23 post (nI p) (nI o) (nI x) (nI (3 * (12 * p + o))) (nI g) y_S y_P y_N y_count y_verdict y_size y_fed y_holes y_target y_drafting b_sym b_rules b_root b_want b_tree b_oldTree b_draft b_val b_oldVal b_known b_oldKnown b_has b_dep := by
    intro g hg eg
    unfold wY_direct_23 wY_direct_60
    refine gy_defined G hp (by omega) ?_
    rw [nI_1, ge_p2, nI_clamp (show 3 * (12 * p + o) < 2 ^ 31 by omega), nI_clamp (show 3 * (12 * p + o) + 1 < 2 ^ 31 by omega), nI_clamp (show 3 * (12 * p + o) + 2 < 2 ^ 31 by omega), hr.1, hr.2.1, hr.2.2]
    have v0 : vp_in (nI (3 * (12 * p + o))) 288 := vp_in_nI (by omega) (by decide)
    have v1 : vp_in (nI (3 * (12 * p + o) + 1)) 288 := vp_in_nI (by omega) (by decide)
    have v2 : vp_in (nI (3 * (12 * p + o) + 2)) 288 := vp_in_nI (by omega) (by decide)
    refine ge_dI_br (fun df => ?_) (fun df => ?_)
    · have ng : ¬ (4 ≤ o ∧ o < 4 + 4 * ge_kd L R p ∧ 2 ≤ o % 4 ∧ x / 4 = o / 4 ∧ x % 4 < 2 ∧ Nat.testBit (if o < 8 then g1 else g2) (2 * (x % 4) + o % 4 - 2) = true) := by
        intro z; have := (ge_df_iff.mp df).2; omega
      have second : ¬ (2 ≤ O (12 * p + o) ∧ A (12 * p + o) = nI x) → vp_in (nI (3 * (12 * p + o))) 288 ∧ ((((O (12 * p + o)) < 3 → (post 0)) ∧ (¬ (O (12 * p + o)) < 3 → (vp_in (nI (3 * (12 * p + o) + 2)) 288 ∧ ((((B (12 * p + o)) = nI x → (post 1)) ∧ (¬ (B (12 * p + o)) = nI x → (post 0)))))))) := by
        intro na
        refine ⟨v0, br_c (fun c => no ?_) (fun c => ⟨v2, br_c (fun d => yes ?_) (fun d => no ?_)⟩)⟩
        · rintro (z | z)
          · rcases z.2.2 with y | y
            · exact na y
            · exact absurd y.1 (Int32.not_le.mpr c)
          · exact ng z
        · obtain ⟨b, hb, eb⟩ := r2 (Int32.not_lt.mp c)
          have e := d; rw [eb, nI_eq (by omega) (by omega)] at e
          exact Or.inl ⟨df, by omega, Or.inr ⟨Int32.not_lt.mp c, d⟩⟩
        · rintro (z | z)
          · rcases z.2.2 with y | y
            · exact na y
            · exact d y.2
          · exact ng z
      refine ⟨v0, br_c (fun c => second (fun z => absurd z.1 (Int32.not_le.mpr c))) (fun c => ⟨v1, br_c (fun d => yes ?_) (fun d => second (fun z => d z.2))⟩)⟩
      obtain ⟨a, ha, ea⟩ := r1 (Int32.not_lt.mp c)
      have e := d; rw [ea, nI_eq (by omega) (by omega)] at e
      exact Or.inl ⟨df, by omega, Or.inl ⟨Int32.not_lt.mp c, d⟩⟩
    · have nd : ge_dir L R O A B p g1 g2 o x → (4 ≤ o ∧ o < 4 + 4 * ge_kd L R p ∧ 2 ≤ o % 4 ∧ x / 4 = o / 4 ∧ x % 4 < 2 ∧ Nat.testBit (if o < 8 then g1 else g2) (2 * (x % 4) + o % 4 - 2) = true) := by
        rintro (z | z)
        · exact absurd z.1 df
        · exact z
      rw [ge_rem4 (show o < 2 ^ 31 by omega), ge_rem4 (show x < 2 ^ 31 by omega), ge_div4 (show o < 2 ^ 31 by omega), ge_div4 (show x < 2 ^ 31 by omega)]
      refine pk_lt o 4 (fun c => no (fun z => by have := nd z; omega)) (fun c => ⟨by decide, ?_⟩)
      refine pk_lt (o % 4) 2 (fun c2 => no (fun z => by have := nd z; omega)) (fun c2 => ⟨by decide, by decide, ?_⟩)
      refine pk_eq (x / 4) (o / 4) (fun c3 => ⟨by decide, ?_⟩) (fun c3 => no (fun z => by have := nd z; omega))
      refine pk_le 2 (x % 4) (fun c4 => no (fun z => by have := nd z; omega)) (fun c4 => ⟨by decide, by decide, ?_⟩)
      have es : 2 * nI (x % 4) + nI (o % 4) - 2 = nI (2 * (x % 4) + o % 4 - 2) := by rw [ge_m2, nI_add]; exact pk_sub (b := 2) (by omega)
      rw [es]
      have tb : bt (nI g) (2 * (x % 4) + o % 4 - 2) = Nat.testBit g (2 * (x % 4) + o % 4 - 2) := ge_bt_nI (by omega) (by omega)
      by_cases hb : bt (nI g) (2 * (x % 4) + o % 4 - 2) = true
      · refine br_t ((ge_bit_t (by omega)).mpr hb) (yes (Or.inr ⟨c, ?_, c2, c3, c4, by rw [← eg, ← tb]; exact hb⟩))
        rcases Nat.lt_or_ge o (4 + 4 * ge_kd L R p) with y | y
        · exact y
        · exfalso
          have g0 : g = 0 := by
            rw [eg]
            by_cases o8 : o < 8
            · rw [if_pos o8]; exact k1 (by omega)
            · rw [if_neg o8]; exact k2 (by omega)
          rw [tb, g0, Nat.zero_testBit] at hb; exact absurd hb (by decide)
      · refine br_f (fun y => hb ((ge_bit_t (by omega)).mp y)) (no (fun z => hb ?_))
        rw [tb, eg]; exact (nd z).2.2.2.2.2
  simp only [wpY_direct]
  refine nm_r (e' := nI (3 * (12 * p + o))) (by rw [ge_m36, ge_m3, nI_add]; congr 1; omega) ?_
  refine pk_le 8 o (fun c => key g2 h2 (if_neg (by omega)).symm) (fun c => key g1 h1 (if_pos c).symm)
theorem gy_join_210 {p g1 g2 s : Nat} (hs : s < 4) (hde : ∀ a, a < 12 → ∀ c, c < 12 → (¬ b_dep (12 * a + c) = 0 ↔ ge_TC (ge_dir L R O A B p g1 g2) a c)) {post : Int32 → SY → Prop}
    (h : ∀ r, (r = 0 ∧ ¬ b_has (16 * s + ge_CG L R O A B p g1 g2) = 0) ∨ (r = 1 ∧ b_has (16 * s + ge_CG L R O A B p g1 g2) = 0) → post r (y_S, y_P, y_N, y_count, y_verdict, y_size, y_fed, y_holes, y_target, y_drafting, b_sym, b_rules, b_root, b_want, b_tree, b_oldTree, b_draft, b_val, b_oldVal, b_known, b_oldKnown, upd b_has (16 * s + ge_CG L R O A B p g1 g2) 1, b_dep)) :
    wY_join_210 post y_S y_P y_N y_count y_verdict y_size y_fed y_holes y_target y_drafting b_sym b_rules b_root b_want b_tree b_oldTree b_draft b_val b_oldVal b_known b_oldKnown b_has b_dep 5 (nI (16 * s)) 0 := by
  have cg := ge_CG_lt L R O A B p g1 g2
  have l0 := ge_b_le (ge_TC (ge_dir L R O A B p g1 g2) 2 0)
  have l1 := ge_b_le (ge_TC (ge_dir L R O A B p g1 g2) 3 0)
  have l2 := ge_b_le (ge_TC (ge_dir L R O A B p g1 g2) 2 1)
  have l3 := ge_b_le (ge_TC (ge_dir L R O A B p g1 g2) 3 1)
  have eCG : ge_CG L R O A B p g1 g2 = ge_b (ge_TC (ge_dir L R O A B p g1 g2) 2 0) + 2 * ge_b (ge_TC (ge_dir L R O A B p g1 g2) 3 0) + 4 * ge_b (ge_TC (ge_dir L R O A B p g1 g2) 2 1) + 8 * ge_b (ge_TC (ge_dir L R O A B p g1 g2) 3 1) := rfl
  have one : ∀ (b a c idx : Nat) (ix : Int32) (f : Nat), b < 4 → a < 12 → c < 12 → idx = 12 * a + c → ix = nI idx → f < 100 → ∀ (K : Int32 → Prop), (∀ f', f' = f + 2 ^ b * ge_b (ge_TC (ge_dir L R O A B p g1 g2) a c) → K (nI f')) →
      vp_in ix 144 ∧ ((b_dep ix.toNatClampNeg = 0 → K (nI f)) ∧ (¬ b_dep ix.toNatClampNeg = 0 → ∀ y, y = nI f + ((1 : Int32) <<< (nI b &&& 31)) → K y)) := by
    intro b a c idx ix f hb ha hc ei e2 hf K hK
    subst ei e2
    rw [nI_clamp (by omega)]
    refine ⟨vp_in_nI (by omega) (by decide), br_c (fun d => ?_) (fun d => nm_r (e' := nI (f + 2 ^ b * 1)) ?_ ?_)⟩
    · refine hK f ?_
      rw [ge_bf (fun z => (hde a ha c hc).mpr z d)]; omega
    · have : ∀ b, b < 4 → (1 : Int32) <<< (nI b &&& 31) = nI (2 ^ b * 1) := by decide
      rw [this b hb, nI_add]
    · refine hK _ ?_
      rw [ge_bt ((hde a ha c hc).mp d)]
  suffices H0 : ∀ f0, f0 = 16 * s + ge_b (ge_TC (ge_dir L R O A B p g1 g2) 2 0) → wY_join_210 post y_S y_P y_N y_count y_verdict y_size y_fed y_holes y_target y_drafting b_sym b_rules b_root b_want b_tree b_oldTree b_draft b_val b_oldVal b_known b_oldKnown b_has b_dep 4 (nI f0) 1 by
    obtain ⟨q1, q2, q3⟩ := one 0 2 0 24 (12 * (2 + ((0 : Int32) - 0 / 2 * 2)) + 0 / 2) (16 * s) (by decide) (by decide) (by decide) rfl (by decide) (by omega) (fun x4 => wY_join_210 post y_S y_P y_N y_count y_verdict y_size y_fed y_holes y_target y_drafting b_sym b_rules b_root b_want b_tree b_oldTree b_draft b_val b_oldVal b_known b_oldKnown b_has b_dep 4 x4 1) (fun f' e' => H0 f' (by rw [e']; omega))
    exact br_f (by decide) ⟨by decide, by decide, q1, fun z => nm_r (e' := 1) (by decide) (q2 z), fun z y e => nm_r (e' := 1) (by decide) (q3 z y e)⟩
  intro f0 e0
  suffices H1 : ∀ f1, f1 = 16 * s + ge_b (ge_TC (ge_dir L R O A B p g1 g2) 2 0) + 2 * ge_b (ge_TC (ge_dir L R O A B p g1 g2) 3 0) → wY_join_210 post y_S y_P y_N y_count y_verdict y_size y_fed y_holes y_target y_drafting b_sym b_rules b_root b_want b_tree b_oldTree b_draft b_val b_oldVal b_known b_oldKnown b_has b_dep 3 (nI f1) 2 by
    obtain ⟨q1, q2, q3⟩ := one 1 3 0 36 (12 * (2 + ((1 : Int32) - 1 / 2 * 2)) + 1 / 2) f0 (by decide) (by decide) (by decide) rfl (by decide) (by omega) (fun x4 => wY_join_210 post y_S y_P y_N y_count y_verdict y_size y_fed y_holes y_target y_drafting b_sym b_rules b_root b_want b_tree b_oldTree b_draft b_val b_oldVal b_known b_oldKnown b_has b_dep 3 x4 2) (fun f' e' => H1 f' (by rw [e', e0]))
    exact br_f (by decide) ⟨by decide, by decide, q1, fun z => nm_r (e' := 2) (by decide) (q2 z), fun z y e => nm_r (e' := 2) (by decide) (q3 z y e)⟩
  intro f1 e1
  suffices H2 : ∀ f2, f2 = 16 * s + ge_b (ge_TC (ge_dir L R O A B p g1 g2) 2 0) + 2 * ge_b (ge_TC (ge_dir L R O A B p g1 g2) 3 0) + 4 * ge_b (ge_TC (ge_dir L R O A B p g1 g2) 2 1) → wY_join_210 post y_S y_P y_N y_count y_verdict y_size y_fed y_holes y_target y_drafting b_sym b_rules b_root b_want b_tree b_oldTree b_draft b_val b_oldVal b_known b_oldKnown b_has b_dep 2 (nI f2) 3 by
    obtain ⟨q1, q2, q3⟩ := one 2 2 1 25 (12 * (2 + ((2 : Int32) - 2 / 2 * 2)) + 2 / 2) f1 (by decide) (by decide) (by decide) rfl (by decide) (by omega) (fun x4 => wY_join_210 post y_S y_P y_N y_count y_verdict y_size y_fed y_holes y_target y_drafting b_sym b_rules b_root b_want b_tree b_oldTree b_draft b_val b_oldVal b_known b_oldKnown b_has b_dep 2 x4 3) (fun f' e' => H2 f' (by rw [e', e1]))
    exact br_f (by decide) ⟨by decide, by decide, q1, fun z => nm_r (e' := 3) (by decide) (q2 z), fun z y e => nm_r (e' := 3) (by decide) (q3 z y e)⟩
  intro f2 e2
  suffices H3 : ∀ f3, f3 = 16 * s + ge_b (ge_TC (ge_dir L R O A B p g1 g2) 2 0) + 2 * ge_b (ge_TC (ge_dir L R O A B p g1 g2) 3 0) + 4 * ge_b (ge_TC (ge_dir L R O A B p g1 g2) 2 1) + 8 * ge_b (ge_TC (ge_dir L R O A B p g1 g2) 3 1) → wY_join_210 post y_S y_P y_N y_count y_verdict y_size y_fed y_holes y_target y_drafting b_sym b_rules b_root b_want b_tree b_oldTree b_draft b_val b_oldVal b_known b_oldKnown b_has b_dep 1 (nI f3) 4 by
    obtain ⟨q1, q2, q3⟩ := one 3 3 1 37 (12 * (2 + ((3 : Int32) - 3 / 2 * 2)) + 3 / 2) f2 (by decide) (by decide) (by decide) rfl (by decide) (by omega) (fun x4 => wY_join_210 post y_S y_P y_N y_count y_verdict y_size y_fed y_holes y_target y_drafting b_sym b_rules b_root b_want b_tree b_oldTree b_draft b_val b_oldVal b_known b_oldKnown b_has b_dep 1 x4 4) (fun f' e' => H3 f' (by rw [e', e2]))
    exact br_f (by decide) ⟨by decide, by decide, q1, fun z => nm_r (e' := 4) (by decide) (q2 z), fun z y e => nm_r (e' := 4) (by decide) (q3 z y e)⟩
  intro f3 e3
  have e3' : f3 = 16 * s + ge_CG L R O A B p g1 g2 := by rw [e3, eCG]; omega
  rw [e3']
  have fv : vp_in (nI (16 * s + ge_CG L R O A B p g1 g2)) 64 := vp_in_nI (by omega) (by decide)
  have ef : (nI (16 * s + ge_CG L R O A B p g1 g2)).toNatClampNeg = 16 * s + ge_CG L R O A B p g1 g2 := nI_clamp (by omega)
  refine br_t (by decide) ⟨fv, ?_⟩
  rw [ef]
  refine br_c (fun d => ?_) (fun d => ?_)
  · unfold wY_join_268
    rw [ef]
    exact ⟨fv, nm_r (congrArg (upd b_has _) ge_vn1) ⟨narrow_b1, h 1 (Or.inr ⟨rfl, d⟩)⟩⟩
  · unfold wY_join_268
    rw [ef]
    exact ⟨fv, nm_r (congrArg (upd b_has _) ge_vn1) ⟨narrow_b0, h 0 (Or.inl ⟨rfl, d⟩)⟩⟩
theorem gy_join_176 {p g1 g2 : Nat} {x4 : Int32} (hde : ∀ a, a < 12 → ∀ c, c < 12 → (¬ b_dep (12 * a + c) = 0 ↔ ge_TC (ge_dir L R O A B p g1 g2) a c)) {post : Int32 → SY → Prop} {v0 : Int32}
    (h : ∀ v, (ge_LP L R O A B p g1 g2 → v = 2) → (¬ ge_LP L R O A B p g1 g2 → v = v0) → ∃ n210, wY_join_210 post y_S y_P y_N y_count v y_size y_fed y_holes y_target y_drafting b_sym b_rules b_root b_want b_tree b_oldTree b_draft b_val b_oldVal b_known b_oldKnown b_has b_dep n210 x4 0) :
    ∀ (fuel o : Nat) (v : Int32), ((v = v0 ∧ ∀ o', o' < o → ¬ ge_TC (ge_dir L R O A B p g1 g2) o' o') ∨ (v = 2 ∧ ge_LP L R O A B p g1 g2)) → o ≤ 12 → 12 - o < fuel →
      wY_join_176 post x4 y_S y_P y_N y_count y_size y_fed y_holes y_target y_drafting b_sym b_rules b_root b_want b_tree b_oldTree b_draft b_val b_oldVal b_known b_oldKnown b_has b_dep fuel (nI o) v := by
  intro fuel
  induction fuel with
  | zero => intro o v _ _ h; omega
  | succ fuel ih =>
    intro o v hv ho hf
    refine pk_le 12 o (fun z => ?_) (fun z => ?_)
    · refine h v (fun lp => ?_) (fun nlp => ?_)
      · rcases hv with ⟨_, q⟩ | ⟨q, _⟩
        · obtain ⟨o', t⟩ := lp
          have k2 := ge_kd_le L R p
          have := (ge_TC_dom (A := fun x => x < 12) (B := fun _ => True) (fun x y d => ⟨by have := (ge_dir_r d).1; omega, trivial⟩) t).1
          exact absurd t (q o' (by omega))
        · exact q
      · rcases hv with ⟨q, _⟩ | ⟨_, q⟩
        · exact q
        · exact absurd q nlp
    · rw [ge_m13, nI_clamp (by omega), show 13 * o = 12 * o + o by omega]
      refine ⟨vp_in_nI (by omega) (by decide), br_c (fun d => nm_r (nI_1 o) (ih (o + 1) v ?_ (by omega) (by omega))) (fun d => nm_r (nI_1 o) (ih (o + 1) 2 (Or.inr ⟨rfl, o, (hde o z o z).mp d⟩) (by omega) (by omega)))⟩
      rcases hv with ⟨q, q2⟩ | q
      · refine Or.inl ⟨q, fun o' h' t => ?_⟩
        rcases Nat.lt_or_ge o' o with y | y
        · exact q2 o' y t
        · rw [show o' = o by omega] at t; exact (hde o z o z).mpr t d
      · exact Or.inr q
theorem gy_join_90 {p s : Nat} (hp : p < 8) (es : b_sym (3 * p) = nI s) {D : Nat → Nat → Prop} (hD : ∀ x y, D x y → x < 12 ∧ y < 12) {post : Int32 → SY → Prop}
    (h : ∀ de, (∀ a, a < 12 → ∀ c, c < 12 → (¬ de (12 * a + c) = 0 ↔ ge_TC D a c)) → ∃ n176, wY_join_176 post (nI (16 * s)) y_S y_P y_N y_count y_size y_fed y_holes y_target y_drafting b_sym b_rules b_root b_want b_tree b_oldTree b_draft b_val b_oldVal b_known b_oldKnown b_has de n176 0 y_verdict) :
    ∀ (fuel i : Nat) (de : Nat → Int32), gy_PI D de i → i ≤ 6912 → 6912 - i < fuel → wY_join_90 post (nI p) y_S y_P y_N y_count y_verdict y_size y_fed y_holes y_target y_drafting fuel (nI i) b_sym b_rules b_root b_want b_tree b_oldTree b_draft b_val b_oldVal b_known b_oldKnown b_has de := by
  intro fuel
  induction fuel with
  | zero => intro i de _ _ h; omega
  | succ fuel ih =>
    intro i de hI hi hf
    refine pk_le 6912 i (fun z => ?_) (fun z => ?_)
    · have e : i = 6912 := by omega
      subst e
      rw [ge_m3, nI_clamp (by omega)]
      exact ⟨vp_in_nI (by omega) (by decide), nm_r (e' := nI (16 * s)) (by rw [es, ge_m16]) (h de (gy_PI_e hD hI))⟩
    · rw [ge_rem1728 (show i < 2 ^ 31 by omega), ge_rem144 (show i < 2 ^ 31 by omega), ge_rem12 (show i < 2 ^ 31 by omega), ge_div12 (show i % 1728 < 2 ^ 31 by omega), ge_div144 (show i % 1728 < 2 ^ 31 by omega), ge_m12r, nI_add,
        nI_clamp (show i % 1728 / 12 < 2 ^ 31 by omega), nI_clamp (show i % 144 < 2 ^ 31 by omega), nI_clamp (show i % 1728 / 144 * 12 + i % 12 < 2 ^ 31 by omega)]
      have e1 : i % 1728 / 12 = 12 * (i % 1728 / 144) + i % 144 / 12 := by omega
      have e2 : i % 144 = 12 * (i % 144 / 12) + i % 12 := by omega
      have e3 : i % 1728 / 144 * 12 + i % 12 = 12 * (i % 1728 / 144) + i % 12 := by omega
      refine ⟨by decide, by decide, vp_in_nI (by omega) (by decide), br_c (fun d => nm_r (nI_1 i) (ih (i + 1) de (gy_PI_s hD hI (fun _ q => q) ?_ ?_) (by omega) (by omega))) (fun d => ⟨by decide, vp_in_nI (by omega) (by decide), br_c (fun d2 => nm_r (nI_1 i) (ih (i + 1) de (gy_PI_s hD hI (fun _ q => q) ?_ ?_) (by omega) (by omega))) (fun d2 => ⟨by decide, by decide, by decide, vp_in_nI (by omega) (by decide), nm_r (e' := upd de (12 * (i % 1728 / 144) + i % 12) 1) (by rw [ge_vn1, e3]) (nm_r (nI_1 i) (ih (i + 1) _ (gy_PI_s hD hI ?_ ?_ ?_) (by omega) (by omega)))⟩)⟩)⟩
      · intro q; rw [← e1] at q; exact absurd d q
      · intro j q q2; exact absurd q2 q
      · intro _ q; rw [← e2] at q; exact absurd d2 q
      · intro j q q2; exact absurd q2 q
      · intro j q
        by_cases e : j = 12 * (i % 1728 / 144) + i % 12
        · rw [e, pk_us]; decide
        · rw [pk_un e]; exact q
      · intro _ _; rw [pk_us]; decide
      · intro j q q2
        by_cases e : j = 12 * (i % 1728 / 144) + i % 12
        · exact ⟨e, by rw [← e1]; exact d, by rw [← e2]; exact d2⟩
        · rw [pk_un e] at q; exact absurd q2 q
theorem gy_join_49 {p g1 g2 : Nat} (G : gy_G lh L R O A B b_sym b_rules) (ro : ge_RO L R O A B) (hp : p < 8) (h1 : g1 < 16) (h2 : g2 < 16) (k1 : ge_kd L R p < 1 → g1 = 0) (k2 : ge_kd L R p < 2 → g2 = 0) {post : Int32 → SY → Prop}
    (h : ∀ de, (∀ a, a < 12 → ∀ c, c < 12 → (¬ de (12 * a + c) = 0 ↔ ge_dir L R O A B p g1 g2 a c)) → ∃ n90, wY_join_90 post (nI p) y_S y_P y_N y_count y_verdict y_size y_fed y_holes y_target y_drafting n90 0 b_sym b_rules b_root b_want b_tree b_oldTree b_draft b_val b_oldVal b_known b_oldKnown b_has de) :
    ∀ (fuel i : Nat) (de : Nat → Int32), (∀ k, k < i → (¬ de k = 0 ↔ ge_dir L R O A B p g1 g2 (k / 12) (k % 12))) → i ≤ 144 → 144 - i < fuel → wY_join_49 post (nI p) (nI g1) (nI g2) y_S y_P y_N y_count y_verdict y_size y_fed y_holes y_target y_drafting fuel (nI i) b_sym b_rules b_root b_want b_tree b_oldTree b_draft b_val b_oldVal b_known b_oldKnown b_has de := by
  intro fuel
  induction fuel with
  | zero => intro i de _ _ h; omega
  | succ fuel ih =>
    intro i de hI hi hf
    refine pk_le 144 i (fun z => ?_) (fun z => ?_)
    · refine h de (fun a ha c hc => ?_)
      have := hI (12 * a + c) (by omega)
      rw [show (12 * a + c) / 12 = a by omega, show (12 * a + c) % 12 = c by omega] at this
      exact this
    · rw [ge_rem12 (show i < 2 ^ 31 by omega), ge_div12 (show i < 2 ^ 31 by omega)]
      refine ⟨by decide, by decide, gy_direct G ro hp (by omega) (by omega) h1 h2 k1 k2 (fun v hv hd => ⟨vp_in_nI (by omega) (by decide), nm_r (e' := upd de i v) (by rw [nI_clamp (by omega), ge_vn hv]) (nm_r (nI_1 i) (ih (i + 1) _ (fun k hk => ?_) (by omega) (by omega)))⟩)⟩
      by_cases e : k = i
      · rw [e, pk_us]; exact hd
      · rw [pk_un e]; exact hI k (by omega)
/-- one try of a production over two graphs -/
theorem gy_join {c p g1 g2 : Nat} (hc : c ≤ 8) (ec : y_count = nI c) (G : gy_G lh L R O A B b_sym b_rules) (ro : ge_RO L R O A B) (GR : ge_GR lh L R c) (hLR : ∀ p, p < c → 0 ≤ R p → 0 ≤ L p) (hp : p < 8) (h1 : g1 < 16) (h2 : g2 < 16) (hb : ∀ j, j < 64 → b_has j = 0 ∨ b_has j = 1) {post : Int32 → SY → Prop}
    (h0 : ¬ (p < c ∧ ge_ps (gy_HY b_has) (L p) g1 ∧ ge_ps (gy_HY b_has) (R p) g2) → post 0 (y_S, y_P, y_N, y_count, y_verdict, y_size, y_fed, y_holes, y_target, y_drafting, b_sym, b_rules, b_root, b_want, b_tree, b_oldTree, b_draft, b_val, b_oldVal, b_known, b_oldKnown, b_has, b_dep))
    (hs : p < c → ge_ps (gy_HY b_has) (L p) g1 → ge_ps (gy_HY b_has) (R p) g2 → ∀ r v de, ((r = 0 ∧ ¬ b_has (16 * (lh p).toNatClampNeg + ge_CG L R O A B p g1 g2) = 0) ∨ (r = 1 ∧ b_has (16 * (lh p).toNatClampNeg + ge_CG L R O A B p g1 g2) = 0)) → (ge_LP L R O A B p g1 g2 → v = 2) → (¬ ge_LP L R O A B p g1 g2 → v = y_verdict) →
      post r (y_S, y_P, y_N, y_count, v, y_size, y_fed, y_holes, y_target, y_drafting, b_sym, b_rules, b_root, b_want, b_tree, b_oldTree, b_draft, b_val, b_oldVal, b_known, b_oldKnown, upd b_has (16 * (lh p).toNatClampNeg + ge_CG L R O A B p g1 g2) 1, de)) : wpY_join post (y_S, y_P, y_N, y_count, y_verdict, y_size, y_fed, y_holes, y_target, y_drafting, b_sym, b_rules, b_root, b_want, b_tree, b_oldTree, b_draft, b_val, b_oldVal, b_known, b_oldKnown, b_has, b_dep) (nI p) (nI g1) (nI g2) := by
  subst ec
  simp only [wpY_join]
  refine pk_le c p (fun z => h0 (fun y => by omega)) (fun z => ?_)
  obtain ⟨s0, s1, s2⟩ := G.1 p hp
  obtain ⟨⟨s, hs4, es⟩, gl, gr⟩ := GR p z
  rw [ge_m3, nI_1, ge_p2, nI_clamp (by omega), nI_clamp (by omega), s1, s2]
  refine ⟨vp_in_nI (by omega) (by decide), gy_possible gl h1 hb (fun v hv => br_c (fun d => h0 (fun y => hv.mpr y.2.1 d)) (fun d => ⟨vp_in_nI (by omega) (by decide), gy_possible gr h2 hb (fun v' hv' => br_c (fun d' => h0 (fun y => hv'.mpr y.2.2 d')) (fun d' => ⟨145, ?_⟩))⟩))⟩
  have p1 := hv.mp d
  have p2 := hv'.mp d'
  have k1 : ge_kd L R p < 1 → g1 = 0 := by
    intro q
    refine p1.2 (fun y => ?_)
    unfold ge_kd at q; rw [if_pos y] at q; split at q <;> omega
  have k2 : ge_kd L R p < 2 → g2 = 0 := by
    intro q
    refine p2.2 (fun y => ?_)
    unfold ge_kd at q; rw [if_pos (hLR p z y), if_pos y] at q; omega
  have kd2 := ge_kd_le L R p
  refine gy_join_49 G ro hp h1 h2 k1 k2 (fun de hde => ⟨6913, gy_join_90 (s := s) hp (by rw [s0]; exact es) (D := ge_dir L R O A B p g1 g2) (fun x y d => by have := ge_dir_r d; omega) (fun de' hde' => ⟨13, gy_join_176 (v0 := y_verdict) hde' (fun v e1 e2 => ⟨5, gy_join_210 hs4 hde' (fun r hr => ?_)⟩) 13 0 y_verdict (Or.inl ⟨rfl, fun o' h' => absurd h' (Nat.not_lt_zero _)⟩) (by omega) (by omega)⟩) 6913 0 de (gy_PI_0 hde) (by omega) (by omega)⟩) 145 0 b_dep (fun k hk => absurd hk (Nat.not_lt_zero _)) (by omega) (by omega)
  have es' : (lh p).toNatClampNeg = s := by rw [es]; exact nI_clamp (by omega)
  have := hs z p1 p2 r v de' (by rw [es']; exact hr) e1 e2
  rw [es'] at this
  exact this
end
end
section
/-! Y: check, counts, the new tree, the tree's graphs -/
def gy_SND (lh L R O A B : Nat → Int32) (c : Nat) (ha : Nat → Int32) (v : Int32) : Prop :=
  (∀ j, j < 64 → ha j = 0 ∨ ha j = 1) ∧ (∀ s, s < 4 → ∀ g, g < 16 → ha (16 * s + g) = 1 → ge_LF lh L R O A B c s g) ∧ (v = 1 ∨ v = 2) ∧ (v = 2 → ge_Ci lh L R O A B c)
def gy_CL (lh L R O A B : Nat → Int32) (c : Nat) (ha : Nat → Int32) (v : Int32) (p g1 g2 : Nat) : Prop :=
  p < c → ge_ps (gy_HY ha) (L p) g1 → ge_ps (gy_HY ha) (R p) g2 → ha (16 * (lh p).toNatClampNeg + ge_CG L R O A B p g1 g2) = 1 ∧ (ge_LP L R O A B p g1 g2 → v = 2)
noncomputable def gy_nb (ha : Nat → Int32) : Nat := ge_cn (fun j => ha j = 1) 64
theorem gy_final {lh L R O A B ha : Nat → Int32} {c : Nat} {v : Int32} (hc : c ≤ 8) (G : ge_GR lh L R c) (S : gy_SND lh L R O A B c ha v) (C : ∀ p, p < 8 → ∀ g1, g1 < 16 → ∀ g2, g2 < 16 → gy_CL lh L R O A B c ha v p g1 g2) :
    (∀ s, s < 4 → ∀ g, g < 16 → (ha (16 * s + g) = 1 ↔ ge_LF lh L R O A B c s g)) ∧ (v = 1 ∨ v = 2) ∧ (v = 2 ↔ ge_Ci lh L R O A B c) := by
  have hcl : ge_cl lh L R O A B c (fun s g => s < 4 → g < 16 → ha (16 * s + g) = 1) := by
    intro p hp g1 h1 g2 h2 a b _ _
    refine (C p (by omega) g1 h1 g2 h2 hp (ge_ps_mono (fun z y => ?_) a) (ge_ps_mono (fun z y => ?_) b)).1
    · obtain ⟨s, hs, es⟩ := (G p hp).2.1 z
      rw [es, nI_clamp (by omega)] at y ⊢; exact y hs h1
    · obtain ⟨s, hs, es⟩ := (G p hp).2.2 z
      rw [es, nI_clamp (by omega)] at y ⊢; exact y hs h2
  have h1 : ∀ s, s < 4 → ∀ g, g < 16 → (ha (16 * s + g) = 1 ↔ ge_LF lh L R O A B c s g) :=
    fun s hs g hg => ⟨fun z => S.2.1 s hs g hg z, fun z => z _ hcl hs hg⟩
  refine ⟨h1, S.2.2.1, S.2.2.2, ?_⟩
  rintro ⟨p, g1, g2, hp, l1, l2, p1, p2, lp⟩
  refine (C p (by omega) g1 l1 g2 l2 hp (ge_ps_mono (fun z y => ?_) p1) (ge_ps_mono (fun z y => ?_) p2)).2 lp
  · obtain ⟨s, hs, es⟩ := (G p hp).2.1 z
    rw [es, nI_clamp (by omega)] at y ⊢; exact (h1 s hs g1 l1).mpr y
  · obtain ⟨s, hs, es⟩ := (G p hp).2.2 z
    rw [es, nI_clamp (by omega)] at y ⊢; exact (h1 s hs g2 l2).mpr y
theorem ge_cov2048 {i q : Nat} (hi : 2048 ≤ i) (hq : q < 2048) : ∃ k, k < i ∧ i ≤ k + 2048 ∧ k % 2048 = q := by
  rcases Nat.lt_or_ge q (i % 2048) with z | z
  · exact ⟨i - i % 2048 + q, by omega, by omega, by omega⟩
  · exact ⟨i - i % 2048 - 2048 + q, by omega, by omega, by omega⟩
def gy_chg (ok ov kn V : Nat → Int32) (t m f i : Nat) : Prop := (i / 4 ≤ t ∨ t + m ≤ i / 4) ∧ (¬ kn (ge_now t m f i) = ok i ∨ (¬ kn (ge_now t m f i) = 0 ∧ ¬ V (ge_now t m f i) = ov i))
theorem ge_g16 : ∀ g, g < 16 → ∀ b, b < 4 → g % 2 ^ (b + 1) = g % 2 ^ b + (if Nat.testBit g b = true then 2 ^ b else 0) := by decide
section
variable {y_S y_P y_N y_count y_verdict y_size y_fed y_holes y_target y_drafting : Int32} {b_sym b_rules b_root b_want b_tree b_oldTree b_draft b_val b_oldVal b_known b_oldKnown b_has b_dep : Nat → Int32}
variable {lh L R O A B pd tk : Nat → Int32}
theorem gy_check_39 {c : Nat} (hc : c ≤ 8) (ec : y_count = nI c) (G : gy_G lh L R O A B b_sym b_rules) (ro : ge_RO L R O A B) (GR : ge_GR lh L R c) (hLR : ∀ p, p < c → 0 ≤ R p → 0 ≤ L p) {post : Int32 → SY → Prop}
    (hpost : ∀ ha v de, gy_SND lh L R O A B c ha v → (∀ p, p < 8 → ∀ g1, g1 < 16 → ∀ g2, g2 < 16 → gy_CL lh L R O A B c ha v p g1 g2) → post v (y_S, y_P, y_N, y_count, v, y_size, y_fed, y_holes, y_target, y_drafting, b_sym, b_rules, b_root, b_want, b_tree, b_oldTree, b_draft, b_val, b_oldVal, b_known, b_oldKnown, ha, de)) :
    ∀ (fuel i idle : Nat) (ha : Nat → Int32) (v : Int32) (de : Nat → Int32), gy_SND lh L R O A B c ha v → (∀ k, k < i → i ≤ k + idle → gy_CL lh L R O A B c ha v (k % 2048 / 256) (k / 16 % 16) (k % 16)) → i ≤ 2048 * gy_nb ha + idle → idle ≤ i → idle ≤ 2048 → i ≤ 133120 → 133120 - i < fuel →
      wY_check_39 post fuel (nI i) (nI idle) y_S y_P y_N y_count v y_size y_fed y_holes y_target y_drafting b_sym b_rules b_root b_want b_tree b_oldTree b_draft b_val b_oldVal b_known b_oldKnown ha de := by
  intro fuel
  induction fuel with
  | zero => intro i idle ha v de _ _ _ _ _ _ h; omega
  | succ fuel ih =>
    intro i idle ha v de S hcl hcnt h1 h2 hi hf
    rcases Nat.lt_or_ge idle 2048 with z | z
    · have hi' : i < 133120 := by
        have : gy_nb ha ≤ 64 := ge_cn_le _ _
        omega
      refine br_f (nI_ge (b := 133120) hi' (by decide)) (br_f (nI_ge (b := 2048) z (by decide)) ⟨by decide, by decide, by decide, by decide, by decide, ?_⟩)
      rw [ge_rem2048 (show i < 2 ^ 31 by omega), ge_div256 (show i % 2048 < 2 ^ 31 by omega), ge_rem16 (show i < 2 ^ 31 by omega), ge_div16 (show i < 2 ^ 31 by omega), ge_rem16 (show i / 16 < 2 ^ 31 by omega)]
      have nf : ∀ v' de', gy_SND lh L R O A B c ha v' → (v = 2 → v' = 2) → gy_CL lh L R O A B c ha v' (i % 2048 / 256) (i / 16 % 16) (i % 16) → wY_check_39 post fuel (nI (i + 1)) (nI (idle + 1)) y_S y_P y_N y_count v' y_size y_fed y_holes y_target y_drafting b_sym b_rules b_root b_want b_tree b_oldTree b_draft b_val b_oldVal b_known b_oldKnown ha de' := by
        intro v' de' S' hv cl
        refine ih (i + 1) (idle + 1) ha v' de' S' (fun k hk hk2 => ?_) (by omega) (by omega) (by omega) (by omega) (by omega)
        rcases Nat.lt_or_ge k i with y | y
        · intro q1 q2 q3
          have := hcl k y (by omega) q1 q2 q3
          exact ⟨this.1, fun lp => hv (this.2 lp)⟩
        · rw [show k = i by omega]; exact cl
      refine gy_join hc ec G ro GR hLR (by omega) (by omega) (by omega) S.1 (fun hn => ?_) (fun q1 q2 q3 r v' de' hr e1 e2 => ?_)
      · exact br_t rfl (nm_r (nI_1 idle) (nm_r (nI_1 i) (nf v de S (fun e => e) (fun q1 q2 q3 => absurd ⟨q1, q2, q3⟩ hn))))
      · obtain ⟨⟨s, hs4, es⟩, gl, gr⟩ := GR _ q1
        have cg := ge_CG_lt L R O A B (i % 2048 / 256) (i / 16 % 16) (i % 16)
        have es' : (lh (i % 2048 / 256)).toNatClampNeg = s := by rw [es]; exact nI_clamp (by omega)
        have lf1 : ge_ps (ge_LF lh L R O A B c) (L (i % 2048 / 256)) (i / 16 % 16) := ge_ps_mono (fun z y => by
          obtain ⟨s', hs', es'⟩ := gl z
          rw [es', nI_clamp (by omega)] at y ⊢; exact S.2.1 s' hs' _ (by omega) y) q2
        have lf2 : ge_ps (ge_LF lh L R O A B c) (R (i % 2048 / 256)) (i % 16) := ge_ps_mono (fun z y => by
          obtain ⟨s', hs', es'⟩ := gr z
          rw [es', nI_clamp (by omega)] at y ⊢; exact S.2.1 s' hs' _ (by omega) y) q3
        have lf := ge_LF_cl _ q1 _ (by omega) _ (by omega) lf1 lf2
        rw [es'] at hr lf ⊢
        have hv2 : v = 2 → v' = 2 := by
          intro e
          rcases Classical.em (ge_LP L R O A B (i % 2048 / 256) (i / 16 % 16) (i % 16)) with lp | lp
          · exact e1 lp
          · rw [e2 lp]; exact e
        have S' : gy_SND lh L R O A B c (upd ha (16 * s + ge_CG L R O A B (i % 2048 / 256) (i / 16 % 16) (i % 16)) 1) v' := by
          refine ⟨fun j hj => ?_, fun s' hs' g' hg' y => ?_, ?_, fun e => ?_⟩
          · by_cases e : j = 16 * s + ge_CG L R O A B (i % 2048 / 256) (i / 16 % 16) (i % 16)
            · rw [e, pk_us]; exact Or.inr rfl
            · rw [pk_un e]; exact S.1 j hj
          · by_cases e : 16 * s' + g' = 16 * s + ge_CG L R O A B (i % 2048 / 256) (i / 16 % 16) (i % 16)
            · have a1 : s' = s := by omega
              have a2 : g' = ge_CG L R O A B (i % 2048 / 256) (i / 16 % 16) (i % 16) := by omega
              rw [a1, a2]; exact lf
            · rw [pk_un e] at y; exact S.2.1 s' hs' g' hg' y
          · rcases Classical.em (ge_LP L R O A B (i % 2048 / 256) (i / 16 % 16) (i % 16)) with lp | lp
            · exact Or.inr (e1 lp)
            · rw [e2 lp]; exact S.2.2.1
          · rcases Classical.em (ge_LP L R O A B (i % 2048 / 256) (i / 16 % 16) (i % 16)) with lp | lp
            · exact ⟨_, _, _, q1, by omega, by omega, lf1, lf2, lp⟩
            · rw [e2 lp] at e; exact S.2.2.2 e
        rcases hr with ⟨rfl, hr⟩ | ⟨rfl, hr⟩
        · have h1' := (S.1 _ (by omega)).resolve_left hr
          have eu : upd ha (16 * s + ge_CG L R O A B (i % 2048 / 256) (i / 16 % 16) (i % 16)) 1 = ha := by
            funext j
            by_cases e : j = 16 * s + ge_CG L R O A B (i % 2048 / 256) (i / 16 % 16) (i % 16)
            · rw [e, pk_us, h1']
            · rw [pk_un e]
          rw [eu] at S' ⊢
          exact br_t rfl (nm_r (nI_1 idle) (nm_r (nI_1 i) (nf v' de' S' hv2 (fun _ _ _ => ⟨by rw [es']; exact h1', e1⟩))))
        · have nb : gy_nb ha + 1 ≤ gy_nb (upd ha (16 * s + ge_CG L R O A B (i % 2048 / 256) (i / 16 % 16) (i % 16)) 1) := by
            refine ge_cn_lt (a := 16 * s + ge_CG L R O A B (i % 2048 / 256) (i / 16 % 16) (i % 16)) (by rw [hr]; decide) pk_us (fun k _ y => ?_) (by omega)
            by_cases e : k = 16 * s + ge_CG L R O A B (i % 2048 / 256) (i / 16 % 16) (i % 16)
            · rw [e, pk_us]
            · rw [pk_un e]; exact y
          exact br_f (by decide) (nm_r (nI_1 i) (ih (i + 1) 0 _ v' de' S' (fun k hk hk2 => by omega) (by omega) (by omega) (by omega) (by omega) (by omega)))
    · have e : idle = 2048 := by omega
      subst e
      have all : ∀ p, p < 8 → ∀ g1, g1 < 16 → ∀ g2, g2 < 16 → gy_CL lh L R O A B c ha v p g1 g2 := by
        intro p hp g1 hg1 g2 hg2
        obtain ⟨k, k1, k2, k3⟩ := ge_cov2048 (i := i) (q := 256 * p + 16 * g1 + g2) (by omega) (by omega)
        have := hcl k k1 k2
        rw [show k % 2048 / 256 = p by omega, show k / 16 % 16 = g1 by omega, show k % 16 = g2 by omega] at this
        exact this
      exact br_c (fun _ => hpost ha v de S all) (fun _ => br_t (nI_le (a := 2048) (by omega) (by decide)) (hpost ha v de S all))
/-- the count of changes behind the sweep -/
theorem gy_chg_14 {t m f n0 : Nat} (hn0 : n0 ≤ 24) (ht : t ≤ 24) (hm : m ≤ 24) (hf : f ≤ 24) (hnow : ∀ i, i < 4 * n0 → (i / 4 ≤ t ∨ t + m ≤ i / 4) → 4 * m ≤ i + 4 * f ∨ i / 4 ≤ t) (hnow2 : ∀ i, i < 4 * n0 → (i / 4 ≤ t ∨ t + m ≤ i / 4) → ge_now t m f i < 96) {post : Int32 → SY → Prop}
    (hpost : post (nI (ge_cn (gy_chg b_oldKnown b_oldVal b_known b_val t m f) (4 * n0))) (y_S, y_P, y_N, y_count, y_verdict, y_size, y_fed, y_holes, y_target, y_drafting, b_sym, b_rules, b_root, b_want, b_tree, b_oldTree, b_draft, b_val, b_oldVal, b_known, b_oldKnown, b_has, b_dep)) :
    ∀ (fuel k : Nat), k ≤ 4 * n0 → 4 * n0 - k < fuel → wY_changed_14 post (nI n0) (nI t) (nI m) (nI f) y_S y_P y_N y_count y_verdict y_size y_fed y_holes y_target y_drafting b_sym b_rules b_root b_want b_tree b_oldTree b_draft b_val b_oldVal b_known b_oldKnown b_has b_dep fuel (nI (ge_cn (gy_chg b_oldKnown b_oldVal b_known b_val t m f) k)) (nI k) := by
  intro fuel
  induction fuel with
  | zero => intro k _ h; omega
  | succ fuel ih =>
    intro k hk hf'
    refine pk_le (4 * n0) k (fun z => ?_) (fun z => ⟨by decide, ?_⟩) (ge_m4 n0)
    · have e : k = 4 * n0 := by omega
      subst e; exact hpost
    · refine nm_r (ge_div4 (by omega)) ?_
      have ih' := ih (k + 1) (by omega) (by omega)
      have yes : gy_chg b_oldKnown b_oldVal b_known b_val t m f k → wY_changed_14 post (nI n0) (nI t) (nI m) (nI f) y_S y_P y_N y_count y_verdict y_size y_fed y_holes y_target y_drafting b_sym b_rules b_root b_want b_tree b_oldTree b_draft b_val b_oldVal b_known b_oldKnown b_has b_dep fuel (nI (ge_cn (gy_chg b_oldKnown b_oldVal b_known b_val t m f) k + 1)) (nI (k + 1)) := by
        intro c
        have e : ge_cn (gy_chg b_oldKnown b_oldVal b_known b_val t m f) (k + 1) = ge_cn (gy_chg b_oldKnown b_oldVal b_known b_val t m f) k + 1 := by simp only [ge_cn]; rw [ge_bt c]
        rw [← e]; exact ih'
      have no : ¬ gy_chg b_oldKnown b_oldVal b_known b_val t m f k → wY_changed_14 post (nI n0) (nI t) (nI m) (nI f) y_S y_P y_N y_count y_verdict y_size y_fed y_holes y_target y_drafting b_sym b_rules b_root b_want b_tree b_oldTree b_draft b_val b_oldVal b_known b_oldKnown b_has b_dep fuel (nI (ge_cn (gy_chg b_oldKnown b_oldVal b_known b_val t m f) k)) (nI (k + 1)) := by
        intro c
        have e : ge_cn (gy_chg b_oldKnown b_oldVal b_known b_val t m f) (k + 1) = ge_cn (gy_chg b_oldKnown b_oldVal b_known b_val t m f) k := by simp only [ge_cn]; rw [ge_bf c]; rfl
        rw [← e]; exact ih'
      have c64 : (k / 4 ≤ t ∨ t + m ≤ k / 4) → wY_changed_64 post (wY_changed_14 post (nI n0) (nI t) (nI m) (nI f) y_S y_P y_N y_count y_verdict y_size y_fed y_holes y_target y_drafting b_sym b_rules b_root b_want b_tree b_oldTree b_draft b_val b_oldVal b_known b_oldKnown b_has b_dep fuel) (nI n0) (nI t) (nI m) (nI f) (nI (ge_cn (gy_chg b_oldKnown b_oldVal b_known b_val t m f) k)) (nI k) (nI (ge_now t m f k)) y_S y_P y_N y_count y_verdict y_size y_fed y_holes y_target y_drafting b_sym b_rules b_root b_want b_tree b_oldTree b_draft b_val b_oldVal b_known b_oldKnown b_has b_dep := by
        intro hc
        have lt := hnow2 k z hc
        have kv : vp_in (nI k) 96 := vp_in_nI (by omega) (by decide)
        have zv : vp_in (nI (ge_now t m f k)) 96 := vp_in_nI lt (by decide)
        have ek : (nI k).toNatClampNeg = k := nI_clamp (by omega)
        have ez : (nI (ge_now t m f k)).toNatClampNeg = ge_now t m f k := nI_clamp (by omega)
        unfold wY_changed_64
        rw [ek, ez]
        refine ⟨zv, kv, br_c (fun q => ⟨zv, br_c (fun q2 => nm_r (nI_1 k) (no ?_)) (fun q2 => ⟨zv, kv, br_c (fun q3 => nm_r (nI_1 k) (no ?_)) (fun q3 => nm_r (nI_1 _) (nm_r (nI_1 k) (yes ⟨hc, Or.inr ⟨q2, q3⟩⟩)))⟩)⟩) (fun q => nm_r (nI_1 _) (nm_r (nI_1 k) (yes ⟨hc, Or.inl q⟩)))⟩
        · rintro ⟨_, y | y⟩
          · exact y q
          · exact y.1 q2
        · rintro ⟨_, y | y⟩
          · exact y q
          · exact y.2 q3
      have c48 : ∀ z0, ((k / 4 ≤ t ∨ t + m ≤ k / 4) → z0 = nI (ge_now t m f k)) → wY_changed_48 post (wY_changed_14 post (nI n0) (nI t) (nI m) (nI f) y_S y_P y_N y_count y_verdict y_size y_fed y_holes y_target y_drafting b_sym b_rules b_root b_want b_tree b_oldTree b_draft b_val b_oldVal b_known b_oldKnown b_has b_dep fuel) (nI n0) (nI t) (nI m) (nI f) (nI (ge_cn (gy_chg b_oldKnown b_oldVal b_known b_val t m f) k)) (nI k) (nI (k / 4)) z0 y_S y_P y_N y_count y_verdict y_size y_fed y_holes y_target y_drafting b_sym b_rules b_root b_want b_tree b_oldTree b_draft b_val b_oldVal b_known b_oldKnown b_has b_dep := by
        intro z0 ez
        unfold wY_changed_48
        refine pk_le (k / 4) t (fun q => ?_) (fun q => ?_)
        · rw [ez (Or.inl q)]; exact c64 (Or.inl q)
        · refine pk_lt (k / 4) (t + m) (fun q2 => nm_r (nI_1 k) (no ?_)) (fun q2 => ?_) rfl (nI_add t m)
          · rintro ⟨y, _⟩; omega
          · rw [ez (Or.inr q2)]; exact c64 (Or.inr q2)
      refine pk_lt t (k / 4) (fun q => c48 _ (fun hc => ?_)) (fun q => c48 _ (fun hc => ?_))
      · have := hnow k z hc
        unfold ge_now; rw [if_neg (by omega), show 4 * (nI f - nI m) = nI (4 * f) - nI (4 * m) by rw [← ge_m4, ← ge_m4]; grind, ge_mvI (by omega)]
      · unfold ge_now; rw [if_pos q]
/-- Y's new tree -/
theorem gy_cm_114 {n' t m f : Nat} {x1 : Int32} (hn' : n' ≤ 24) (ht : t + f ≤ n') (hm : n' + m ≤ 24 + f) (es : y_size = nI n') (ef : y_fed = nI f) {tr0 : Nat → Int32} {post : Int32 → SY → Prop}
    (hpost : ∀ tr, (∀ j, j < 2 * n' → tr j = if j < 2 * t then tr0 j else if j < 2 * (t + f) then b_draft (j - 2 * t) else b_oldTree (j + 2 * m - 2 * f)) → ((0 ≤ y_target → wY_commit_204 post x1 (nI t) (nI m) y_S y_P y_N y_count y_verdict y_size y_fed y_holes y_target y_drafting b_sym b_rules b_root b_want tr b_oldTree b_draft b_val b_oldVal b_known b_oldKnown b_has b_dep) ∧ (¬ 0 ≤ y_target → ∀ r1, r1 = upd b_root 0 0 → ∀ r2, r2 = upd r1 1 0 → wY_commit_204 post x1 (nI t) (nI m) y_S y_P y_N y_count y_verdict y_size y_fed y_holes y_target y_drafting b_sym b_rules r2 b_want tr b_oldTree b_draft b_val b_oldVal b_known b_oldKnown b_has b_dep))) :
    ∀ (fuel k : Nat) (tr : Nat → Int32), (∀ j, j < k → tr j = if j < 2 * t then tr0 j else if j < 2 * (t + f) then b_draft (j - 2 * t) else b_oldTree (j + 2 * m - 2 * f)) → 2 * t ≤ k → k ≤ 2 * n' → 2 * n' - k < fuel →
      wY_commit_114 post x1 (nI t) (nI m) y_S y_P y_N y_count y_verdict y_size y_fed y_holes y_target y_drafting fuel (nI k) b_sym b_rules b_root b_want tr b_oldTree b_draft b_val b_oldVal b_known b_oldKnown b_has b_dep := by
  subst es ef
  intro fuel
  induction fuel with
  | zero => intro k tr _ _ _ h; omega
  | succ fuel ih =>
    intro k tr h1 h2 h3 hf
    refine pk_le (2 * n') k (fun z => ?_) (fun z => ?_) (ge_m2 n')
    · have e : k = 2 * n' := by omega
      subst e
      exact hpost tr h1
    · have kv : vp_in (nI k) 48 := vp_in_nI (by omega) (by decide)
      have ek : (nI k).toNatClampNeg = k := nI_clamp (by omega)
      have nxt : ∀ v, v = (if k < 2 * t then tr0 k else if k < 2 * (t + f) then b_draft (k - 2 * t) else b_oldTree (k + 2 * m - 2 * f)) → wY_commit_114 post x1 (nI t) (nI m) y_S y_P y_N y_count y_verdict (nI n') (nI f) y_holes y_target y_drafting fuel (nI (k + 1)) b_sym b_rules b_root b_want (upd tr k v) b_oldTree b_draft b_val b_oldVal b_known b_oldKnown b_has b_dep := by
        intro v ev
        refine ih (k + 1) _ (fun j hj => ?_) (by omega) (by omega) (by omega)
        by_cases e : j = k
        · rw [e, pk_us]; exact ev
        · rw [pk_un e]; exact h1 j (by omega)
      refine pk_le (2 * (t + f)) k (fun c => ?_) (fun c => ?_) (by rw [nI_add, ge_m2])
      · have e1 : nI k - 2 * nI f + 2 * nI m = nI (k + 2 * m - 2 * f) := by
          rw [ge_m2, ge_m2, pk_sub (by omega), nI_add]; congr 1; omega
        rw [e1]
        refine ⟨vp_in_nI (by omega) (by decide), kv, nm_e (nm_r (nI_1 k) ?_)⟩
        rw [ek]
        refine nxt _ ?_
        rw [nI_clamp (by omega), if_neg (by omega), if_neg (by omega)]
      · have e1 : nI k - 2 * nI t = nI (k - 2 * t) := by rw [ge_m2, pk_sub (by omega)]
        rw [e1]
        refine ⟨vp_in_nI (by omega) (by decide), kv, nm_e (nm_r (nI_1 k) ?_)⟩
        rw [ek]
        refine nxt _ ?_
        rw [nI_clamp (by omega), if_neg (by omega), if_pos c]
theorem gy_cm_70 {x1 x2 x3 : Int32} {post : Int32 → SY → Prop}
    (hpost : ∀ ot, (∀ j, j < 48 → ot j = b_tree j) → ∀ y1, y1 = x1 - x3 + y_fed → ∀ y2, y2 = 2 * x2 → ∃ n114, wY_commit_114 post x1 x2 x3 y_S y_P y_N y_count y_verdict y1 y_fed y_holes y_target y_drafting n114 y2 b_sym b_rules b_root b_want b_tree ot b_draft b_val b_oldVal b_known b_oldKnown b_has b_dep) :
    ∀ (fuel k : Nat) (ot : Nat → Int32), (∀ j, j < k → ot j = b_tree j) → k ≤ 48 → 48 - k < fuel → wY_commit_70 post x1 x2 x3 y_S y_P y_N y_count y_verdict y_size y_fed y_holes y_target y_drafting fuel (nI k) b_sym b_rules b_root b_want b_tree ot b_draft b_val b_oldVal b_known b_oldKnown b_has b_dep := by
  intro fuel
  induction fuel with
  | zero => intro k ot _ _ h; omega
  | succ fuel ih =>
    intro k ot h1 hk hf
    refine pk_le 48 k (fun z => ?_) (fun z => ?_)
    · have e : k = 48 := by omega
      subst e; exact hpost ot h1
    · have kv : vp_in (nI k) 48 := vp_in_nI z (by decide)
      refine ⟨kv, kv, nm_e (nm_r (nI_1 k) ?_)⟩
      rw [nI_clamp (by omega)]
      refine ih (k + 1) _ (fun j hj => ?_) (by omega) (by omega)
      by_cases e : j = k
      · rw [e, pk_us]
      · rw [pk_un e]; exact h1 j (by omega)
theorem gy_treeGraph {n x g : Nat} (hn : n ≤ 24) (hx : x < n) (G : gy_G lh L R O A B b_sym b_rules) (ro : ge_RO L R O A B) (w : ge_WF (ge_K L R pd) n) (hp : ∀ x, x < n → (pd x).toNatClampNeg < 8 ∧ pd x = nI (pd x).toNatClampNeg) (T : gy_T pd tk b_tree n) (es : y_size = nI n) (hb : ∀ j, j < 96 → b_known j = 0 ∨ b_known j = 1)
    (hg : g < 16) (hbit : ∀ a b, a < 2 → b < 2 → (Nat.testBit g (2 * a + b) = true ↔ ge_Dp L R O A B pd n x (ge_e (ge_K L R pd) n x) (4 * x + a) (4 * x + 2 + b))) {post : Int32 → SY → Prop}
    (hpost : ∀ kn V ok ov, (∀ j, j < 96 → kn j = 0 ∨ kn j = 1) → post (nI g) (y_S, y_P, y_N, y_count, y_verdict, y_size, y_fed, y_holes, y_target, y_drafting, b_sym, b_rules, b_root, b_want, b_tree, b_oldTree, b_draft, V, ov, kn, ok, b_has, b_dep)) : wpY_treeGraph post (y_S, y_P, y_N, y_count, y_verdict, y_size, y_fed, y_holes, y_target, y_drafting, b_sym, b_rules, b_root, b_want, b_tree, b_oldTree, b_draft, b_val, b_oldVal, b_known, b_oldKnown, b_has, b_dep) (nI x) := by
  have key : ∀ (fuel b : Nat) (kn V ok ov : Nat → Int32), (∀ j, j < 96 → kn j = 0 ∨ kn j = 1) → b ≤ 4 → 4 - b < fuel → wY_treeGraph_19 post (nI x) fuel (nI (g % 2 ^ b)) (nI b) y_S y_P y_N y_count y_verdict y_size y_fed y_holes y_target y_drafting b_sym b_rules b_root b_want b_tree b_oldTree b_draft V ov kn ok b_has b_dep := by
    intro fuel
    induction fuel with
    | zero => intro b kn V ok ov _ _ h; omega
    | succ fuel ih =>
      intro b kn V ok ov hk hb4 hf
      refine pk_le 4 b (fun z => ?_) (fun z => ⟨by decide, by decide, ?_⟩)
      · have e : b = 4 := by omega
        subst e
        rw [show g % 2 ^ 4 = g by omega]
        exact hpost kn V ok ov hk
      · have e1 : nI b / 2 = nI (b / 2) := pk_div (d := 2) (by omega) (by omega) (by omega)
        have e2 : nI b - nI b / 2 * 2 = nI (b % 2) := pk_rem (d := 2) (by omega) (by omega) (by omega)
        have e3 : ∀ b, b < 4 → (1 : Int32) <<< (nI b &&& 31) = nI (2 ^ b) := by decide
        rw [e2, e1, ge_m4, nI_add, ge_p2, nI_add]
        have g16 := ge_g16 g hg b z
        have dp := hbit (b / 2) (b % 2) (by omega) (by omega)
        rw [show 2 * (b / 2) + b % 2 = b by omega] at dp
        refine gy_sweep2 hn hx (by omega) (by omega) G ro w hp T es hk (fun kn' V' ok' ov' hk' hd => ?_)
        rw [← dp] at hd
        rcases hk' (4 * x + 2 + b % 2) (by omega) with q | q
        · rw [q]
          refine br_t rfl (nm_r (nI_1 b) ?_)
          have := ih (b + 1) kn' V' ok' ov' hk' (by omega) (by omega)
          rw [g16, if_neg (fun y => by have := hd.mpr y; rw [q] at this; exact absurd this (by decide)), Nat.add_zero] at this
          exact this
        · rw [q]
          refine br_f (by decide) (nm_r (e' := nI (g % 2 ^ (b + 1))) ?_ (nm_r (nI_1 b) (ih (b + 1) kn' V' ok' ov' hk' (by omega) (by omega))))
          rw [e3 b z, nI_add, g16, if_pos (hd.mp q)]
  subst es
  simp only [wpY_treeGraph]
  refine br_f (nI_pos (by omega)) (br_t (nI_lt hx (by omega)) ⟨5, ?_⟩)
  have := key 5 0 b_known b_val b_oldKnown b_oldVal hb (by omega) (by omega)
  rw [show g % 2 ^ 0 = 0 by omega] at this
  exact this
end
end
section
/-! THE RELATION -/
def gr_Gr (lh L R O A B sy ru : Nat → Int32) (c : Nat) : Prop :=
  gy_G lh L R O A B sy ru ∧ ge_GR lh L R c ∧ ge_RO L R O A B ∧ (∀ p', c ≤ p' → p' < 8 → ∀ o, o < 12 → O (12 * p' + o) = 0) ∧ (∀ p, p < c → 0 ≤ R p → 0 ≤ L p)
def gr_Vd (L R O A B am um gs ha : Nat → Int32) (vd : Int32) : Prop :=
  (vd = 0 ∨ vd = 1 ∨ vd = 2) ∧ (∀ j, j < 64 → ha j = 0 ∨ ha j = 1) ∧ (vd = 0 → (∀ s, s < 4 → gs s = 0) ∧ (∀ i, i < 96 → am i = 0) ∧ (∀ i, i < 96 → um i = 0) ∧ (∀ j, j < 64 → ha j = 0)) ∧
  (¬ vd = 0 → gx_AM L R O A B am ∧ gx_UM L R O A B um ∧ ∀ s, s < 4 → ∀ g, g < 16 → (bt (gs s) g = true ↔ ha (16 * s + g) = 1))
def gr_Tr (L R O A B pd tk pa pl se sp ng st V rt tr kn : Nat → Int32) (n : Nat) : Prop :=
  (∀ j, j < 96 → kn j = 0 ∨ kn j = 1) ∧ (0 < n → gx_TR L R O A B pd tk pa pl se sp ng st V rt n ∧ gy_T pd tk tr n)
def gr_Dr (L R pd dp dt os wa dr : Nat → Int32) (n fd op kp N : Nat) (df tg : Int32) : Prop :=
  (df = 0 ∧ fd = 0 ∧ op = 0 ∧ tg = -1) ∨
  (df = 1 ∧ ((tg = -1 ∧ kp = 0) ∨ ∃ t, t < n ∧ tg = nI t ∧ kp + ge_e (ge_K L R pd) n t = n + t) ∧
    (∀ x, x < fd → dr (2 * x) = dp x ∧ dr (2 * x + 1) = dt x ∧ (dp x).toNatClampNeg < 8 ∧ dp x = nI (dp x).toNatClampNeg) ∧
    (∀ j, j < fd → 1 ≤ ge_H (ge_K L R dp) j) ∧ ge_H (ge_K L R dp) fd = op ∧ (∀ j, j < op → os j = wa j) ∧ kp + fd + op ≤ N)
def gr_C (S P N c n fd op kp : Nat) (vd df tg : Int32) (lh L R O A B am um gs pd tk pa pl se sp ng st V dp dt os sy ru rt wa tr dr kn ha : Nat → Int32) : Prop :=
  (1 ≤ S ∧ S ≤ 4 ∧ P ≤ 8 ∧ 1 ≤ N ∧ N ≤ 24 ∧ c ≤ P ∧ n ≤ N) ∧ gr_Gr lh L R O A B sy ru c ∧ gr_Vd L R O A B am um gs ha vd ∧ gr_Tr L R O A B pd tk pa pl se sp ng st V rt tr kn n ∧ gr_Dr L R pd dp dt os wa dr n fd op kp N df tg ∧ (vd = 0 → n = 0 ∧ df = 0)
def gr_R (f_symbolLimit f_productionLimit f_nodeLimit f_productionCount f_verdict f_size f_drafting f_target f_kept f_fed f_open : Int32) (a_lhsOf a_leftOf a_rightOf a_ruleOp a_ruleA a_ruleB a_argMask a_userMask a_graphSet a_reach a_treeProd a_treeToken a_parent a_placeOf a_second a_span a_nodeGraph a_state a_values a_oldState a_oldValues a_queue a_stack a_draftProd a_draftToken a_openSymbols : Nat → Int32) (y_S y_P y_N y_count y_verdict y_size y_fed y_holes y_target y_drafting : Int32) (b_sym b_rules b_root b_want b_tree b_oldTree b_draft b_val b_oldVal b_known b_oldKnown b_has b_dep : Nat → Int32) : Prop := ∃ S P N c n fd op kp : Nat,
  (f_symbolLimit = nI S ∧ f_productionLimit = nI P ∧ f_nodeLimit = nI N ∧ f_productionCount = nI c ∧ f_size = nI n ∧ f_kept = nI kp ∧ f_fed = nI fd ∧ f_open = nI op ∧ y_S = nI S ∧ y_P = nI P ∧ y_N = nI N ∧ y_count = nI c ∧ y_verdict = f_verdict ∧ y_size = nI n ∧ y_fed = nI fd ∧ y_holes = nI op ∧ y_target = f_target ∧ y_drafting = f_drafting) ∧
  gr_C S P N c n fd op kp f_verdict f_drafting f_target a_lhsOf a_leftOf a_rightOf a_ruleOp a_ruleA a_ruleB a_argMask a_userMask a_graphSet a_treeProd a_treeToken a_parent a_placeOf a_second a_span a_nodeGraph a_state a_values a_draftProd a_draftToken a_openSymbols b_sym b_rules b_root b_want b_tree b_draft b_known b_has
def i_Rel (k : Nat) (u : SX) (v : SY) : Prop := match u with
  | (f_symbolLimit, f_productionLimit, f_nodeLimit, f_productionCount, f_verdict, f_size, f_drafting, f_target, f_kept, f_fed, f_open, a_lhsOf, a_leftOf, a_rightOf, a_ruleOp, a_ruleA, a_ruleB, a_argMask, a_userMask, a_graphSet, a_reach, a_treeProd, a_treeToken, a_parent, a_placeOf, a_second, a_span, a_nodeGraph, a_state, a_values, a_oldState, a_oldValues, a_queue, a_stack, a_draftProd, a_draftToken, a_openSymbols) => match v with
    | (y_S, y_P, y_N, y_count, y_verdict, y_size, y_fed, y_holes, y_target, y_drafting, b_sym, b_rules, b_root, b_want, b_tree, b_oldTree, b_draft, b_val, b_oldVal, b_known, b_oldKnown, b_has, b_dep) => gr_R f_symbolLimit f_productionLimit f_nodeLimit f_productionCount f_verdict f_size f_drafting f_target f_kept f_fed f_open a_lhsOf a_leftOf a_rightOf a_ruleOp a_ruleA a_ruleB a_argMask a_userMask a_graphSet a_reach a_treeProd a_treeToken a_parent a_placeOf a_second a_span a_nodeGraph a_state a_values a_oldState a_oldValues a_queue a_stack a_draftProd a_draftToken a_openSymbols y_S y_P y_N y_count y_verdict y_size y_fed y_holes y_target y_drafting b_sym b_rules b_root b_want b_tree b_oldTree b_draft b_val b_oldVal b_known b_oldKnown b_has b_dep
theorem i_up {k : Nat} {u : SX} {v : SY} (h : i_Rel k u v) : i_Rel (k + 5) u v := h
theorem gr_in {k S P N c n fd op kp : Nat} {vd df tg : Int32} {a_lhsOf a_leftOf a_rightOf a_ruleOp a_ruleA a_ruleB a_argMask a_userMask a_graphSet a_reach a_treeProd a_treeToken a_parent a_placeOf a_second a_span a_nodeGraph a_state a_values a_oldState a_oldValues a_queue a_stack a_draftProd a_draftToken a_openSymbols : Nat → Int32} {b_sym b_rules b_root b_want b_tree b_oldTree b_draft b_val b_oldVal b_known b_oldKnown b_has b_dep : Nat → Int32} (h : gr_C S P N c n fd op kp vd df tg a_lhsOf a_leftOf a_rightOf a_ruleOp a_ruleA a_ruleB a_argMask a_userMask a_graphSet a_treeProd a_treeToken a_parent a_placeOf a_second a_span a_nodeGraph a_state a_values a_draftProd a_draftToken a_openSymbols b_sym b_rules b_root b_want b_tree b_draft b_known b_has) : i_Rel k (nI S, nI P, nI N, nI c, vd, nI n, df, tg, nI kp, nI fd, nI op, a_lhsOf, a_leftOf, a_rightOf, a_ruleOp, a_ruleA, a_ruleB, a_argMask, a_userMask, a_graphSet, a_reach, a_treeProd, a_treeToken, a_parent, a_placeOf, a_second, a_span, a_nodeGraph, a_state, a_values, a_oldState, a_oldValues, a_queue, a_stack, a_draftProd, a_draftToken, a_openSymbols) (nI S, nI P, nI N, nI c, vd, nI n, nI fd, nI op, tg, df, b_sym, b_rules, b_root, b_want, b_tree, b_oldTree, b_draft, b_val, b_oldVal, b_known, b_oldKnown, b_has, b_dep) :=
  ⟨S, P, N, c, n, fd, op, kp, ⟨rfl, rfl, rfl, rfl, rfl, rfl, rfl, rfl, rfl, rfl, rfl, rfl, rfl, rfl, rfl, rfl, rfl, rfl⟩, h⟩
theorem gr_el {P0 : SX → SY → Prop} {k : Nat} {u : SX} {v : SY} (I : i_Rel k u v)
    (h : ∀ (S P N c n fd op kp : Nat) (vd df tg : Int32) (a_lhsOf a_leftOf a_rightOf a_ruleOp a_ruleA a_ruleB a_argMask a_userMask a_graphSet a_reach a_treeProd a_treeToken a_parent a_placeOf a_second a_span a_nodeGraph a_state a_values a_oldState a_oldValues a_queue a_stack a_draftProd a_draftToken a_openSymbols : Nat → Int32) (b_sym b_rules b_root b_want b_tree b_oldTree b_draft b_val b_oldVal b_known b_oldKnown b_has b_dep : Nat → Int32), gr_C S P N c n fd op kp vd df tg a_lhsOf a_leftOf a_rightOf a_ruleOp a_ruleA a_ruleB a_argMask a_userMask a_graphSet a_treeProd a_treeToken a_parent a_placeOf a_second a_span a_nodeGraph a_state a_values a_draftProd a_draftToken a_openSymbols b_sym b_rules b_root b_want b_tree b_draft b_known b_has → P0 (nI S, nI P, nI N, nI c, vd, nI n, df, tg, nI kp, nI fd, nI op, a_lhsOf, a_leftOf, a_rightOf, a_ruleOp, a_ruleA, a_ruleB, a_argMask, a_userMask, a_graphSet, a_reach, a_treeProd, a_treeToken, a_parent, a_placeOf, a_second, a_span, a_nodeGraph, a_state, a_values, a_oldState, a_oldValues, a_queue, a_stack, a_draftProd, a_draftToken, a_openSymbols) (nI S, nI P, nI N, nI c, vd, nI n, nI fd, nI op, tg, df, b_sym, b_rules, b_root, b_want, b_tree, b_oldTree, b_draft, b_val, b_oldVal, b_known, b_oldKnown, b_has, b_dep)) : P0 u v := by
  obtain ⟨f_symbolLimit, f_productionLimit, f_nodeLimit, f_productionCount, f_verdict, f_size, f_drafting, f_target, f_kept, f_fed, f_open, a_lhsOf, a_leftOf, a_rightOf, a_ruleOp, a_ruleA, a_ruleB, a_argMask, a_userMask, a_graphSet, a_reach, a_treeProd, a_treeToken, a_parent, a_placeOf, a_second, a_span, a_nodeGraph, a_state, a_values, a_oldState, a_oldValues, a_queue, a_stack, a_draftProd, a_draftToken, a_openSymbols⟩ := u
  obtain ⟨y_S, y_P, y_N, y_count, y_verdict, y_size, y_fed, y_holes, y_target, y_drafting, b_sym, b_rules, b_root, b_want, b_tree, b_oldTree, b_draft, b_val, b_oldVal, b_known, b_oldKnown, b_has, b_dep⟩ := v
  obtain ⟨S, P, N, c, n, fd, op, kp, ⟨rfl, rfl, rfl, rfl, rfl, rfl, rfl, rfl, rfl, rfl, rfl, rfl, e1, rfl, rfl, rfl, e2, e3⟩, hC⟩ := I
  subst e1 e2 e3
  exact h S P N c n fd op kp _ _ _ a_lhsOf a_leftOf a_rightOf a_ruleOp a_ruleA a_ruleB a_argMask a_userMask a_graphSet a_reach a_treeProd a_treeToken a_parent a_placeOf a_second a_span a_nodeGraph a_state a_values a_oldState a_oldValues a_queue a_stack a_draftProd a_draftToken a_openSymbols b_sym b_rules b_root b_want b_tree b_oldTree b_draft b_val b_oldVal b_known b_oldKnown b_has b_dep hC
/-! the constructors -/
theorem gr_clamp (v : Int32) (M : Nat) (hM : 1 ≤ M) (hM2 : M ≤ 24) : ∃ S, 1 ≤ S ∧ S ≤ M ∧ (∀ (post : Int32 → Prop) (f_symbolLimit f_productionLimit f_nodeLimit f_productionCount f_verdict f_size f_drafting f_target f_kept f_fed f_open : Int32) (a_lhsOf a_leftOf a_rightOf a_ruleOp a_ruleA a_ruleB a_argMask a_userMask a_graphSet a_reach a_treeProd a_treeToken a_parent a_placeOf a_second a_span a_nodeGraph a_state a_values a_oldState a_oldValues a_queue a_stack a_draftProd a_draftToken a_openSymbols : Nat → Int32), post (nI S) → wpX_clamp post (f_symbolLimit, f_productionLimit, f_nodeLimit, f_productionCount, f_verdict, f_size, f_drafting, f_target, f_kept, f_fed, f_open, a_lhsOf, a_leftOf, a_rightOf, a_ruleOp, a_ruleA, a_ruleB, a_argMask, a_userMask, a_graphSet, a_reach, a_treeProd, a_treeToken, a_parent, a_placeOf, a_second, a_span, a_nodeGraph, a_state, a_values, a_oldState, a_oldValues, a_queue, a_stack, a_draftProd, a_draftToken, a_openSymbols) v (nI M)) ∧
    (∀ A : Int32 → Prop, A (nI S) → ((1 ≤ v → (((v ≤ nI M → A v) ∧ (¬ v ≤ nI M → A (nI M))))) ∧ (¬ 1 ≤ v → A 1))) := by
  by_cases h1 : 1 ≤ v
  · by_cases h2 : v ≤ nI M
    · have h0 : ¬ v < 0 := by
        intro z
        rw [Int32.lt_iff_toInt_lt] at z
        rw [Int32.le_iff_toInt_le] at h1
        rw [show (0 : Int32).toInt = 0 from by decide] at z
        rw [show (1 : Int32).toInt = 1 from by decide] at h1
        omega
      obtain ⟨j, hj, rfl⟩ := nI_of h0
      have a := h1
      rw [show (1 : Int32) = nI 1 from rfl, nI_leI (by omega) hj] at a
      have b := h2
      rw [nI_leI hj (by omega)] at b
      exact ⟨j, a, b, fun post f_symbolLimit f_productionLimit f_nodeLimit f_productionCount f_verdict f_size f_drafting f_target f_kept f_fed f_open a_lhsOf a_leftOf a_rightOf a_ruleOp a_ruleA a_ruleB a_argMask a_userMask a_graphSet a_reach a_treeProd a_treeToken a_parent a_placeOf a_second a_span a_nodeGraph a_state a_values a_oldState a_oldValues a_queue a_stack a_draftProd a_draftToken a_openSymbols h => br_t h1 (br_t h2 h), fun A h => br_t h1 (br_t h2 h)⟩
    · exact ⟨M, hM, Nat.le_refl _, fun post f_symbolLimit f_productionLimit f_nodeLimit f_productionCount f_verdict f_size f_drafting f_target f_kept f_fed f_open a_lhsOf a_leftOf a_rightOf a_ruleOp a_ruleA a_ruleB a_argMask a_userMask a_graphSet a_reach a_treeProd a_treeToken a_parent a_placeOf a_second a_span a_nodeGraph a_state a_values a_oldState a_oldValues a_queue a_stack a_draftProd a_draftToken a_openSymbols h => br_t h1 (br_f h2 h), fun A h => br_t h1 (br_f h2 h)⟩
  · exact ⟨1, Nat.le_refl _, hM, fun post f_symbolLimit f_productionLimit f_nodeLimit f_productionCount f_verdict f_size f_drafting f_target f_kept f_fed f_open a_lhsOf a_leftOf a_rightOf a_ruleOp a_ruleA a_ruleB a_argMask a_userMask a_graphSet a_reach a_treeProd a_treeToken a_parent a_placeOf a_second a_span a_nodeGraph a_state a_values a_oldState a_oldValues a_queue a_stack a_draftProd a_draftToken a_openSymbols h => br_f h1 h, fun A h => br_f h1 h⟩
theorem gr_C0 {S P N : Nat} (h1 : 1 ≤ S) (h2 : S ≤ 4) (h3 : P ≤ 8) (h4 : 1 ≤ N) (h5 : N ≤ 24) : gr_C S P N 0 0 0 0 0 0 0 (-1) (fun _ => 0) (fun _ => 0) (fun _ => 0) (fun _ => 0) (fun _ => 0) (fun _ => 0) (fun _ => 0) (fun _ => 0) (fun _ => 0) (fun _ => 0) (fun _ => 0) (fun _ => 0) (fun _ => 0) (fun _ => 0) (fun _ => 0) (fun _ => 0) (fun _ => 0) (fun _ => 0) (fun _ => 0) (fun _ => 0) (fun _ => 0) (fun _ => 0) (fun _ => 0) (fun _ => 0) (fun _ => 0) (fun _ => 0) (fun _ => 0) (fun _ => 0) (fun _ => 0) := by
  refine ⟨⟨h1, h2, h3, h4, h5, Nat.zero_le _, Nat.zero_le _⟩, ⟨⟨fun _ _ => ⟨rfl, rfl, rfl⟩, fun _ _ => ⟨rfl, rfl, rfl⟩⟩, fun p hp => absurd hp (Nat.not_lt_zero _), fun p _ o _ => ⟨(by decide : (0 : Int32) ≤ 0), fun z => absurd z (by decide : ¬ (2 : Int32) ≤ 0), fun z => absurd z (by decide : ¬ (3 : Int32) ≤ 0)⟩, fun _ _ _ _ _ => rfl, fun p hp => absurd hp (Nat.not_lt_zero _)⟩,
    ⟨Or.inl rfl, fun _ _ => Or.inl rfl, fun _ => ⟨fun _ _ => rfl, fun _ _ => rfl, fun _ _ => rfl, fun _ _ => rfl⟩, fun z => absurd rfl z⟩, ⟨fun _ _ => Or.inl rfl, fun z => absurd z (Nat.lt_irrefl _)⟩, Or.inl ⟨rfl, rfl, rfl, rfl⟩, fun _ => ⟨rfl, rfl⟩⟩
theorem i_vc0 (k0 : Int32) (k1 : Int32) (k2 : Int32) : wpX_init (fun u => wpY_init (fun v => i_Rel 3 u v) k0 k1 k2) k0 k1 k2 := by
  obtain ⟨S, s1, s2, sx, sy⟩ := gr_clamp k0 4 (by omega) (by omega)
  obtain ⟨P, p1, p2, px, py⟩ := gr_clamp k1 8 (by omega) (by omega)
  obtain ⟨N, n1, n2, nx, ny⟩ := gr_clamp k2 24 (by omega) (by omega)
  refine sx _ _ _ _ _ _ _ _ _ _ _ _ _ _ _ _ _ _ _ _ _ _ _ _ _ _ _ _ _ _ _ _ _ _ _ _ _ _ (px _ _ _ _ _ _ _ _ _ _ _ _ _ _ _ _ _ _ _ _ _ _ _ _ _ _ _ _ _ _ _ _ _ _ _ _ _ _ (nx _ _ _ _ _ _ _ _ _ _ _ _ _ _ _ _ _ _ _ _ _ _ _ _ _ _ _ _ _ _ _ _ _ _ _ _ _ _ ?_))
  refine sy (fun s => wY_init_134 _ k1 k2 s _ _ _ _ _ _ _ _ _ _ _ _ _ _ _ _ _ _ _ _ _ _ _) (py (fun p => wY_init_159 _ k2 p _ _ _ _ _ _ _ _ _ _ _ _ _ _ _ _ _ _ _ _ _ _ _) (ny (fun q => i_Rel 3 _ (_, _, q, _)) ?_))
  exact gr_in (gr_C0 s1 s2 p2 n1 n2)
end
section
/-! production and rule -/
theorem gr_upd3 {ru O A B : Nat → Int32} {r : Nat} {x y z : Int32} (hr : r < 96) (h : ∀ r, r < 96 → ru (3 * r) = O r ∧ ru (3 * r + 1) = A r ∧ ru (3 * r + 2) = B r) :
    ∀ q, q < 96 → upd (upd (upd ru (3 * r) x) (3 * r + 1) y) (3 * r + 2) z (3 * q) = upd O r x q ∧ upd (upd (upd ru (3 * r) x) (3 * r + 1) y) (3 * r + 2) z (3 * q + 1) = upd A r y q ∧ upd (upd (upd ru (3 * r) x) (3 * r + 1) y) (3 * r + 2) z (3 * q + 2) = upd B r z q := by
  intro q hq
  obtain ⟨h1, h2, h3⟩ := h q hq
  by_cases e : q = r
  · subst e
    refine ⟨?_, ?_, ?_⟩
    · rw [pk_un (by omega), pk_un (by omega), pk_us, pk_us]
    · rw [pk_un (by omega), pk_us, pk_us]
    · rw [pk_us, pk_us]
  · refine ⟨?_, ?_, ?_⟩
    · rw [pk_un (by omega), pk_un (by omega), pk_un (by omega), pk_un e, h1]
    · rw [pk_un (by omega), pk_un (by omega), pk_un (by omega), pk_un e, h2]
    · rw [pk_un (by omega), pk_un (by omega), pk_un (by omega), pk_un e, h3]
theorem gr_kd_un {L R : Nat → Int32} {c p : Nat} {x y : Int32} (h : p ≠ c) : ge_kd (upd L c x) (upd R c y) p = ge_kd L R p := by unfold ge_kd; rw [pk_un h, pk_un h]
theorem gr_sym {x : Int32} {S : Nat} (hS : S ≤ 4) (h : 0 ≤ x) (h2 : x < nI S) : ∃ s, s < 4 ∧ x = nI s := by
  obtain ⟨s, hs, rfl⟩ := nI_of (Int32.not_lt.mpr h)
  rw [nI_ltI hs (by omega)] at h2
  exact ⟨s, by omega, rfl⟩
theorem gr_Gr_prod {lh L R O A B sy ru : Nat → Int32} {c S : Nat} {x y z : Int32} (hc : c < 8) (hS : S ≤ 4) (h : gr_Gr lh L R O A B sy ru c) (hx0 : ¬ x < 0) (hx : x < nI S) (hy : y < nI S) (hz : z < nI S) (hyz : ¬ 0 ≤ y → ¬ 0 ≤ z) :
    gr_Gr (upd lh c x) (upd L c y) (upd R c z) O A B (upd (upd (upd sy (3 * c) x) (3 * c + 1) y) (3 * c + 2) z) ru (c + 1) := by
  obtain ⟨G, GR, RO, h0, hLR⟩ := h
  refine ⟨⟨fun p hp => ?_, G.2⟩, fun p hp => ?_, fun p hp o ho => ?_, fun p' h1 h2 o ho => h0 p' (by omega) h2 o ho, fun p hp => ?_⟩
  · obtain ⟨h1, h2, h3⟩ := G.1 p hp
    by_cases e : p = c
    · subst e
      refine ⟨?_, ?_, ?_⟩
      · rw [pk_un (by omega), pk_un (by omega), pk_us, pk_us]
      · rw [pk_un (by omega), pk_us, pk_us]
      · rw [pk_us, pk_us]
    · refine ⟨?_, ?_, ?_⟩
      · rw [pk_un (by omega), pk_un (by omega), pk_un (by omega), pk_un e, h1]
      · rw [pk_un (by omega), pk_un (by omega), pk_un (by omega), pk_un e, h2]
      · rw [pk_un (by omega), pk_un (by omega), pk_un (by omega), pk_un e, h3]
  · by_cases e : p = c
    · subst e
      rw [pk_us, pk_us, pk_us]
      exact ⟨gr_sym hS (Int32.not_lt.mp hx0) hx, fun q => gr_sym hS q hy, fun q => gr_sym hS q hz⟩
    · rw [pk_un e, pk_un e, pk_un e]; exact GR p (by omega)
  · by_cases e : p = c
    · subst e
      rw [h0 p (Nat.le_refl _) hp o ho]
      exact ⟨by decide, fun z => absurd z (by decide), fun z => absurd z (by decide)⟩
    · rw [gr_kd_un e]; exact RO p hp o ho
  · by_cases e : p = c
    · subst e
      rw [pk_us, pk_us]
      exact fun q => Classical.byContradiction fun q2 => hyz q2 q
    · rw [pk_un e, pk_un e]; exact hLR p (by omega)
theorem gr_Vd0 {L R O A B L' R' O' A' B' am um gs ha : Nat → Int32} {vd : Int32} (e0 : vd = 0) (h : gr_Vd L R O A B am um gs ha vd) : gr_Vd L' R' O' A' B' am um gs ha vd := ⟨h.1, h.2.1, h.2.2.1, fun z => absurd e0 z⟩
theorem gr_Tr0 {L R O A B L' R' O' A' B' pd tk pa pl se sp ng st V rt tr kn : Nat → Int32} {n : Nat} (e0 : n = 0) (h : gr_Tr L R O A B pd tk pa pl se sp ng st V rt tr kn n) : gr_Tr L' R' O' A' B' pd tk pa pl se sp ng st V rt tr kn n := ⟨h.1, fun z => by omega⟩
theorem gr_Dr0 {L R L' R' pd dp dt os wa dr : Nat → Int32} {n fd op kp N : Nat} {df tg : Int32} (e0 : df = 0) (h : gr_Dr L R pd dp dt os wa dr n fd op kp N df tg) : gr_Dr L' R' pd dp dt os wa dr n fd op kp N df tg := by
  rcases h with h | h
  · exact Or.inl h
  · rw [e0] at h; exact absurd h.1 (by decide)
theorem i_vc_production {k : Nat} {u : SX} {v : SY} (I : i_Rel k u v) (hk : k + 5 ≤ 2563) (v1 : Int32) (v2 : Int32) (v3 : Int32) : wpX_production (fun r u' => wpY_production (fun r' v' => r' = r ∧ i_Rel (k + 5) u' v') v v1 v2 v3) u v1 v2 v3 := by
  refine gr_el (P0 := fun u v => wpX_production (fun r u' => wpY_production (fun r' v' => r' = r ∧ i_Rel (k + 5) u' v') v v1 v2 v3) u v1 v2 v3) I ?_
  intro S P N c n fd op kp vd df tg a_lhsOf a_leftOf a_rightOf a_ruleOp a_ruleA a_ruleB a_argMask a_userMask a_graphSet a_reach a_treeProd a_treeToken a_parent a_placeOf a_second a_span a_nodeGraph a_state a_values a_oldState a_oldValues a_queue a_stack a_draftProd a_draftToken a_openSymbols b_sym b_rules b_root b_want b_tree b_oldTree b_draft b_val b_oldVal b_known b_oldKnown b_has b_dep hC
  obtain ⟨⟨b1, b2, b3, b4, b5, b6, b7⟩, Gr, V, T, D, hv0⟩ := id hC
  by_cases e0 : vd = 0
  · refine br_t e0 (pk_lt c P (fun h1 => ?_) (fun h1 => br_t e0 (br_f (nI_nlt h1 (by omega)) (br_t e0 ⟨rfl, gr_in hC⟩))))
    have hcP : nI c < nI P := nI_lt h1 (by omega)
    have sv : ∀ x : Int32, (x < nI S → ¬ nI S ≤ x) ∧ (¬ x < nI S → nI S ≤ x) := fun x => ⟨Int32.not_le.mpr, Int32.not_lt.mp⟩
    by_cases c1 : v1 < 0
    · exact br_t c1 (br_t e0 (br_t hcP (br_t c1 ⟨rfl, gr_in hC⟩)))
    by_cases c2 : v1 < nI S
    · refine br_f c1 (br_t c2 ?_)
      by_cases c3 : v2 < (-1)
      · exact br_t c3 (br_t e0 (br_t hcP (br_f c1 (br_f ((sv _).1 c2) (br_t c3 ⟨rfl, gr_in hC⟩)))))
      by_cases c4 : v2 < nI S
      · refine br_f c3 (br_t c4 ?_)
        by_cases c5 : v3 < (-1)
        · exact br_t c5 (br_t e0 (br_t hcP (br_f c1 (br_f ((sv _).1 c2) (br_f c3 (br_f ((sv _).1 c4) (br_t c5 ⟨rfl, gr_in hC⟩)))))))
        by_cases c6 : v3 < nI S
        · have cv : vp_in (nI c) 8 := vp_in_nI (by omega) (by decide)
          have ec : (nI c).toNatClampNeg = c := nI_clamp (by omega)
          have good : (¬ 0 ≤ v2 → ¬ 0 ≤ v3) → wX_production_83 (fun r u' => wpY_production (fun r' v' => r' = r ∧ i_Rel (k + 5) u' v') (nI S, nI P, nI N, nI c, vd, nI n, nI fd, nI op, tg, df, b_sym, b_rules, b_root, b_want, b_tree, b_oldTree, b_draft, b_val, b_oldVal, b_known, b_oldKnown, b_has, b_dep) v1 v2 v3) v1 v2 v3 (nI S) (nI P) (nI N) (nI c) vd (nI n) df tg (nI kp) (nI fd) (nI op) a_lhsOf a_leftOf a_rightOf a_ruleOp a_ruleA a_ruleB a_argMask a_userMask a_graphSet a_reach a_treeProd a_treeToken a_parent a_placeOf a_second a_span a_nodeGraph a_state a_values a_oldState a_oldValues a_queue a_stack a_draftProd a_draftToken a_openSymbols := by
            intro hyz
            have hG := gr_Gr_prod (c := c) (by omega) b2 Gr c1 c2 c4 c6 hyz
            obtain ⟨n0, d0⟩ := hv0 e0
            have fin : wY_production_86 (fun r' v' => r' = nI c ∧ i_Rel (k + 5) (nI S, nI P, nI N, nI (c + 1), vd, nI n, df, tg, nI kp, nI fd, nI op, upd a_lhsOf c v1, upd a_leftOf c v2, upd a_rightOf c v3, a_ruleOp, a_ruleA, a_ruleB, a_argMask, a_userMask, a_graphSet, a_reach, a_treeProd, a_treeToken, a_parent, a_placeOf, a_second, a_span, a_nodeGraph, a_state, a_values, a_oldState, a_oldValues, a_queue, a_stack, a_draftProd, a_draftToken, a_openSymbols) v') v1 v2 v3 (nI S) (nI P) (nI N) (nI c) vd (nI n) (nI fd) (nI op) tg df b_sym b_rules b_root b_want b_tree b_oldTree b_draft b_val b_oldVal b_known b_oldKnown b_has b_dep := by
              unfold wY_production_86
              rw [ge_m3, nI_1, ge_p2, nI_clamp (show 3 * c < 2 ^ 31 by omega), nI_clamp (show 3 * c + 1 < 2 ^ 31 by omega), nI_clamp (show 3 * c + 2 < 2 ^ 31 by omega)]
              refine ⟨vp_in_nI (by omega) (by decide), nm_e ⟨vp_in_nI (by omega) (by decide), nm_e ⟨vp_in_nI (by omega) (by decide), nm_e (nm_r (nI_1 c) ⟨nI_pred c, ?_⟩)⟩⟩⟩
              exact gr_in ⟨⟨b1, b2, b3, b4, b5, by omega, b7⟩, hG, gr_Vd0 e0 V, gr_Tr0 n0 T, gr_Dr0 d0 D, hv0⟩
            unfold wX_production_83
            rw [ec]
            refine ⟨cv, nm_e ⟨cv, nm_e ⟨cv, nm_e (nm_r (nI_1 c) ?_)⟩⟩⟩
            refine br_t e0 (br_t hcP (br_f c1 (br_f ((sv _).1 c2) (br_f c3 (br_f ((sv _).1 c4) (br_f c5 (br_t c6 ?_)))))))
            by_cases c7 : v2 = -1
            · refine br_t c7 (br_t ?_ fin)
              have : ¬ 0 ≤ v3 := hyz (by rw [c7]; decide)
              apply Int32.toInt_inj.mp
              rw [Int32.le_iff_toInt_le, show (0 : Int32).toInt = 0 from by decide] at this
              rw [Int32.lt_iff_toInt_lt, show (-1 : Int32).toInt = -1 from by decide] at c5
              rw [show (-1 : Int32).toInt = -1 from by decide]
              omega
            · exact br_f c7 fin
          refine br_f c5 (br_t c6 ?_)
          by_cases c7 : v2 = -1
          · by_cases c8 : v3 = -1
            · exact br_t c7 (br_t c8 (good (fun _ => by rw [c8]; decide)))
            · exact br_t c7 (br_f c8 (br_t e0 (br_t hcP (br_f c1 (br_f ((sv _).1 c2) (br_f c3 (br_f ((sv _).1 c4) (br_f c5 (br_t c6 (br_t c7 (br_f c8 ⟨rfl, gr_in hC⟩)))))))))))
          · refine br_f c7 (good (fun z => absurd (Classical.byContradiction fun y => ?_) c7))
            exact y (by
              apply Int32.toInt_inj.mp
              rw [Int32.le_iff_toInt_le, show (0 : Int32).toInt = 0 from by decide] at z
              rw [Int32.lt_iff_toInt_lt, show (-1 : Int32).toInt = -1 from by decide] at c3
              rw [show (-1 : Int32).toInt = -1 from by decide]
              omega)
        · exact br_f c5 (br_f c6 (br_t e0 (br_t hcP (br_f c1 (br_f ((sv _).1 c2) (br_f c3 (br_f ((sv _).1 c4) (br_f c5 (br_f c6 ⟨rfl, gr_in hC⟩)))))))))
      · exact br_f c3 (br_f c4 (br_t e0 (br_t hcP (br_f c1 (br_f ((sv _).1 c2) (br_f c3 (br_t ((sv _).2 c4) ⟨rfl, gr_in hC⟩)))))))
    · exact br_f c1 (br_f c2 (br_t e0 (br_t hcP (br_f c1 (br_t ((sv _).2 c2) ⟨rfl, gr_in hC⟩)))))
  · exact br_f e0 (br_f e0 (br_f e0 ⟨rfl, gr_in hC⟩))
theorem gr_Gr_rule {lh L R O A B sy ru : Nat → Int32} {c o : Nat} {x y z : Int32} (hc : c + 1 ≤ 8) (ho : o < 12) (h : gr_Gr lh L R O A B sy ru (c + 1)) (h0 : 0 ≤ x) (h2 : 2 ≤ x → ∃ a, a < 4 + 4 * ge_kd L R c ∧ y = nI a) (h3 : 3 ≤ x → ∃ b, b < 4 + 4 * ge_kd L R c ∧ z = nI b) :
    gr_Gr lh L R (upd O (12 * c + o) x) (upd A (12 * c + o) y) (upd B (12 * c + o) z) sy (upd (upd (upd ru (3 * (12 * c + o)) x) (3 * (12 * c + o) + 1) y) (3 * (12 * c + o) + 2) z) (c + 1) := by
  obtain ⟨G, GR, RO, hz, hLR⟩ := h
  refine ⟨⟨G.1, gr_upd3 (by omega) G.2⟩, GR, fun p hp q hq => ?_, fun p' h1 h2 q hq => ?_, hLR⟩
  · by_cases e : 12 * p + q = 12 * c + o
    · have e1 : p = c := by omega
      subst e1
      rw [e, pk_us, pk_us, pk_us]; exact ⟨h0, h2, h3⟩
    · rw [pk_un e, pk_un e, pk_un e]; exact RO p hp q hq
  · rw [pk_un (by omega)]; exact hz p' h1 h2 q hq
theorem i_vc_rule {k : Nat} {u : SX} {v : SY} (I : i_Rel k u v) (hk : k + 5 ≤ 2563) (v1 : Int32) (v2 : Int32) (v3 : Int32) (v4 : Int32) : wpX_rule (fun r u' => wpY_rule (fun r' v' => r' = r ∧ i_Rel (k + 5) u' v') v v1 v2 v3 v4) u v1 v2 v3 v4 := by
  refine gr_el (P0 := fun u v => wpX_rule (fun r u' => wpY_rule (fun r' v' => r' = r ∧ i_Rel (k + 5) u' v') v v1 v2 v3 v4) u v1 v2 v3 v4) I ?_
  intro S P N c n fd op kp vd df tg a_lhsOf a_leftOf a_rightOf a_ruleOp a_ruleA a_ruleB a_argMask a_userMask a_graphSet a_reach a_treeProd a_treeToken a_parent a_placeOf a_second a_span a_nodeGraph a_state a_values a_oldState a_oldValues a_queue a_stack a_draftProd a_draftToken a_openSymbols b_sym b_rules b_root b_want b_tree b_oldTree b_draft b_val b_oldVal b_known b_oldKnown b_has b_dep hC
  obtain ⟨⟨b1, b2, b3, b4, b5, b6, b7⟩, Gr, V, T, D, hv0⟩ := id hC
  by_cases e0 : vd = 0
  · rcases Nat.eq_zero_or_pos c with c0 | c0
    · subst c0
      exact br_t e0 (br_t rfl (br_t e0 (br_t rfl ⟨rfl, gr_in hC⟩)))
    obtain ⟨c, rfl⟩ : ∃ d, c = d + 1 := ⟨c - 1, by omega⟩
    have G := Gr.1
    have k2 := ge_kd_le a_leftOf a_rightOf c
    have c8 : c < 8 := by omega
    have cne : ¬ nI (c + 1) = 0 := nI_ne0 (by omega) (by omega)
    refine br_t e0 (br_f cne (nm_r (nI_pred c) ?_))
    -- Y's way to its check of the occurrence
    have yway : ∀ {r : Int32} {u' : SX}, (∀ x7, x7 = 36 * nI c + 3 * v1 → wpY_defined (fun r_30 => (((r_30 = 0 → ((-3 : Int32) = r ∧ i_Rel (k + 5) u' (nI S, nI P, nI N, nI (c + 1), vd, nI n, nI fd, nI op, tg, df, b_sym, b_rules, b_root, b_want, b_tree, b_oldTree, b_draft, b_val, b_oldVal, b_known, b_oldKnown, b_has, b_dep))) ∧ (¬ r_30 = 0 → (((v2 < 0 → ((-3 : Int32) = r ∧ i_Rel (k + 5) u' (nI S, nI P, nI N, nI (c + 1), vd, nI n, nI fd, nI op, tg, df, b_sym, b_rules, b_root, b_want, b_tree, b_oldTree, b_draft, b_val, b_oldVal, b_known, b_oldKnown, b_has, b_dep))) ∧ (¬ v2 < 0 → (((v2 ≤ 6 → (((v2 < 2 → (wY_rule_85 (fun r' v' => r' = r ∧ i_Rel (k + 5) u' v') v2 v3 v4 (nI (4 * ge_kd a_leftOf a_rightOf c + 3)) x7 (nI S) (nI P) (nI N) (nI (c + 1)) vd (nI n) (nI fd) (nI op) tg df b_sym b_rules b_root b_want b_tree b_oldTree b_draft b_val b_oldVal b_known b_oldKnown b_has b_dep)) ∧ (¬ v2 < 2 → (((v3 < 0 → ((-3 : Int32) = r ∧ i_Rel (k + 5) u' (nI S, nI P, nI N, nI (c + 1), vd, nI n, nI fd, nI op, tg, df, b_sym, b_rules, b_root, b_want, b_tree, b_oldTree, b_draft, b_val, b_oldVal, b_known, b_oldKnown, b_has, b_dep))) ∧ (¬ v3 < 0 → (((nI (4 * ge_kd a_leftOf a_rightOf c + 3) < v3 → ((-3 : Int32) = r ∧ i_Rel (k + 5) u' (nI S, nI P, nI N, nI (c + 1), vd, nI n, nI fd, nI op, tg, df, b_sym, b_rules, b_root, b_want, b_tree, b_oldTree, b_draft, b_val, b_oldVal, b_known, b_oldKnown, b_has, b_dep))) ∧ (¬ nI (4 * ge_kd a_leftOf a_rightOf c + 3) < v3 → (wY_rule_85 (fun r' v' => r' = r ∧ i_Rel (k + 5) u' v') v2 v3 v4 (nI (4 * ge_kd a_leftOf a_rightOf c + 3)) x7 (nI S) (nI P) (nI N) (nI (c + 1)) vd (nI n) (nI fd) (nI op) tg df b_sym b_rules b_root b_want b_tree b_oldTree b_draft b_val b_oldVal b_known b_oldKnown b_has b_dep))))))))))) ∧ (¬ v2 ≤ 6 → ((-3 : Int32) = r ∧ i_Rel (k + 5) u' (nI S, nI P, nI N, nI (c + 1), vd, nI n, nI fd, nI op, tg, df, b_sym, b_rules, b_root, b_want, b_tree, b_oldTree, b_draft, b_val, b_oldVal, b_known, b_oldKnown, b_has, b_dep)))))))))))) (nI S, nI P, nI N, nI (c + 1), vd, nI n, nI fd, nI op, tg, df, b_sym, b_rules, b_root, b_want, b_tree, b_oldTree, b_draft, b_val, b_oldVal, b_known, b_oldKnown, b_has, b_dep) (nI c) v1) →
        wpY_rule (fun r' v' => r' = r ∧ i_Rel (k + 5) u' v') (nI S, nI P, nI N, nI (c + 1), vd, nI n, nI fd, nI op, tg, df, b_sym, b_rules, b_root, b_want, b_tree, b_oldTree, b_draft, b_val, b_oldVal, b_known, b_oldKnown, b_has, b_dep) v1 v2 v3 v4 := by
      intro r u' h
      refine br_t e0 (br_f cne (nm_r (nI_pred c) (gy_kids G c8 (nm_r (e' := nI (4 * ge_kd a_leftOf a_rightOf c + 3)) (by rw [ge_m4, ge_p3]) h))))
    by_cases n1 : v1 < 0
    · exact gx_isDefined_neg n1 (br_t rfl (yway (fun x7 e7 => gy_defined_neg n1 (br_t rfl ⟨rfl, gr_in hC⟩))))
    obtain ⟨o, ho, rfl⟩ := nI_of n1
    refine gx_isDefined c8 ho (ge_dI_br (fun df' => ?_) (fun df' => yway (fun x7 e7 => gy_defined G c8 ho (ge_dI_br (fun z => absurd z df') (fun _ => ⟨rfl, gr_in hC⟩)))))
    have o12 : o < 12 := by have := (ge_df_iff.mp df').1; omega
    by_cases c1 : v2 < 0
    · exact br_t c1 (yway (fun x7 e7 => gy_defined G c8 ho (ge_dI_br (fun _ => br_t c1 ⟨rfl, gr_in hC⟩) (fun z => absurd df' z))))
    by_cases c2 : v2 ≤ 6
    · refine br_f c1 (br_t c2 (gx_occurrences c8 ?_))
      have e7 : 36 * nI c + 3 * nI o = nI (3 * (12 * c + o)) := by rw [ge_m36, ge_m3, nI_add]; congr 1; omega
      -- the store on both sides
      have store : (2 ≤ v2 → ∃ a, a < 4 + 4 * ge_kd a_leftOf a_rightOf c ∧ v3 = nI a) → (3 ≤ v2 → ∃ b, b < 4 + 4 * ge_kd a_leftOf a_rightOf c ∧ v4 = nI b) →
          wX_rule_96 (fun r u' => wpY_rule (fun r' v' => r' = r ∧ i_Rel (k + 5) u' v') (nI S, nI P, nI N, nI (c + 1), vd, nI n, nI fd, nI op, tg, df, b_sym, b_rules, b_root, b_want, b_tree, b_oldTree, b_draft, b_val, b_oldVal, b_known, b_oldKnown, b_has, b_dep) (nI o) v2 v3 v4) (nI o) v2 v3 v4 (nI c) (nI S) (nI P) (nI N) (nI (c + 1)) vd (nI n) df tg (nI kp) (nI fd) (nI op) a_lhsOf a_leftOf a_rightOf a_ruleOp a_ruleA a_ruleB a_argMask a_userMask a_graphSet a_reach a_treeProd a_treeToken a_parent a_placeOf a_second a_span a_nodeGraph a_state a_values a_oldState a_oldValues a_queue a_stack a_draftProd a_draftToken a_openSymbols := by
        intro h2 h3
        have rv : vp_in (nI (12 * c + o)) 96 := vp_in_nI (by omega) (by decide)
        have er : (nI (12 * c + o)).toNatClampNeg = 12 * c + o := nI_clamp (by omega)
        unfold wX_rule_96
        refine nm_r (e' := nI (12 * c + o)) (by rw [ge_m12, nI_add]) ?_
        rw [er]
        refine ⟨rv, nm_e ⟨rv, nm_e ⟨rv, nm_e (yway (fun x7 ex7 => gy_defined G c8 ho (ge_dI_br (fun _ => br_f c1 (br_t c2 ?_)) (fun z => absurd df' z))))⟩⟩⟩
        rw [e7] at ex7
        subst ex7
        have hG := gr_Gr_rule (by omega) o12 Gr (Int32.not_lt.mp c1) h2 h3
        obtain ⟨n0, d0⟩ := hv0 e0
        have y105 : wY_rule_105 (fun r' v' => r' = 0 ∧ i_Rel (k + 5) (nI S, nI P, nI N, nI (c + 1), vd, nI n, df, tg, nI kp, nI fd, nI op, a_lhsOf, a_leftOf, a_rightOf, upd a_ruleOp (12 * c + o) v2, upd a_ruleA (12 * c + o) v3, upd a_ruleB (12 * c + o) v4, a_argMask, a_userMask, a_graphSet, a_reach, a_treeProd, a_treeToken, a_parent, a_placeOf, a_second, a_span, a_nodeGraph, a_state, a_values, a_oldState, a_oldValues, a_queue, a_stack, a_draftProd, a_draftToken, a_openSymbols) v') v2 v3 v4 (nI (3 * (12 * c + o))) (nI S) (nI P) (nI N) (nI (c + 1)) vd (nI n) (nI fd) (nI op) tg df b_sym b_rules b_root b_want b_tree b_oldTree b_draft b_val b_oldVal b_known b_oldKnown b_has b_dep := by
          unfold wY_rule_105
          rw [nI_1, ge_p2, nI_clamp (show 3 * (12 * c + o) < 2 ^ 31 by omega), nI_clamp (show 3 * (12 * c + o) + 1 < 2 ^ 31 by omega), nI_clamp (show 3 * (12 * c + o) + 2 < 2 ^ 31 by omega)]
          exact ⟨vp_in_nI (by omega) (by decide), nm_e ⟨vp_in_nI (by omega) (by decide), nm_e ⟨vp_in_nI (by omega) (by decide), nm_e ⟨rfl, gr_in ⟨⟨b1, b2, b3, b4, b5, b6, b7⟩, hG, gr_Vd0 e0 V, gr_Tr0 n0 T, gr_Dr0 d0 D, hv0⟩⟩⟩⟩⟩
        have y85 : wY_rule_85 (fun r' v' => r' = 0 ∧ i_Rel (k + 5) (nI S, nI P, nI N, nI (c + 1), vd, nI n, df, tg, nI kp, nI fd, nI op, a_lhsOf, a_leftOf, a_rightOf, upd a_ruleOp (12 * c + o) v2, upd a_ruleA (12 * c + o) v3, upd a_ruleB (12 * c + o) v4, a_argMask, a_userMask, a_graphSet, a_reach, a_treeProd, a_treeToken, a_parent, a_placeOf, a_second, a_span, a_nodeGraph, a_state, a_values, a_oldState, a_oldValues, a_queue, a_stack, a_draftProd, a_draftToken, a_openSymbols) v') v2 v3 v4 (nI (4 * ge_kd a_leftOf a_rightOf c + 3)) (nI (3 * (12 * c + o))) (nI S) (nI P) (nI N) (nI (c + 1)) vd (nI n) (nI fd) (nI op) tg df b_sym b_rules b_root b_want b_tree b_oldTree b_draft b_val b_oldVal b_known b_oldKnown b_has b_dep := by
          unfold wY_rule_85
          refine br_c (fun _ => y105) (fun z => ?_)
          obtain ⟨b, hb, rfl⟩ := h3 (Int32.not_lt.mp z)
          exact br_f (nI_pos (by omega)) (br_t (nI_le (by omega) (by omega)) y105)
        refine br_c (fun _ => y85) (fun z => ?_)
        obtain ⟨a, ha, rfl⟩ := h2 (Int32.not_lt.mp z)
        exact br_f (nI_pos (by omega)) (br_f (nI_nlt (by omega) (by omega)) y85)
      -- refusals
      have bad85 : ∀ {r : Int32}, r = -3 → ¬ v2 < 3 → (v4 < 0 ∨ nI (4 + 4 * ge_kd a_leftOf a_rightOf c) ≤ v4) → ∀ x7, wY_rule_85 (fun r' v' => r' = r ∧ i_Rel (k + 5) (nI S, nI P, nI N, nI (c + 1), vd, nI n, df, tg, nI kp, nI fd, nI op, a_lhsOf, a_leftOf, a_rightOf, a_ruleOp, a_ruleA, a_ruleB, a_argMask, a_userMask, a_graphSet, a_reach, a_treeProd, a_treeToken, a_parent, a_placeOf, a_second, a_span, a_nodeGraph, a_state, a_values, a_oldState, a_oldValues, a_queue, a_stack, a_draftProd, a_draftToken, a_openSymbols) v') v2 v3 v4 (nI (4 * ge_kd a_leftOf a_rightOf c + 3)) x7 (nI S) (nI P) (nI N) (nI (c + 1)) vd (nI n) (nI fd) (nI op) tg df b_sym b_rules b_root b_want b_tree b_oldTree b_draft b_val b_oldVal b_known b_oldKnown b_has b_dep := by
        intro r er h3 hb x7
        subst er
        unfold wY_rule_85
        refine br_f h3 (br_c (fun _ => ⟨rfl, gr_in hC⟩) (fun z => br_f (fun y => ?_) ⟨rfl, gr_in hC⟩))
        obtain ⟨b, hb', rfl⟩ := nI_of z
        rw [nI_leI hb' (by omega)] at y
        rcases hb with q | q
        · exact z q
        · rw [nI_leI (by omega) hb'] at q; omega
      have x76 : (2 ≤ v2 → ∃ a, a < 4 + 4 * ge_kd a_leftOf a_rightOf c ∧ v3 = nI a) → wX_rule_76 (fun r u' => wpY_rule (fun r' v' => r' = r ∧ i_Rel (k + 5) u' v') (nI S, nI P, nI N, nI (c + 1), vd, nI n, nI fd, nI op, tg, df, b_sym, b_rules, b_root, b_want, b_tree, b_oldTree, b_draft, b_val, b_oldVal, b_known, b_oldKnown, b_has, b_dep) (nI o) v2 v3 v4) (nI o) v2 v3 v4 (nI c) (nI (4 + 4 * ge_kd a_leftOf a_rightOf c)) (nI S) (nI P) (nI N) (nI (c + 1)) vd (nI n) df tg (nI kp) (nI fd) (nI op) a_lhsOf a_leftOf a_rightOf a_ruleOp a_ruleA a_ruleB a_argMask a_userMask a_graphSet a_reach a_treeProd a_treeToken a_parent a_placeOf a_second a_span a_nodeGraph a_state a_values a_oldState a_oldValues a_queue a_stack a_draftProd a_draftToken a_openSymbols := by
        intro h2
        have ybad : ¬ v2 < 3 → (v4 < 0 ∨ nI (4 + 4 * ge_kd a_leftOf a_rightOf c) ≤ v4) → wpY_rule (fun r' v' => r' = (-3) ∧ i_Rel (k + 5) (nI S, nI P, nI N, nI (c + 1), vd, nI n, df, tg, nI kp, nI fd, nI op, a_lhsOf, a_leftOf, a_rightOf, a_ruleOp, a_ruleA, a_ruleB, a_argMask, a_userMask, a_graphSet, a_reach, a_treeProd, a_treeToken, a_parent, a_placeOf, a_second, a_span, a_nodeGraph, a_state, a_values, a_oldState, a_oldValues, a_queue, a_stack, a_draftProd, a_draftToken, a_openSymbols) v') (nI S, nI P, nI N, nI (c + 1), vd, nI n, nI fd, nI op, tg, df, b_sym, b_rules, b_root, b_want, b_tree, b_oldTree, b_draft, b_val, b_oldVal, b_known, b_oldKnown, b_has, b_dep) (nI o) v2 v3 v4 := by
          intro h3 hb
          refine yway (fun x7 ex7 => gy_defined G c8 ho (ge_dI_br (fun _ => br_f c1 (br_t c2 ?_)) (fun z => absurd df' z)))
          refine br_c (fun _ => bad85 rfl h3 hb x7) (fun z => ?_)
          obtain ⟨a, ha, rfl⟩ := h2 (Int32.not_lt.mp z)
          exact br_f (nI_pos (by omega)) (br_f (nI_nlt (by omega) (by omega)) (bad85 rfl h3 hb x7))
        unfold wX_rule_76
        refine br_c (fun h3 => store h2 (fun z => absurd z (Int32.not_le.mpr h3))) (fun h3 => ?_)
        by_cases d1 : v4 < 0
        · exact br_t d1 (ybad h3 (Or.inl d1))
        · refine br_f d1 (br_c (fun d2 => store h2 (fun _ => ?_)) (fun d2 => ybad h3 (Or.inr (Int32.not_lt.mp d2))))
          obtain ⟨b, hb, rfl⟩ := nI_of d1
          rw [nI_ltI hb (by omega)] at d2
          exact ⟨b, d2, rfl⟩
      have ybad2 : ¬ v2 < 2 → (v3 < 0 ∨ nI (4 + 4 * ge_kd a_leftOf a_rightOf c) ≤ v3) → wpY_rule (fun r' v' => r' = (-3) ∧ i_Rel (k + 5) (nI S, nI P, nI N, nI (c + 1), vd, nI n, df, tg, nI kp, nI fd, nI op, a_lhsOf, a_leftOf, a_rightOf, a_ruleOp, a_ruleA, a_ruleB, a_argMask, a_userMask, a_graphSet, a_reach, a_treeProd, a_treeToken, a_parent, a_placeOf, a_second, a_span, a_nodeGraph, a_state, a_values, a_oldState, a_oldValues, a_queue, a_stack, a_draftProd, a_draftToken, a_openSymbols) v') (nI S, nI P, nI N, nI (c + 1), vd, nI n, nI fd, nI op, tg, df, b_sym, b_rules, b_root, b_want, b_tree, b_oldTree, b_draft, b_val, b_oldVal, b_known, b_oldKnown, b_has, b_dep) (nI o) v2 v3 v4 := by
        intro h2 ha
        refine yway (fun x7 ex7 => gy_defined G c8 ho (ge_dI_br (fun _ => br_f c1 (br_t c2 (br_f h2 ?_))) (fun z => absurd df' z)))
        refine br_c (fun _ => ⟨rfl, gr_in hC⟩) (fun z => br_t ?_ ⟨rfl, gr_in hC⟩)
        obtain ⟨a, ha', rfl⟩ := nI_of z
        rcases ha with q | q
        · exact absurd q z
        · rw [nI_leI (by omega) ha'] at q
          exact nI_lt (by omega) (by omega)
      refine br_c (fun h2 => x76 (fun z => absurd z (Int32.not_le.mpr h2))) (fun h2 => ?_)
      by_cases d1 : v3 < 0
      · exact br_t d1 (ybad2 h2 (Or.inl d1))
      · refine br_f d1 (br_c (fun d2 => x76 (fun _ => ?_)) (fun d2 => ybad2 h2 (Or.inr (Int32.not_lt.mp d2))))
        obtain ⟨a, ha, rfl⟩ := nI_of d1
        rw [nI_ltI ha (by omega)] at d2
        exact ⟨a, d2, rfl⟩
    · exact br_f c1 (br_f c2 (yway (fun x7 e7 => gy_defined G c8 ho (ge_dI_br (fun _ => br_f c1 (br_f c2 ⟨rfl, gr_in hC⟩)) (fun z => absurd df' z)))))
  · exact br_f e0 (br_f e0 ⟨rfl, gr_in hC⟩)
end
section
/-! check and the questions -/
theorem i_vc_check {k : Nat} {u : SX} {v : SY} (I : i_Rel k u v) (hk : k + 5 ≤ 2563) : wpX_check (fun r u' => wpY_check (fun r' v' => r' = r ∧ i_Rel (k + 5) u' v') v) u := by
  refine gr_el (P0 := fun u v => wpX_check (fun r u' => wpY_check (fun r' v' => r' = r ∧ i_Rel (k + 5) u' v') v) u) I ?_
  intro S P N c n fd op kp vd df tg a_lhsOf a_leftOf a_rightOf a_ruleOp a_ruleA a_ruleB a_argMask a_userMask a_graphSet a_reach a_treeProd a_treeToken a_parent a_placeOf a_second a_span a_nodeGraph a_state a_values a_oldState a_oldValues a_queue a_stack a_draftProd a_draftToken a_openSymbols b_sym b_rules b_root b_want b_tree b_oldTree b_draft b_val b_oldVal b_known b_oldKnown b_has b_dep hC
  obtain ⟨⟨b1, b2, b3, b4, b5, b6, b7⟩, ⟨G, GR, RO, hz, hLR⟩, V, T, D, hv0⟩ := id hC
  by_cases e0 : vd = 0
  · rcases Nat.eq_zero_or_pos c with c0 | c0
    · subst c0
      exact br_t e0 (br_t rfl (br_t e0 (br_t rfl (br_t e0 ⟨rfl, gr_in hC⟩))))
    have cne : ¬ nI c = 0 := nI_ne0 c0 (by omega)
    obtain ⟨z1, z2, z3, z4⟩ := V.2.2.1 e0
    obtain ⟨n0, d0⟩ := hv0 e0
    refine br_t e0 (br_f cne ⟨9, ?_⟩)
    refine gx_check_28 (c := c) (by omega) GR RO hz rfl z1 rfl (fun am um gs v re m1 m2 SX CX => ?_) 9 0 a_argMask a_userMask (gx_MS_0 z2 z3) (Nat.zero_le _) (by omega)
    obtain ⟨x1, x2, x3⟩ := gx_final GR SX CX
    refine br_t e0 (br_f cne ⟨133121, ?_⟩)
    refine gy_check_39 (c := c) (by omega) rfl G RO GR hLR (fun ha v' de SY CY => ?_) 133121 0 0 b_has 1 b_dep ⟨fun j hj => Or.inl (z4 j hj), fun s hs g hg y => ?_, Or.inl rfl, fun y => absurd y (by decide)⟩ (fun k hk _ => absurd hk (Nat.not_lt_zero _)) (by omega) (by omega) (by omega) (by omega) (by omega)
    · obtain ⟨y1, y2, y3⟩ := gy_final (by omega) GR SY CY
      have ev : v' = v := by
        rcases x2 with e | e <;> rcases y2 with e' | e'
        · rw [e, e']
        · have := x3.mpr (y3.mp e'); rw [e] at this; exact absurd this (by decide)
        · have := y3.mpr (x3.mp e); rw [e'] at this; exact absurd this (by decide)
        · rw [e, e']
      subst ev
      have vne : ¬ v' = 0 := by rcases x2 with e | e <;> rw [e] <;> decide
      refine ⟨rfl, gr_in ⟨⟨b1, b2, b3, b4, b5, b6, b7⟩, ⟨G, GR, RO, hz, hLR⟩, ⟨Or.inr x2, SY.1, fun z => absurd z vne, fun _ => ⟨m1, m2, fun s hs g hg => ?_⟩⟩, T, D, fun z => absurd z vne⟩⟩
      rw [x1 s hs g hg, y1 s hs g hg]
    · rw [z4 _ (by omega)] at y; exact absurd y (by decide)
  · exact br_f e0 (br_f e0 (br_f e0 ⟨rfl, gr_in hC⟩))
theorem i_vc_hasGraph {k : Nat} {u : SX} {v : SY} (I : i_Rel k u v) (hk : k + 5 ≤ 2563) (v1 : Int32) (v2 : Int32) : wpX_hasGraph (fun r => wpY_hasGraph (fun r' => r' = r ∧ i_Rel (k + 5) u v) v v1 v2) u v1 v2 := by
  refine gr_el (P0 := fun u v => wpX_hasGraph (fun r => wpY_hasGraph (fun r' => r' = r ∧ i_Rel (k + 5) u v) v v1 v2) u v1 v2) I ?_
  intro S P N c n fd op kp vd df tg a_lhsOf a_leftOf a_rightOf a_ruleOp a_ruleA a_ruleB a_argMask a_userMask a_graphSet a_reach a_treeProd a_treeToken a_parent a_placeOf a_second a_span a_nodeGraph a_state a_values a_oldState a_oldValues a_queue a_stack a_draftProd a_draftToken a_openSymbols b_sym b_rules b_root b_want b_tree b_oldTree b_draft b_val b_oldVal b_known b_oldKnown b_has b_dep hC
  obtain ⟨⟨b1, b2, b3, b4, b5, b6, b7⟩, Gr, V, T, D, hv0⟩ := id hC
  by_cases e0 : vd = 0
  · exact br_t e0 (br_t e0 ⟨rfl, gr_in hC⟩)
  by_cases c1 : v1 < 0
  · exact br_f e0 (br_t c1 (br_f e0 (br_t c1 ⟨rfl, gr_in hC⟩)))
  by_cases c2 : nI S ≤ v1
  · exact br_f e0 (br_f c1 (br_t c2 (br_f e0 (br_f c1 (br_t c2 ⟨rfl, gr_in hC⟩)))))
  by_cases c3 : v2 < 0
  · exact br_f e0 (br_f c1 (br_f c2 (br_t c3 (br_f e0 (br_f c1 (br_f c2 (br_t c3 ⟨rfl, gr_in hC⟩)))))))
  by_cases c4 : v2 ≤ 15
  · obtain ⟨s, hs, rfl⟩ := nI_of c1
    obtain ⟨g, hg, rfl⟩ := nI_of c3
    have a := c2; rw [nI_leI (by omega) hs] at a
    have b := c4; rw [show (15 : Int32) = nI 15 from rfl, nI_leI hg (by omega)] at b
    have s4 : s < 4 := by omega
    refine br_f e0 (br_f c1 (br_f c2 (br_f c3 (br_t c4 ⟨vp_in_nI s4 (by decide), ?_⟩))))
    rw [nI_clamp (by omega), ge_bit (by omega)]
    refine br_f e0 (br_f c1 (br_f c2 (br_f c3 (br_t c4 ?_))))
    rw [ge_m16, nI_add, nI_clamp (by omega)]
    have q := (V.2.2.2 e0).2.2 s s4 g (by omega)
    refine ⟨vp_in_nI (by omega) (by decide), br_c (fun d => ⟨?_, gr_in hC⟩) (fun d => ⟨?_, gr_in hC⟩)⟩
    · rw [if_neg (fun z => by have := q.mp z; rw [d] at this; exact absurd this (by decide))]
    · rw [if_pos (q.mpr ((V.2.1 _ (by omega)).resolve_left d))]
  · exact br_f e0 (br_f c1 (br_f c2 (br_f c3 (br_f c4 (br_f e0 (br_f c1 (br_f c2 (br_f c3 (br_f c4 ⟨rfl, gr_in hC⟩)))))))))
theorem i_vc_productionCell {k : Nat} {u : SX} {v : SY} (I : i_Rel k u v) (hk : k + 5 ≤ 2563) (v1 : Int32) (v2 : Int32) : wpX_productionCell (fun r => wpY_productionCell (fun r' => r' = r ∧ i_Rel (k + 5) u v) v v1 v2) u v1 v2 := by
  refine gr_el (P0 := fun u v => wpX_productionCell (fun r => wpY_productionCell (fun r' => r' = r ∧ i_Rel (k + 5) u v) v v1 v2) u v1 v2) I ?_
  intro S P N c n fd op kp vd df tg a_lhsOf a_leftOf a_rightOf a_ruleOp a_ruleA a_ruleB a_argMask a_userMask a_graphSet a_reach a_treeProd a_treeToken a_parent a_placeOf a_second a_span a_nodeGraph a_state a_values a_oldState a_oldValues a_queue a_stack a_draftProd a_draftToken a_openSymbols b_sym b_rules b_root b_want b_tree b_oldTree b_draft b_val b_oldVal b_known b_oldKnown b_has b_dep hC
  obtain ⟨⟨b1, b2, b3, b4, b5, b6, b7⟩, ⟨G, GR, RO, hz, hLR⟩, V, T, D, hv0⟩ := id hC
  simp only [wpX_productionCell]
  refine gx_isProduction (c := c) (by omega) rfl (fun p hp e => ?_) (fun e => br_t rfl ?_)
  · subst e
    have q1 : ¬ nI p < 0 := nI_pos (by omega)
    have q2 : ¬ nI c ≤ nI p := nI_ge hp (by omega)
    refine br_f (by decide) ?_
    by_cases c1 : v2 < 0
    · exact br_t c1 (br_f q1 (br_f q2 (br_t c1 ⟨rfl, gr_in hC⟩)))
    by_cases c2 : v2 ≤ 2
    · obtain ⟨j, hj, rfl⟩ := nI_of c1
      have a := c2; rw [show (2 : Int32) = nI 2 from rfl, nI_leI hj (by omega)] at a
      have pv : vp_in (nI p) 8 := vp_in_nI (by omega) (by decide)
      obtain ⟨g1, g2, g3⟩ := G.1 p (by omega)
      refine br_f c1 (br_t c2 ?_)
      rw [nI_clamp (show p < 2 ^ 31 by omega)]
      have fin : ∀ r, b_sym (3 * p + j) = r → wpY_productionCell (fun r' => r' = r ∧ i_Rel (k + 5) (nI S, nI P, nI N, nI c, vd, nI n, df, tg, nI kp, nI fd, nI op, a_lhsOf, a_leftOf, a_rightOf, a_ruleOp, a_ruleA, a_ruleB, a_argMask, a_userMask, a_graphSet, a_reach, a_treeProd, a_treeToken, a_parent, a_placeOf, a_second, a_span, a_nodeGraph, a_state, a_values, a_oldState, a_oldValues, a_queue, a_stack, a_draftProd, a_draftToken, a_openSymbols) (nI S, nI P, nI N, nI c, vd, nI n, nI fd, nI op, tg, df, b_sym, b_rules, b_root, b_want, b_tree, b_oldTree, b_draft, b_val, b_oldVal, b_known, b_oldKnown, b_has, b_dep)) (nI S, nI P, nI N, nI c, vd, nI n, nI fd, nI op, tg, df, b_sym, b_rules, b_root, b_want, b_tree, b_oldTree, b_draft, b_val, b_oldVal, b_known, b_oldKnown, b_has, b_dep) (nI p) (nI j) := by
        intro r er
        refine br_f q1 (br_f q2 (br_f c1 (br_t c2 ?_)))
        rw [ge_m3, nI_add, nI_clamp (by omega)]
        exact ⟨vp_in_nI (by omega) (by decide), er, gr_in hC⟩
      refine pk_eq j 0 (fun z => ⟨pv, fin _ (by rw [z]; exact g1)⟩) (fun z => ?_)
      exact pk_eq j 1 (fun z => ⟨pv, fin _ (by rw [z]; exact g2)⟩) (fun z' => ⟨pv, fin _ (by rw [show j = 2 by omega]; exact g3)⟩)
    · exact br_f c1 (br_f c2 (br_f q1 (br_f q2 (br_f c1 (br_f c2 ⟨rfl, gr_in hC⟩)))))
  · by_cases c1 : v1 < 0
    · exact br_t c1 ⟨rfl, gr_in hC⟩
    · exact br_f c1 (br_t (e.resolve_left c1) ⟨rfl, gr_in hC⟩)
theorem i_vc_ruleCell {k : Nat} {u : SX} {v : SY} (I : i_Rel k u v) (hk : k + 5 ≤ 2563) (v1 : Int32) (v2 : Int32) (v3 : Int32) : wpX_ruleCell (fun r => wpY_ruleCell (fun r' => r' = r ∧ i_Rel (k + 5) u v) v v1 v2 v3) u v1 v2 v3 := by
  refine gr_el (P0 := fun u v => wpX_ruleCell (fun r => wpY_ruleCell (fun r' => r' = r ∧ i_Rel (k + 5) u v) v v1 v2 v3) u v1 v2 v3) I ?_
  intro S P N c n fd op kp vd df tg a_lhsOf a_leftOf a_rightOf a_ruleOp a_ruleA a_ruleB a_argMask a_userMask a_graphSet a_reach a_treeProd a_treeToken a_parent a_placeOf a_second a_span a_nodeGraph a_state a_values a_oldState a_oldValues a_queue a_stack a_draftProd a_draftToken a_openSymbols b_sym b_rules b_root b_want b_tree b_oldTree b_draft b_val b_oldVal b_known b_oldKnown b_has b_dep hC
  obtain ⟨⟨b1, b2, b3, b4, b5, b6, b7⟩, ⟨G, GR, RO, hz, hLR⟩, V, T, D, hv0⟩ := id hC
  simp only [wpX_ruleCell]
  refine gx_isProduction (c := c) (by omega) rfl (fun p hp e => ?_) (fun e => br_t rfl ?_)
  · subst e
    have q1 : ¬ nI p < 0 := nI_pos (by omega)
    have q2 : ¬ nI c ≤ nI p := nI_ge hp (by omega)
    have p8 : p < 8 := by omega
    refine br_f (by decide) ?_
    by_cases c1 : v3 < 0
    · exact br_t c1 (br_f q1 (br_f q2 (br_t c1 ⟨rfl, gr_in hC⟩)))
    by_cases c2 : v3 ≤ 2
    · have c2' : ¬ 2 < v3 := Int32.not_lt.mpr c2
      refine br_f c1 (br_t c2 ?_)
      by_cases n1 : v2 < 0
      · exact gx_isDefined_neg n1 (br_t rfl (br_f q1 (br_f q2 (br_f c1 (br_f c2' (gy_defined_neg n1 (br_t rfl ⟨rfl, gr_in hC⟩)))))))
      obtain ⟨o, ho, rfl⟩ := nI_of n1
      refine gx_isDefined p8 ho (ge_dI_br (fun df' => ?_) (fun df' => br_f q1 (br_f q2 (br_f c1 (br_f c2' (gy_defined G p8 ho (ge_dI_br (fun z => absurd z df') (fun _ => ⟨rfl, gr_in hC⟩))))))))
      have o12 : o < 12 := by have := (ge_df_iff.mp df').1; have := ge_kd_le a_leftOf a_rightOf p; omega
      obtain ⟨j, hj, rfl⟩ := nI_of c1
      have a := c2; rw [show (2 : Int32) = nI 2 from rfl, nI_leI hj (by omega)] at a
      have rv : vp_in (nI (12 * p + o)) 96 := vp_in_nI (by omega) (by decide)
      obtain ⟨g1, g2, g3⟩ := G.2 (12 * p + o) (by omega)
      refine nm_r (e' := nI (12 * p + o)) (by rw [ge_m12, nI_add]) ?_
      rw [nI_clamp (show 12 * p + o < 2 ^ 31 by omega)]
      have fin : ∀ r, b_rules (3 * (12 * p + o) + j) = r → wpY_ruleCell (fun r' => r' = r ∧ i_Rel (k + 5) (nI S, nI P, nI N, nI c, vd, nI n, df, tg, nI kp, nI fd, nI op, a_lhsOf, a_leftOf, a_rightOf, a_ruleOp, a_ruleA, a_ruleB, a_argMask, a_userMask, a_graphSet, a_reach, a_treeProd, a_treeToken, a_parent, a_placeOf, a_second, a_span, a_nodeGraph, a_state, a_values, a_oldState, a_oldValues, a_queue, a_stack, a_draftProd, a_draftToken, a_openSymbols) (nI S, nI P, nI N, nI c, vd, nI n, nI fd, nI op, tg, df, b_sym, b_rules, b_root, b_want, b_tree, b_oldTree, b_draft, b_val, b_oldVal, b_known, b_oldKnown, b_has, b_dep)) (nI S, nI P, nI N, nI c, vd, nI n, nI fd, nI op, tg, df, b_sym, b_rules, b_root, b_want, b_tree, b_oldTree, b_draft, b_val, b_oldVal, b_known, b_oldKnown, b_has, b_dep) (nI p) (nI o) (nI j) := by
        intro r er
        refine br_f q1 (br_f q2 (br_f c1 (br_f c2' (gy_defined G p8 ho (ge_dI_br (fun _ => ?_) (fun z => absurd df' z))))))
        rw [ge_m36, ge_m3, nI_add, nI_add, show 36 * p + 3 * o + j = 3 * (12 * p + o) + j by omega, nI_clamp (by omega)]
        exact ⟨vp_in_nI (by omega) (by decide), er, gr_in hC⟩
      refine pk_eq j 0 (fun z => ⟨rv, fin _ (by rw [z]; exact g1)⟩) (fun z => ?_)
      exact pk_eq j 1 (fun z => ⟨rv, fin _ (by rw [z]; exact g2)⟩) (fun z' => ⟨rv, fin _ (by rw [show j = 2 by omega]; exact g3)⟩)
    · exact br_f c1 (br_f c2 (br_f q1 (br_f q2 (br_f c1 (br_t (Int32.not_le.mp c2) ⟨rfl, gr_in hC⟩)))))
  · by_cases c1 : v1 < 0
    · exact br_t c1 ⟨rfl, gr_in hC⟩
    · exact br_f c1 (br_t (e.resolve_left c1) ⟨rfl, gr_in hC⟩)
theorem i_vc_size {k : Nat} {u : SX} {v : SY} (I : i_Rel k u v) (hk : k + 5 ≤ 2563) : wpX_size (fun r => wpY_size (fun r' => r' = r ∧ i_Rel (k + 5) u v) v) u := by
  refine gr_el (P0 := fun u v => wpX_size (fun r => wpY_size (fun r' => r' = r ∧ i_Rel (k + 5) u v) v) u) I ?_
  intro S P N c n fd op kp vd df tg a_lhsOf a_leftOf a_rightOf a_ruleOp a_ruleA a_ruleB a_argMask a_userMask a_graphSet a_reach a_treeProd a_treeToken a_parent a_placeOf a_second a_span a_nodeGraph a_state a_values a_oldState a_oldValues a_queue a_stack a_draftProd a_draftToken a_openSymbols b_sym b_rules b_root b_want b_tree b_oldTree b_draft b_val b_oldVal b_known b_oldKnown b_has b_dep hC
  exact ⟨rfl, gr_in hC⟩
theorem gr_tree {L R O A B pd tk pa pl se sp ng st V rt tr kn : Nat → Int32} {n j : Nat} (T : gr_Tr L R O A B pd tk pa pl se sp ng st V rt tr kn n) (h : j < n) : tr (2 * j) = pd j ∧ tr (2 * j + 1) = tk j := (T.2 (by omega)).2 j h
theorem gr_draft {L R pd dp dt os wa dr : Nat → Int32} {n fd op kp N j : Nat} {df tg : Int32} (D : gr_Dr L R pd dp dt os wa dr n fd op kp N df tg) (h : j < fd) : dr (2 * j) = dp j ∧ dr (2 * j + 1) = dt j := by
  rcases D with D | D
  · omega
  · have := D.2.2.1 j h; exact ⟨this.1, this.2.1⟩
theorem gr_fed {L R pd dp dt os wa dr : Nat → Int32} {n fd op kp N : Nat} {df tg : Int32} (D : gr_Dr L R pd dp dt os wa dr n fd op kp N df tg) : fd + op ≤ N := by
  rcases D with D | D
  · omega
  · have := D.2.2.2.2.2.2; omega
theorem gr_open {L R pd dp dt os wa dr : Nat → Int32} {n fd op kp N j : Nat} {df tg : Int32} (D : gr_Dr L R pd dp dt os wa dr n fd op kp N df tg) (h : j < op) : os j = wa j := by
  rcases D with D | D
  · omega
  · exact D.2.2.2.2.2.1 j h
theorem i_vc_cell {k : Nat} {u : SX} {v : SY} (I : i_Rel k u v) (hk : k + 5 ≤ 2563) (v1 : Int32) (v2 : Int32) (v3 : Int32) : wpX_cell (fun r => wpY_cell (fun r' => r' = r ∧ i_Rel (k + 5) u v) v v1 v2 v3) u v1 v2 v3 := by
  refine gr_el (P0 := fun u v => wpX_cell (fun r => wpY_cell (fun r' => r' = r ∧ i_Rel (k + 5) u v) v v1 v2 v3) u v1 v2 v3) I ?_
  intro S P N c n fd op kp vd df tg a_lhsOf a_leftOf a_rightOf a_ruleOp a_ruleA a_ruleB a_argMask a_userMask a_graphSet a_reach a_treeProd a_treeToken a_parent a_placeOf a_second a_span a_nodeGraph a_state a_values a_oldState a_oldValues a_queue a_stack a_draftProd a_draftToken a_openSymbols b_sym b_rules b_root b_want b_tree b_oldTree b_draft b_val b_oldVal b_known b_oldKnown b_has b_dep hC
  obtain ⟨⟨b1, b2, b3, b4, b5, b6, b7⟩, Gr, V, T, D, hv0⟩ := id hC
  have fN := gr_fed D
  -- Y's answer at a wrong which, part or index
  have ybad : ∀ z0 : Int32, (v3 < 0 ∨ 1 < v3 ∨ v2 < 0 ∨ z0 ≤ v2) → wY_cell_24 (fun r' => r' = (-3) ∧ i_Rel (k + 5) (nI S, nI P, nI N, nI c, vd, nI n, df, tg, nI kp, nI fd, nI op, a_lhsOf, a_leftOf, a_rightOf, a_ruleOp, a_ruleA, a_ruleB, a_argMask, a_userMask, a_graphSet, a_reach, a_treeProd, a_treeToken, a_parent, a_placeOf, a_second, a_span, a_nodeGraph, a_state, a_values, a_oldState, a_oldValues, a_queue, a_stack, a_draftProd, a_draftToken, a_openSymbols) (nI S, nI P, nI N, nI c, vd, nI n, nI fd, nI op, tg, df, b_sym, b_rules, b_root, b_want, b_tree, b_oldTree, b_draft, b_val, b_oldVal, b_known, b_oldKnown, b_has, b_dep)) v1 v2 v3 z0 (nI S) (nI P) (nI N) (nI c) vd (nI n) (nI fd) (nI op) tg df b_sym b_rules b_root b_want b_tree b_oldTree b_draft b_val b_oldVal b_known b_oldKnown b_has b_dep := by
    intro z0 h
    unfold wY_cell_24
    refine br_c (fun _ => ⟨rfl, gr_in hC⟩) (fun q1 => br_c (fun _ => ⟨rfl, gr_in hC⟩) (fun q2 => br_c (fun _ => ⟨rfl, gr_in hC⟩) (fun q3 => br_f (fun q4 => ?_) ⟨rfl, gr_in hC⟩)))
    rcases h with h | h | h | h
    · exact q1 h
    · exact q2 h
    · exact q3 h
    · exact Int32.not_le.mpr q4 h
  have yall : (∀ z0 : Int32, wY_cell_24 (fun r' => r' = (-3) ∧ i_Rel (k + 5) (nI S, nI P, nI N, nI c, vd, nI n, df, tg, nI kp, nI fd, nI op, a_lhsOf, a_leftOf, a_rightOf, a_ruleOp, a_ruleA, a_ruleB, a_argMask, a_userMask, a_graphSet, a_reach, a_treeProd, a_treeToken, a_parent, a_placeOf, a_second, a_span, a_nodeGraph, a_state, a_values, a_oldState, a_oldValues, a_queue, a_stack, a_draftProd, a_draftToken, a_openSymbols) (nI S, nI P, nI N, nI c, vd, nI n, nI fd, nI op, tg, df, b_sym, b_rules, b_root, b_want, b_tree, b_oldTree, b_draft, b_val, b_oldVal, b_known, b_oldKnown, b_has, b_dep)) v1 v2 v3 z0 (nI S) (nI P) (nI N) (nI c) vd (nI n) (nI fd) (nI op) tg df b_sym b_rules b_root b_want b_tree b_oldTree b_draft b_val b_oldVal b_known b_oldKnown b_has b_dep) → wpY_cell (fun r' => r' = (-3) ∧ i_Rel (k + 5) (nI S, nI P, nI N, nI c, vd, nI n, df, tg, nI kp, nI fd, nI op, a_lhsOf, a_leftOf, a_rightOf, a_ruleOp, a_ruleA, a_ruleB, a_argMask, a_userMask, a_graphSet, a_reach, a_treeProd, a_treeToken, a_parent, a_placeOf, a_second, a_span, a_nodeGraph, a_state, a_values, a_oldState, a_oldValues, a_queue, a_stack, a_draftProd, a_draftToken, a_openSymbols) (nI S, nI P, nI N, nI c, vd, nI n, nI fd, nI op, tg, df, b_sym, b_rules, b_root, b_want, b_tree, b_oldTree, b_draft, b_val, b_oldVal, b_known, b_oldKnown, b_has, b_dep)) (nI S, nI P, nI N, nI c, vd, nI n, nI fd, nI op, tg, df, b_sym, b_rules, b_root, b_want, b_tree, b_oldTree, b_draft, b_val, b_oldVal, b_known, b_oldKnown, b_has, b_dep) v1 v2 v3 := by
    intro h
    exact br_c (fun _ => h _) (fun _ => br_c (fun _ => h _) (fun _ => h _))
  have ywh : (v1 < 0 ∨ 1 < v1) → wpY_cell (fun r' => r' = (-3) ∧ i_Rel (k + 5) (nI S, nI P, nI N, nI c, vd, nI n, df, tg, nI kp, nI fd, nI op, a_lhsOf, a_leftOf, a_rightOf, a_ruleOp, a_ruleA, a_ruleB, a_argMask, a_userMask, a_graphSet, a_reach, a_treeProd, a_treeToken, a_parent, a_placeOf, a_second, a_span, a_nodeGraph, a_state, a_values, a_oldState, a_oldValues, a_queue, a_stack, a_draftProd, a_draftToken, a_openSymbols) (nI S, nI P, nI N, nI c, vd, nI n, nI fd, nI op, tg, df, b_sym, b_rules, b_root, b_want, b_tree, b_oldTree, b_draft, b_val, b_oldVal, b_known, b_oldKnown, b_has, b_dep)) (nI S, nI P, nI N, nI c, vd, nI n, nI fd, nI op, tg, df, b_sym, b_rules, b_root, b_want, b_tree, b_oldTree, b_draft, b_val, b_oldVal, b_known, b_oldKnown, b_has, b_dep) v1 v2 v3 := by
    intro h
    have n0 : ¬ v1 = 0 := by rintro rfl; rcases h with h | h <;> exact absurd h (by decide)
    have n1 : ¬ v1 = 1 := by rintro rfl; rcases h with h | h <;> exact absurd h (by decide)
    refine br_f n0 (br_f n1 (ybad 0 ?_))
    by_cases q : v2 < 0
    · exact Or.inr (Or.inr (Or.inl q))
    · exact Or.inr (Or.inr (Or.inr (Int32.not_lt.mp q)))
  by_cases c1 : v1 < 0
  · exact br_t c1 (ywh (Or.inl c1))
  by_cases c2 : 1 < v1
  · exact br_f c1 (br_t c2 (ywh (Or.inr c2)))
  by_cases c3 : v3 < 0
  · exact br_f c1 (br_f c2 (br_t c3 (yall (fun z0 => ybad z0 (Or.inl c3)))))
  by_cases c4 : 1 < v3
  · exact br_f c1 (br_f c2 (br_f c3 (br_t c4 (yall (fun z0 => ybad z0 (Or.inr (Or.inl c4)))))))
  by_cases c5 : 0 ≤ v2
  · obtain ⟨j, hj, rfl⟩ := nI_of (Int32.not_lt.mpr c5)
    obtain ⟨q, hq, rfl⟩ := nI_of c3
    have q1 := c4; rw [show (1 : Int32) = nI 1 from rfl, nI_ltI (by omega) hq] at q1
    have n2 : ¬ nI j < 0 := nI_pos hj
    refine br_f c1 (br_f c2 (br_f c3 (br_f c4 (br_t c5 ?_))))
    by_cases w0 : v1 = 0
    · refine br_t w0 (pk_lt j n (fun z => ?_) (fun z => br_t w0 (ybad _ (Or.inr (Or.inr (Or.inr (nI_le z hj)))))))
      have jv : vp_in (nI j) 24 := vp_in_nI (by omega) (by decide)
      have tt := gr_tree T z
      rw [nI_clamp (show j < 2 ^ 31 by omega)]
      have fin : ∀ r, b_tree (2 * j + q) = r → wpY_cell (fun r' => r' = r ∧ i_Rel (k + 5) (nI S, nI P, nI N, nI c, vd, nI n, df, tg, nI kp, nI fd, nI op, a_lhsOf, a_leftOf, a_rightOf, a_ruleOp, a_ruleA, a_ruleB, a_argMask, a_userMask, a_graphSet, a_reach, a_treeProd, a_treeToken, a_parent, a_placeOf, a_second, a_span, a_nodeGraph, a_state, a_values, a_oldState, a_oldValues, a_queue, a_stack, a_draftProd, a_draftToken, a_openSymbols) (nI S, nI P, nI N, nI c, vd, nI n, nI fd, nI op, tg, df, b_sym, b_rules, b_root, b_want, b_tree, b_oldTree, b_draft, b_val, b_oldVal, b_known, b_oldKnown, b_has, b_dep)) (nI S, nI P, nI N, nI c, vd, nI n, nI fd, nI op, tg, df, b_sym, b_rules, b_root, b_want, b_tree, b_oldTree, b_draft, b_val, b_oldVal, b_known, b_oldKnown, b_has, b_dep) v1 (nI j) (nI q) := by
        intro r er
        refine br_t w0 ?_
        unfold wY_cell_24
        refine br_f c3 (br_f c4 (br_f n2 (br_t (nI_lt z (by omega)) (br_t w0 ?_))))
        rw [ge_m2, nI_add, nI_clamp (by omega)]
        exact ⟨vp_in_nI (by omega) (by decide), er, gr_in hC⟩
      exact pk_eq q 0 (fun y => ⟨jv, fin _ (by rw [y]; exact tt.1)⟩) (fun y => ⟨jv, fin _ (by rw [show q = 1 by omega]; exact tt.2)⟩)
    · have w1 : v1 = 1 := by
        obtain ⟨a, ha, rfl⟩ := nI_of c1
        have x1 := c2; rw [show (1 : Int32) = nI 1 from rfl, nI_ltI (by omega) ha] at x1
        have x2 : a ≠ 0 := by rintro rfl; exact w0 rfl
        rw [show a = 1 by omega]; rfl
      refine br_f w0 (pk_lt j fd (fun z => ?_) (fun z => br_f w0 (br_t w1 (ybad _ (Or.inr (Or.inr (Or.inr (nI_le z hj))))))))
      have jv : vp_in (nI j) 24 := vp_in_nI (by omega) (by decide)
      have tt := gr_draft D z
      rw [nI_clamp (show j < 2 ^ 31 by omega)]
      have fin : ∀ r, b_draft (2 * j + q) = r → wpY_cell (fun r' => r' = r ∧ i_Rel (k + 5) (nI S, nI P, nI N, nI c, vd, nI n, df, tg, nI kp, nI fd, nI op, a_lhsOf, a_leftOf, a_rightOf, a_ruleOp, a_ruleA, a_ruleB, a_argMask, a_userMask, a_graphSet, a_reach, a_treeProd, a_treeToken, a_parent, a_placeOf, a_second, a_span, a_nodeGraph, a_state, a_values, a_oldState, a_oldValues, a_queue, a_stack, a_draftProd, a_draftToken, a_openSymbols) (nI S, nI P, nI N, nI c, vd, nI n, nI fd, nI op, tg, df, b_sym, b_rules, b_root, b_want, b_tree, b_oldTree, b_draft, b_val, b_oldVal, b_known, b_oldKnown, b_has, b_dep)) (nI S, nI P, nI N, nI c, vd, nI n, nI fd, nI op, tg, df, b_sym, b_rules, b_root, b_want, b_tree, b_oldTree, b_draft, b_val, b_oldVal, b_known, b_oldKnown, b_has, b_dep) v1 (nI j) (nI q) := by
        intro r er
        refine br_f w0 (br_t w1 ?_)
        unfold wY_cell_24
        refine br_f c3 (br_f c4 (br_f n2 (br_t (nI_lt z (by omega)) (br_f w0 ?_))))
        rw [ge_m2, nI_add, nI_clamp (by omega)]
        exact ⟨vp_in_nI (by omega) (by decide), er, gr_in hC⟩
      exact pk_eq q 0 (fun y => ⟨jv, fin _ (by rw [y]; exact tt.1)⟩) (fun y => ⟨jv, fin _ (by rw [show q = 1 by omega]; exact tt.2)⟩)
  · exact br_f c1 (br_f c2 (br_f c3 (br_f c4 (br_f c5 (yall (fun z0 => ybad z0 (Or.inr (Or.inr (Or.inl (Int32.not_le.mp c5))))))))))
theorem i_vc_draftInfo {k : Nat} {u : SX} {v : SY} (I : i_Rel k u v) (hk : k + 5 ≤ 2563) (v1 : Int32) : wpX_draftInfo (fun r => wpY_draftInfo (fun r' => r' = r ∧ i_Rel (k + 5) u v) v v1) u v1 := by
  refine gr_el (P0 := fun u v => wpX_draftInfo (fun r => wpY_draftInfo (fun r' => r' = r ∧ i_Rel (k + 5) u v) v v1) u v1) I ?_
  intro S P N c n fd op kp vd df tg a_lhsOf a_leftOf a_rightOf a_ruleOp a_ruleA a_ruleB a_argMask a_userMask a_graphSet a_reach a_treeProd a_treeToken a_parent a_placeOf a_second a_span a_nodeGraph a_state a_values a_oldState a_oldValues a_queue a_stack a_draftProd a_draftToken a_openSymbols b_sym b_rules b_root b_want b_tree b_oldTree b_draft b_val b_oldVal b_known b_oldKnown b_has b_dep hC
  obtain ⟨⟨b1, b2, b3, b4, b5, b6, b7⟩, Gr, V, T, D, hv0⟩ := id hC
  have fN := gr_fed D
  have ybad : (v1 < 0 ∨ 4 < v1) → wpY_draftInfo (fun r' => r' = (-3) ∧ i_Rel (k + 5) (nI S, nI P, nI N, nI c, vd, nI n, df, tg, nI kp, nI fd, nI op, a_lhsOf, a_leftOf, a_rightOf, a_ruleOp, a_ruleA, a_ruleB, a_argMask, a_userMask, a_graphSet, a_reach, a_treeProd, a_treeToken, a_parent, a_placeOf, a_second, a_span, a_nodeGraph, a_state, a_values, a_oldState, a_oldValues, a_queue, a_stack, a_draftProd, a_draftToken, a_openSymbols) (nI S, nI P, nI N, nI c, vd, nI n, nI fd, nI op, tg, df, b_sym, b_rules, b_root, b_want, b_tree, b_oldTree, b_draft, b_val, b_oldVal, b_known, b_oldKnown, b_has, b_dep)) (nI S, nI P, nI N, nI c, vd, nI n, nI fd, nI op, tg, df, b_sym, b_rules, b_root, b_want, b_tree, b_oldTree, b_draft, b_val, b_oldVal, b_known, b_oldKnown, b_has, b_dep) v1 := by
    intro h
    have ne : ∀ j : Int32, ¬ j < 0 → ¬ 4 < j → ¬ v1 = j := by
      rintro j h1 h2 rfl
      rcases h with h | h
      · exact h1 h
      · exact h2 h
    exact br_f (ne 0 (by decide) (by decide)) (br_f (ne 1 (by decide) (by decide)) (br_f (ne 2 (by decide) (by decide)) (br_f (ne 3 (by decide) (by decide)) (br_f (ne 4 (by decide) (by decide)) ⟨rfl, gr_in hC⟩))))
  by_cases c1 : v1 < 0
  · exact br_t c1 (ybad (Or.inl c1))
  by_cases c2 : 4 < v1
  · exact br_f c1 (br_t c2 (ybad (Or.inr c2)))
  refine br_f c1 (br_f c2 ?_)
  by_cases d0 : v1 = 0
  · refine br_t d0 (br_c (fun z => br_t d0 (br_t z ⟨rfl, gr_in hC⟩)) (fun z => br_t d0 (br_f z ⟨rfl, gr_in hC⟩)))
  by_cases d1 : v1 = 1
  · exact br_f d0 (br_t d1 (br_f d0 (br_t d1 (br_t d1 ⟨rfl, gr_in hC⟩))))
  by_cases d2 : v1 = 2
  · exact br_f d0 (br_f d1 (br_t d2 (br_f d0 (br_f d1 (br_t d2 (br_f d1 ⟨rfl, gr_in hC⟩))))))
  by_cases d3 : v1 = 3
  · exact br_f d0 (br_f d1 (br_f d2 (br_t d3 (br_f d0 (br_f d1 (br_f d2 (br_t d3 ⟨rfl, gr_in hC⟩)))))))
  by_cases d4 : v1 = 4
  · refine br_f d0 (br_f d1 (br_f d2 (br_f d3 (br_t d4 ?_))))
    rcases Nat.eq_zero_or_pos op with o0 | o0
    · subst o0
      exact br_t (by decide) (br_f d0 (br_f d1 (br_f d2 (br_f d3 (br_t d4 (br_t (by decide) ⟨rfl, gr_in hC⟩))))))
    · obtain ⟨q, rfl⟩ : ∃ q, op = q + 1 := ⟨op - 1, by omega⟩
      have nle : ¬ nI (q + 1) ≤ 0 := nI_nle (by omega) (by omega)
      refine br_f nle ?_
      rw [nI_pred, nI_clamp (by omega)]
      refine ⟨vp_in_nI (by omega) (by decide), br_f d0 (br_f d1 (br_f d2 (br_f d3 (br_t d4 (br_f nle ?_)))))⟩
      rw [nI_pred, nI_clamp (by omega)]
      exact ⟨vp_in_nI (by omega) (by decide), (gr_open D (by omega)).symm, gr_in hC⟩
  · exact br_f d0 (br_f d1 (br_f d2 (br_f d3 (br_f d4 trivial))))
end
section
/-! begin and feed -/
theorem ge_H_cg {K K' : Nat → Nat} : ∀ j, (∀ i, i < j → K i = K' i) → ge_H K j = ge_H K' j
  | 0, _ => rfl
  | j + 1, h => by simp only [ge_H]; rw [ge_H_cg j (fun i hi => h i (by omega)), h j (by omega)]
theorem i_vc_begin {k : Nat} {u : SX} {v : SY} (I : i_Rel k u v) (hk : k + 5 ≤ 2563) (v1 : Int32) : wpX_begin (fun r u' => wpY_begin (fun r' v' => r' = r ∧ i_Rel (k + 5) u' v') v v1) u v1 := by
  refine gr_el (P0 := fun u v => wpX_begin (fun r u' => wpY_begin (fun r' v' => r' = r ∧ i_Rel (k + 5) u' v') v v1) u v1) I ?_
  intro S P N c n fd op kp vd df tg a_lhsOf a_leftOf a_rightOf a_ruleOp a_ruleA a_ruleB a_argMask a_userMask a_graphSet a_reach a_treeProd a_treeToken a_parent a_placeOf a_second a_span a_nodeGraph a_state a_values a_oldState a_oldValues a_queue a_stack a_draftProd a_draftToken a_openSymbols b_sym b_rules b_root b_want b_tree b_oldTree b_draft b_val b_oldVal b_known b_oldKnown b_has b_dep hC
  obtain ⟨⟨b1, b2, b3, b4, b5, b6, b7⟩, Gr, V, T, D, hv0⟩ := id hC
  by_cases e0 : vd = 0
  · exact br_t e0 (br_t e0 (br_t e0 ⟨rfl, gr_in hC⟩))
  by_cases c1 : v1 < (-1)
  · exact br_f e0 (br_t c1 (br_f e0 (br_t c1 (br_f e0 ⟨rfl, gr_in hC⟩))))
  by_cases c2 : v1 < nI n
  · refine br_f e0 (br_f c1 (br_t c2 ?_))
    by_cases c3 : 0 ≤ v1
    · obtain ⟨t, ht, rfl⟩ := nI_of (Int32.not_lt.mpr c3)
      have tn := c2; rw [nI_ltI ht (by omega)] at tn
      obtain ⟨TR, YT⟩ := T.2 (by omega)
      have w := TR.1.2.1
      have et := ge_e_spec w tn
      have pt := TR.1.2.2.2.1 t tn
      have tv : vp_in (nI t) 24 := vp_in_nI (by omega) (by decide)
      have ec : (nI t).toNatClampNeg = t := nI_clamp (by omega)
      refine br_t c3 ⟨tv, ?_⟩
      rw [ec, TR.2.1 t tn, pk_sub (by omega)]
      unfold wX_begin_65
      rw [ec, pt.2, nI_clamp (show (a_treeProd t).toNatClampNeg < 2 ^ 31 by omega)]
      refine br_t c3 ⟨tv, vp_in_nI pt.1 (by decide), nm_e ?_⟩
      refine br_f e0 (br_f c1 (br_t c2 (br_t c3 ?_)))
      rw [ge_m2, nI_clamp (by omega), (YT t tn).1, pt.2, ge_m3, nI_clamp (by omega), (Gr.1.1 _ pt.1).1]
      refine ⟨vp_in_nI (by omega) (by decide), vp_in_nI (by omega) (by decide), nm_e ⟨rfl, ?_⟩⟩
      refine gr_in (df := 1) (tg := nI t) (fd := 0) (op := 1) (kp := n - (ge_e (ge_K a_leftOf a_rightOf a_treeProd) n t - t)) ⟨⟨b1, b2, b3, b4, b5, b6, b7⟩, Gr, V, T, Or.inr ⟨rfl, Or.inr ⟨t, tn, rfl, by omega⟩, fun x hx => absurd hx (Nat.not_lt_zero _), fun j hj => absurd hj (Nat.not_lt_zero _), rfl, fun j hj => ?_, by omega⟩, fun z => absurd z e0⟩
      rw [show j = 0 by omega, pk_us, pk_us, nI_clamp (by omega)]
    · have em : v1 = -1 := by
        apply Int32.toInt_inj.mp
        rw [Int32.le_iff_toInt_le, show (0 : Int32).toInt = 0 from by decide] at c3
        rw [Int32.lt_iff_toInt_lt, show (-1 : Int32).toInt = -1 from by decide] at c1
        rw [show (-1 : Int32).toInt = -1 from by decide]
        omega
      refine br_f c3 ?_
      unfold wX_begin_65
      refine br_f c3 (nm_e (br_f e0 (br_f c1 (br_t c2 (br_f c3 (nm_e ⟨rfl, ?_⟩))))))
      refine gr_in (df := 1) (tg := v1) (fd := 0) (op := 1) (kp := 0) ⟨⟨b1, b2, b3, b4, b5, b6, b7⟩, Gr, V, T, Or.inr ⟨rfl, Or.inl ⟨em, rfl⟩, fun x hx => absurd hx (Nat.not_lt_zero _), fun j hj => absurd hj (Nat.not_lt_zero _), rfl, fun j hj => ?_, by omega⟩, fun z => absurd z e0⟩
      rw [show j = 0 by omega, pk_us, pk_us]
  · exact br_f e0 (br_f c1 (br_f c2 (br_f e0 (br_f c1 (br_f c2 (br_f e0 ⟨rfl, gr_in hC⟩))))))
/-- the draft with one more node -/
theorem gr_Dr_feed {L R pd dp dt dr os' wa' : Nat → Int32} {n fd op kp N p : Nat} {tg tok : Int32} (hp : p < 8) (h1 : (tg = -1 ∧ kp = 0) ∨ ∃ t, t < n ∧ tg = nI t ∧ kp + ge_e (ge_K L R pd) n t = n + t)
    (h2 : ∀ x, x < fd → dr (2 * x) = dp x ∧ dr (2 * x + 1) = dt x ∧ (dp x).toNatClampNeg < 8 ∧ dp x = nI (dp x).toNatClampNeg) (h3 : ∀ j, j < fd → 1 ≤ ge_H (ge_K L R dp) j) (h4 : ge_H (ge_K L R dp) fd = op + 1)
    (h5 : ∀ j, j < op + ge_kd L R p → os' j = wa' j) (h6 : kp + fd + (op + 1) + ge_kd L R p ≤ N) :
    gr_Dr L R pd (upd dp fd (nI p)) (upd dt fd tok) os' wa' (upd (upd dr (2 * fd) (nI p)) (2 * fd + 1) tok) n (fd + 1) (op + ge_kd L R p) kp N 1 tg := by
  have ep : (nI p).toNatClampNeg = p := nI_clamp (by omega)
  have hK : ∀ i, i < fd → ge_K L R (upd dp fd (nI p)) i = ge_K L R dp i := fun i hi => by unfold ge_K; rw [pk_un (by omega)]
  have hH : ∀ j, j ≤ fd → ge_H (ge_K L R (upd dp fd (nI p))) j = ge_H (ge_K L R dp) j := fun j hj => ge_H_cg j (fun i hi => hK i (by omega))
  refine Or.inr ⟨rfl, h1, fun x hx => ?_, fun j hj => ?_, ?_, h5, by omega⟩
  · by_cases e : x = fd
    · rw [e, pk_us, pk_us, pk_us, pk_un (by omega), pk_us, ep]; exact ⟨rfl, rfl, hp, rfl⟩
    · obtain ⟨q1, q2, q3, q4⟩ := h2 x (by omega)
      refine ⟨?_, ?_, ?_, ?_⟩
      · rw [pk_un (show 2 * x ≠ 2 * fd + 1 by omega), pk_un (show 2 * x ≠ 2 * fd by omega), pk_un e]; exact q1
      · rw [pk_un (show 2 * x + 1 ≠ 2 * fd + 1 by omega), pk_un (show 2 * x + 1 ≠ 2 * fd by omega), pk_un e]; exact q2
      · rw [pk_un e]; exact q3
      · rw [pk_un e]; exact q4
  · rw [hH j (by omega)]
    rcases Nat.lt_or_ge j fd with z | z
    · exact h3 j z
    · rw [show j = fd by omega, h4]; omega
  · simp only [ge_H]
    rw [hH fd (Nat.le_refl _), h4]
    have : ge_K L R (upd dp fd (nI p)) fd = ge_kd L R p := by unfold ge_K; rw [pk_us, ep]
    rw [this]; omega
theorem i_vc_feed {k : Nat} {u : SX} {v : SY} (I : i_Rel k u v) (hk : k + 5 ≤ 2563) (v1 : Int32) (v2 : Int32) : wpX_feed (fun r u' => wpY_feed (fun r' v' => r' = r ∧ i_Rel (k + 5) u' v') v v1 v2) u v1 v2 := by
  refine gr_el (P0 := fun u v => wpX_feed (fun r u' => wpY_feed (fun r' v' => r' = r ∧ i_Rel (k + 5) u' v') v v1 v2) u v1 v2) I ?_
  intro S P N c n fd op kp vd df tg a_lhsOf a_leftOf a_rightOf a_ruleOp a_ruleA a_ruleB a_argMask a_userMask a_graphSet a_reach a_treeProd a_treeToken a_parent a_placeOf a_second a_span a_nodeGraph a_state a_values a_oldState a_oldValues a_queue a_stack a_draftProd a_draftToken a_openSymbols b_sym b_rules b_root b_want b_tree b_oldTree b_draft b_val b_oldVal b_known b_oldKnown b_has b_dep hC
  obtain ⟨⟨b1, b2, b3, b4, b5, b6, b7⟩, Gr, V, T, D, hv0⟩ := id hC
  by_cases e0 : df = 0
  · exact br_t e0 (br_t e0 ⟨rfl, gr_in hC⟩)
  rcases Nat.eq_zero_or_pos op with o0 | o0
  · subst o0
    exact br_f e0 (br_t rfl (br_f e0 (br_t rfl ⟨rfl, gr_in hC⟩)))
  obtain ⟨op, rfl⟩ : ∃ q, op = q + 1 := ⟨op - 1, by omega⟩
  have one : ¬ nI (op + 1) = 0 := nI_ne0 (by omega) (by have := gr_fed D; omega)
  have fN := gr_fed D
  obtain ⟨d1, d2, d3, d4, d5, d6, d7⟩ := D.resolve_left (fun z => e0 z.1)
  subst d1
  have vne : ¬ vd = 0 := fun z => by have := (hv0 z).2; exact absurd this (by decide)
  refine br_f e0 (br_f one (gx_isProduction (c := c) (by omega) rfl (fun p hp e => ?_) (fun e => br_t rfl ?_)))
  · subst e
    have q1 : ¬ nI p < 0 := nI_pos (by omega)
    have q2 : ¬ nI c ≤ nI p := nI_ge hp (by omega)
    have p8 : p < 8 := by omega
    have pv : vp_in (nI p) 8 := vp_in_nI p8 (by decide)
    have ep : (nI p).toNatClampNeg = p := nI_clamp (by omega)
    have ow := d6 op (by omega)
    obtain ⟨g1, g2, g3⟩ := Gr.1.1 p p8
    refine br_f (by decide) ?_
    rw [nI_pred, nI_clamp (show op < 2 ^ 31 by omega)]
    refine ⟨vp_in_nI (by omega) (by decide), nm_e ?_⟩
    rw [ep]
    -- Y's way to its size test
    have yway : ∀ {r : Int32} {u' : SX}, (a_openSymbols op < 0 ∨ a_openSymbols op = a_lhsOf p) → wY_feed_96 (fun r' v' => r' = r ∧ i_Rel (k + 5) u' v') (nI p) v2 (nI kp) (nI S) (nI P) (nI N) (nI c) vd (nI n) (nI fd) (nI (op + 1)) tg 1 b_sym b_rules b_root b_want b_tree b_oldTree b_draft b_val b_oldVal b_known b_oldKnown b_has b_dep → wpY_feed (fun r' v' => r' = r ∧ i_Rel (k + 5) u' v') (nI S, nI P, nI N, nI c, vd, nI n, nI fd, nI (op + 1), tg, 1, b_sym, b_rules, b_root, b_want, b_tree, b_oldTree, b_draft, b_val, b_oldVal, b_known, b_oldKnown, b_has, b_dep) (nI p) v2 := by
      intro r u' ho h
      have y67 : wY_feed_67 (fun r' v' => r' = r ∧ i_Rel (k + 5) u' v') (nI p) v2 (nI S) (nI P) (nI N) (nI c) vd (nI n) (nI fd) (nI (op + 1)) tg 1 b_sym b_rules b_root b_want b_tree b_oldTree b_draft b_val b_oldVal b_known b_oldKnown b_has b_dep := by
        unfold wY_feed_67
        rcases d2 with ⟨t1, t2⟩ | ⟨t, t1, t2, t3⟩
        · subst t1 t2; exact br_f (by decide) h
        · subst t2
          obtain ⟨TR, YT⟩ := T.2 (by omega)
          have w := TR.1.2.1
          have et := ge_e_spec w t1
          refine br_t (nI_pos' (by omega)) (gy_end (by omega) Gr.1 w TR.1.2.2.2.1 YT rfl t1 ?_)
          rw [pk_sub (by omega), nI_add, show n - ge_e (ge_K a_leftOf a_rightOf a_treeProd) n t + t = kp by omega]
          exact h
      refine br_f e0 (br_f one (br_f q1 (br_f q2 ?_)))
      rw [nI_pred, nI_clamp (show op < 2 ^ 31 by omega), ← ow]
      refine ⟨vp_in_nI (by omega) (by decide), br_c (fun _ => y67) (fun z => ⟨vp_in_nI (by omega) (by decide), ?_⟩)⟩
      rw [ge_m3, nI_clamp (by omega), g1]
      exact ⟨vp_in_nI (by omega) (by decide), br_t (ho.resolve_left z) y67⟩
    -- the feeding itself
    have main : (a_openSymbols op < 0 ∨ a_openSymbols op = a_lhsOf p) → wX_feed_56 (fun r u' => wpY_feed (fun r' v' => r' = r ∧ i_Rel (k + 5) u' v') (nI S, nI P, nI N, nI c, vd, nI n, nI fd, nI (op + 1), tg, 1, b_sym, b_rules, b_root, b_want, b_tree, b_oldTree, b_draft, b_val, b_oldVal, b_known, b_oldKnown, b_has, b_dep) (nI p) v2) (nI p) v2 (nI S) (nI P) (nI N) (nI c) vd (nI n) 1 tg (nI kp) (nI fd) (nI (op + 1)) a_lhsOf a_leftOf a_rightOf a_ruleOp a_ruleA a_ruleB a_argMask a_userMask a_graphSet a_reach a_treeProd a_treeToken a_parent a_placeOf a_second a_span a_nodeGraph a_state a_values a_oldState a_oldValues a_queue a_stack a_draftProd a_draftToken a_openSymbols := by
      intro ho
      have k2 := ge_kd_le a_leftOf a_rightOf p
      unfold wX_feed_56
      refine gx_childCount p8 ?_
      rw [nI_add, nI_add, nI_add]
      refine pk_le (kp + fd + (op + 1) + ge_kd a_leftOf a_rightOf p) N (fun h6 => ?_) (fun h6 => yway ho ?_)
      · have fv : vp_in (nI fd) 24 := vp_in_nI (by omega) (by decide)
        have ef : (nI fd).toNatClampNeg = fd := nI_clamp (by omega)
        have dr := fun os' wa' h5 => gr_Dr_feed (tok := v2) (os' := os') (wa' := wa') p8 d2 d3 d4 d5 h5 h6
        have close : ∀ os' wa' ot, (∀ j, j < op + ge_kd a_leftOf a_rightOf p → os' j = wa' j) → i_Rel (k + 5) (nI S, nI P, nI N, nI c, vd, nI n, 1, tg, nI kp, nI (fd + 1), nI (op + ge_kd a_leftOf a_rightOf p), a_lhsOf, a_leftOf, a_rightOf, a_ruleOp, a_ruleA, a_ruleB, a_argMask, a_userMask, a_graphSet, a_reach, a_treeProd, a_treeToken, a_parent, a_placeOf, a_second, a_span, a_nodeGraph, a_state, a_values, a_oldState, a_oldValues, a_queue, a_stack, upd a_draftProd fd (nI p), upd a_draftToken fd v2, os') (nI S, nI P, nI N, nI c, vd, nI n, nI (fd + 1), nI (op + ge_kd a_leftOf a_rightOf p), tg, 1, b_sym, b_rules, b_root, wa', b_tree, ot, upd (upd b_draft (2 * fd) (nI p)) (2 * fd + 1) v2, b_val, b_oldVal, b_known, b_oldKnown, b_has, b_dep) :=
          fun os' wa' ot h5 => gr_in ⟨⟨b1, b2, b3, b4, b5, b6, b7⟩, Gr, V, T, dr os' wa' h5, fun z => absurd z vne⟩
        -- Y's feeding
        have y96 : ∀ {r : Int32} {u' : SX}, (∀ fl, wY_feed_168 (fun r' v' => r' = r ∧ i_Rel (k + 5) u' v') (nI p) (nI (ge_kd a_leftOf a_rightOf p)) (nI S) (nI P) (nI N) (nI c) vd (nI n) (nI (fd + 1)) (nI (op + 1)) tg 1 (fl + 3) (nI (ge_kd a_leftOf a_rightOf p)) b_sym b_rules b_root b_want b_tree b_oldTree (upd (upd b_draft (2 * fd) (nI p)) (2 * fd + 1) v2) b_val b_oldVal b_known b_oldKnown b_has b_dep) →
            wY_feed_96 (fun r' v' => r' = r ∧ i_Rel (k + 5) u' v') (nI p) v2 (nI kp) (nI S) (nI P) (nI N) (nI c) vd (nI n) (nI fd) (nI (op + 1)) tg 1 b_sym b_rules b_root b_want b_tree b_oldTree b_draft b_val b_oldVal b_known b_oldKnown b_has b_dep := by
          intro r u' h
          unfold wY_feed_96
          refine gy_kids Gr.1 p8 ?_
          rw [nI_add, nI_add, nI_add, ge_m2, nI_1, nI_clamp (show 2 * fd < 2 ^ 31 by omega), nI_clamp (show 2 * fd + 1 < 2 ^ 31 by omega)]
          exact br_t (nI_le h6 (by omega)) ⟨vp_in_nI (by omega) (by decide), nm_e ⟨vp_in_nI (by omega) (by decide), nm_e (nm_r (nI_1 fd) ⟨3, h 0⟩)⟩⟩
        have e1 : nI (op + 1) - 1 = nI op := nI_pred op
        have ov : vp_in (nI op) 24 := vp_in_nI (by omega) (by decide)
        have eo : (nI op).toNatClampNeg = op := nI_clamp (by omega)
        refine ⟨fv, nm_r (e' := upd a_draftProd fd (nI p)) (by rw [ef]) ⟨fv, nm_r (e' := upd a_draftToken fd v2) (by rw [ef]) (nm_r (nI_1 fd) (nm_r e1 ?_))⟩⟩
        have hk0 : ge_kd a_leftOf a_rightOf p = 0 ∨ ge_kd a_leftOf a_rightOf p = 1 ∨ ge_kd a_leftOf a_rightOf p = 2 := by omega
        rcases hk0 with k0 | k0 | k0
        · rw [k0] at close y96 ⊢
          refine br_f (by decide) ?_
          unfold wX_feed_158
          refine br_t (by decide) (yway ho (y96 (fun fl => br_t (by decide) (nm_r (e' := nI (op + 0)) ?_ ⟨rfl, close _ _ _ (fun j hj => d6 j (by omega))⟩))))
          show nI (op + 1) + (nI 0 - nI 1) = _
          rw [ge_mvI (by omega)]; congr 1
        · rw [k0] at close y96 ⊢
          refine br_f (by decide) ?_
          unfold wX_feed_158
          rw [ep, eo]
          refine br_f (by decide) (nm_r (nI_1 op) ⟨pv, ov, nm_e (yway ho (y96 (fun fl => br_f (by decide) ?_)))⟩)
          have i1 : 3 * nI p + nI 1 = nI (3 * p + 1) := by rw [ge_m3, nI_add]
          have i2 : nI (op + 1) - 1 + nI 1 - nI 1 = nI op := by rw [e1, nI_add, pk_sub (by omega)]; congr 1
          rw [i1, i2, eo, nI_clamp (by omega), g2]
          refine ⟨vp_in_nI (by omega) (by decide), vp_in_nI (by omega) (by decide), nm_e (nm_r (e' := 0) (by decide) (br_t (by decide) (nm_r (e' := nI (op + 1)) ?_ ⟨rfl, close _ _ _ (fun j hj => ?_)⟩)))⟩
          · show nI (op + 1) + (nI 1 - nI 1) = _
            rw [ge_mvI (by omega)]; congr 1
          · by_cases e : j = op
            · rw [e, pk_us, pk_us]
            · rw [pk_un e, pk_un e]; exact d6 j (by omega)
        · rw [k0] at close y96 ⊢
          refine br_t rfl (nm_r (nI_1 op) ?_)
          rw [ep, eo]
          refine ⟨pv, ov, nm_e ?_⟩
          unfold wX_feed_158
          rw [ep, nI_clamp (show op + 1 < 2 ^ 31 by omega)]
          refine br_f (by decide) (nm_r (nI_1 (op + 1)) ⟨pv, vp_in_nI (by omega) (by decide), nm_e (yway ho (y96 (fun fl => br_f (by decide) ?_)))⟩)
          have i1 : 3 * nI p + nI 2 = nI (3 * p + 2) := by rw [ge_m3, nI_add]
          have i2 : nI (op + 1) - 1 + nI 2 - nI 2 = nI op := by rw [e1, nI_add, pk_sub (by omega)]; congr 1
          rw [i1, i2, eo, nI_clamp (by omega), g3]
          refine ⟨vp_in_nI (by omega) (by decide), vp_in_nI (by omega) (by decide), nm_e (nm_r (e' := nI 1) (by decide) (br_f (by decide) ?_))⟩
          have i3 : 3 * nI p + nI 1 = nI (3 * p + 1) := by rw [ge_m3, nI_add]
          have i4 : nI (op + 1) - 1 + nI 2 - nI 1 = nI (op + 1) := by rw [e1, nI_add, pk_sub (by omega)]; congr 1
          rw [i3, i4, nI_clamp (show op + 1 < 2 ^ 31 by omega), nI_clamp (by omega), g2]
          refine ⟨vp_in_nI (by omega) (by decide), vp_in_nI (by omega) (by decide), nm_e (nm_r (e' := 0) (by decide) (br_t (by decide) (nm_r (e' := nI (op + 2)) ?_ ⟨rfl, close _ _ _ (fun j hj => ?_)⟩)))⟩
          · show nI (op + 1) + (nI 2 - nI 1) = _
            rw [ge_mvI (by omega)]; congr 1
          · by_cases e : j = op + 1
            · rw [e, pk_us, pk_us]
            · rw [pk_un e, pk_un e]
              by_cases e2 : j = op
              · rw [e2, pk_us, pk_us]
              · rw [pk_un e2, pk_un e2]; exact d6 j (by omega)
      · unfold wY_feed_96
        refine gy_kids Gr.1 p8 ?_
        rw [nI_add, nI_add, nI_add]
        exact br_f (nI_ge h6 (by omega)) ⟨rfl, gr_in hC⟩
    refine br_c (fun z => main (Or.inl z)) (fun z => ⟨pv, br_c (fun z2 => main (Or.inr z2)) (fun z2 => ?_)⟩)
    refine br_f e0 (br_f one (br_f q1 (br_f q2 ?_)))
    rw [nI_pred, nI_clamp (show op < 2 ^ 31 by omega), ← ow]
    refine ⟨vp_in_nI (by omega) (by decide), br_f z ⟨vp_in_nI (by omega) (by decide), ?_⟩⟩
    rw [ge_m3, nI_clamp (by omega), g1]
    exact ⟨vp_in_nI (by omega) (by decide), br_f z2 ⟨rfl, gr_in hC⟩⟩
  · by_cases c1 : v1 < 0
    · exact br_f e0 (br_f one (br_t c1 ⟨rfl, gr_in hC⟩))
    · exact br_f e0 (br_f one (br_f c1 (br_t (e.resolve_left c1) ⟨rfl, gr_in hC⟩)))
end
section
/-! status, value, treeGraph -/
theorem gr_Sol {L R O A B pd tk pa pl se sp ng st V rt kn V' : Nat → Int32} {n : Nat} (T : gx_TR L R O A B pd tk pa pl se sp ng st V rt n) (s : ge_Sol (4 * n) (ge_AR L R O A B pd n) (ge_vl L R O A B pd tk rt n) (fun i => kn i = 1) V') :
    ∀ i, i < 4 * n → (st i = 1 ↔ kn i = 1) ∧ (st i = 1 → V i = V' i) := by
  have sy := ge_sys (tk := tk) (rt := rt) T.1.2.1 T.1.2.2.1 (gx_T_hp T.1)
  exact ge_Sol_uq (fun i j r => (sy.1 i j r).2) sy.2.1 T.2.2.2.2.1 s
theorem gr_kn {S P N c n fd op kp : Nat} {vd df tg : Int32} {lh L R O A B am um gs pd tk pa pl se sp ng st V dp dt os sy ru rt wa tr dr kn ha kn' : Nat → Int32} (h : gr_C S P N c n fd op kp vd df tg lh L R O A B am um gs pd tk pa pl se sp ng st V dp dt os sy ru rt wa tr dr kn ha) (hk : ∀ j, j < 96 → kn' j = 0 ∨ kn' j = 1) :
    gr_C S P N c n fd op kp vd df tg lh L R O A B am um gs pd tk pa pl se sp ng st V dp dt os sy ru rt wa tr dr kn' ha := ⟨h.1, h.2.1, h.2.2.1, ⟨hk, h.2.2.2.1.2⟩, h.2.2.2.2⟩
/-- status on both sides, with what the sweep leaves -/
theorem gr_status {k S P N c n fd op kp : Nat} {vd df tg : Int32} {a_lhsOf a_leftOf a_rightOf a_ruleOp a_ruleA a_ruleB a_argMask a_userMask a_graphSet a_reach a_treeProd a_treeToken a_parent a_placeOf a_second a_span a_nodeGraph a_state a_values a_oldState a_oldValues a_queue a_stack a_draftProd a_draftToken a_openSymbols : Nat → Int32} {b_sym b_rules b_root b_want b_tree b_oldTree b_draft b_val b_oldVal b_known b_oldKnown b_has b_dep : Nat → Int32} (hC : gr_C S P N c n fd op kp vd df tg a_lhsOf a_leftOf a_rightOf a_ruleOp a_ruleA a_ruleB a_argMask a_userMask a_graphSet a_treeProd a_treeToken a_parent a_placeOf a_second a_span a_nodeGraph a_state a_values a_draftProd a_draftToken a_openSymbols b_sym b_rules b_root b_want b_tree b_draft b_known b_has) (v1 v2 : Int32) :
    ∃ r : Int32, (∀ post : Int32 → Prop, post r → wpX_status post (nI S, nI P, nI N, nI c, vd, nI n, df, tg, nI kp, nI fd, nI op, a_lhsOf, a_leftOf, a_rightOf, a_ruleOp, a_ruleA, a_ruleB, a_argMask, a_userMask, a_graphSet, a_reach, a_treeProd, a_treeToken, a_parent, a_placeOf, a_second, a_span, a_nodeGraph, a_state, a_values, a_oldState, a_oldValues, a_queue, a_stack, a_draftProd, a_draftToken, a_openSymbols) v1 v2) ∧
      ((r = 0 ∧ ∀ post : Int32 → SY → Prop, post 0 (nI S, nI P, nI N, nI c, vd, nI n, nI fd, nI op, tg, df, b_sym, b_rules, b_root, b_want, b_tree, b_oldTree, b_draft, b_val, b_oldVal, b_known, b_oldKnown, b_has, b_dep) → wpY_status post (nI S, nI P, nI N, nI c, vd, nI n, nI fd, nI op, tg, df, b_sym, b_rules, b_root, b_want, b_tree, b_oldTree, b_draft, b_val, b_oldVal, b_known, b_oldKnown, b_has, b_dep) v1 v2) ∨
       (∃ i, i < 4 * n ∧ n ≤ 24 ∧ 4 * v1 + v2 = nI i ∧ ∀ post : Int32 → SY → Prop, (∀ kn V ok ov, (∀ j, j < 96 → kn j = 0 ∨ kn j = 1) → (r = 1 → a_values i = V i) → post r (nI S, nI P, nI N, nI c, vd, nI n, nI fd, nI op, tg, df, b_sym, b_rules, b_root, b_want, b_tree, b_oldTree, b_draft, V, ov, kn, ok, b_has, b_dep)) → wpY_status post (nI S, nI P, nI N, nI c, vd, nI n, nI fd, nI op, tg, df, b_sym, b_rules, b_root, b_want, b_tree, b_oldTree, b_draft, b_val, b_oldVal, b_known, b_oldKnown, b_has, b_dep) v1 v2)) := by
  obtain ⟨⟨b1, b2, b3, b4, b5, b6, b7⟩, ⟨G, GR, RO, hz, hLR⟩, V, T, D, hv0⟩ := id hC
  by_cases c1 : v1 < 0
  · exact ⟨0, fun _ h => br_t c1 h, Or.inl ⟨rfl, fun _ h => br_t c1 h⟩⟩
  by_cases c2 : nI n ≤ v1
  · exact ⟨0, fun _ h => br_f c1 (br_t c2 h), Or.inl ⟨rfl, fun _ h => br_f c1 (br_t c2 h)⟩⟩
  by_cases c3 : v2 < 0
  · exact ⟨0, fun _ h => br_f c1 (br_f c2 (br_t c3 h)), Or.inl ⟨rfl, fun _ h => br_f c1 (br_f c2 (br_t c3 h))⟩⟩
  by_cases c4 : v2 ≤ 3
  · obtain ⟨x, hx, rfl⟩ := nI_of c1
    obtain ⟨a, ha, rfl⟩ := nI_of c3
    have xn := c2; rw [nI_leI (by omega) hx] at xn
    have a4 := c4; rw [show (3 : Int32) = nI 3 from rfl, nI_leI ha (by omega)] at a4
    have ei : 4 * nI x + nI a = nI (4 * x + a) := by rw [ge_m4, nI_add]
    have iv : vp_in (nI (4 * x + a)) 96 := vp_in_nI (by omega) (by decide)
    obtain ⟨TR, YT⟩ := T.2 (by omega)
    refine ⟨a_state (4 * x + a), fun post h => br_f c1 (br_f c2 (br_f c3 (br_t c4 ?_))), Or.inr ⟨4 * x + a, by omega, by omega, ei, fun post h => br_f c1 (br_f c2 (br_f c3 (br_t c4 ?_)))⟩⟩
    · rw [ei, nI_clamp (by omega)]; exact ⟨iv, h⟩
    · rw [ei]
      refine gy_sweep1 (pd := a_treeProd) (tk := a_treeToken) (n := n) (by omega) (by omega) G RO (fun _ => TR.1.2.1) TR.1.2.2.2.1 YT rfl T.1 (fun kn V' ok ov hk hs _ => ?_)
      have q := gr_Sol TR (hs (by omega)) (4 * x + a) (by omega)
      rcases TR.2.2.2.2.2 (4 * x + a) (by omega) with e | e
      · have e1 := q.1.mp e
        rw [e1]
        refine br_f (by decide) ?_
        have := h kn V' ok ov hk (fun _ => q.2 e)
        rw [e] at this; exact this
      · have e1 : kn (4 * x + a) = 0 := (hk _ (by omega)).resolve_right (fun z => by have := q.1.mpr z; rw [e] at this; exact absurd this (by decide))
        rw [e1]
        refine br_t rfl ?_
        have := h kn V' ok ov hk (fun z => by rw [e] at z; exact absurd z (by decide))
        rw [e] at this; exact this
  · exact ⟨0, fun _ h => br_f c1 (br_f c2 (br_f c3 (br_f c4 h))), Or.inl ⟨rfl, fun _ h => br_f c1 (br_f c2 (br_f c3 (br_f c4 h)))⟩⟩
theorem i_vc_status {k : Nat} {u : SX} {v : SY} (I : i_Rel k u v) (hk : k + 5 ≤ 2563) (v1 : Int32) (v2 : Int32) : wpX_status (fun r => wpY_status (fun r' v' => r' = r ∧ i_Rel (k + 5) u v') v v1 v2) u v1 v2 := by
  refine gr_el (P0 := fun u v => wpX_status (fun r => wpY_status (fun r' v' => r' = r ∧ i_Rel (k + 5) u v') v v1 v2) u v1 v2) I ?_
  intro S P N c n fd op kp vd df tg a_lhsOf a_leftOf a_rightOf a_ruleOp a_ruleA a_ruleB a_argMask a_userMask a_graphSet a_reach a_treeProd a_treeToken a_parent a_placeOf a_second a_span a_nodeGraph a_state a_values a_oldState a_oldValues a_queue a_stack a_draftProd a_draftToken a_openSymbols b_sym b_rules b_root b_want b_tree b_oldTree b_draft b_val b_oldVal b_known b_oldKnown b_has b_dep hC
  obtain ⟨r, hX, hY⟩ := gr_status (k := k) hC v1 v2
  refine hX _ ?_
  rcases hY with ⟨rfl, hY⟩ | ⟨i, hi, hn, ei, hY⟩
  · exact hY _ ⟨rfl, gr_in hC⟩
  · exact hY _ (fun kn V ok ov hk _ => ⟨rfl, gr_in (gr_kn hC hk)⟩)
theorem i_vc_value {k : Nat} {u : SX} {v : SY} (I : i_Rel k u v) (hk : k + 5 ≤ 2563) (v1 : Int32) (v2 : Int32) : wpX_value (fun r => wpY_value (fun r' v' => r' = r ∧ i_Rel (k + 5) u v') v v1 v2) u v1 v2 := by
  refine gr_el (P0 := fun u v => wpX_value (fun r => wpY_value (fun r' v' => r' = r ∧ i_Rel (k + 5) u v') v v1 v2) u v1 v2) I ?_
  intro S P N c n fd op kp vd df tg a_lhsOf a_leftOf a_rightOf a_ruleOp a_ruleA a_ruleB a_argMask a_userMask a_graphSet a_reach a_treeProd a_treeToken a_parent a_placeOf a_second a_span a_nodeGraph a_state a_values a_oldState a_oldValues a_queue a_stack a_draftProd a_draftToken a_openSymbols b_sym b_rules b_root b_want b_tree b_oldTree b_draft b_val b_oldVal b_known b_oldKnown b_has b_dep hC
  obtain ⟨r, hX, hY⟩ := gr_status (k := k) hC v1 v2
  simp only [wpX_value, wpY_value]
  refine hX _ ?_
  rcases hY with ⟨rfl, hY⟩ | ⟨i, hi, hn, ei, hY⟩
  · exact br_f (by decide) (hY _ (br_f (by decide) ⟨by trivial, gr_in hC⟩))
  · rw [ei, nI_clamp (by omega)]
    have iv : vp_in (nI i) 96 := vp_in_nI (by omega) (by decide)
    refine br_c (fun c1 => ⟨iv, hY _ (fun kn V ok ov hk he => br_t c1 ⟨iv, (he c1).symm, gr_in (gr_kn hC hk)⟩)⟩) (fun c1 => hY _ (fun kn V ok ov hk _ => br_f c1 ⟨by trivial, gr_in (gr_kn hC hk)⟩))
theorem i_vc_treeGraph {k : Nat} {u : SX} {v : SY} (I : i_Rel k u v) (hk : k + 5 ≤ 2563) (v1 : Int32) : wpX_treeGraph (fun r => wpY_treeGraph (fun r' v' => r' = r ∧ i_Rel (k + 5) u v') v v1) u v1 := by
  refine gr_el (P0 := fun u v => wpX_treeGraph (fun r => wpY_treeGraph (fun r' v' => r' = r ∧ i_Rel (k + 5) u v') v v1) u v1) I ?_
  intro S P N c n fd op kp vd df tg a_lhsOf a_leftOf a_rightOf a_ruleOp a_ruleA a_ruleB a_argMask a_userMask a_graphSet a_reach a_treeProd a_treeToken a_parent a_placeOf a_second a_span a_nodeGraph a_state a_values a_oldState a_oldValues a_queue a_stack a_draftProd a_draftToken a_openSymbols b_sym b_rules b_root b_want b_tree b_oldTree b_draft b_val b_oldVal b_known b_oldKnown b_has b_dep hC
  obtain ⟨⟨b1, b2, b3, b4, b5, b6, b7⟩, ⟨G, GR, RO, hz, hLR⟩, V, T, D, hv0⟩ := id hC
  by_cases c1 : v1 < 0
  · exact br_t c1 (br_t c1 ⟨rfl, gr_in hC⟩)
  by_cases c2 : v1 < nI n
  · obtain ⟨x, hx, rfl⟩ := nI_of c1
    have xn := c2; rw [nI_ltI hx (by omega)] at xn
    obtain ⟨TR, YT⟩ := T.2 (by omega)
    have gx := TR.2.2.1 x xn
    refine br_f c1 (br_t c2 ⟨vp_in_nI (by omega) (by decide), ?_⟩)
    rw [nI_clamp (show x < 2 ^ 31 by omega), gx.1]
    refine gy_treeGraph (pd := a_treeProd) (tk := a_treeToken) (n := n) (by omega) xn G RO TR.1.2.1 TR.1.2.2.2.1 YT rfl T.1 gx.2 (fun a b ha hb => ?_) (fun kn V' ok ov hk => ⟨rfl, gr_in (gr_kn hC hk)⟩)
    exact ge_gr TR.1.2.1 (gr := fun z => (a_nodeGraph z).toNatClampNeg) TR.2.2.2.1 _ x (Nat.lt_succ_self _) xn a b ha hb
  · exact br_f c1 (br_f c2 (br_f c1 (br_f c2 ⟨rfl, gr_in hC⟩)))
end
section
/-! setRoot -/
theorem ge_cn_0 {P : Nat → Prop} : ∀ N, (∀ k, k < N → ¬ P k) → ge_cn P N = 0
  | 0, _ => rfl
  | N + 1, h => by simp only [ge_cn]; rw [ge_cn_0 N (fun k hk => h k (by omega)), ge_bf (h N (by omega))]
theorem gr_chg {os st' ov V' ok kn' oV V'' : Int32} (h1 : os = 1 ∨ os = 2) (h2 : st' = 1 ∨ st' = 2) (h3 : ok = 0 ∨ ok = 1) (h4 : kn' = 0 ∨ kn' = 1) (h5 : os = 1 ↔ ok = 1) (h6 : st' = 1 ↔ kn' = 1) (h7 : os = 1 → ov = oV) (h8 : st' = 1 → V' = V'') :
    (¬ os = st' ∨ (st' = 1 ∧ ¬ ov = V')) ↔ (¬ kn' = ok ∨ (¬ kn' = 0 ∧ ¬ V'' = oV)) := by
  rcases h1 with e1 | e1 <;> rcases h2 with e2 | e2
  · have a := h5.mp e1
    have b := h6.mp e2
    rw [e1, e2, a, b, h7 e1, h8 e2]
    constructor
    · rintro (z | z)
      · exact absurd rfl z
      · exact Or.inr ⟨by decide, fun y => z.2 y.symm⟩
    · rintro (z | z)
      · exact absurd rfl z
      · exact Or.inr ⟨rfl, fun y => z.2 y.symm⟩
  · have a := h5.mp e1
    have b : kn' = 0 := h4.resolve_right (fun z => by have := h6.mpr z; rw [e2] at this; exact absurd this (by decide))
    rw [e1, e2, a, b]
    exact ⟨fun _ => Or.inl (by decide), fun _ => Or.inl (by decide)⟩
  · have a : ok = 0 := h3.resolve_right (fun z => by have := h5.mpr z; rw [e1] at this; exact absurd this (by decide))
    have b := h6.mp e2
    rw [e1, e2, a, b]
    exact ⟨fun _ => Or.inl (by decide), fun _ => Or.inl (by decide)⟩
  · have a : ok = 0 := h3.resolve_right (fun z => by have := h5.mpr z; rw [e1] at this; exact absurd this (by decide))
    have b : kn' = 0 := h4.resolve_right (fun z => by have := h6.mpr z; rw [e2] at this; exact absurd this (by decide))
    rw [e1, e2, a, b]
    constructor
    · rintro (z | z)
      · exact absurd rfl z
      · exact absurd z.1 (by decide)
    · rintro (z | z)
      · exact absurd rfl z
      · exact absurd rfl z.1
theorem gr_roots {L R O A B pd tk pa pl se sp ng st V rt : Nat → Int32} {n i : Nat} (T : gx_TR L R O A B pd tk pa pl se sp ng st V rt n) (hi : i < 2) : st i = 1 ∧ V i = rt i := by
  have hn := ge_WF_pos T.1.2.1
  have s1 : st i = 1 := (T.2.2.2.2.1.1 i (by omega)).mpr (fun j r => by have := ((ge_AR_iff T.1.2.1 T.1.2.2.1 (gx_T_hp T.1)).mp r).1; omega)
  refine ⟨s1, ?_⟩
  have := T.2.2.2.2.1.2.2 i (by omega) s1
  rw [this]; unfold ge_vl; rw [if_pos hi]
section
variable {a_lhsOf a_leftOf a_rightOf a_ruleOp a_ruleA a_ruleB a_argMask a_userMask a_graphSet a_reach a_treeProd a_treeToken a_parent a_placeOf a_second a_span a_nodeGraph a_state a_values a_oldState a_oldValues a_queue a_stack a_draftProd a_draftToken a_openSymbols : Nat → Int32} {b_sym b_rules b_root b_want b_tree b_oldTree b_draft b_val b_oldVal b_known b_oldKnown b_has b_dep : Nat → Int32}
/-- Y's way: two sweeps around a changed root -/
theorem gr_ysetRoot {S P N c n fd op kp a : Nat} {vd df tg v2 : Int32} (hC : gr_C S P N c n fd op kp vd df tg a_lhsOf a_leftOf a_rightOf a_ruleOp a_ruleA a_ruleB a_argMask a_userMask a_graphSet a_treeProd a_treeToken a_parent a_placeOf a_second a_span a_nodeGraph a_state a_values a_draftProd a_draftToken a_openSymbols b_sym b_rules b_root b_want b_tree b_draft b_known b_has) (hn : 0 < n) (ha : a < 2) {post : Int32 → SY → Prop}
    (hpost : ∀ (kn V ok ov ky Vy : Nat → Int32), (∀ j, j < 96 → kn j = 0 ∨ kn j = 1) → (∀ j, j < 96 → ky j = 0 ∨ ky j = 1) → (∀ j, j < 96 → ok j = ky j ∧ ov j = Vy j) →
      ge_Sol (4 * n) (ge_AR a_leftOf a_rightOf a_ruleOp a_ruleA a_ruleB a_treeProd n) (ge_vl a_leftOf a_rightOf a_ruleOp a_ruleA a_ruleB a_treeProd a_treeToken b_root n) (fun i => ky i = 1) Vy →
      ge_Sol (4 * n) (ge_AR a_leftOf a_rightOf a_ruleOp a_ruleA a_ruleB a_treeProd n) (ge_vl a_leftOf a_rightOf a_ruleOp a_ruleA a_ruleB a_treeProd a_treeToken (upd b_root a v2) n) (fun i => kn i = 1) V →
      post (nI (ge_cn (gy_chg ok ov kn V n 0 0) (4 * n))) (nI S, nI P, nI N, nI c, vd, nI n, nI fd, nI op, tg, df, b_sym, b_rules, upd b_root a v2, b_want, b_tree, b_oldTree, b_draft, V, ov, kn, ok, b_has, b_dep)) :
    wpY_setRoot post (nI S, nI P, nI N, nI c, vd, nI n, nI fd, nI op, tg, df, b_sym, b_rules, b_root, b_want, b_tree, b_oldTree, b_draft, b_val, b_oldVal, b_known, b_oldKnown, b_has, b_dep) (nI a) v2 := by
  obtain ⟨⟨b1, b2, b3, b4, b5, b6, b7⟩, ⟨G, GR, RO, hz, hLR⟩, V, T, D, hv0⟩ := id hC
  obtain ⟨TR, YT⟩ := T.2 hn
  refine br_f (nI_ne0 hn (by omega)) (br_f (nI_pos (by omega)) (br_t (nI_le (b := 1) (by omega) (by decide)) ?_))
  refine gy_sweep1 (pd := a_treeProd) (tk := a_treeToken) (n := n) (goal := 0) (by omega) (by omega) G RO (fun _ => TR.1.2.1) TR.1.2.2.2.1 YT rfl T.1 (fun ky Vy ok0 ov0 hky sy _ => ⟨vp_in_nI (by omega) (by decide), nm_r (e' := upd b_root a v2) (by rw [nI_clamp (by omega)]) ?_⟩)
  simp only [wpY_changed]
  refine gy_sweep1 (pd := a_treeProd) (tk := a_treeToken) (n := n) (goal := 0) (by omega) (by omega) G RO (fun _ => TR.1.2.1) TR.1.2.2.2.1 YT rfl hky (fun kn Vn ok ov hkn sn ho => ⟨4 * n + 1, ?_⟩)
  exact gy_chg_14 (t := n) (m := 0) (f := 0) (n0 := n) (by omega) (by omega) (by omega) (by omega) (fun i _ _ => by omega) (fun i hi _ => by unfold ge_now; rw [if_pos (by omega)]; omega) (hpost kn Vn ok ov ky Vy hkn hky ho (sy hn) (sn hn)) (4 * n + 1) 0 (Nat.zero_le _) (by omega)
end
theorem i_vc_setRoot {k : Nat} {u : SX} {v : SY} (I : i_Rel k u v) (hk : k + 5 ≤ 2563) (v1 : Int32) (v2 : Int32) : wpX_setRoot (fun r u' => wpY_setRoot (fun r' v' => r' = r ∧ i_Rel (k + 5) u' v') v v1 v2) u v1 v2 := by
  refine gr_el (P0 := fun u v => wpX_setRoot (fun r u' => wpY_setRoot (fun r' v' => r' = r ∧ i_Rel (k + 5) u' v') v v1 v2) u v1 v2) I ?_
  intro S P N c n fd op kp vd df tg a_lhsOf a_leftOf a_rightOf a_ruleOp a_ruleA a_ruleB a_argMask a_userMask a_graphSet a_reach a_treeProd a_treeToken a_parent a_placeOf a_second a_span a_nodeGraph a_state a_values a_oldState a_oldValues a_queue a_stack a_draftProd a_draftToken a_openSymbols b_sym b_rules b_root b_want b_tree b_oldTree b_draft b_val b_oldVal b_known b_oldKnown b_has b_dep hC
  obtain ⟨⟨b1, b2, b3, b4, b5, b6, b7⟩, ⟨G, GR, RO, hz, hLR⟩, V, T, D, hv0⟩ := id hC
  rcases Nat.eq_zero_or_pos n with n0 | n0
  · subst n0
    exact br_t rfl (br_t rfl (br_t rfl ⟨rfl, gr_in hC⟩))
  have nne : ¬ nI n = 0 := nI_ne0 n0 (by omega)
  by_cases c1 : v1 < 0
  · exact br_f nne (br_t c1 (br_f nne (br_t c1 (br_f nne ⟨rfl, gr_in hC⟩))))
  by_cases c2 : v1 ≤ 1
  · obtain ⟨a, ha, rfl⟩ := nI_of c1
    have a2 := c2; rw [show (1 : Int32) = nI 1 from rfl, nI_leI ha (by omega)] at a2
    have a2' : a < 2 := by omega
    have av : vp_in (nI a) 96 := vp_in_nI (by omega) (by decide)
    have ea : (nI a).toNatClampNeg = a := nI_clamp (by omega)
    obtain ⟨TR, YT⟩ := T.2 n0
    have vne : ¬ vd = 0 := fun z => by have := (hv0 z).1; omega
    obtain ⟨AM, UM, HG⟩ := V.2.2.2 vne
    refine br_f nne (br_f c1 (br_t c2 ⟨av, ?_⟩))
    rw [ea]
    by_cases c3 : a_values a = v2
    · -- nothing changes
      have er : upd b_root a v2 = b_root := by
        funext j
        by_cases e : j = a
        · rw [e, pk_us, ← c3, (gr_roots TR a2').2]
        · rw [pk_un e]
      refine br_t c3 (gr_ysetRoot hC n0 a2' (fun kn Vn ok ov ky Vy hkn hky ho s1 s2 => ⟨?_, ?_⟩))
      · rw [er] at s2
        have q1 := gr_Sol TR s1
        have q2 := gr_Sol TR s2
        rw [ge_cn_0 _ (fun i hi z => ?_)]
        · rfl
        · have e : ge_now n 0 0 i = i := by unfold ge_now; rw [if_pos (by omega)]
          have z2 := z.2
          rw [e, (ho i (by omega)).1, (ho i (by omega)).2] at z2
          have k1 := (q1 i hi).1.symm.trans (q2 i hi).1
          rcases hky i (by omega) with e1 | e1 <;> rcases hkn i (by omega) with e2 | e2
          · rw [e1, e2] at z2
            rcases z2 with y | y
            · exact y rfl
            · exact y.1 rfl
          · have := k1.mpr e2; rw [e1] at this; exact absurd this (by decide)
          · have := k1.mp e1; rw [e2] at this; exact absurd this (by decide)
          · have st := (q1 i hi).1.mpr e1
            rw [e1, e2, ← (q1 i hi).2 st, ← (q2 i hi).2 st] at z2
            rcases z2 with y | y
            · exact y rfl
            · exact y.2 rfl
      · rw [er]
        exact gr_in (gr_kn hC hkn)
    · refine br_f c3 (gx_remember (by omega) rfl (fun os ov hos hov => ⟨av, nm_e (nm_e ?_)⟩))
      have PR := ge_Pre_root (v := v2) TR.1.2.1 TR.1.2.2.1 (gx_T_hp TR.1) a2' TR.2.2.2.2.1 TR.2.2.2.2.2
      have nz := ge_nz_int (st := a_state) (a := 2) (b := 2) (by omega) (by omega) (by omega) (fun i h1 h2 => by omega)
      refine gx_refresh (k := 1) (rt := upd b_root a v2) (a_values := upd a_values a v2) (a_queue := upd a_queue 0 (nI a)) TR.1 UM PR (fun i hi e => ⟨⟨0, by omega, by rw [pk_us, e]⟩, Or.inr ⟨by rw [e]; exact (gr_roots TR a2').1, by omega, by rw [e, pk_us, pk_us]⟩⟩) (fun i hi => (gr_roots TR hi).1) (by omega) (fun j hj => ⟨a, by omega, by rw [show j = 0 by omega, pk_us]⟩) (fun st' V' q sk s1 s2 s3 => ?_)
      refine gx_countChanges (n := n) (n0 := n) (t := 0) (m := 1) (f := 1) (by omega) (by omega) rfl (by omega) (by omega) (by omega) (by omega) rfl ?_
      have TR' : gx_TR a_leftOf a_rightOf a_ruleOp a_ruleA a_ruleB a_treeProd a_treeToken a_parent a_placeOf a_second a_span a_nodeGraph st' V' (upd b_root a v2) n := ⟨TR.1, TR.2.1, TR.2.2.1, TR.2.2.2.1, s1, s2⟩
      refine gr_ysetRoot hC n0 a2' (fun kn Vn ok oV ky Vy hkn hky ho y1 y2 => ⟨?_, ?_⟩)
      · have q1 := gr_Sol TR y1
        have q2 := gr_Sol TR' y2
        refine congrArg nI (ge_cn_eq (fun i hi => ?_)).symm
        have e1 : ge_now 0 1 1 i = i := by unfold ge_now; split <;> omega
        have e2 : ge_now n 0 0 i = i := by unfold ge_now; rw [if_pos (by omega)]
        unfold gx_chg gy_chg
        rw [e1, e2, hos i hi, hov i hi, (ho i (by omega)).1, (ho i (by omega)).2]
        have := gr_chg (TR.2.2.2.2.2 i hi) (s2 i hi) (hky i (by omega)) (hkn i (by omega)) (q1 i hi).1 (q2 i hi).1 (q1 i hi).2 (q2 i hi).2
        constructor
        · intro z; exact ⟨by omega, this.mp z.2⟩
        · intro z; exact ⟨by omega, this.mpr z.2⟩
      · exact gr_in ⟨⟨b1, b2, b3, b4, b5, b6, b7⟩, ⟨G, GR, RO, hz, hLR⟩, V, ⟨hkn, fun _ => ⟨TR', YT⟩⟩, D, hv0⟩
  · exact br_f nne (br_f c1 (br_f c2 (br_f nne (br_f c1 (br_f c2 (br_f nne ⟨rfl, gr_in hC⟩))))))
end
section
/-! commit -/
theorem gr_New1 {L R O A B pd tk pa pl se sp ng st V rt pd' tk' dp dt ng' st' V' : Nat → Int32} {n n' t m f : Nat} (TR : gx_TR L R O A B pd tk pa pl se sp ng st V rt n) (wd : ge_WF (ge_K L R dp) f) (hd : ∀ x, x < f → (dp x).toNatClampNeg < 8 ∧ dp x = nI (dp x).toNatClampNeg) (ht : t < n) (hm : t + m = ge_e (ge_K L R pd) n t) (hn : n' + m = n + f)
    (N1 : gx_N3 pd pd' dp n' t m f) (N2 : gx_N3 tk tk' dt n' t m f) (g1 : ∀ x, x < t → ng' x = ng x) (g2 : ∀ z, t + f ≤ z → z < n' → ng' z = ng (z + m - f)) (I1 : gx_I2 st st' n' t m f) (I2 : gx_I2 V V' n' t m f) : gx_New L R O A B rt pd' tk' ng' st' V' n' t f := by
  obtain ⟨T, hsp, hg, hl, hs, h12⟩ := TR
  have w := T.2.1
  have ro := T.2.2.1
  have hp := T.2.2.2.1
  have et := ge_e_spec w ht
  have f0 := ge_WF_pos wd
  have spl : ge_Spl pd pd' dp n n' t m f := by
    refine ⟨by omega, N1.1, N1.2.1, fun x h1 h2 => ?_⟩
    rw [N1.2.2 (x + f - m) (by omega) (by omega)]; congr 1; omega
  have w' := ge_Spl_WF w wd ht hm spl
  obtain ⟨k1, k2, k3⟩ := ge_Spl_K (L := L) (R := R) spl
  have ee : ∀ x, x < n → (x ≤ t ∨ t + m ≤ x) → ge_e (ge_K L R pd') n' (ge_ph t m f x) = ge_ph t m f (ge_e (ge_K L R pd) n x) := fun x h1 h2 => ge_sp_e w wd ht hm k1 k2 k3 spl.1 h1 h2
  have kpt : ∀ z, z < n' → (z < t ∨ t + f ≤ z) → ∃ z0, ge_kp n t m z0 ∧ z = ge_ph t m f z0 := by
    intro z hz h
    rcases h with h | h
    · exact ⟨z, ⟨by omega, Or.inl h⟩, (ge_ph_lo (by omega)).symm⟩
    · exact ⟨z + m - f, ⟨by omega, Or.inr (by omega)⟩, by rw [ge_ph_hi (by omega)]; omega⟩
  have nodeN : ∀ (u u' d : Nat → Int32), gx_N3 u u' d n' t m f → ∀ z, ge_kp n t m z → u' (ge_ph t m f z) = u z := by
    intro u u' d N z k
    rcases k.2 with y | y
    · rw [ge_ph_lo (by omega)]; exact N.1 z y
    · rw [ge_ph_hi (by omega), N.2.2 _ (by omega) (by have := k.1; omega)]; congr 1; omega
  have hp' : ∀ x, x < n' → (pd' x).toNatClampNeg < 8 ∧ pd' x = nI (pd' x).toNatClampNeg := by
    intro x hx
    rcases Nat.lt_or_ge x t with y | y
    · rw [N1.1 x y]; exact hp x (by omega)
    · rcases Nat.lt_or_ge x (t + f) with y2 | y2
      · have := N1.2.1 (x - t) (by omega)
        rw [show t + (x - t) = x by omega] at this
        rw [this]; exact hd _ (by omega)
      · rw [N1.2.2 x y2 hx]; exact hp _ (by omega)
  have ngk : ∀ z, ge_kp n t m z → ng' (ge_ph t m f z) = ng z := by
    intro z k
    rcases k.2 with y | y
    · rw [ge_ph_lo (by omega)]; exact g1 z y
    · rw [ge_ph_hi (by omega), g2 _ (by omega) (by have := k.1; omega)]; congr 1; omega
  have inst : ∀ (u u' : Nat → Int32), gx_I2 u u' n' t m f → ∀ i, ge_kI n t m i → u' (ge_pI t m f i) = u i := by
    intro u u' N i k
    rcases k.2 with y | y
    · rw [ge_pI_lo (by omega)]; exact N.1 i y
    · rw [ge_pI_hi (by omega) (by omega), N.2 _ (by omega) (by have := k.1; omega)]; congr 1; omega
  have kI' : ∀ i, ge_kI n t m i → ge_pI t m f i < 4 * n' ∧ (ge_pI t m f i < 4 * t + 2 ∨ 4 * (t + f) ≤ ge_pI t m f i) := by
    intro i k
    rcases k.2 with y | y
    · rw [ge_pI_lo (by omega)]; omega
    · rw [ge_pI_hi (by omega) (by omega)]; have := k.1; omega
  refine ⟨w', ?_, hp', fun z hz h => ?_, fun z hz h hpar => ?_, fun st2 h2 => ?_⟩
  · have := ee t ht (Or.inl (Nat.le_refl _))
    rw [ge_ph_lo (Nat.le_refl _), ← hm, ge_ph_hi (by omega)] at this
    rw [this]; omega
  · obtain ⟨z0, k, rfl⟩ := kpt z hz h
    rw [ngk z0 k]; exact hg z0 k.1
  · obtain ⟨z0, k, rfl⟩ := kpt z hz h
    refine ge_LC_spl w wd ht hm spl ngk k (fun t0 e => ?_) (hl z0 k.1)
    have ps := ge_par_spec w t0 ht
    refine hpar t0 ?_
    rw [e, ge_ph_lo (by omega)]
    refine (ge_par_uq w' (by omega) ps.1 ?_ (fun y y1 y2 => ?_)).symm
    · have := ee (ge_par (ge_K L R pd) n t) (by omega) (Or.inl (by omega))
      rw [ge_ph_lo (by omega), ge_ph_hi (by omega)] at this
      have l := ge_sp_lam w ht hm (x := ge_par (ge_K L R pd) n t) (by omega)
      rw [this]; omega
    · have := ee y (by omega) (Or.inl (by omega))
      have q := ps.2.2 y y1 y2
      rw [ge_ph_lo (by omega), ge_ph_lo q] at this
      rw [this]; exact q
  · refine ge_sp_Pre w wd ro (fun x h => (hp x h).1) (fun x h => (hp' x h).1) ht hm spl (nodeN tk tk' dt N2) hs h12 (fun i k => ?_) (inst V V' I2)
    have q := kI' i k
    rw [h2 _ q.1 q.2]; exact inst st st' I1 i k
theorem gr_WF_cg {K K' : Nat → Nat} {f : Nat} (h : ∀ x, x < f → K' x = K x) (w : ge_WF K f) : ge_WF K' f :=
  ⟨fun j hj => by rw [ge_H_cg j (fun i hi => h i (by omega))]; exact w.1 j hj, by rw [ge_H_cg f (fun i hi => h i hi)]; exact w.2⟩
theorem gr_New0 {L R O A B pd tk rt pd' tk' dp dt ng' st V st' V' : Nat → Int32} {m f : Nat} (ro : ge_RO L R O A B) (wd : ge_WF (ge_K L R dp) f) (hd : ∀ x, x < f → (dp x).toNatClampNeg < 8 ∧ dp x = nI (dp x).toNatClampNeg)
    (N1 : gx_N3 pd pd' dp f 0 m f) (N2 : gx_N3 tk tk' dt f 0 m f) (I1 : gx_I2 st st' f 0 m f) (I2 : gx_I2 V V' f 0 m f) (h1 : ∀ i, i < 2 → st i = 1) (h2 : ∀ i, i < 2 → V i = rt i) : gx_New L R O A B rt pd' tk' ng' st' V' f 0 f := by
  have e : ∀ x, x < f → pd' x = dp x := fun x hx => by have := N1.2.1 x hx; rw [Nat.zero_add] at this; exact this
  have w' : ge_WF (ge_K L R pd') f := gr_WF_cg (fun x hx => by unfold ge_K; rw [e x hx]) wd
  have hp' : ∀ x, x < f → (pd' x).toNatClampNeg < 8 ∧ pd' x = nI (pd' x).toNatClampNeg := fun x hx => by rw [e x hx]; exact hd x hx
  have f0 := ge_WF_pos wd
  refine ⟨w', by rw [ge_e_root w', Nat.zero_add], hp', fun z hz h => by omega, fun z hz h => by omega, fun st2 h3 => ?_⟩
  exact ge_Pre_0 w' ro (fun x h => (hp' x h).1) (fun i hi => by rw [h3 i (by omega) (Or.inl (by omega)), I1.1 i (by omega)]; exact h1 i hi) (fun i hi => by rw [I2.1 i (by omega)]; exact h2 i hi)
/-- Y's new tree holds X's new tree -/
theorem gr_yt {pd tk pd' tk' dp dt tr0 tr dr ot : Nat → Int32} {n n' t m f : Nat} (hn : n' + m = n + f) (hn24 : n ≤ 24) (ht : t + m ≤ n) (YT : gy_T pd tk tr0 n) (hdr : ∀ x, x < f → dr (2 * x) = dp x ∧ dr (2 * x + 1) = dt x) (hot : ∀ j, j < 48 → ot j = tr0 j)
    (N1 : gx_N3 pd pd' dp n' t m f) (N2 : gx_N3 tk tk' dt n' t m f) (h : ∀ j, j < 2 * n' → tr j = if j < 2 * t then tr0 j else if j < 2 * (t + f) then dr (j - 2 * t) else ot (j + 2 * m - 2 * f)) : gy_T pd' tk' tr n' := by
  intro x hx
  rcases Nat.lt_or_ge x t with y | y
  · rw [h (2 * x) (by omega), h (2 * x + 1) (by omega), if_pos (by omega), if_pos (by omega), N1.1 x y, N2.1 x y]
    exact YT x (by omega)
  · rcases Nat.lt_or_ge x (t + f) with y2 | y2
    · have a := N1.2.1 (x - t) (by omega)
      have b := N2.2.1 (x - t) (by omega)
      rw [show t + (x - t) = x by omega] at a b
      have h1 : tr (2 * x) = dr (2 * (x - t)) := by rw [h (2 * x) (by omega), if_neg (by omega), if_pos (by omega)]; congr 1; omega
      have h2 : tr (2 * x + 1) = dr (2 * (x - t) + 1) := by rw [h (2 * x + 1) (by omega), if_neg (by omega), if_pos (by omega)]; congr 1; omega
      rw [h1, h2, a, b]
      exact hdr (x - t) (by omega)
    · have q := YT (x + m - f) (by omega)
      rw [h (2 * x) (by omega), h (2 * x + 1) (by omega), if_neg (by omega), if_neg (by omega), if_neg (by omega), if_neg (by omega), N1.2.2 x y2 hx, N2.2.2 x y2 hx, hot _ (by omega), hot _ (by omega), show 2 * x + 2 * m - 2 * f = 2 * (x + m - f) by omega, show 2 * x + 1 + 2 * m - 2 * f = 2 * (x + m - f) + 1 by omega]
      exact q
section
variable {a_lhsOf a_leftOf a_rightOf a_ruleOp a_ruleA a_ruleB a_argMask a_userMask a_graphSet a_reach a_treeProd a_treeToken a_parent a_placeOf a_second a_span a_nodeGraph a_state a_values a_oldState a_oldValues a_queue a_stack a_draftProd a_draftToken a_openSymbols : Nat → Int32} {b_sym b_rules b_root b_want b_tree b_oldTree b_draft b_val b_oldVal b_known b_oldKnown b_has b_dep : Nat → Int32}
/-- Y's commit of a subtree -/
theorem gr_ycommit1 {S P N c n fd kp t m n' : Nat} {vd : Int32} (hC : gr_C S P N c n fd 0 kp vd 1 (nI t) a_lhsOf a_leftOf a_rightOf a_ruleOp a_ruleA a_ruleB a_argMask a_userMask a_graphSet a_treeProd a_treeToken a_parent a_placeOf a_second a_span a_nodeGraph a_state a_values a_draftProd a_draftToken a_openSymbols b_sym b_rules b_root b_want b_tree b_draft b_known b_has) (ht : t < n) (hm : t + m = ge_e (ge_K a_leftOf a_rightOf a_treeProd) n t) (hn : n' + m = n + fd) (hn' : n' ≤ 24) (hf0 : 0 < fd) {pd' tk' : Nat → Int32} (N1 : gx_N3 a_treeProd pd' a_draftProd n' t m fd) (N2 : gx_N3 a_treeToken tk' a_draftToken n' t m fd)
    (w' : ge_WF (ge_K a_leftOf a_rightOf pd') n') (hp' : ∀ x, x < n' → (pd' x).toNatClampNeg < 8 ∧ pd' x = nI (pd' x).toNatClampNeg) (hdr : ∀ x, x < fd → b_draft (2 * x) = a_draftProd x ∧ b_draft (2 * x + 1) = a_draftToken x) {post : Int32 → SY → Prop}
    (hpost : ∀ (kn V ok ov ky Vy tr ot : Nat → Int32), (∀ j, j < 96 → kn j = 0 ∨ kn j = 1) → (∀ j, j < 96 → ky j = 0 ∨ ky j = 1) → (∀ j, j < 96 → ok j = ky j ∧ ov j = Vy j) → gy_T pd' tk' tr n' →
      ge_Sol (4 * n) (ge_AR a_leftOf a_rightOf a_ruleOp a_ruleA a_ruleB a_treeProd n) (ge_vl a_leftOf a_rightOf a_ruleOp a_ruleA a_ruleB a_treeProd a_treeToken b_root n) (fun i => ky i = 1) Vy →
      ge_Sol (4 * n') (ge_AR a_leftOf a_rightOf a_ruleOp a_ruleA a_ruleB pd' n') (ge_vl a_leftOf a_rightOf a_ruleOp a_ruleA a_ruleB pd' tk' b_root n') (fun i => kn i = 1) V →
      post (nI (ge_cn (gy_chg ok ov kn V t m fd) (4 * n))) (nI S, nI P, nI N, nI c, vd, nI n', 0, nI 0, (-1), 0, b_sym, b_rules, b_root, b_want, tr, ot, b_draft, V, ov, kn, ok, b_has, b_dep)) :
    wpY_commit post (nI S, nI P, nI N, nI c, vd, nI n, nI fd, nI 0, nI t, 1, b_sym, b_rules, b_root, b_want, b_tree, b_oldTree, b_draft, b_val, b_oldVal, b_known, b_oldKnown, b_has, b_dep) := by
  obtain ⟨⟨b1, b2, b3, b4, b5, b6, b7⟩, ⟨G, GR, RO, hz, hLR⟩, V, T, D, hv0⟩ := id hC
  obtain ⟨TR, YT⟩ := T.2 (by omega)
  have w := TR.1.2.1
  have et := ge_e_spec w ht
  have t0 : (0 : Int32) ≤ nI t := nI_pos' (by omega)
  refine br_f (by decide) (br_t (by decide) (br_t t0 ?_))
  unfold wY_commit_36
  refine br_t t0 (gy_end (pd := a_treeProd) (tk := a_treeToken) (n := n) (by omega) G w TR.1.2.2.2.1 YT rfl ht ?_)
  rw [pk_sub (by omega), show ge_e (ge_K a_leftOf a_rightOf a_treeProd) n t - t = m by omega]
  unfold wY_commit_58
  refine gy_sweep1 (pd := a_treeProd) (tk := a_treeToken) (n := n) (goal := 0) (by omega) (by omega) G RO (fun _ => w) TR.1.2.2.2.1 YT rfl T.1 (fun ky Vy ok0 ov0 hky sy _ => ⟨49, ?_⟩)
  refine gy_cm_70 (fun ot hot => nm_r (e' := nI n') ?_ (nm_r (ge_m2 t) ⟨49, ?_⟩)) 49 0 b_oldTree (fun j h => absurd h (Nat.not_lt_zero _)) (by omega) (by omega)
  · rw [pk_sub (by omega), nI_add]; congr 1; omega
  refine gy_cm_114 (n' := n') (f := fd) (tr0 := b_tree) (by omega) (by omega) (by omega) rfl rfl (fun tr htr => ?_) 49 (2 * t) b_tree (fun j hj => by rw [if_pos (by omega)]) (Nat.le_refl _) (by omega) (by omega)
  have yt := gr_yt hn (by omega) (by omega) YT hdr hot N1 N2 htr
  refine br_t t0 ?_
  unfold wY_commit_204
  refine br_t t0 ?_
  simp only [wpY_changed]
  refine gy_sweep1 (pd := pd') (tk := tk') (n := n') (goal := 0) (by omega) (by omega) G RO (fun _ => w') hp' yt rfl hky (fun kn Vn ok ov hkn sn ho => ⟨4 * n + 1, ?_⟩)
  refine gy_chg_14 (t := t) (m := m) (f := fd) (n0 := n) (by omega) (by omega) (by omega) (by omega) (fun i _ _ => by omega) (fun i hi h => by unfold ge_now; split <;> omega) ?_ (4 * n + 1) 0 (Nat.zero_le _) (by omega)
  unfold wY_commit_226
  exact hpost kn Vn ok ov ky Vy tr ot hkn hky ho yt (sy (by omega)) (sn (by omega))
/-- Y's commit of a whole tree -/
theorem gr_ycommit0 {S P N c n fd kp : Nat} {vd : Int32} (hC : gr_C S P N c n fd 0 kp vd 1 (-1) a_lhsOf a_leftOf a_rightOf a_ruleOp a_ruleA a_ruleB a_argMask a_userMask a_graphSet a_treeProd a_treeToken a_parent a_placeOf a_second a_span a_nodeGraph a_state a_values a_draftProd a_draftToken a_openSymbols b_sym b_rules b_root b_want b_tree b_draft b_known b_has) (hf : fd ≤ 24) {pd' tk' : Nat → Int32} (N1 : gx_N3 a_treeProd pd' a_draftProd fd 0 n fd) (N2 : gx_N3 a_treeToken tk' a_draftToken fd 0 n fd)
    (hdr : ∀ x, x < fd → b_draft (2 * x) = a_draftProd x ∧ b_draft (2 * x + 1) = a_draftToken x) {post : Int32 → SY → Prop}
    (hpost : ∀ (kn V ok ov tr ot : Nat → Int32), (∀ j, j < 96 → kn j = 0 ∨ kn j = 1) → gy_T pd' tk' tr fd →
      post 0 (nI S, nI P, nI N, nI c, vd, nI fd, 0, nI 0, (-1), 0, b_sym, b_rules, upd (upd b_root 0 0) 1 0, b_want, tr, ot, b_draft, V, ov, kn, ok, b_has, b_dep)) :
    wpY_commit post (nI S, nI P, nI N, nI c, vd, nI n, nI fd, nI 0, (-1), 1, b_sym, b_rules, b_root, b_want, b_tree, b_oldTree, b_draft, b_val, b_oldVal, b_known, b_oldKnown, b_has, b_dep) := by
  obtain ⟨⟨b1, b2, b3, b4, b5, b6, b7⟩, ⟨G, GR, RO, hz, hLR⟩, V, T, D, hv0⟩ := id hC
  have w : 0 < n → ge_WF (ge_K a_leftOf a_rightOf a_treeProd) n := fun z => (T.2 z).1.1.2.1
  have hp : ∀ x, x < n → (a_treeProd x).toNatClampNeg < 8 ∧ a_treeProd x = nI (a_treeProd x).toNatClampNeg := fun x hx => (T.2 (by omega)).1.1.2.2.2.1 x hx
  have YT : gy_T a_treeProd a_treeToken b_tree n := fun x hx => (T.2 (by omega)).2 x hx
  have t0 : ¬ (0 : Int32) ≤ -1 := by decide
  refine br_f (by decide) (br_t (by decide) (br_f t0 ?_))
  unfold wY_commit_36
  refine br_f t0 ?_
  unfold wY_commit_58
  refine gy_sweep1 (pd := a_treeProd) (tk := a_treeToken) (n := n) (goal := 0) (by omega) (by omega) G RO w hp YT rfl T.1 (fun ky Vy ok0 ov0 hky sy _ => ⟨49, ?_⟩)
  refine gy_cm_70 (fun ot hot => nm_r (e' := nI fd) ?_ (nm_r (e' := nI (2 * 0)) (by decide) ⟨49, ?_⟩)) 49 0 b_oldTree (fun j h => absurd h (Nat.not_lt_zero _)) (by omega) (by omega)
  · rw [pk_sub (by omega), nI_add]; congr 1; omega
  refine gy_cm_114 (n' := fd) (t := 0) (m := n) (f := fd) (tr0 := b_tree) (by omega) (by omega) (by omega) rfl rfl (fun tr htr => ?_) 49 (2 * 0) b_tree (fun j hj => by omega) (Nat.le_refl _) (by omega) (by omega)
  have yt := gr_yt (n := n) (n' := fd) (t := 0) (m := n) (f := fd) (by omega) (by omega) (by omega) YT hdr hot N1 N2 htr
  refine br_f t0 (nm_e (nm_e ?_))
  unfold wY_commit_204
  refine br_f t0 ?_
  unfold wY_commit_226
  exact hpost ky Vy ok0 ov0 tr ot hky yt
end
theorem i_vc_commit {k : Nat} {u : SX} {v : SY} (I : i_Rel k u v) (hk : k + 5 ≤ 2563) : wpX_commit (fun r u' => wpY_commit (fun r' v' => r' = r ∧ i_Rel (k + 5) u' v') v) u := by
  refine gr_el (P0 := fun u v => wpX_commit (fun r u' => wpY_commit (fun r' v' => r' = r ∧ i_Rel (k + 5) u' v') v) u) I ?_
  intro S P N c n fd op kp vd df tg a_lhsOf a_leftOf a_rightOf a_ruleOp a_ruleA a_ruleB a_argMask a_userMask a_graphSet a_reach a_treeProd a_treeToken a_parent a_placeOf a_second a_span a_nodeGraph a_state a_values a_oldState a_oldValues a_queue a_stack a_draftProd a_draftToken a_openSymbols b_sym b_rules b_root b_want b_tree b_oldTree b_draft b_val b_oldVal b_known b_oldKnown b_has b_dep hC
  obtain ⟨⟨b1, b2, b3, b4, b5, b6, b7⟩, ⟨G, GR, RO, hz, hLR⟩, V, T, D, hv0⟩ := id hC
  by_cases e0 : df = 0
  · exact br_t e0 (br_t e0 ⟨rfl, gr_in hC⟩)
  obtain ⟨d1, d2, d3, d4, d5, d6, d7⟩ := D.resolve_left (fun z => e0 z.1)
  subst d1
  have vne : ¬ vd = 0 := fun z => by have := (hv0 z).2; exact absurd this (by decide)
  obtain ⟨AM, UM, HG⟩ := V.2.2.2 vne
  rcases Nat.eq_zero_or_pos op with o0 | o0
  · subst o0
    have wd : ge_WF (ge_K a_leftOf a_rightOf a_draftProd) fd := ⟨d4, d5⟩
    have f0 := ge_WF_pos wd
    have hd : ∀ x, x < fd → (a_draftProd x).toNatClampNeg < 8 ∧ a_draftProd x = nI (a_draftProd x).toNatClampNeg := fun x hx => (d3 x hx).2.2
    have hdr : ∀ x, x < fd → b_draft (2 * x) = a_draftProd x ∧ b_draft (2 * x + 1) = a_draftToken x := fun x hx => ⟨(d3 x hx).1, (d3 x hx).2.1⟩
    refine br_f e0 (br_t (by decide) ?_)
    rcases d2 with ⟨t1, t2⟩ | ⟨t, t1, t2, t3⟩
    · -- a whole tree
      subst t1 t2
      refine br_f (by decide) ⟨3, ?_⟩
      refine br_f (by decide) ⟨vp_in_iff.mpr (by decide), nm_e ⟨vp_in_iff.mpr (by decide), nm_e (nm_r (e' := 1) (by decide) ?_)⟩⟩
      refine br_f (by decide) ⟨vp_in_iff.mpr (by decide), nm_e ⟨vp_in_iff.mpr (by decide), nm_e (nm_r (e' := 2) (by decide) (br_t (by decide) ?_))⟩⟩
      have z0 : (0 : Int32).toNatClampNeg = 0 := by decide
      have z1 : (1 : Int32).toNatClampNeg = 1 := by decide
      rw [z0, z1]
      have rs : ∀ i, i < 2 → upd (upd a_state 0 1) 1 1 i = 1 := by
        intro i hi
        have : i = 0 ∨ i = 1 := by omega
        rcases this with rfl | rfl
        · rw [pk_un (by omega), pk_us]
        · rw [pk_us]
      have rv : ∀ i, i < 2 → upd (upd a_values 0 0) 1 0 i = upd (upd b_root 0 0) 1 0 i := by
        intro i hi
        have : i = 0 ∨ i = 1 := by omega
        rcases this with rfl | rfl
        · rw [pk_un (by omega), pk_us, pk_un (by omega), pk_us]
        · rw [pk_us, pk_us]
      refine gx_splice (n := n) (n' := fd) (t := 0) (m := n) (f := fd) (rt := upd (upd b_root 0 0) 1 0) (a_state := upd (upd a_state 0 1) 1 1) (a_values := upd (upd a_values 0 0) 1 0) (by omega) (by omega) (by omega) (by omega) f0 (by omega) rfl rfl RO AM UM rs (fun pd' tk' ng' st' V' N1 N2 _ _ I1 I2 => gr_New0 RO wd hd N1 N2 I1 I2 rs rv) (fun pd' tk' pa pl se sp ng st' V' q sk re N1 N2 TR' hV => ?_)
      unfold wX_commit_65
      refine gr_ycommit0 hC (by omega) N1 N2 hdr (fun kn Vn ok ov tr ot hkn yt => ⟨rfl, ?_⟩)
      exact gr_in (n := fd) (fd := 0) (op := 0) (kp := 0) ⟨⟨b1, b2, b3, b4, b5, b6, by omega⟩, ⟨G, GR, RO, hz, hLR⟩, V, ⟨hkn, fun _ => ⟨TR', yt⟩⟩, Or.inl ⟨rfl, rfl, rfl, rfl⟩, fun z => absurd z vne⟩
    · -- a subtree
      subst t2
      obtain ⟨TR, YT⟩ := T.2 (by omega)
      have w := TR.1.2.1
      have et := ge_e_spec w t1
      obtain ⟨m, hm⟩ : ∃ m, t + m = ge_e (ge_K a_leftOf a_rightOf a_treeProd) n t := ⟨ge_e (ge_K a_leftOf a_rightOf a_treeProd) n t - t, by omega⟩
      obtain ⟨n', hn'⟩ : ∃ n', n' + m = n + fd := ⟨n + fd - m, by omega⟩
      have tv : vp_in (nI t) 24 := vp_in_nI (by omega) (by decide)
      refine br_t (nI_pos' (by omega)) ⟨tv, nm_r (e' := nI m) (by rw [nI_clamp (by omega), TR.2.1 t t1]; congr 1; omega) (gx_remember (by omega) rfl (fun os ov hos hov => ?_))⟩
      refine gx_splice (n := n) (n' := n') (t := t) (m := m) (f := fd) (rt := b_root) (by omega) hn' (by omega) (by omega) f0 (by omega) rfl rfl RO AM UM (fun i hi => (gr_roots TR hi).1) (fun pd' tk' ng' st' V' N1 N2 g1 g2 I1 I2 => gr_New1 TR wd hd t1 hm hn' N1 N2 g1 g2 I1 I2) (fun pd' tk' pa pl se sp ng st' V' q sk re N1 N2 TR' hV => ?_)
      refine gx_countChanges (n := n') (n0 := n) (t := t) (m := m) (f := fd) (by omega) (by omega) hn' (by omega) f0 (by omega) (by omega) rfl ?_
      unfold wX_commit_65
      refine gr_ycommit1 hC t1 hm hn' (by omega) f0 N1 N2 TR'.1.2.1 TR'.1.2.2.2.1 hdr (fun kn Vn ok oV ky Vy tr ot hkn hky ho yt y1 y2 => ⟨?_, ?_⟩)
      · have q1 := gr_Sol TR y1
        have q2 := gr_Sol TR' y2
        refine congrArg nI (ge_cn_eq (fun i hi => ?_)).symm
        unfold gx_chg gy_chg
        rw [hos i hi, hov i hi, (ho i (by omega)).1, (ho i (by omega)).2]
        by_cases cond : i / 4 ≤ t ∨ t + m ≤ i / 4
        · have lt : ge_now t m fd i < 4 * n' := by unfold ge_now; split <;> omega
          have := gr_chg (TR.2.2.2.2.2 i hi) (TR'.2.2.2.2.2 _ lt) (hky i (by omega)) (hkn _ (by omega)) (q1 i hi).1 (q2 _ lt).1 (q1 i hi).2 (q2 _ lt).2
          constructor
          · intro z; exact ⟨z.1, this.mp z.2⟩
          · intro z; exact ⟨z.1, this.mpr z.2⟩
        · exact ⟨fun z => absurd z.1 cond, fun z => absurd z.1 cond⟩
      · exact gr_in (n := n') (fd := 0) (op := 0) (kp := kp) ⟨⟨b1, b2, b3, b4, b5, b6, by omega⟩, ⟨G, GR, RO, hz, hLR⟩, V, ⟨hkn, fun _ => ⟨TR', yt⟩⟩, Or.inl ⟨rfl, rfl, rfl, rfl⟩, fun z => absurd z vne⟩
  · have nle : ¬ nI op ≤ 0 := nI_nle o0 (by have := gr_fed D; omega)
    exact br_f e0 (br_f nle (br_f e0 (br_f nle ⟨rfl, gr_in hC⟩)))
end
