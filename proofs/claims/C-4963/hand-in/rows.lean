section
/-! pure rows to paste: stores, nI and lN arithmetic, masks, shifts, narrowing, branches by naturals (pk_le, pk_lt, pk_eq), loops (lp1 .. lp16: the measure of the state; rp1 ..: recursion), negatives. Take what you need -/
theorem pk_us {f : Nat → Int32} {k : Nat} {x : Int32} : upd f k x k = x := if_pos rfl
theorem pk_un {f : Nat → Int32} {k j : Nat} {x : Int32} (h : j ≠ k) : upd f k x j = f j := if_neg h
theorem pk_uLs {f : Nat → Int64} {k : Nat} {x : Int64} : vp_updL f k x k = x := if_pos rfl
theorem pk_uLn {f : Nat → Int64} {k j : Nat} {x : Int64} (h : j ≠ k) : vp_updL f k x j = f j := if_neg h
theorem pk_sub {a b : Nat} (h : b ≤ a) : nI a - nI b = nI (a - b) := by
  obtain ⟨c, rfl⟩ : ∃ c, a = c + b := ⟨a - b, by omega⟩
  rw [← nI_add, Int32.add_sub_cancel, Nat.add_sub_cancel]
theorem pk_m1 (n : Nat) : nI (n + 1) + (-1) = nI n := by
  rw [← nI_1, Int32.add_assoc, show (1 : Int32) + (-1) = 0 from rfl, Int32.add_zero]
theorem pk_mul (a b : Nat) : nI a * nI b = nI (a * b) := (Int32.ofNat_mul a b).symm
theorem pk_div {a d : Nat} (ha : a < 2 ^ 31) (h0 : 0 < d) (hd : d < 2 ^ 31) : nI a / nI d = nI (a / d) := by
  apply Int32.toInt_inj.mp
  rw [lg_idiv_nonneg (by rw [nI_toInt ha]; omega) (by rw [nI_toInt hd]; omega), nI_toInt ha, nI_toInt hd, nI_toInt (Nat.lt_of_le_of_lt (Nat.div_le_self a d) ha)]
  first | rfl | exact (Int.natCast_ediv _ _).symm
theorem pk_rem {a d : Nat} (ha : a < 2 ^ 31) (h0 : 0 < d) (hd : d < 2 ^ 31) : nI a - nI a / nI d * nI d = nI (a % d) := by
  rw [pk_div ha h0 hd, pk_mul, pk_sub (Nat.div_mul_le_self a d)]
  exact congrArg nI (by have := Nat.div_add_mod' a d; omega)
theorem pk_sub_toInt {a b : Nat} (ha : a < 2 ^ 30) (hb : b < 2 ^ 30) : (nI a - nI b).toInt = (a : Int) - b := by
  rw [Int32.toInt_sub, nI_toInt (by omega), nI_toInt (by omega)]
  exact Int.bmod_eq_of_le (by omega) (by omega)
theorem pk_sneg {a b : Nat} (hb : b < 2 ^ 30) (h : a < b) : nI a - nI b < 0 := by
  rw [Int32.lt_iff_toInt_lt, pk_sub_toInt (by omega) hb, show (0 : Int32).toInt = 0 from by decide]
  omega
theorem pk_ix (x : Int32) {n : Nat} (hn : n < 2 ^ 31) : x < 0 ∨ nI n ≤ x ∨ ∃ j : Nat, j < n ∧ x = nI j := by
  by_cases h : x < 0
  · exact Or.inl h
  · obtain ⟨j, hj, rfl⟩ := nI_of h
    by_cases h2 : j < n
    · exact Or.inr (Or.inr ⟨j, h2, rfl⟩)
    · exact Or.inr (Or.inl (nI_le (by omega) hj))
theorem pk_le {x y : Int32} {A B : Prop} (a b : Nat) (f : a ≤ b → A) (g : b < a → B) (hx : x = nI a := by rfl) (hy : y = nI b := by rfl) (ha : a < 2 ^ 31 := by omega) (hb : b < 2 ^ 31 := by omega) : (x ≤ y → A) ∧ (¬ x ≤ y → B) := by
  subst hx hy
  rw [nI_leI ha hb]
  exact ⟨f, fun z => g (by omega)⟩
theorem pk_lt {x y : Int32} {A B : Prop} (a b : Nat) (f : a < b → A) (g : b ≤ a → B) (hx : x = nI a := by rfl) (hy : y = nI b := by rfl) (ha : a < 2 ^ 31 := by omega) (hb : b < 2 ^ 31 := by omega) : (x < y → A) ∧ (¬ x < y → B) := by
  subst hx hy
  rw [nI_ltI ha hb]
  exact ⟨f, fun z => g (by omega)⟩
theorem pk_eq {x y : Int32} {A B : Prop} (a b : Nat) (f : a = b → A) (g : a ≠ b → B) (hx : x = nI a := by rfl) (hy : y = nI b := by rfl) (ha : a < 2 ^ 31 := by omega) (hb : b < 2 ^ 31 := by omega) : (x = y → A) ∧ (¬ x = y → B) := by
  subst hx hy
  rw [nI_eq ha hb]
  exact ⟨f, g⟩
theorem pk_in {x : Int32} (n N : Nat) (h : n < N) (hx : x = nI n := by rfl) (hN : N < 2 ^ 31 := by omega) : vp_in x N := by
  subst hx
  exact vp_in_nI h hN
theorem pk_cl {x : Int32} (n : Nat) (hx : x = nI n := by rfl) (h : n < 2 ^ 31 := by omega) : x.toNatClampNeg = n := by
  subst hx
  exact nI_clamp h
theorem pk_tn {n : Nat} (h : n < 2 ^ 32) : (nI n).toBitVec.toNat = n := Nat.mod_eq_of_lt h
theorem pk_and (x : Int32) {m : Int32} (k : Nat) (hm : m.toBitVec.toNat = 2 ^ k - 1) : x &&& m = nI (x.toBitVec.toNat % 2 ^ k) := by
  apply Int32.toBitVec_inj.mp
  apply BitVec.eq_of_toNat_eq
  rw [Int32.toBitVec_and, BitVec.toNat_and, hm, Nat.and_two_pow_sub_one_eq_mod]
  show _ = (BitVec.ofNat 32 _).toNat
  rw [BitVec.toNat_ofNat]
  exact (Nat.mod_eq_of_lt (Nat.lt_of_le_of_lt (Nat.mod_le _ _) x.toBitVec.isLt)).symm
theorem pk_andN {n : Nat} (h : n < 2 ^ 32) {m : Int32} (k : Nat) (hm : m.toBitVec.toNat = 2 ^ k - 1) : nI n &&& m = nI (n % 2 ^ k) := by
  rw [pk_and _ k hm, pk_tn h]
theorem pk_andE (x : Int32) {m : Int32} (k : Nat) (hm : m.toBitVec.toNat = 2 ^ k - 1) : ∃ j : Nat, j < 2 ^ k ∧ x &&& m = nI j := ⟨_, Nat.mod_lt _ (Nat.two_pow_pos k), pk_and x k hm⟩
theorem pk_andIn (x : Int32) {m : Int32} (k : Nat) (hm : m.toBitVec.toNat = 2 ^ k - 1) (hk : k ≤ 30) : vp_in (x &&& m) (2 ^ k) := by
  obtain ⟨j, hj, e⟩ := pk_andE x k hm
  rw [e]
  exact vp_in_nI hj (Nat.lt_of_le_of_lt (Nat.pow_le_pow_right (by decide) hk) (by decide))
theorem pk_shl (a s : Int32) (k : Nat) (hs : (s.toBitVec.smod 32).toNat = k) : (a <<< s).toBitVec.toNat = a.toBitVec.toNat * 2 ^ k % 2 ^ 32 := by
  show (a.toBitVec <<< (s.toBitVec.smod 32).toNat).toNat = _
  rw [hs, BitVec.toNat_shiftLeft, Nat.shiftLeft_eq]
theorem pk_shlN {n : Nat} (s : Int32) (k : Nat) (hs : (s.toBitVec.smod 32).toNat = k) (h : n * 2 ^ k < 2 ^ 32) : nI n <<< s = nI (n * 2 ^ k) := by
  apply Int32.toBitVec_inj.mp
  apply BitVec.eq_of_toNat_eq
  have hn : n < 2 ^ 32 := Nat.lt_of_le_of_lt (Nat.le_mul_of_pos_right n (Nat.two_pow_pos k)) h
  rw [pk_shl _ _ k hs, pk_tn hn, pk_tn h, Nat.mod_eq_of_lt h]
theorem pk_shr (a s : Int32) (k : Nat) (hs : (s.toBitVec.smod 32).toNat = k) : (a >>> s).toInt = a.toInt >>> k := by
  show (a.toBitVec.sshiftRight (s.toBitVec.smod 32).toNat).toInt = _
  rw [hs, BitVec.toInt_sshiftRight]
  rfl
theorem pk_shrN {n : Nat} (h : n < 2 ^ 31) (s : Int32) (k : Nat) (hs : (s.toBitVec.smod 32).toNat = k) : nI n >>> s = nI (n / 2 ^ k) := by
  apply Int32.toInt_inj.mp
  have h2 : n / 2 ^ k ≤ n := Nat.div_le_self _ _
  rw [pk_shr _ _ k hs, nI_toInt h, nI_toInt (by omega), Int.shiftRight_eq_div_pow]
  rfl
theorem pk_ushr (x s : Int32) (k : Nat) (hs : ((s.toUInt32 &&& Int32.toUInt32 31).toBitVec % 32).toNat = k) : (x.toUInt32 >>> (s.toUInt32 &&& Int32.toUInt32 31)).toInt32.toBitVec.toNat = x.toBitVec.toNat / 2 ^ k := by
  have e : (x.toUInt32 >>> (s.toUInt32 &&& Int32.toUInt32 31)).toInt32.toBitVec = x.toBitVec >>> k := by
    rw [← hs]
    exact UInt32.toBitVec_shiftRight _ _
  rw [e, BitVec.toNat_ushiftRight, Nat.shiftRight_eq_div_pow]
theorem pk_ushrN {n : Nat} (hn : n < 2 ^ 32) (s : Int32) (k : Nat) (hs : ((s.toUInt32 &&& Int32.toUInt32 31).toBitVec % 32).toNat = k) : ((nI n).toUInt32 >>> (s.toUInt32 &&& Int32.toUInt32 31)).toInt32 = nI (n / 2 ^ k) := by
  apply Int32.toBitVec_inj.mp
  apply BitVec.eq_of_toNat_eq
  rw [pk_ushr _ s k hs, pk_tn hn, pk_tn (Nat.lt_of_le_of_lt (Nat.div_le_self _ _) hn)]
theorem pk_nb (z : Int32) : narrow .byte (.int z.toInt8.toInt32) = .int z.toInt8.toInt32 := congrArg Value.int (by simp)
theorem pk_ns (z : Int32) : narrow .short (.int z.toInt16.toInt32) = .int z.toInt16.toInt32 := congrArg Value.int (by simp)
theorem pk_fb (r : Int32) : fits .byte (.int r.toInt8.toInt32) = true := by
  have ⟨a, b⟩ := lg_i2b_range r
  have h1 : (-128 : Int32).toInt = -128 := by decide
  have h2 : (127 : Int32).toInt = 127 := by decide
  simp only [fits, Bool.and_eq_true, decide_eq_true_eq, Int32.le_iff_toInt_le, h1, h2]
  omega
theorem pk_fs (r : Int32) : fits .short (.int r.toInt16.toInt32) = true := by
  have ⟨a, b⟩ := lg_i2s_range r
  have h1 : (-32768 : Int32).toInt = -32768 := by decide
  have h2 : (32767 : Int32).toInt = 32767 := by decide
  simp only [fits, Bool.and_eq_true, decide_eq_true_eq, Int32.le_iff_toInt_le, h1, h2]
  omega
theorem pk_charN {q : Nat} (hq : q < 65536) : narrow .char (.int (nI q)) = .int (nI q) ∧ fits .char (.int (nI q)) = true := by
  constructor
  · have e : (nI q).toUInt32.toUInt16.toUInt32.toInt32 = nI q := by
      apply Int32.toBitVec_inj.mp
      apply BitVec.eq_of_toNat_eq
      show (nI q).toUInt32.toUInt16.toUInt32.toNat = q % 2 ^ 32
      rw [UInt16.toNat_toUInt32, UInt32.toNat_toUInt16, show (nI q).toUInt32.toNat = q % 2 ^ 32 from rfl]
      omega
    exact congrArg Value.int e
  · have a : (0 : Int32) ≤ nI q := nI_pos' (by omega)
    have b : nI q ≤ 65535 := nI_le (b := 65535) (by omega) (by decide)
    show (decide ((0 : Int32) ≤ nI q) && decide (nI q ≤ 65535)) = true
    rw [decide_eq_true a, decide_eq_true b]
    rfl
theorem pk_char (x : Int32) : (x.toUInt32 % 65536).toInt32 = nI (x.toBitVec.toNat % 65536) := by
  apply Int32.toBitVec_inj.mp
  apply BitVec.eq_of_toNat_eq
  rw [pk_tn (by omega)]
  show (x.toUInt32 % 65536).toNat = _
  rw [UInt32.toNat_mod]
  rfl
theorem pk_nc (x : Int32) : narrow .char (.int (x.toUInt32 % 65536).toInt32) = .int (x.toUInt32 % 65536).toInt32 := by
  rw [pk_char]
  exact (pk_charN (Nat.mod_lt _ (by decide))).1
theorem pk_fc (x : Int32) : fits .char (.int (x.toUInt32 % 65536).toInt32) = true := by
  rw [pk_char]
  exact (pk_charN (Nat.mod_lt _ (by decide))).2
theorem pk_vb (z : Int32) : vp_nar .byte z.toInt8.toInt32 = z.toInt8.toInt32 := by rw [vp_nar_byte]; simp
theorem pk_vs (z : Int32) : vp_nar .short z.toInt16.toInt32 = z.toInt16.toInt32 := by rw [vp_nar_short]; simp
theorem pk_vc (z : Int32) : vp_nar .char (z.toUInt32 % 65536).toInt32 = (z.toUInt32 % 65536).toInt32 := Value.int.inj (pk_nc z)
theorem pk_lT {n : Nat} (h : n < 2 ^ 63) : (lN n).toInt = (n : Int) := lg_ofNat_toInt h
theorem pk_lLT {a b : Nat} (ha : a < 2 ^ 63) (hb : b < 2 ^ 63) : lN a < lN b ↔ a < b := by
  rw [Int64.lt_iff_toInt_lt, pk_lT ha, pk_lT hb]; omega
theorem pk_lLE {a b : Nat} (ha : a < 2 ^ 63) (hb : b < 2 ^ 63) : lN a ≤ lN b ↔ a ≤ b := by
  rw [Int64.le_iff_toInt_le, pk_lT ha, pk_lT hb]; omega
theorem pk_lEQ {a b : Nat} (ha : a < 2 ^ 63) (hb : b < 2 ^ 63) : lN a = lN b ↔ a = b := by
  rw [← Int64.toInt_inj, pk_lT ha, pk_lT hb]; omega
theorem pk_lOf {x : Int64} (h : ¬ x < 0) : ∃ k : Nat, k < 2 ^ 63 ∧ x = lN k := by
  rw [Int64.lt_iff_toInt_lt] at h
  have h0 : (0 : Int64).toInt = 0 := by decide
  have hx := Int64.toInt_lt x
  refine ⟨x.toInt.toNat, by omega, Int64.toInt_inj.mp ?_⟩
  rw [pk_lT (by omega)]
  omega
theorem pk_lDiv {a b : Nat} (ha : a < 2 ^ 63) (h0 : 0 < b) (hb : b < 2 ^ 63) : lN a / lN b = lN (a / b) := by
  apply Int64.toInt_inj.mp
  rw [lg_ldiv_nonneg (by rw [pk_lT ha]; omega) (by rw [pk_lT hb]; omega), pk_lT ha, pk_lT hb, pk_lT (Nat.lt_of_le_of_lt (Nat.div_le_self a b) ha)]
  rfl
theorem pk_lRem {a b : Nat} (ha : a < 2 ^ 63) (h0 : 0 < b) (hb : b < 2 ^ 63) : lN a - lN a / lN b * lN b = lN (a % b) := by
  rw [pk_lDiv ha h0 hb, lN_mul, lN_sub (Nat.div_mul_le_self a b)]
  exact congrArg lN (by have := Nat.div_add_mod' a b; omega)
theorem pk_loop {σ : Type} (W : Nat → Nat → σ → Prop) (I : Nat → σ → Prop) (e i0 : Nat) (s : σ) (hi : i0 ≤ e) (h0 : I i0 s) (hx : ∀ n s, I e s → W (n + 1) e s)
    (hs : ∀ n i s, i < e → I i s → (∀ s', I (i + 1) s' → W n (i + 1) s') → W (n + 1) i s) : ∃ n, W n i0 s :=
  ⟨e + 1, loop_i W I e hx hs (e + 1) i0 s hi (by omega) h0⟩
theorem pk_loopD {σ : Type} (W : Nat → Nat → σ → Prop) (I : Nat → σ → Prop) (hx : ∀ n s, I 0 s → W (n + 1) 0 s)
    (hs : ∀ n i s, I (i + 1) s → (∀ s', I i s' → W n i s') → W (n + 1) (i + 1) s) : ∀ (e : Nat) (s : σ), I e s → W (e + 1) e s := by
  intro e
  induction e with
  | zero => exact fun s h => hx 0 s h
  | succ e ih => exact fun s h => hs (e + 1) e s h (fun s' h' => ih s' h')
theorem lp1 {A1 : Type} (W : Nat → A1 → Prop) (I : A1 → Prop) (μ : A1 → Nat) (hs : ∀ (n : Nat) (a1 : A1), I a1 → (∀ (b1 : A1), I b1 → μ b1 < μ a1 → W n b1) → W (n + 1) a1) (a1 : A1) (h : I a1) : ∃ n, W n a1 :=
  loop_m (σ := A1) (fun n s => W n s) (fun s => I s) (fun s => μ s) (fun n s hI hk => hs n s hI (fun b1 h9 hm => hk b1 h9 hm)) a1 h
theorem lp2 {A1 A2 : Type} (W : Nat → A1 → A2 → Prop) (I : A1 → A2 → Prop) (μ : A1 → A2 → Nat) (hs : ∀ (n : Nat) (a1 : A1) (a2 : A2), I a1 a2 → (∀ (b1 : A1) (b2 : A2), I b1 b2 → μ b1 b2 < μ a1 a2 → W n b1 b2) → W (n + 1) a1 a2) (a1 : A1) (a2 : A2) (h : I a1 a2) : ∃ n, W n a1 a2 :=
  loop_m (σ := A1 × A2) (fun n s => W n s.1 s.2) (fun s => I s.1 s.2) (fun s => μ s.1 s.2) (fun n s hI hk => hs n s.1 s.2 hI (fun b1 b2 h9 hm => hk (b1, b2) h9 hm)) (a1, a2) h
theorem lp3 {A1 A2 A3 : Type} (W : Nat → A1 → A2 → A3 → Prop) (I : A1 → A2 → A3 → Prop) (μ : A1 → A2 → A3 → Nat) (hs : ∀ (n : Nat) (a1 : A1) (a2 : A2) (a3 : A3), I a1 a2 a3 → (∀ (b1 : A1) (b2 : A2) (b3 : A3), I b1 b2 b3 → μ b1 b2 b3 < μ a1 a2 a3 → W n b1 b2 b3) → W (n + 1) a1 a2 a3) (a1 : A1) (a2 : A2) (a3 : A3) (h : I a1 a2 a3) : ∃ n, W n a1 a2 a3 :=
  loop_m (σ := A1 × A2 × A3) (fun n s => W n s.1 s.2.1 s.2.2) (fun s => I s.1 s.2.1 s.2.2) (fun s => μ s.1 s.2.1 s.2.2) (fun n s hI hk => hs n s.1 s.2.1 s.2.2 hI (fun b1 b2 b3 h9 hm => hk (b1, b2, b3) h9 hm)) (a1, a2, a3) h
theorem lp4 {A1 A2 A3 A4 : Type} (W : Nat → A1 → A2 → A3 → A4 → Prop) (I : A1 → A2 → A3 → A4 → Prop) (μ : A1 → A2 → A3 → A4 → Nat) (hs : ∀ (n : Nat) (a1 : A1) (a2 : A2) (a3 : A3) (a4 : A4), I a1 a2 a3 a4 → (∀ (b1 : A1) (b2 : A2) (b3 : A3) (b4 : A4), I b1 b2 b3 b4 → μ b1 b2 b3 b4 < μ a1 a2 a3 a4 → W n b1 b2 b3 b4) → W (n + 1) a1 a2 a3 a4) (a1 : A1) (a2 : A2) (a3 : A3) (a4 : A4) (h : I a1 a2 a3 a4) : ∃ n, W n a1 a2 a3 a4 :=
  loop_m (σ := A1 × A2 × A3 × A4) (fun n s => W n s.1 s.2.1 s.2.2.1 s.2.2.2) (fun s => I s.1 s.2.1 s.2.2.1 s.2.2.2) (fun s => μ s.1 s.2.1 s.2.2.1 s.2.2.2) (fun n s hI hk => hs n s.1 s.2.1 s.2.2.1 s.2.2.2 hI (fun b1 b2 b3 b4 h9 hm => hk (b1, b2, b3, b4) h9 hm)) (a1, a2, a3, a4) h
theorem lp5 {A1 A2 A3 A4 A5 : Type} (W : Nat → A1 → A2 → A3 → A4 → A5 → Prop) (I : A1 → A2 → A3 → A4 → A5 → Prop) (μ : A1 → A2 → A3 → A4 → A5 → Nat) (hs : ∀ (n : Nat) (a1 : A1) (a2 : A2) (a3 : A3) (a4 : A4) (a5 : A5), I a1 a2 a3 a4 a5 → (∀ (b1 : A1) (b2 : A2) (b3 : A3) (b4 : A4) (b5 : A5), I b1 b2 b3 b4 b5 → μ b1 b2 b3 b4 b5 < μ a1 a2 a3 a4 a5 → W n b1 b2 b3 b4 b5) → W (n + 1) a1 a2 a3 a4 a5) (a1 : A1) (a2 : A2) (a3 : A3) (a4 : A4) (a5 : A5) (h : I a1 a2 a3 a4 a5) : ∃ n, W n a1 a2 a3 a4 a5 :=
  loop_m (σ := A1 × A2 × A3 × A4 × A5) (fun n s => W n s.1 s.2.1 s.2.2.1 s.2.2.2.1 s.2.2.2.2) (fun s => I s.1 s.2.1 s.2.2.1 s.2.2.2.1 s.2.2.2.2) (fun s => μ s.1 s.2.1 s.2.2.1 s.2.2.2.1 s.2.2.2.2) (fun n s hI hk => hs n s.1 s.2.1 s.2.2.1 s.2.2.2.1 s.2.2.2.2 hI (fun b1 b2 b3 b4 b5 h9 hm => hk (b1, b2, b3, b4, b5) h9 hm)) (a1, a2, a3, a4, a5) h
theorem lp6 {A1 A2 A3 A4 A5 A6 : Type} (W : Nat → A1 → A2 → A3 → A4 → A5 → A6 → Prop) (I : A1 → A2 → A3 → A4 → A5 → A6 → Prop) (μ : A1 → A2 → A3 → A4 → A5 → A6 → Nat) (hs : ∀ (n : Nat) (a1 : A1) (a2 : A2) (a3 : A3) (a4 : A4) (a5 : A5) (a6 : A6), I a1 a2 a3 a4 a5 a6 → (∀ (b1 : A1) (b2 : A2) (b3 : A3) (b4 : A4) (b5 : A5) (b6 : A6), I b1 b2 b3 b4 b5 b6 → μ b1 b2 b3 b4 b5 b6 < μ a1 a2 a3 a4 a5 a6 → W n b1 b2 b3 b4 b5 b6) → W (n + 1) a1 a2 a3 a4 a5 a6) (a1 : A1) (a2 : A2) (a3 : A3) (a4 : A4) (a5 : A5) (a6 : A6) (h : I a1 a2 a3 a4 a5 a6) : ∃ n, W n a1 a2 a3 a4 a5 a6 :=
  loop_m (σ := A1 × A2 × A3 × A4 × A5 × A6) (fun n s => W n s.1 s.2.1 s.2.2.1 s.2.2.2.1 s.2.2.2.2.1 s.2.2.2.2.2) (fun s => I s.1 s.2.1 s.2.2.1 s.2.2.2.1 s.2.2.2.2.1 s.2.2.2.2.2) (fun s => μ s.1 s.2.1 s.2.2.1 s.2.2.2.1 s.2.2.2.2.1 s.2.2.2.2.2) (fun n s hI hk => hs n s.1 s.2.1 s.2.2.1 s.2.2.2.1 s.2.2.2.2.1 s.2.2.2.2.2 hI (fun b1 b2 b3 b4 b5 b6 h9 hm => hk (b1, b2, b3, b4, b5, b6) h9 hm)) (a1, a2, a3, a4, a5, a6) h
theorem lp7 {A1 A2 A3 A4 A5 A6 A7 : Type} (W : Nat → A1 → A2 → A3 → A4 → A5 → A6 → A7 → Prop) (I : A1 → A2 → A3 → A4 → A5 → A6 → A7 → Prop) (μ : A1 → A2 → A3 → A4 → A5 → A6 → A7 → Nat) (hs : ∀ (n : Nat) (a1 : A1) (a2 : A2) (a3 : A3) (a4 : A4) (a5 : A5) (a6 : A6) (a7 : A7), I a1 a2 a3 a4 a5 a6 a7 → (∀ (b1 : A1) (b2 : A2) (b3 : A3) (b4 : A4) (b5 : A5) (b6 : A6) (b7 : A7), I b1 b2 b3 b4 b5 b6 b7 → μ b1 b2 b3 b4 b5 b6 b7 < μ a1 a2 a3 a4 a5 a6 a7 → W n b1 b2 b3 b4 b5 b6 b7) → W (n + 1) a1 a2 a3 a4 a5 a6 a7) (a1 : A1) (a2 : A2) (a3 : A3) (a4 : A4) (a5 : A5) (a6 : A6) (a7 : A7) (h : I a1 a2 a3 a4 a5 a6 a7) : ∃ n, W n a1 a2 a3 a4 a5 a6 a7 :=
  loop_m (σ := A1 × A2 × A3 × A4 × A5 × A6 × A7) (fun n s => W n s.1 s.2.1 s.2.2.1 s.2.2.2.1 s.2.2.2.2.1 s.2.2.2.2.2.1 s.2.2.2.2.2.2) (fun s => I s.1 s.2.1 s.2.2.1 s.2.2.2.1 s.2.2.2.2.1 s.2.2.2.2.2.1 s.2.2.2.2.2.2) (fun s => μ s.1 s.2.1 s.2.2.1 s.2.2.2.1 s.2.2.2.2.1 s.2.2.2.2.2.1 s.2.2.2.2.2.2) (fun n s hI hk => hs n s.1 s.2.1 s.2.2.1 s.2.2.2.1 s.2.2.2.2.1 s.2.2.2.2.2.1 s.2.2.2.2.2.2 hI (fun b1 b2 b3 b4 b5 b6 b7 h9 hm => hk (b1, b2, b3, b4, b5, b6, b7) h9 hm)) (a1, a2, a3, a4, a5, a6, a7) h
theorem lp8 {A1 A2 A3 A4 A5 A6 A7 A8 : Type} (W : Nat → A1 → A2 → A3 → A4 → A5 → A6 → A7 → A8 → Prop) (I : A1 → A2 → A3 → A4 → A5 → A6 → A7 → A8 → Prop) (μ : A1 → A2 → A3 → A4 → A5 → A6 → A7 → A8 → Nat) (hs : ∀ (n : Nat) (a1 : A1) (a2 : A2) (a3 : A3) (a4 : A4) (a5 : A5) (a6 : A6) (a7 : A7) (a8 : A8), I a1 a2 a3 a4 a5 a6 a7 a8 → (∀ (b1 : A1) (b2 : A2) (b3 : A3) (b4 : A4) (b5 : A5) (b6 : A6) (b7 : A7) (b8 : A8), I b1 b2 b3 b4 b5 b6 b7 b8 → μ b1 b2 b3 b4 b5 b6 b7 b8 < μ a1 a2 a3 a4 a5 a6 a7 a8 → W n b1 b2 b3 b4 b5 b6 b7 b8) → W (n + 1) a1 a2 a3 a4 a5 a6 a7 a8) (a1 : A1) (a2 : A2) (a3 : A3) (a4 : A4) (a5 : A5) (a6 : A6) (a7 : A7) (a8 : A8) (h : I a1 a2 a3 a4 a5 a6 a7 a8) : ∃ n, W n a1 a2 a3 a4 a5 a6 a7 a8 :=
  loop_m (σ := A1 × A2 × A3 × A4 × A5 × A6 × A7 × A8) (fun n s => W n s.1 s.2.1 s.2.2.1 s.2.2.2.1 s.2.2.2.2.1 s.2.2.2.2.2.1 s.2.2.2.2.2.2.1 s.2.2.2.2.2.2.2) (fun s => I s.1 s.2.1 s.2.2.1 s.2.2.2.1 s.2.2.2.2.1 s.2.2.2.2.2.1 s.2.2.2.2.2.2.1 s.2.2.2.2.2.2.2) (fun s => μ s.1 s.2.1 s.2.2.1 s.2.2.2.1 s.2.2.2.2.1 s.2.2.2.2.2.1 s.2.2.2.2.2.2.1 s.2.2.2.2.2.2.2) (fun n s hI hk => hs n s.1 s.2.1 s.2.2.1 s.2.2.2.1 s.2.2.2.2.1 s.2.2.2.2.2.1 s.2.2.2.2.2.2.1 s.2.2.2.2.2.2.2 hI (fun b1 b2 b3 b4 b5 b6 b7 b8 h9 hm => hk (b1, b2, b3, b4, b5, b6, b7, b8) h9 hm)) (a1, a2, a3, a4, a5, a6, a7, a8) h
theorem lp9 {A1 A2 A3 A4 A5 A6 A7 A8 A9 : Type} (W : Nat → A1 → A2 → A3 → A4 → A5 → A6 → A7 → A8 → A9 → Prop) (I : A1 → A2 → A3 → A4 → A5 → A6 → A7 → A8 → A9 → Prop) (μ : A1 → A2 → A3 → A4 → A5 → A6 → A7 → A8 → A9 → Nat) (hs : ∀ (n : Nat) (a1 : A1) (a2 : A2) (a3 : A3) (a4 : A4) (a5 : A5) (a6 : A6) (a7 : A7) (a8 : A8) (a9 : A9), I a1 a2 a3 a4 a5 a6 a7 a8 a9 → (∀ (b1 : A1) (b2 : A2) (b3 : A3) (b4 : A4) (b5 : A5) (b6 : A6) (b7 : A7) (b8 : A8) (b9 : A9), I b1 b2 b3 b4 b5 b6 b7 b8 b9 → μ b1 b2 b3 b4 b5 b6 b7 b8 b9 < μ a1 a2 a3 a4 a5 a6 a7 a8 a9 → W n b1 b2 b3 b4 b5 b6 b7 b8 b9) → W (n + 1) a1 a2 a3 a4 a5 a6 a7 a8 a9) (a1 : A1) (a2 : A2) (a3 : A3) (a4 : A4) (a5 : A5) (a6 : A6) (a7 : A7) (a8 : A8) (a9 : A9) (h : I a1 a2 a3 a4 a5 a6 a7 a8 a9) : ∃ n, W n a1 a2 a3 a4 a5 a6 a7 a8 a9 :=
  loop_m (σ := A1 × A2 × A3 × A4 × A5 × A6 × A7 × A8 × A9) (fun n s => W n s.1 s.2.1 s.2.2.1 s.2.2.2.1 s.2.2.2.2.1 s.2.2.2.2.2.1 s.2.2.2.2.2.2.1 s.2.2.2.2.2.2.2.1 s.2.2.2.2.2.2.2.2) (fun s => I s.1 s.2.1 s.2.2.1 s.2.2.2.1 s.2.2.2.2.1 s.2.2.2.2.2.1 s.2.2.2.2.2.2.1 s.2.2.2.2.2.2.2.1 s.2.2.2.2.2.2.2.2) (fun s => μ s.1 s.2.1 s.2.2.1 s.2.2.2.1 s.2.2.2.2.1 s.2.2.2.2.2.1 s.2.2.2.2.2.2.1 s.2.2.2.2.2.2.2.1 s.2.2.2.2.2.2.2.2) (fun n s hI hk => hs n s.1 s.2.1 s.2.2.1 s.2.2.2.1 s.2.2.2.2.1 s.2.2.2.2.2.1 s.2.2.2.2.2.2.1 s.2.2.2.2.2.2.2.1 s.2.2.2.2.2.2.2.2 hI (fun b1 b2 b3 b4 b5 b6 b7 b8 b9 h9 hm => hk (b1, b2, b3, b4, b5, b6, b7, b8, b9) h9 hm)) (a1, a2, a3, a4, a5, a6, a7, a8, a9) h
theorem lp10 {A1 A2 A3 A4 A5 A6 A7 A8 A9 A10 : Type} (W : Nat → A1 → A2 → A3 → A4 → A5 → A6 → A7 → A8 → A9 → A10 → Prop) (I : A1 → A2 → A3 → A4 → A5 → A6 → A7 → A8 → A9 → A10 → Prop) (μ : A1 → A2 → A3 → A4 → A5 → A6 → A7 → A8 → A9 → A10 → Nat) (hs : ∀ (n : Nat) (a1 : A1) (a2 : A2) (a3 : A3) (a4 : A4) (a5 : A5) (a6 : A6) (a7 : A7) (a8 : A8) (a9 : A9) (a10 : A10), I a1 a2 a3 a4 a5 a6 a7 a8 a9 a10 → (∀ (b1 : A1) (b2 : A2) (b3 : A3) (b4 : A4) (b5 : A5) (b6 : A6) (b7 : A7) (b8 : A8) (b9 : A9) (b10 : A10), I b1 b2 b3 b4 b5 b6 b7 b8 b9 b10 → μ b1 b2 b3 b4 b5 b6 b7 b8 b9 b10 < μ a1 a2 a3 a4 a5 a6 a7 a8 a9 a10 → W n b1 b2 b3 b4 b5 b6 b7 b8 b9 b10) → W (n + 1) a1 a2 a3 a4 a5 a6 a7 a8 a9 a10) (a1 : A1) (a2 : A2) (a3 : A3) (a4 : A4) (a5 : A5) (a6 : A6) (a7 : A7) (a8 : A8) (a9 : A9) (a10 : A10) (h : I a1 a2 a3 a4 a5 a6 a7 a8 a9 a10) : ∃ n, W n a1 a2 a3 a4 a5 a6 a7 a8 a9 a10 :=
  loop_m (σ := A1 × A2 × A3 × A4 × A5 × A6 × A7 × A8 × A9 × A10) (fun n s => W n s.1 s.2.1 s.2.2.1 s.2.2.2.1 s.2.2.2.2.1 s.2.2.2.2.2.1 s.2.2.2.2.2.2.1 s.2.2.2.2.2.2.2.1 s.2.2.2.2.2.2.2.2.1 s.2.2.2.2.2.2.2.2.2) (fun s => I s.1 s.2.1 s.2.2.1 s.2.2.2.1 s.2.2.2.2.1 s.2.2.2.2.2.1 s.2.2.2.2.2.2.1 s.2.2.2.2.2.2.2.1 s.2.2.2.2.2.2.2.2.1 s.2.2.2.2.2.2.2.2.2) (fun s => μ s.1 s.2.1 s.2.2.1 s.2.2.2.1 s.2.2.2.2.1 s.2.2.2.2.2.1 s.2.2.2.2.2.2.1 s.2.2.2.2.2.2.2.1 s.2.2.2.2.2.2.2.2.1 s.2.2.2.2.2.2.2.2.2) (fun n s hI hk => hs n s.1 s.2.1 s.2.2.1 s.2.2.2.1 s.2.2.2.2.1 s.2.2.2.2.2.1 s.2.2.2.2.2.2.1 s.2.2.2.2.2.2.2.1 s.2.2.2.2.2.2.2.2.1 s.2.2.2.2.2.2.2.2.2 hI (fun b1 b2 b3 b4 b5 b6 b7 b8 b9 b10 h9 hm => hk (b1, b2, b3, b4, b5, b6, b7, b8, b9, b10) h9 hm)) (a1, a2, a3, a4, a5, a6, a7, a8, a9, a10) h
theorem lp11 {A1 A2 A3 A4 A5 A6 A7 A8 A9 A10 A11 : Type} (W : Nat → A1 → A2 → A3 → A4 → A5 → A6 → A7 → A8 → A9 → A10 → A11 → Prop) (I : A1 → A2 → A3 → A4 → A5 → A6 → A7 → A8 → A9 → A10 → A11 → Prop) (μ : A1 → A2 → A3 → A4 → A5 → A6 → A7 → A8 → A9 → A10 → A11 → Nat) (hs : ∀ (n : Nat) (a1 : A1) (a2 : A2) (a3 : A3) (a4 : A4) (a5 : A5) (a6 : A6) (a7 : A7) (a8 : A8) (a9 : A9) (a10 : A10) (a11 : A11), I a1 a2 a3 a4 a5 a6 a7 a8 a9 a10 a11 → (∀ (b1 : A1) (b2 : A2) (b3 : A3) (b4 : A4) (b5 : A5) (b6 : A6) (b7 : A7) (b8 : A8) (b9 : A9) (b10 : A10) (b11 : A11), I b1 b2 b3 b4 b5 b6 b7 b8 b9 b10 b11 → μ b1 b2 b3 b4 b5 b6 b7 b8 b9 b10 b11 < μ a1 a2 a3 a4 a5 a6 a7 a8 a9 a10 a11 → W n b1 b2 b3 b4 b5 b6 b7 b8 b9 b10 b11) → W (n + 1) a1 a2 a3 a4 a5 a6 a7 a8 a9 a10 a11) (a1 : A1) (a2 : A2) (a3 : A3) (a4 : A4) (a5 : A5) (a6 : A6) (a7 : A7) (a8 : A8) (a9 : A9) (a10 : A10) (a11 : A11) (h : I a1 a2 a3 a4 a5 a6 a7 a8 a9 a10 a11) : ∃ n, W n a1 a2 a3 a4 a5 a6 a7 a8 a9 a10 a11 :=
  loop_m (σ := A1 × A2 × A3 × A4 × A5 × A6 × A7 × A8 × A9 × A10 × A11) (fun n s => W n s.1 s.2.1 s.2.2.1 s.2.2.2.1 s.2.2.2.2.1 s.2.2.2.2.2.1 s.2.2.2.2.2.2.1 s.2.2.2.2.2.2.2.1 s.2.2.2.2.2.2.2.2.1 s.2.2.2.2.2.2.2.2.2.1 s.2.2.2.2.2.2.2.2.2.2) (fun s => I s.1 s.2.1 s.2.2.1 s.2.2.2.1 s.2.2.2.2.1 s.2.2.2.2.2.1 s.2.2.2.2.2.2.1 s.2.2.2.2.2.2.2.1 s.2.2.2.2.2.2.2.2.1 s.2.2.2.2.2.2.2.2.2.1 s.2.2.2.2.2.2.2.2.2.2) (fun s => μ s.1 s.2.1 s.2.2.1 s.2.2.2.1 s.2.2.2.2.1 s.2.2.2.2.2.1 s.2.2.2.2.2.2.1 s.2.2.2.2.2.2.2.1 s.2.2.2.2.2.2.2.2.1 s.2.2.2.2.2.2.2.2.2.1 s.2.2.2.2.2.2.2.2.2.2) (fun n s hI hk => hs n s.1 s.2.1 s.2.2.1 s.2.2.2.1 s.2.2.2.2.1 s.2.2.2.2.2.1 s.2.2.2.2.2.2.1 s.2.2.2.2.2.2.2.1 s.2.2.2.2.2.2.2.2.1 s.2.2.2.2.2.2.2.2.2.1 s.2.2.2.2.2.2.2.2.2.2 hI (fun b1 b2 b3 b4 b5 b6 b7 b8 b9 b10 b11 h9 hm => hk (b1, b2, b3, b4, b5, b6, b7, b8, b9, b10, b11) h9 hm)) (a1, a2, a3, a4, a5, a6, a7, a8, a9, a10, a11) h
theorem lp12 {A1 A2 A3 A4 A5 A6 A7 A8 A9 A10 A11 A12 : Type} (W : Nat → A1 → A2 → A3 → A4 → A5 → A6 → A7 → A8 → A9 → A10 → A11 → A12 → Prop) (I : A1 → A2 → A3 → A4 → A5 → A6 → A7 → A8 → A9 → A10 → A11 → A12 → Prop) (μ : A1 → A2 → A3 → A4 → A5 → A6 → A7 → A8 → A9 → A10 → A11 → A12 → Nat) (hs : ∀ (n : Nat) (a1 : A1) (a2 : A2) (a3 : A3) (a4 : A4) (a5 : A5) (a6 : A6) (a7 : A7) (a8 : A8) (a9 : A9) (a10 : A10) (a11 : A11) (a12 : A12), I a1 a2 a3 a4 a5 a6 a7 a8 a9 a10 a11 a12 → (∀ (b1 : A1) (b2 : A2) (b3 : A3) (b4 : A4) (b5 : A5) (b6 : A6) (b7 : A7) (b8 : A8) (b9 : A9) (b10 : A10) (b11 : A11) (b12 : A12), I b1 b2 b3 b4 b5 b6 b7 b8 b9 b10 b11 b12 → μ b1 b2 b3 b4 b5 b6 b7 b8 b9 b10 b11 b12 < μ a1 a2 a3 a4 a5 a6 a7 a8 a9 a10 a11 a12 → W n b1 b2 b3 b4 b5 b6 b7 b8 b9 b10 b11 b12) → W (n + 1) a1 a2 a3 a4 a5 a6 a7 a8 a9 a10 a11 a12) (a1 : A1) (a2 : A2) (a3 : A3) (a4 : A4) (a5 : A5) (a6 : A6) (a7 : A7) (a8 : A8) (a9 : A9) (a10 : A10) (a11 : A11) (a12 : A12) (h : I a1 a2 a3 a4 a5 a6 a7 a8 a9 a10 a11 a12) : ∃ n, W n a1 a2 a3 a4 a5 a6 a7 a8 a9 a10 a11 a12 :=
  loop_m (σ := A1 × A2 × A3 × A4 × A5 × A6 × A7 × A8 × A9 × A10 × A11 × A12) (fun n s => W n s.1 s.2.1 s.2.2.1 s.2.2.2.1 s.2.2.2.2.1 s.2.2.2.2.2.1 s.2.2.2.2.2.2.1 s.2.2.2.2.2.2.2.1 s.2.2.2.2.2.2.2.2.1 s.2.2.2.2.2.2.2.2.2.1 s.2.2.2.2.2.2.2.2.2.2.1 s.2.2.2.2.2.2.2.2.2.2.2) (fun s => I s.1 s.2.1 s.2.2.1 s.2.2.2.1 s.2.2.2.2.1 s.2.2.2.2.2.1 s.2.2.2.2.2.2.1 s.2.2.2.2.2.2.2.1 s.2.2.2.2.2.2.2.2.1 s.2.2.2.2.2.2.2.2.2.1 s.2.2.2.2.2.2.2.2.2.2.1 s.2.2.2.2.2.2.2.2.2.2.2) (fun s => μ s.1 s.2.1 s.2.2.1 s.2.2.2.1 s.2.2.2.2.1 s.2.2.2.2.2.1 s.2.2.2.2.2.2.1 s.2.2.2.2.2.2.2.1 s.2.2.2.2.2.2.2.2.1 s.2.2.2.2.2.2.2.2.2.1 s.2.2.2.2.2.2.2.2.2.2.1 s.2.2.2.2.2.2.2.2.2.2.2) (fun n s hI hk => hs n s.1 s.2.1 s.2.2.1 s.2.2.2.1 s.2.2.2.2.1 s.2.2.2.2.2.1 s.2.2.2.2.2.2.1 s.2.2.2.2.2.2.2.1 s.2.2.2.2.2.2.2.2.1 s.2.2.2.2.2.2.2.2.2.1 s.2.2.2.2.2.2.2.2.2.2.1 s.2.2.2.2.2.2.2.2.2.2.2 hI (fun b1 b2 b3 b4 b5 b6 b7 b8 b9 b10 b11 b12 h9 hm => hk (b1, b2, b3, b4, b5, b6, b7, b8, b9, b10, b11, b12) h9 hm)) (a1, a2, a3, a4, a5, a6, a7, a8, a9, a10, a11, a12) h
theorem lp13 {A1 A2 A3 A4 A5 A6 A7 A8 A9 A10 A11 A12 A13 : Type} (W : Nat → A1 → A2 → A3 → A4 → A5 → A6 → A7 → A8 → A9 → A10 → A11 → A12 → A13 → Prop) (I : A1 → A2 → A3 → A4 → A5 → A6 → A7 → A8 → A9 → A10 → A11 → A12 → A13 → Prop) (μ : A1 → A2 → A3 → A4 → A5 → A6 → A7 → A8 → A9 → A10 → A11 → A12 → A13 → Nat) (hs : ∀ (n : Nat) (a1 : A1) (a2 : A2) (a3 : A3) (a4 : A4) (a5 : A5) (a6 : A6) (a7 : A7) (a8 : A8) (a9 : A9) (a10 : A10) (a11 : A11) (a12 : A12) (a13 : A13), I a1 a2 a3 a4 a5 a6 a7 a8 a9 a10 a11 a12 a13 → (∀ (b1 : A1) (b2 : A2) (b3 : A3) (b4 : A4) (b5 : A5) (b6 : A6) (b7 : A7) (b8 : A8) (b9 : A9) (b10 : A10) (b11 : A11) (b12 : A12) (b13 : A13), I b1 b2 b3 b4 b5 b6 b7 b8 b9 b10 b11 b12 b13 → μ b1 b2 b3 b4 b5 b6 b7 b8 b9 b10 b11 b12 b13 < μ a1 a2 a3 a4 a5 a6 a7 a8 a9 a10 a11 a12 a13 → W n b1 b2 b3 b4 b5 b6 b7 b8 b9 b10 b11 b12 b13) → W (n + 1) a1 a2 a3 a4 a5 a6 a7 a8 a9 a10 a11 a12 a13) (a1 : A1) (a2 : A2) (a3 : A3) (a4 : A4) (a5 : A5) (a6 : A6) (a7 : A7) (a8 : A8) (a9 : A9) (a10 : A10) (a11 : A11) (a12 : A12) (a13 : A13) (h : I a1 a2 a3 a4 a5 a6 a7 a8 a9 a10 a11 a12 a13) : ∃ n, W n a1 a2 a3 a4 a5 a6 a7 a8 a9 a10 a11 a12 a13 :=
  loop_m (σ := A1 × A2 × A3 × A4 × A5 × A6 × A7 × A8 × A9 × A10 × A11 × A12 × A13) (fun n s => W n s.1 s.2.1 s.2.2.1 s.2.2.2.1 s.2.2.2.2.1 s.2.2.2.2.2.1 s.2.2.2.2.2.2.1 s.2.2.2.2.2.2.2.1 s.2.2.2.2.2.2.2.2.1 s.2.2.2.2.2.2.2.2.2.1 s.2.2.2.2.2.2.2.2.2.2.1 s.2.2.2.2.2.2.2.2.2.2.2.1 s.2.2.2.2.2.2.2.2.2.2.2.2) (fun s => I s.1 s.2.1 s.2.2.1 s.2.2.2.1 s.2.2.2.2.1 s.2.2.2.2.2.1 s.2.2.2.2.2.2.1 s.2.2.2.2.2.2.2.1 s.2.2.2.2.2.2.2.2.1 s.2.2.2.2.2.2.2.2.2.1 s.2.2.2.2.2.2.2.2.2.2.1 s.2.2.2.2.2.2.2.2.2.2.2.1 s.2.2.2.2.2.2.2.2.2.2.2.2) (fun s => μ s.1 s.2.1 s.2.2.1 s.2.2.2.1 s.2.2.2.2.1 s.2.2.2.2.2.1 s.2.2.2.2.2.2.1 s.2.2.2.2.2.2.2.1 s.2.2.2.2.2.2.2.2.1 s.2.2.2.2.2.2.2.2.2.1 s.2.2.2.2.2.2.2.2.2.2.1 s.2.2.2.2.2.2.2.2.2.2.2.1 s.2.2.2.2.2.2.2.2.2.2.2.2) (fun n s hI hk => hs n s.1 s.2.1 s.2.2.1 s.2.2.2.1 s.2.2.2.2.1 s.2.2.2.2.2.1 s.2.2.2.2.2.2.1 s.2.2.2.2.2.2.2.1 s.2.2.2.2.2.2.2.2.1 s.2.2.2.2.2.2.2.2.2.1 s.2.2.2.2.2.2.2.2.2.2.1 s.2.2.2.2.2.2.2.2.2.2.2.1 s.2.2.2.2.2.2.2.2.2.2.2.2 hI (fun b1 b2 b3 b4 b5 b6 b7 b8 b9 b10 b11 b12 b13 h9 hm => hk (b1, b2, b3, b4, b5, b6, b7, b8, b9, b10, b11, b12, b13) h9 hm)) (a1, a2, a3, a4, a5, a6, a7, a8, a9, a10, a11, a12, a13) h
theorem lp14 {A1 A2 A3 A4 A5 A6 A7 A8 A9 A10 A11 A12 A13 A14 : Type} (W : Nat → A1 → A2 → A3 → A4 → A5 → A6 → A7 → A8 → A9 → A10 → A11 → A12 → A13 → A14 → Prop) (I : A1 → A2 → A3 → A4 → A5 → A6 → A7 → A8 → A9 → A10 → A11 → A12 → A13 → A14 → Prop) (μ : A1 → A2 → A3 → A4 → A5 → A6 → A7 → A8 → A9 → A10 → A11 → A12 → A13 → A14 → Nat) (hs : ∀ (n : Nat) (a1 : A1) (a2 : A2) (a3 : A3) (a4 : A4) (a5 : A5) (a6 : A6) (a7 : A7) (a8 : A8) (a9 : A9) (a10 : A10) (a11 : A11) (a12 : A12) (a13 : A13) (a14 : A14), I a1 a2 a3 a4 a5 a6 a7 a8 a9 a10 a11 a12 a13 a14 → (∀ (b1 : A1) (b2 : A2) (b3 : A3) (b4 : A4) (b5 : A5) (b6 : A6) (b7 : A7) (b8 : A8) (b9 : A9) (b10 : A10) (b11 : A11) (b12 : A12) (b13 : A13) (b14 : A14), I b1 b2 b3 b4 b5 b6 b7 b8 b9 b10 b11 b12 b13 b14 → μ b1 b2 b3 b4 b5 b6 b7 b8 b9 b10 b11 b12 b13 b14 < μ a1 a2 a3 a4 a5 a6 a7 a8 a9 a10 a11 a12 a13 a14 → W n b1 b2 b3 b4 b5 b6 b7 b8 b9 b10 b11 b12 b13 b14) → W (n + 1) a1 a2 a3 a4 a5 a6 a7 a8 a9 a10 a11 a12 a13 a14) (a1 : A1) (a2 : A2) (a3 : A3) (a4 : A4) (a5 : A5) (a6 : A6) (a7 : A7) (a8 : A8) (a9 : A9) (a10 : A10) (a11 : A11) (a12 : A12) (a13 : A13) (a14 : A14) (h : I a1 a2 a3 a4 a5 a6 a7 a8 a9 a10 a11 a12 a13 a14) : ∃ n, W n a1 a2 a3 a4 a5 a6 a7 a8 a9 a10 a11 a12 a13 a14 :=
  loop_m (σ := A1 × A2 × A3 × A4 × A5 × A6 × A7 × A8 × A9 × A10 × A11 × A12 × A13 × A14) (fun n s => W n s.1 s.2.1 s.2.2.1 s.2.2.2.1 s.2.2.2.2.1 s.2.2.2.2.2.1 s.2.2.2.2.2.2.1 s.2.2.2.2.2.2.2.1 s.2.2.2.2.2.2.2.2.1 s.2.2.2.2.2.2.2.2.2.1 s.2.2.2.2.2.2.2.2.2.2.1 s.2.2.2.2.2.2.2.2.2.2.2.1 s.2.2.2.2.2.2.2.2.2.2.2.2.1 s.2.2.2.2.2.2.2.2.2.2.2.2.2) (fun s => I s.1 s.2.1 s.2.2.1 s.2.2.2.1 s.2.2.2.2.1 s.2.2.2.2.2.1 s.2.2.2.2.2.2.1 s.2.2.2.2.2.2.2.1 s.2.2.2.2.2.2.2.2.1 s.2.2.2.2.2.2.2.2.2.1 s.2.2.2.2.2.2.2.2.2.2.1 s.2.2.2.2.2.2.2.2.2.2.2.1 s.2.2.2.2.2.2.2.2.2.2.2.2.1 s.2.2.2.2.2.2.2.2.2.2.2.2.2) (fun s => μ s.1 s.2.1 s.2.2.1 s.2.2.2.1 s.2.2.2.2.1 s.2.2.2.2.2.1 s.2.2.2.2.2.2.1 s.2.2.2.2.2.2.2.1 s.2.2.2.2.2.2.2.2.1 s.2.2.2.2.2.2.2.2.2.1 s.2.2.2.2.2.2.2.2.2.2.1 s.2.2.2.2.2.2.2.2.2.2.2.1 s.2.2.2.2.2.2.2.2.2.2.2.2.1 s.2.2.2.2.2.2.2.2.2.2.2.2.2) (fun n s hI hk => hs n s.1 s.2.1 s.2.2.1 s.2.2.2.1 s.2.2.2.2.1 s.2.2.2.2.2.1 s.2.2.2.2.2.2.1 s.2.2.2.2.2.2.2.1 s.2.2.2.2.2.2.2.2.1 s.2.2.2.2.2.2.2.2.2.1 s.2.2.2.2.2.2.2.2.2.2.1 s.2.2.2.2.2.2.2.2.2.2.2.1 s.2.2.2.2.2.2.2.2.2.2.2.2.1 s.2.2.2.2.2.2.2.2.2.2.2.2.2 hI (fun b1 b2 b3 b4 b5 b6 b7 b8 b9 b10 b11 b12 b13 b14 h9 hm => hk (b1, b2, b3, b4, b5, b6, b7, b8, b9, b10, b11, b12, b13, b14) h9 hm)) (a1, a2, a3, a4, a5, a6, a7, a8, a9, a10, a11, a12, a13, a14) h
theorem lp15 {A1 A2 A3 A4 A5 A6 A7 A8 A9 A10 A11 A12 A13 A14 A15 : Type} (W : Nat → A1 → A2 → A3 → A4 → A5 → A6 → A7 → A8 → A9 → A10 → A11 → A12 → A13 → A14 → A15 → Prop) (I : A1 → A2 → A3 → A4 → A5 → A6 → A7 → A8 → A9 → A10 → A11 → A12 → A13 → A14 → A15 → Prop) (μ : A1 → A2 → A3 → A4 → A5 → A6 → A7 → A8 → A9 → A10 → A11 → A12 → A13 → A14 → A15 → Nat) (hs : ∀ (n : Nat) (a1 : A1) (a2 : A2) (a3 : A3) (a4 : A4) (a5 : A5) (a6 : A6) (a7 : A7) (a8 : A8) (a9 : A9) (a10 : A10) (a11 : A11) (a12 : A12) (a13 : A13) (a14 : A14) (a15 : A15), I a1 a2 a3 a4 a5 a6 a7 a8 a9 a10 a11 a12 a13 a14 a15 → (∀ (b1 : A1) (b2 : A2) (b3 : A3) (b4 : A4) (b5 : A5) (b6 : A6) (b7 : A7) (b8 : A8) (b9 : A9) (b10 : A10) (b11 : A11) (b12 : A12) (b13 : A13) (b14 : A14) (b15 : A15), I b1 b2 b3 b4 b5 b6 b7 b8 b9 b10 b11 b12 b13 b14 b15 → μ b1 b2 b3 b4 b5 b6 b7 b8 b9 b10 b11 b12 b13 b14 b15 < μ a1 a2 a3 a4 a5 a6 a7 a8 a9 a10 a11 a12 a13 a14 a15 → W n b1 b2 b3 b4 b5 b6 b7 b8 b9 b10 b11 b12 b13 b14 b15) → W (n + 1) a1 a2 a3 a4 a5 a6 a7 a8 a9 a10 a11 a12 a13 a14 a15) (a1 : A1) (a2 : A2) (a3 : A3) (a4 : A4) (a5 : A5) (a6 : A6) (a7 : A7) (a8 : A8) (a9 : A9) (a10 : A10) (a11 : A11) (a12 : A12) (a13 : A13) (a14 : A14) (a15 : A15) (h : I a1 a2 a3 a4 a5 a6 a7 a8 a9 a10 a11 a12 a13 a14 a15) : ∃ n, W n a1 a2 a3 a4 a5 a6 a7 a8 a9 a10 a11 a12 a13 a14 a15 :=
  loop_m (σ := A1 × A2 × A3 × A4 × A5 × A6 × A7 × A8 × A9 × A10 × A11 × A12 × A13 × A14 × A15) (fun n s => W n s.1 s.2.1 s.2.2.1 s.2.2.2.1 s.2.2.2.2.1 s.2.2.2.2.2.1 s.2.2.2.2.2.2.1 s.2.2.2.2.2.2.2.1 s.2.2.2.2.2.2.2.2.1 s.2.2.2.2.2.2.2.2.2.1 s.2.2.2.2.2.2.2.2.2.2.1 s.2.2.2.2.2.2.2.2.2.2.2.1 s.2.2.2.2.2.2.2.2.2.2.2.2.1 s.2.2.2.2.2.2.2.2.2.2.2.2.2.1 s.2.2.2.2.2.2.2.2.2.2.2.2.2.2) (fun s => I s.1 s.2.1 s.2.2.1 s.2.2.2.1 s.2.2.2.2.1 s.2.2.2.2.2.1 s.2.2.2.2.2.2.1 s.2.2.2.2.2.2.2.1 s.2.2.2.2.2.2.2.2.1 s.2.2.2.2.2.2.2.2.2.1 s.2.2.2.2.2.2.2.2.2.2.1 s.2.2.2.2.2.2.2.2.2.2.2.1 s.2.2.2.2.2.2.2.2.2.2.2.2.1 s.2.2.2.2.2.2.2.2.2.2.2.2.2.1 s.2.2.2.2.2.2.2.2.2.2.2.2.2.2) (fun s => μ s.1 s.2.1 s.2.2.1 s.2.2.2.1 s.2.2.2.2.1 s.2.2.2.2.2.1 s.2.2.2.2.2.2.1 s.2.2.2.2.2.2.2.1 s.2.2.2.2.2.2.2.2.1 s.2.2.2.2.2.2.2.2.2.1 s.2.2.2.2.2.2.2.2.2.2.1 s.2.2.2.2.2.2.2.2.2.2.2.1 s.2.2.2.2.2.2.2.2.2.2.2.2.1 s.2.2.2.2.2.2.2.2.2.2.2.2.2.1 s.2.2.2.2.2.2.2.2.2.2.2.2.2.2) (fun n s hI hk => hs n s.1 s.2.1 s.2.2.1 s.2.2.2.1 s.2.2.2.2.1 s.2.2.2.2.2.1 s.2.2.2.2.2.2.1 s.2.2.2.2.2.2.2.1 s.2.2.2.2.2.2.2.2.1 s.2.2.2.2.2.2.2.2.2.1 s.2.2.2.2.2.2.2.2.2.2.1 s.2.2.2.2.2.2.2.2.2.2.2.1 s.2.2.2.2.2.2.2.2.2.2.2.2.1 s.2.2.2.2.2.2.2.2.2.2.2.2.2.1 s.2.2.2.2.2.2.2.2.2.2.2.2.2.2 hI (fun b1 b2 b3 b4 b5 b6 b7 b8 b9 b10 b11 b12 b13 b14 b15 h9 hm => hk (b1, b2, b3, b4, b5, b6, b7, b8, b9, b10, b11, b12, b13, b14, b15) h9 hm)) (a1, a2, a3, a4, a5, a6, a7, a8, a9, a10, a11, a12, a13, a14, a15) h
theorem lp16 {A1 A2 A3 A4 A5 A6 A7 A8 A9 A10 A11 A12 A13 A14 A15 A16 : Type} (W : Nat → A1 → A2 → A3 → A4 → A5 → A6 → A7 → A8 → A9 → A10 → A11 → A12 → A13 → A14 → A15 → A16 → Prop) (I : A1 → A2 → A3 → A4 → A5 → A6 → A7 → A8 → A9 → A10 → A11 → A12 → A13 → A14 → A15 → A16 → Prop) (μ : A1 → A2 → A3 → A4 → A5 → A6 → A7 → A8 → A9 → A10 → A11 → A12 → A13 → A14 → A15 → A16 → Nat) (hs : ∀ (n : Nat) (a1 : A1) (a2 : A2) (a3 : A3) (a4 : A4) (a5 : A5) (a6 : A6) (a7 : A7) (a8 : A8) (a9 : A9) (a10 : A10) (a11 : A11) (a12 : A12) (a13 : A13) (a14 : A14) (a15 : A15) (a16 : A16), I a1 a2 a3 a4 a5 a6 a7 a8 a9 a10 a11 a12 a13 a14 a15 a16 → (∀ (b1 : A1) (b2 : A2) (b3 : A3) (b4 : A4) (b5 : A5) (b6 : A6) (b7 : A7) (b8 : A8) (b9 : A9) (b10 : A10) (b11 : A11) (b12 : A12) (b13 : A13) (b14 : A14) (b15 : A15) (b16 : A16), I b1 b2 b3 b4 b5 b6 b7 b8 b9 b10 b11 b12 b13 b14 b15 b16 → μ b1 b2 b3 b4 b5 b6 b7 b8 b9 b10 b11 b12 b13 b14 b15 b16 < μ a1 a2 a3 a4 a5 a6 a7 a8 a9 a10 a11 a12 a13 a14 a15 a16 → W n b1 b2 b3 b4 b5 b6 b7 b8 b9 b10 b11 b12 b13 b14 b15 b16) → W (n + 1) a1 a2 a3 a4 a5 a6 a7 a8 a9 a10 a11 a12 a13 a14 a15 a16) (a1 : A1) (a2 : A2) (a3 : A3) (a4 : A4) (a5 : A5) (a6 : A6) (a7 : A7) (a8 : A8) (a9 : A9) (a10 : A10) (a11 : A11) (a12 : A12) (a13 : A13) (a14 : A14) (a15 : A15) (a16 : A16) (h : I a1 a2 a3 a4 a5 a6 a7 a8 a9 a10 a11 a12 a13 a14 a15 a16) : ∃ n, W n a1 a2 a3 a4 a5 a6 a7 a8 a9 a10 a11 a12 a13 a14 a15 a16 :=
  loop_m (σ := A1 × A2 × A3 × A4 × A5 × A6 × A7 × A8 × A9 × A10 × A11 × A12 × A13 × A14 × A15 × A16) (fun n s => W n s.1 s.2.1 s.2.2.1 s.2.2.2.1 s.2.2.2.2.1 s.2.2.2.2.2.1 s.2.2.2.2.2.2.1 s.2.2.2.2.2.2.2.1 s.2.2.2.2.2.2.2.2.1 s.2.2.2.2.2.2.2.2.2.1 s.2.2.2.2.2.2.2.2.2.2.1 s.2.2.2.2.2.2.2.2.2.2.2.1 s.2.2.2.2.2.2.2.2.2.2.2.2.1 s.2.2.2.2.2.2.2.2.2.2.2.2.2.1 s.2.2.2.2.2.2.2.2.2.2.2.2.2.2.1 s.2.2.2.2.2.2.2.2.2.2.2.2.2.2.2) (fun s => I s.1 s.2.1 s.2.2.1 s.2.2.2.1 s.2.2.2.2.1 s.2.2.2.2.2.1 s.2.2.2.2.2.2.1 s.2.2.2.2.2.2.2.1 s.2.2.2.2.2.2.2.2.1 s.2.2.2.2.2.2.2.2.2.1 s.2.2.2.2.2.2.2.2.2.2.1 s.2.2.2.2.2.2.2.2.2.2.2.1 s.2.2.2.2.2.2.2.2.2.2.2.2.1 s.2.2.2.2.2.2.2.2.2.2.2.2.2.1 s.2.2.2.2.2.2.2.2.2.2.2.2.2.2.1 s.2.2.2.2.2.2.2.2.2.2.2.2.2.2.2) (fun s => μ s.1 s.2.1 s.2.2.1 s.2.2.2.1 s.2.2.2.2.1 s.2.2.2.2.2.1 s.2.2.2.2.2.2.1 s.2.2.2.2.2.2.2.1 s.2.2.2.2.2.2.2.2.1 s.2.2.2.2.2.2.2.2.2.1 s.2.2.2.2.2.2.2.2.2.2.1 s.2.2.2.2.2.2.2.2.2.2.2.1 s.2.2.2.2.2.2.2.2.2.2.2.2.1 s.2.2.2.2.2.2.2.2.2.2.2.2.2.1 s.2.2.2.2.2.2.2.2.2.2.2.2.2.2.1 s.2.2.2.2.2.2.2.2.2.2.2.2.2.2.2) (fun n s hI hk => hs n s.1 s.2.1 s.2.2.1 s.2.2.2.1 s.2.2.2.2.1 s.2.2.2.2.2.1 s.2.2.2.2.2.2.1 s.2.2.2.2.2.2.2.1 s.2.2.2.2.2.2.2.2.1 s.2.2.2.2.2.2.2.2.2.1 s.2.2.2.2.2.2.2.2.2.2.1 s.2.2.2.2.2.2.2.2.2.2.2.1 s.2.2.2.2.2.2.2.2.2.2.2.2.1 s.2.2.2.2.2.2.2.2.2.2.2.2.2.1 s.2.2.2.2.2.2.2.2.2.2.2.2.2.2.1 s.2.2.2.2.2.2.2.2.2.2.2.2.2.2.2 hI (fun b1 b2 b3 b4 b5 b6 b7 b8 b9 b10 b11 b12 b13 b14 b15 b16 h9 hm => hk (b1, b2, b3, b4, b5, b6, b7, b8, b9, b10, b11, b12, b13, b14, b15, b16) h9 hm)) (a1, a2, a3, a4, a5, a6, a7, a8, a9, a10, a11, a12, a13, a14, a15, a16) h
theorem pk_least (P : Nat → Prop) (h : ∃ k, P k) : ∃ k, P k ∧ ∀ j, j < k → ¬ P j := by
  obtain ⟨k, hk⟩ := h
  induction k using Nat.strongRecOn with
  | ind k ih =>
    by_cases e : ∃ j, j < k ∧ P j
    · obtain ⟨j, hj, pj⟩ := e
      exact ih j hj pj
    · exact ⟨k, hk, fun j hj pj => e ⟨j, hj, pj⟩⟩
theorem rp1 {ρ A1 : Type} (W : Nat → (ρ → Prop) → A1 → Prop) (ok : A1 → Prop) (μ : A1 → Nat) (val : A1 → ρ)
    (hs : ∀ (d : Nat) (post : ρ → Prop) (a1 : A1), ok a1 → post (val a1) → (∀ (post' : ρ → Prop) (b1 : A1), ok b1 → μ b1 < μ a1 → post' (val b1) → W d post' b1) → W (d + 1) post a1) :
    ∀ (d : Nat) (post : ρ → Prop) (a1 : A1), ok a1 → μ a1 < d → post (val a1) → W d post a1 := by
  intro d
  induction d with
  | zero => intro post a1 _ h; omega
  | succ d ih =>
    intro post a1 ho hm hp
    exact hs d post a1 ho hp (fun post' b1 ho' hm' hp' => ih post' b1 ho' (by omega) hp')
theorem rp2 {ρ A1 A2 : Type} (W : Nat → (ρ → Prop) → A1 → A2 → Prop) (ok : A1 → A2 → Prop) (μ : A1 → A2 → Nat) (val : A1 → A2 → ρ)
    (hs : ∀ (d : Nat) (post : ρ → Prop) (a1 : A1) (a2 : A2), ok a1 a2 → post (val a1 a2) → (∀ (post' : ρ → Prop) (b1 : A1) (b2 : A2), ok b1 b2 → μ b1 b2 < μ a1 a2 → post' (val b1 b2) → W d post' b1 b2) → W (d + 1) post a1 a2) :
    ∀ (d : Nat) (post : ρ → Prop) (a1 : A1) (a2 : A2), ok a1 a2 → μ a1 a2 < d → post (val a1 a2) → W d post a1 a2 := by
  intro d
  induction d with
  | zero => intro post a1 a2 _ h; omega
  | succ d ih =>
    intro post a1 a2 ho hm hp
    exact hs d post a1 a2 ho hp (fun post' b1 b2 ho' hm' hp' => ih post' b1 b2 ho' (by omega) hp')
theorem rp3 {ρ A1 A2 A3 : Type} (W : Nat → (ρ → Prop) → A1 → A2 → A3 → Prop) (ok : A1 → A2 → A3 → Prop) (μ : A1 → A2 → A3 → Nat) (val : A1 → A2 → A3 → ρ)
    (hs : ∀ (d : Nat) (post : ρ → Prop) (a1 : A1) (a2 : A2) (a3 : A3), ok a1 a2 a3 → post (val a1 a2 a3) → (∀ (post' : ρ → Prop) (b1 : A1) (b2 : A2) (b3 : A3), ok b1 b2 b3 → μ b1 b2 b3 < μ a1 a2 a3 → post' (val b1 b2 b3) → W d post' b1 b2 b3) → W (d + 1) post a1 a2 a3) :
    ∀ (d : Nat) (post : ρ → Prop) (a1 : A1) (a2 : A2) (a3 : A3), ok a1 a2 a3 → μ a1 a2 a3 < d → post (val a1 a2 a3) → W d post a1 a2 a3 := by
  intro d
  induction d with
  | zero => intro post a1 a2 a3 _ h; omega
  | succ d ih =>
    intro post a1 a2 a3 ho hm hp
    exact hs d post a1 a2 a3 ho hp (fun post' b1 b2 b3 ho' hm' hp' => ih post' b1 b2 b3 ho' (by omega) hp')
theorem rp4 {ρ A1 A2 A3 A4 : Type} (W : Nat → (ρ → Prop) → A1 → A2 → A3 → A4 → Prop) (ok : A1 → A2 → A3 → A4 → Prop) (μ : A1 → A2 → A3 → A4 → Nat) (val : A1 → A2 → A3 → A4 → ρ)
    (hs : ∀ (d : Nat) (post : ρ → Prop) (a1 : A1) (a2 : A2) (a3 : A3) (a4 : A4), ok a1 a2 a3 a4 → post (val a1 a2 a3 a4) → (∀ (post' : ρ → Prop) (b1 : A1) (b2 : A2) (b3 : A3) (b4 : A4), ok b1 b2 b3 b4 → μ b1 b2 b3 b4 < μ a1 a2 a3 a4 → post' (val b1 b2 b3 b4) → W d post' b1 b2 b3 b4) → W (d + 1) post a1 a2 a3 a4) :
    ∀ (d : Nat) (post : ρ → Prop) (a1 : A1) (a2 : A2) (a3 : A3) (a4 : A4), ok a1 a2 a3 a4 → μ a1 a2 a3 a4 < d → post (val a1 a2 a3 a4) → W d post a1 a2 a3 a4 := by
  intro d
  induction d with
  | zero => intro post a1 a2 a3 a4 _ h; omega
  | succ d ih =>
    intro post a1 a2 a3 a4 ho hm hp
    exact hs d post a1 a2 a3 a4 ho hp (fun post' b1 b2 b3 b4 ho' hm' hp' => ih post' b1 b2 b3 b4 ho' (by omega) hp')
theorem rp5 {ρ A1 A2 A3 A4 A5 : Type} (W : Nat → (ρ → Prop) → A1 → A2 → A3 → A4 → A5 → Prop) (ok : A1 → A2 → A3 → A4 → A5 → Prop) (μ : A1 → A2 → A3 → A4 → A5 → Nat) (val : A1 → A2 → A3 → A4 → A5 → ρ)
    (hs : ∀ (d : Nat) (post : ρ → Prop) (a1 : A1) (a2 : A2) (a3 : A3) (a4 : A4) (a5 : A5), ok a1 a2 a3 a4 a5 → post (val a1 a2 a3 a4 a5) → (∀ (post' : ρ → Prop) (b1 : A1) (b2 : A2) (b3 : A3) (b4 : A4) (b5 : A5), ok b1 b2 b3 b4 b5 → μ b1 b2 b3 b4 b5 < μ a1 a2 a3 a4 a5 → post' (val b1 b2 b3 b4 b5) → W d post' b1 b2 b3 b4 b5) → W (d + 1) post a1 a2 a3 a4 a5) :
    ∀ (d : Nat) (post : ρ → Prop) (a1 : A1) (a2 : A2) (a3 : A3) (a4 : A4) (a5 : A5), ok a1 a2 a3 a4 a5 → μ a1 a2 a3 a4 a5 < d → post (val a1 a2 a3 a4 a5) → W d post a1 a2 a3 a4 a5 := by
  intro d
  induction d with
  | zero => intro post a1 a2 a3 a4 a5 _ h; omega
  | succ d ih =>
    intro post a1 a2 a3 a4 a5 ho hm hp
    exact hs d post a1 a2 a3 a4 a5 ho hp (fun post' b1 b2 b3 b4 b5 ho' hm' hp' => ih post' b1 b2 b3 b4 b5 ho' (by omega) hp')
theorem rp6 {ρ A1 A2 A3 A4 A5 A6 : Type} (W : Nat → (ρ → Prop) → A1 → A2 → A3 → A4 → A5 → A6 → Prop) (ok : A1 → A2 → A3 → A4 → A5 → A6 → Prop) (μ : A1 → A2 → A3 → A4 → A5 → A6 → Nat) (val : A1 → A2 → A3 → A4 → A5 → A6 → ρ)
    (hs : ∀ (d : Nat) (post : ρ → Prop) (a1 : A1) (a2 : A2) (a3 : A3) (a4 : A4) (a5 : A5) (a6 : A6), ok a1 a2 a3 a4 a5 a6 → post (val a1 a2 a3 a4 a5 a6) → (∀ (post' : ρ → Prop) (b1 : A1) (b2 : A2) (b3 : A3) (b4 : A4) (b5 : A5) (b6 : A6), ok b1 b2 b3 b4 b5 b6 → μ b1 b2 b3 b4 b5 b6 < μ a1 a2 a3 a4 a5 a6 → post' (val b1 b2 b3 b4 b5 b6) → W d post' b1 b2 b3 b4 b5 b6) → W (d + 1) post a1 a2 a3 a4 a5 a6) :
    ∀ (d : Nat) (post : ρ → Prop) (a1 : A1) (a2 : A2) (a3 : A3) (a4 : A4) (a5 : A5) (a6 : A6), ok a1 a2 a3 a4 a5 a6 → μ a1 a2 a3 a4 a5 a6 < d → post (val a1 a2 a3 a4 a5 a6) → W d post a1 a2 a3 a4 a5 a6 := by
  intro d
  induction d with
  | zero => intro post a1 a2 a3 a4 a5 a6 _ h; omega
  | succ d ih =>
    intro post a1 a2 a3 a4 a5 a6 ho hm hp
    exact hs d post a1 a2 a3 a4 a5 a6 ho hp (fun post' b1 b2 b3 b4 b5 b6 ho' hm' hp' => ih post' b1 b2 b3 b4 b5 b6 ho' (by omega) hp')
theorem rec_p {σ ρ : Type} (W : Nat → (ρ → Prop) → σ → Prop) (ok : σ → Prop) (μ : σ → Nat) (val : σ → ρ)
    (hs : ∀ d s post, ok s → post (val s) → (∀ s' post', ok s' → μ s' < μ s → post' (val s') → W d post' s') → W (d + 1) post s) :
    ∀ d s post, ok s → μ s < d → post (val s) → W d post s := by
  intro d
  induction d with
  | zero => intro s post _ h; omega
  | succ d ih =>
    intro s post ho hm hp
    exact hs d s post ho hp (fun s' post' ho' hm' hp' => ih s' post' ho' (by omega) hp')
theorem rec_q {σ ρ : Type} (W : Nat → (ρ → Prop) → σ → Prop) (ok : σ → Prop) (μ : σ → Nat) (Q : σ → ρ → Prop)
    (hs : ∀ d s post, ok s → (∀ r, Q s r → post r) → (∀ s' post', ok s' → μ s' < μ s → (∀ r, Q s' r → post' r) → W d post' s') → W (d + 1) post s) :
    ∀ d s post, ok s → μ s < d → (∀ r, Q s r → post r) → W d post s := by
  intro d
  induction d with
  | zero => intro s post _ h; omega
  | succ d ih =>
    intro s post ho hm hp
    exact hs d s post ho hp (fun s' post' ho' hm' hp' => ih s' post' ho' (by omega) hp')
def bx_sum (f : Nat → Int32) : Nat → Int32
  | 0 => 0
  | n + 1 => bx_sum f n + f n
theorem ek_u {A : Prop} {B : Nat → Prop} {k N : Nat} (hk : k < N) (h : B k) : (some k = none → A) ∧ (∀ y : Nat, some k = some y → (y < N ∧ B y)) :=
  ⟨fun z => absurd z (Option.some_ne_none k), fun _ e => (by cases e; exact ⟨hk, h⟩)⟩
theorem ek_nu {A : Prop} {B : Nat → Prop} (h : A) : ((none : Option Nat) = none → A) ∧ (∀ y : Nat, (none : Option Nat) = some y → B y) :=
  ⟨fun _ => h, fun _ e => (by cases e)⟩
theorem ek_if {c d A B : Prop} (e : c ↔ d) (f : d → A) (g : ¬ d → B) : (c → A) ∧ (¬ c → B) :=
  ⟨fun z => f (e.mp z), fun z => g (fun y => z (e.mpr y))⟩
theorem ek_v {α : Sort _} {P : α → Prop} {a b : α} (e : a = b) (h : P b) : P a := e ▸ h
theorem co_some {x : Option Nat} {A : Prop} {B : Nat → Prop} (i : Nat) (h : B i) (hx : x = some i := by rfl) : (x = none → A) ∧ (∀ y : Nat, x = some y → B y) := by
  subst hx
  exact ⟨fun e => (nomatch e), fun y e => Option.some.inj e ▸ h⟩
theorem co_none {x : Option Nat} {A : Prop} {B : Nat → Prop} (h : A) (hx : x = none := by rfl) : (x = none → A) ∧ (∀ y : Nat, x = some y → B y) := by
  subst hx
  exact ⟨fun _ => h, fun y e => (nomatch e)⟩
theorem co_any {x : Option Nat} {A : Prop} {B : Nat → Prop} (hn : x = none → A) (hs : ∀ i : Nat, x = some i → B i) : (x = none → A) ∧ (∀ y : Nat, x = some y → B y) := ⟨hn, hs⟩
theorem co_2 {P : Nat → Prop} (h0 : P 0) (h1 : P 1) {i : Nat} (hi : i < 2) : P i :=
  match i, hi with
  | 0, _ => h0
  | 1, _ => h1
theorem co_3 {P : Nat → Prop} (h0 : P 0) (h1 : P 1) (h2 : P 2) {i : Nat} (hi : i < 3) : P i :=
  match i, hi with
  | 0, _ => h0
  | 1, _ => h1
  | 2, _ => h2
theorem co_4 {P : Nat → Prop} (h0 : P 0) (h1 : P 1) (h2 : P 2) (h3 : P 3) {i : Nat} (hi : i < 4) : P i :=
  match i, hi with
  | 0, _ => h0
  | 1, _ => h1
  | 2, _ => h2
  | 3, _ => h3
theorem co_dec {N : Nat} {P : Nat → Prop} [DecidablePred P] (h : (List.range N).all (fun i => decide (P i)) = true) {i : Nat} (hi : i < N) : P i := by
  have := List.all_eq_true.mp h i (List.mem_range.mpr hi)
  exact of_decide_eq_true this
theorem co_tab {α : Type} {l : List α} {d : α} {P : α → Prop} (h : ∀ a, a ∈ l → P a) {i : Nat} (hi : i < l.length) : P (l.getD i d) := by
  rw [List.getD_eq_getElem?_getD, List.getElem?_eq_getElem hi]
  exact h _ (List.getElem_mem hi)
theorem pk_mu {x : Int32} {L : Nat} (h0 : ¬ x < 0) (h : ¬ nI L ≤ x) (hL : L < 2 ^ 31) : ∃ j : Nat, j < L ∧ x = nI j ∧ x + 1 = nI (j + 1) ∧ x.toNatClampNeg = j ∧ L - (x + 1).toNatClampNeg < L - x.toNatClampNeg := by
  obtain ⟨j, hj, rfl⟩ := nI_of h0
  have hl : j < L := Nat.not_le.mp fun q => h (nI_le q hj)
  refine ⟨j, hl, rfl, nI_1 j, nI_clamp hj, ?_⟩
  rw [nI_1, nI_clamp (by omega), nI_clamp hj]
  omega
theorem op_s {α : Type} {r : Option α} {A : Prop} {B : α → Prop} {y : α} (h : r = some y) (b : B y) : (r = none → A) ∧ ∀ z, r = some z → B z :=
  ⟨fun e => (by rw [h] at e; cases e), fun z e => (by rw [h] at e; cases e; exact b)⟩
def l_holds {α : Type} (a : Nat → Option Nat) (LP : List Nat) (p : Nat → α) (c : Nat) (b : Nat → α) : Prop :=
  ∀ j, j < c → ∃ y, a j = some y ∧ y ∈ LP ∧ p y = b j
theorem l_holds_0 {α : Type} {a : Nat → Option Nat} {LP : List Nat} {p b : Nat → α} : l_holds a LP p 0 b := fun j h => absurd h (Nat.not_lt_zero j)
theorem l_in_new (LP : List Nat) (q : Nat) : q ∈ LP ++ [q] := List.mem_append.mpr (Or.inr (List.mem_singleton.mpr rfl))
def l_sum (b : Nat → Int32) : Nat → Int32
  | 0 => 0
  | k + 1 => l_sum b k + b k
theorem sb_shr0 (x : Int32) : x >>> ((0 : Int32) &&& 31) = x := by
  rw [show ((0 : Int32) &&& 31) = 0 by decide]
  simp
theorem sb_shl0 (x : Int32) : x <<< ((0 : Int32) &&& 31) = x := by
  rw [show ((0 : Int32) &&& 31) = 0 by decide]
  simp
theorem sb_cl0 : (0 : Int32).toNatClampNeg = 0 := by decide
theorem sb_m1 {p : Nat} (h : 0 < p) : nI p + (-1) = nI (p - 1) := by
  obtain ⟨q, rfl⟩ : ∃ q, p = q + 1 := ⟨p - 1, by omega⟩
  exact pk_m1 q
def sb_b (c : Nat) : Int32 := (nI c).toInt8.toInt32
theorem sb_byte : ∀ c, c < 256 → sb_b c &&& 255 = nI c ∧ ((nI c).toUInt32 % 65536).toInt32 = nI c ∧ nI c ≤ 255 := by decide +kernel
def sb_Fit (a : Nat → Int32) : Prop := ∀ j, fits .byte (.int (a j)) = true
def sb_Lat (t : Nat → Nat) (n : Nat) (a : Nat → Int32) : Prop := ∀ j, j < n → t j < 256 ∧ a j = sb_b (t j)
theorem sb_fitB (c : Nat) : fits .byte (.int (sb_b c)) = true := pk_fb _
theorem sb_fit0 : sb_Fit (fun _ => 0) := fun _ => by
  show fits .byte (.int 0) = true
  decide
theorem sb_fitU {a : Nat → Int32} {k : Nat} {x : Int32} (h : sb_Fit a) (hx : fits .byte (.int x) = true) : sb_Fit (upd a k x) := by
  intro j
  by_cases e : j = k
  · subst e
    rw [pk_us]
    exact hx
  · rw [pk_un e]
    exact h j
def sb_cat (t : Nat → Nat) (n : Nat) (s : Nat → Nat) : Nat → Nat := fun j => if j < n then t j else s (j - n)
theorem sb_cat_lo {t s : Nat → Nat} {n j : Nat} (h : j < n) : sb_cat t n s j = t j := if_pos h
theorem sb_cat_hi {t s : Nat → Nat} {n j : Nat} : sb_cat t n s (n + j) = s j := by
  show (if n + j < n then t (n + j) else s (n + j - n)) = s j
  rw [if_neg (by omega), Nat.add_sub_cancel_left]
theorem sb_latPut {t s : Nat → Nat} {n w : Nat} {a a' : Nat → Int32} (h : sb_Lat t n a) (hk : ∀ j, j < n → a' j = a j) (hs : ∀ i, i < w → s i < 256 ∧ a' (n + i) = sb_b (s i)) : sb_Lat (sb_cat t n s) (n + w) a' := by
  intro j hj
  by_cases e : j < n
  · rw [sb_cat_lo e, hk j e]
    exact h j e
  · obtain ⟨i, rfl⟩ : ∃ i, j = n + i := ⟨j - n, by omega⟩
    rw [sb_cat_hi]
    exact hs i (by omega)
theorem sb_latKeep {t : Nat → Nat} {n : Nat} {a a' : Nat → Int32} (h : sb_Lat t n a) (hk : ∀ j, j < n → a' j = a j) : sb_Lat t n a' := fun j hj => by
  rw [hk j hj]
  exact h j hj
def sb_cap (q m : Nat) : Nat := if q ≤ m then m else if 2 * m + 2 < q then q else 2 * m + 2
def sb_Room (q m mc ms : Nat) : Prop := q ≤ m ∨ (1 ≤ mc ∧ sb_cap q m ≤ ms ∧ sb_cap q m ≤ 65536)
theorem sb_cap_ge (q m : Nat) : q ≤ sb_cap q m := by
  unfold sb_cap
  split
  · omega
  · split <;> omega
theorem sb_cap_gem (q m : Nat) : m ≤ sb_cap q m := by
  unfold sb_cap
  split
  · omega
  · split <;> omega
theorem sb_cap_le {q m mc ms : Nat} (hm : m ≤ 65536) (hr : sb_Room q m mc ms) : sb_cap q m ≤ 65536 := by
  rcases hr with h | h
  · rw [sb_cap, if_pos h]
    exact hm
  · exact h.2.2
theorem sb_at {P : Int32 → Prop} {x y : Int32} (e : x = y) (h : P y) : P x := e ▸ h
def sb_dg (w : Nat) : Nat := if w < 10 then 1 else if w < 100 then 2 else if w < 1000 then 3 else if w < 10000 then 4 else if w < 100000 then 5 else if w < 1000000 then 6 else if w < 10000000 then 7 else if w < 100000000 then 8 else if w < 1000000000 then 9 else 10
def sb_dec (v : Nat) : Nat → Nat := fun i => 48 + v / 10 ^ (sb_dg v - 1 - i) % 10
theorem sb_dg_in (w : Nat) : 1 ≤ sb_dg w ∧ sb_dg w ≤ 10 := by
  unfold sb_dg
  constructor <;> (repeat' split) <;> omega
theorem sb_dg100 {w : Nat} (h : 100 ≤ w) (hw : w < 2 ^ 31) : sb_dg w = sb_dg (w / 100) + 2 := by
  rw [sb_dg, sb_dg, if_neg (show ¬ w < 10 by omega), if_neg (show ¬ w < 100 by omega)]
  by_cases h3 : w < 1000
  · rw [if_pos h3, if_pos (show w / 100 < 10 by omega)]
  rw [if_neg h3, if_neg (show ¬ w / 100 < 10 by omega)]
  by_cases h4 : w < 10000
  · rw [if_pos h4, if_pos (show w / 100 < 100 by omega)]
  rw [if_neg h4, if_neg (show ¬ w / 100 < 100 by omega)]
  by_cases h5 : w < 100000
  · rw [if_pos h5, if_pos (show w / 100 < 1000 by omega)]
  rw [if_neg h5, if_neg (show ¬ w / 100 < 1000 by omega)]
  by_cases h6 : w < 1000000
  · rw [if_pos h6, if_pos (show w / 100 < 10000 by omega)]
  rw [if_neg h6, if_neg (show ¬ w / 100 < 10000 by omega)]
  by_cases h7 : w < 10000000
  · rw [if_pos h7, if_pos (show w / 100 < 100000 by omega)]
  rw [if_neg h7, if_neg (show ¬ w / 100 < 100000 by omega)]
  by_cases h8 : w < 100000000
  · rw [if_pos h8, if_pos (show w / 100 < 1000000 by omega)]
  rw [if_neg h8, if_neg (show ¬ w / 100 < 1000000 by omega)]
  by_cases h9 : w < 1000000000
  · rw [if_pos h9, if_pos (show w / 100 < 10000000 by omega)]
  rw [if_neg h9, if_neg (show ¬ w / 100 < 10000000 by omega)]
  rw [if_pos (show w / 100 < 100000000 by omega)]
theorem sb_negT {w : Nat} (h : w < 2 ^ 31) : (-nI w).toInt = -(w : Int) := by
  rw [Int32.toInt_neg, nI_toInt h]
  exact Int.bmod_eq_of_le (by omega) (by omega)
theorem sb_nle {a b : Nat} (ha : a < 2 ^ 31) (hb : b < 2 ^ 31) : -nI a ≤ -nI b ↔ b ≤ a := by
  rw [Int32.le_iff_toInt_le, sb_negT ha, sb_negT hb]
  omega
theorem sb_nlt {a b : Nat} (ha : a < 2 ^ 31) (hb : b < 2 ^ 31) : -nI a < -nI b ↔ b < a := by
  rw [Int32.lt_iff_toInt_lt, sb_negT ha, sb_negT hb]
  omega
theorem sb_cmp {A B : Prop} {x : Int32} (v c : Nat) (f : c ≤ v → A) (g : v < c → B) (hv : v < 2 ^ 31) (hx : x = -nI c := by rfl) (hc : c < 2 ^ 31 := by omega) : (-nI v ≤ x → A) ∧ (¬ -nI v ≤ x → B) := by
  subst hx
  rw [sb_nle hv hc]
  exact ⟨f, fun z => g (by omega)⟩
theorem sb_ndiv {w : Nat} (hw : w < 2 ^ 31) : (-nI w) / 100 = -nI (w / 100) := by
  apply Int32.toInt_inj.mp
  have h100 : (100 : Int32).toInt = 100 := by decide
  rw [Int32.toInt_div, sb_negT hw, h100, sb_negT (by omega), Int.neg_tdiv, Int.tdiv_eq_ediv_of_nonneg (by omega), Int.bmod_eq_of_le (by omega) (by omega)]
  omega
theorem sb_nrem {w : Nat} (hw : w < 2 ^ 31) : (-nI (w / 100)) * 100 - (-nI w) = nI (w % 100) := by
  have h := pk_rem (a := w) (d := 100) hw (by decide) (by decide)
  rw [pk_div hw (by decide) (by decide)] at h
  rw [← h]
  show (-nI (w / 100)) * nI 100 - (-nI w) = nI w - nI (w / 100) * nI 100
  rw [Int32.neg_mul, Int32.sub_neg, Int32.add_comm, ← Int32.sub_eq_add_neg]
end
section
def tb_perms : Nat → List Nat → List (List Nat)
  | 0, _ => [[]]
  | k + 1, s => s.flatMap (fun x => (tb_perms k (s.erase x)).map (fun l => x :: l))
theorem tb_perms_mem : ∀ (k : Nat) (s : List Nat), s.length = k → ∀ l : List Nat, l ∈ tb_perms k s ↔ List.Perm l s
  | 0, s, h, l => by
    have e : s = [] := List.length_eq_zero_iff.mp h
    subst e
    simp [tb_perms]
  | k + 1, s, h, l => by
    simp only [tb_perms, List.mem_flatMap, List.mem_map]
    constructor
    · rintro ⟨x, hx, l', hl', rfl⟩
      have hk : (s.erase x).length = k := by rw [List.length_erase_of_mem hx]; omega
      exact List.cons_perm_iff_perm_erase.mpr ⟨hx, (tb_perms_mem k _ hk l').mp hl'⟩
    · intro hp
      cases l with
      | nil =>
        have h1 := hp.length_eq
        rw [h] at h1
        simp at h1
      | cons x l' =>
        obtain ⟨hx, hp'⟩ := List.cons_perm_iff_perm_erase.mp hp
        have hk : (s.erase x).length = k := by rw [List.length_erase_of_mem hx]; omega
        exact ⟨x, hx, l', (tb_perms_mem k _ hk l').mpr hp', rfl⟩
def tb_fac : Nat → Nat
  | 0 => 1
  | k + 1 => (k + 1) * tb_fac k
theorem tb_fac_pos : ∀ k, 0 < tb_fac k
  | 0 => by decide
  | k + 1 => Nat.mul_pos (Nat.succ_pos k) (tb_fac_pos k)
def tb_nth : Nat → Nat → List Nat → List Nat
  | 0, _, _ => []
  | m + 1, k, s => s.getD (k / tb_fac m) 0 :: tb_nth m (k % tb_fac m) (s.eraseIdx (k / tb_fac m))
theorem tb_fmc {α β : Type} {l : List α} {f g : α → List β} (h : ∀ x, x ∈ l → f x = g x) : l.flatMap f = l.flatMap g := by
  induction l with
  | nil => rfl
  | cons a l ih =>
    rw [List.flatMap_cons, List.flatMap_cons, h a List.mem_cons_self, ih (fun x hx => h x (List.mem_cons_of_mem _ hx))]
theorem tb_rng {β : Type} (f : Nat) (g : Nat → β) : ∀ a : Nat, (List.range (a * f)).map g = (List.range a).flatMap (fun i => (List.range f).map (fun j => g (i * f + j)))
  | 0 => by simp
  | a + 1 => by
    rw [Nat.succ_mul, List.range_add, List.map_append, tb_rng f g a, List.range_succ, List.flatMap_append]
    simp [List.map_map, Function.comp_def]
theorem tb_lst (s : List Nat) : s = (List.range s.length).map (fun i => s.getD i 0) := by
  apply List.ext_getElem
  · simp
  · intro i h1 h2
    simp [List.getD_eq_getElem?_getD, h1]
theorem tb_eidx : ∀ (s : List Nat) (i : Nat), s.Nodup → i < s.length → s.eraseIdx i = s.erase (s.getD i 0)
  | [], i, _, h => by simp at h
  | a :: s, 0, _, _ => by simp
  | a :: s, i + 1, hn, h => by
    have hn' := List.nodup_cons.mp hn
    have hi : i < s.length := by simpa using h
    have hm : s.getD i 0 ∈ s := by
      rw [List.getD_eq_getElem?_getD, List.getElem?_eq_getElem hi]
      exact List.getElem_mem hi
    have hne : ¬ a = s.getD i 0 := fun e => hn'.1 (e ▸ hm)
    rw [List.eraseIdx_cons_succ, List.getD_cons_succ, List.erase_cons_tail (by simpa using hne), tb_eidx s i hn'.2 hi]
theorem tb_nth_perms : ∀ (m : Nat) (s : List Nat), s.length = m → s.Nodup → (List.range (tb_fac m)).map (fun k => tb_nth m k s) = tb_perms m s
  | 0, s, _, _ => by simp [tb_fac, tb_nth, tb_perms, List.range_succ]
  | m + 1, s, h, hn => by
    have hf := tb_fac_pos m
    show (List.range ((m + 1) * tb_fac m)).map _ = s.flatMap _
    rw [tb_rng]
    have e1 : s.flatMap (fun x => (tb_perms m (s.erase x)).map (fun l => x :: l)) = (List.range (m + 1)).flatMap (fun i => (tb_perms m (s.erase (s.getD i 0))).map (fun l => s.getD i 0 :: l)) := by
      have e2 : s.flatMap (fun x => (tb_perms m (s.erase x)).map (fun l => x :: l)) = ((List.range s.length).map (fun i => s.getD i 0)).flatMap (fun x => (tb_perms m (s.erase x)).map (fun l => x :: l)) := congrArg (fun z : List Nat => z.flatMap (fun x => (tb_perms m (s.erase x)).map (fun l => x :: l))) (tb_lst s)
      rw [e2, List.flatMap_map, h]
    rw [e1]
    apply tb_fmc
    intro i hi
    have hi' : i < m + 1 := List.mem_range.mp hi
    have e3 : s.eraseIdx i = s.erase (s.getD i 0) := tb_eidx s i hn (by omega)
    have hl : (s.eraseIdx i).length = m := by rw [List.length_eraseIdx_of_lt (by omega)]; omega
    have hd : (s.eraseIdx i).Nodup := hn.sublist (List.eraseIdx_sublist _ _)
    rw [← e3, ← tb_nth_perms m (s.eraseIdx i) hl hd, List.map_map]
    apply List.map_congr_left
    intro j hj
    have hj' : j < tb_fac m := List.mem_range.mp hj
    have d1 : (i * tb_fac m + j) / tb_fac m = i := by
      rw [Nat.mul_comm, Nat.mul_add_div hf, Nat.div_eq_of_lt hj', Nat.add_zero]
    have d2 : (i * tb_fac m + j) % tb_fac m = j := by
      rw [Nat.mul_comm, Nat.mul_add_mod, Nat.mod_eq_of_lt hj']
    simp only [tb_nth, Function.comp_def, d1, d2]
theorem tb_perms_len {k : Nat} {s : List Nat} (h : s.length = k) {l : List Nat} (hl : l ∈ tb_perms k s) : l.length = k := by
  rw [((tb_perms_mem k s h l).mp hl).length_eq, h]
theorem tb_perms_count {m : Nat} {s : List Nat} (h : s.length = m) (hn : s.Nodup) : (tb_perms m s).length = tb_fac m := by
  rw [← tb_nth_perms m s h hn, List.length_map, List.length_range]
theorem tb_nth_mem {m k : Nat} {s : List Nat} (h : s.length = m) (hn : s.Nodup) (hk : k < tb_fac m) : tb_nth m k s ∈ tb_perms m s := by
  rw [← tb_nth_perms m s h hn]
  exact List.mem_map.mpr ⟨k, List.mem_range.mpr hk, rfl⟩
theorem tb_nth_take {m k : Nat} {s : List Nat} (h : s.length = m) (hn : s.Nodup) (hk : k < tb_fac m) : (tb_perms m s).take (k + 1) = (tb_perms m s).take k ++ [tb_nth m k s] := by
  have hl : k < (tb_perms m s).length := by rw [tb_perms_count h hn]; exact hk
  rw [List.take_succ, List.getElem?_eq_getElem hl]
  have e : (tb_perms m s)[k] = tb_nth m k s := by
    have e2 : (tb_perms m s)[k]? = some (tb_nth m k s) := by
      rw [← tb_nth_perms m s h hn, List.getElem?_map, List.getElem?_range hk]
      rfl
    rw [List.getElem?_eq_getElem hl] at e2
    exact Option.some.inj e2
  rw [e]
  rfl
end
section
def tb_mn : List Int → Int
  | [] => 1000000
  | a :: L => if a < tb_mn L then a else tb_mn L
theorem tb_mn_far : ∀ L : List Int, tb_mn L ≤ 1000000
  | [] => Int.le_refl _
  | a :: L => by
    have := tb_mn_far L
    simp only [tb_mn]
    split <;> omega
theorem tb_mn_le : ∀ {L : List Int} {a : Int}, a ∈ L → tb_mn L ≤ a
  | [], a, h => by simp at h
  | b :: L, a, h => by
    simp only [tb_mn]
    rcases List.mem_cons.mp h with e | e
    · subst e; split <;> omega
    · have := tb_mn_le e
      split <;> omega
theorem tb_mn_mem : ∀ {L : List Int}, tb_mn L < 1000000 → tb_mn L ∈ L
  | [], h => by simp [tb_mn] at h
  | b :: L, h => by
    simp only [tb_mn] at h ⊢
    by_cases c : b < tb_mn L
    · rw [if_pos c]; exact List.mem_cons_self
    · rw [if_neg c] at h ⊢; exact List.mem_cons_of_mem _ (tb_mn_mem h)
theorem tb_mn_eq {L : List Int} {v : Int} (h1 : v ≤ 1000000) (h2 : ∀ a, a ∈ L → v ≤ a) (h3 : v < 1000000 → v ∈ L) : tb_mn L = v := by
  have f := tb_mn_far L
  have ge : v ≤ tb_mn L := by
    by_cases h : tb_mn L < 1000000
    · exact h2 _ (tb_mn_mem h)
    · omega
  have le : tb_mn L ≤ v := by
    by_cases h : v < 1000000
    · exact tb_mn_le (h3 h)
    · omega
  omega
theorem tb_mn_app (A B : List Int) : tb_mn (A ++ B) = if tb_mn B < tb_mn A then tb_mn B else tb_mn A := by
  by_cases h : tb_mn B < tb_mn A
  · rw [if_pos h]
    refine tb_mn_eq (tb_mn_far B) (fun a ha => ?_) (fun z => List.mem_append_right _ (tb_mn_mem z))
    rcases List.mem_append.mp ha with q | q
    · have := tb_mn_le q; omega
    · exact tb_mn_le q
  · rw [if_neg h]
    refine tb_mn_eq (tb_mn_far A) (fun a ha => ?_) (fun z => List.mem_append_left _ (tb_mn_mem z))
    rcases List.mem_append.mp ha with q | q
    · exact tb_mn_le q
    · have := tb_mn_le q; omega
def tb_ct (L : List Int) : Nat := if tb_mn L < 1000000 then L.count (tb_mn L) else 0
theorem tb_ct_app (A B : List Int) : tb_ct (A ++ B) = if tb_mn B < tb_mn A then tb_ct B else if tb_mn B = tb_mn A then tb_ct A + tb_ct B else tb_ct A := by
  have fA := tb_mn_far A
  have fB := tb_mn_far B
  unfold tb_ct
  rw [tb_mn_app]
  by_cases h1 : tb_mn B < tb_mn A
  · have z : List.count (tb_mn B) A = 0 := List.count_eq_zero.mpr (fun h => by have := tb_mn_le h; omega)
    simp only [if_pos h1]
    rw [if_pos (by omega), if_pos (by omega), List.count_append, z, Nat.zero_add]
  · simp only [if_neg h1]
    by_cases h2 : tb_mn B = tb_mn A
    · rw [if_pos h2, h2]
      by_cases h3 : tb_mn A < 1000000
      · rw [if_pos h3, if_pos h3, if_pos h3, List.count_append]
      · rw [if_neg h3, if_neg h3, if_neg h3]
    · rw [if_neg h2, if_pos (by omega), if_pos (by omega)]
      have z : List.count (tb_mn A) B = 0 := List.count_eq_zero.mpr (fun h => by have := tb_mn_le h; omega)
      rw [List.count_append, z, Nat.add_zero]
def tb_sh (a w : Int) : Int := if a < 1000000 ∧ w < 1000000 then a + w else 1000000
def tb_ok (L : List Int) : Prop := ∀ w, w ∈ L → w = 1000000 ∨ (-100000 ≤ w ∧ w ≤ 100000)
theorem tb_ok_mn {L : List Int} (h : tb_ok L) : tb_mn L = 1000000 ∨ (-100000 ≤ tb_mn L ∧ tb_mn L ≤ 100000) := by
  have f := tb_mn_far L
  by_cases c : tb_mn L < 1000000
  · exact h _ (tb_mn_mem c)
  · exact Or.inl (by omega)
theorem tb_sh_far (w : Int) : tb_sh 1000000 w = 1000000 := if_neg (by omega)
theorem tb_sh_far' (a : Int) : tb_sh a 1000000 = 1000000 := if_neg (by omega)
theorem tb_sh_in {a w : Int} (ha : a < 1000000) (hw : w < 1000000) : tb_sh a w = a + w := if_pos ⟨ha, hw⟩
theorem tb_mn_sh {a : Int} {L : List Int} (ha : a = 1000000 ∨ (-1000 ≤ a ∧ a ≤ 40)) (hL : tb_ok L) : tb_mn (L.map (tb_sh a)) = tb_sh a (tb_mn L) := by
  have m := tb_ok_mn hL
  apply tb_mn_eq
  · rcases ha with e | e
    · rw [e, tb_sh_far]; omega
    · rcases m with q | q
      · rw [q, tb_sh_far']; omega
      · rw [tb_sh_in (by omega) (by omega)]; omega
  · intro b hb
    obtain ⟨w, hw, rfl⟩ := List.mem_map.mp hb
    have l1 := tb_mn_le hw
    have l2 := hL w hw
    rcases ha with e | e
    · rw [e, tb_sh_far, tb_sh_far]; omega
    · rcases l2 with q | q
      · rw [q, tb_sh_far']
        rcases m with q2 | q2
        · rw [q2, tb_sh_far']; omega
        · rw [tb_sh_in (by omega) (by omega)]; omega
      · rw [tb_sh_in (by omega) (by omega), tb_sh_in (by omega) (by omega)]; omega
  · intro h
    rcases ha with e | e
    · rw [e, tb_sh_far] at h; omega
    · rcases m with q | q
      · rw [q, tb_sh_far'] at h; omega
      · exact List.mem_map.mpr ⟨tb_mn L, tb_mn_mem (by omega), rfl⟩
theorem tb_count_sh {a v : Int} (ha : -1000 ≤ a ∧ a ≤ 40) (hv : v ≤ 100000) : ∀ {L : List Int}, tb_ok L → (L.map (tb_sh a)).count (a + v) = L.count v
  | [], _ => rfl
  | w :: L, h => by
    have ih := tb_count_sh ha hv (L := L) (fun x hx => h x (List.mem_cons_of_mem _ hx))
    rw [List.map_cons, List.count_cons, List.count_cons, ih]
    rcases h w List.mem_cons_self with q | q
    · rw [q, tb_sh_far', if_neg (by rw [beq_iff_eq]; omega), if_neg (by rw [beq_iff_eq]; omega)]
    · rw [tb_sh_in (by omega) (by omega)]
      by_cases e : w = v
      · rw [if_pos (by rw [beq_iff_eq, e]), if_pos (by rw [beq_iff_eq]; exact e)]
      · rw [if_neg (by rw [beq_iff_eq]; omega), if_neg (by rw [beq_iff_eq]; exact e)]
theorem tb_ct_sh {a : Int} {L : List Int} (ha : -1000 ≤ a ∧ a ≤ 40) (hL : tb_ok L) : tb_ct (L.map (tb_sh a)) = tb_ct L := by
  unfold tb_ct
  rw [tb_mn_sh (Or.inr ha) hL]
  rcases tb_ok_mn hL with q | q
  · rw [q, tb_sh_far', if_neg (by omega), if_neg (by omega)]
  · rw [tb_sh_in (by omega) (by omega), if_pos (by omega), if_pos (by omega), tb_count_sh ha (by omega) hL]
def tb_W (c : Nat → Nat → Int) (e : Nat → Int) : Nat → List Nat → Int
  | t, [] => e t
  | t, x :: l => tb_sh (c t x) (tb_W c e x l)
def tb_Cok (c : Nat → Nat → Int) : Prop := ∀ a b, c a b = 1000000 ∨ (-1000 ≤ c a b ∧ c a b ≤ 40)
def tb_Eok (e : Nat → Int) : Prop := ∀ a, e a = 1000000 ∨ (-1000 ≤ e a ∧ e a ≤ 40)
theorem tb_W_bd {c : Nat → Nat → Int} {e : Nat → Int} (hc : tb_Cok c) (he : tb_Eok e) : ∀ (l : List Nat) (t : Nat), tb_W c e t l = 1000000 ∨ (-1000 * ((l.length : Int) + 1) ≤ tb_W c e t l ∧ tb_W c e t l ≤ 40 * ((l.length : Int) + 1))
  | [], t => by
    rcases he t with q | q
    · exact Or.inl q
    · refine Or.inr ?_
      simp only [tb_W, List.length_nil]
      omega
  | x :: l, t => by
    have ih := tb_W_bd hc he l x
    simp only [tb_W, List.length_cons]
    rcases hc t x with q | q
    · rw [q, tb_sh_far]; exact Or.inl rfl
    · rcases ih with p | p
      · rw [p, tb_sh_far']; exact Or.inl rfl
      · by_cases z : tb_W c e x l < 1000000
        · rw [tb_sh_in (by omega) z]
          refine Or.inr ?_
          omega
        · exact Or.inl (if_neg (fun y => z y.2))
def tb_bits (s : Nat) : List Nat := (List.range 7).filter (fun i => s.testBit i)
theorem tb_bits_mem {s x : Nat} : x ∈ tb_bits s ↔ x < 7 ∧ s.testBit x = true := by
  simp [tb_bits]
theorem tb_bits_er : ∀ s, s < 128 → ∀ x, x < 7 → s.testBit x = true → (tb_bits s).erase x = tb_bits (s - 2 ^ x) ∧ (tb_bits s).length = (tb_bits (s - 2 ^ x)).length + 1 ∧ s - 2 ^ x < s ∧ (s - 2 ^ x).testBit x = false := by
  decide +kernel
theorem tb_bits_pos : ∀ s, s < 128 → s ≠ 0 → (tb_bits s).length ≠ 0 := by decide +kernel
theorem tb_bits_n : ∀ n, n < 8 → ∀ s, s < 2 ^ n → (List.range n).filter (fun i => s.testBit i) = tb_bits s := by decide +kernel
theorem tb_bits_le (s : Nat) : (tb_bits s).length ≤ 7 := by
  have := List.length_filter_le (fun i => s.testBit i) (List.range 7)
  simpa [tb_bits] using this
theorem tb_bits_nd (s : Nat) : (tb_bits s).Nodup := List.nodup_range.sublist List.filter_sublist
def tb_P (s : Nat) : List (List Nat) := tb_perms (tb_bits s).length (tb_bits s)
theorem tb_P_rec {s : Nat} (hs : s < 128) (h0 : s ≠ 0) : tb_P s = (tb_bits s).flatMap (fun x => (tb_P (s - 2 ^ x)).map (fun l => x :: l)) := by
  obtain ⟨k, hk⟩ : ∃ k, (tb_bits s).length = k + 1 := ⟨(tb_bits s).length - 1, by have := tb_bits_pos s hs h0; omega⟩
  unfold tb_P
  rw [hk]
  simp only [tb_perms]
  apply tb_fmc
  intro x hx
  have hx' := tb_bits_mem.mp hx
  obtain ⟨e1, e2, _⟩ := tb_bits_er s hs x hx'.1 hx'.2
  have e3 : (tb_bits (s - 2 ^ x)).length = k := by omega
  rw [e1, e3]
theorem tb_P_0 : tb_P 0 = [[]] := by decide +kernel
theorem tb_P_mem {s : Nat} {l : List Nat} : l ∈ tb_P s ↔ List.Perm l (tb_bits s) := tb_perms_mem _ _ rfl l
def tb_D (c : Nat → Nat → Int) (e : Nat → Int) (t s : Nat) : List Int := (tb_P s).map (tb_W c e t)
theorem tb_D_0 (c : Nat → Nat → Int) (e : Nat → Int) (t : Nat) : tb_D c e t 0 = [e t] := by
  unfold tb_D
  rw [tb_P_0]
  rfl
theorem tb_D_rec (c : Nat → Nat → Int) (e : Nat → Int) (t : Nat) {s : Nat} (hs : s < 128) (h0 : s ≠ 0) : tb_D c e t s = (tb_bits s).flatMap (fun x => (tb_D c e x (s - 2 ^ x)).map (tb_sh (c t x))) := by
  unfold tb_D
  rw [tb_P_rec hs h0, List.map_flatMap]
  apply tb_fmc
  intro x _
  rw [List.map_map, List.map_map]
  rfl
theorem tb_D_ok {c : Nat → Nat → Int} {e : Nat → Int} (hc : tb_Cok c) (he : tb_Eok e) (t s : Nat) : tb_ok (tb_D c e t s) := by
  intro w hw
  obtain ⟨l, hl, rfl⟩ := List.mem_map.mp hw
  have h1 := tb_perms_len rfl hl
  have h2 := tb_bits_le s
  rcases tb_W_bd hc he l t with q | q
  · exact Or.inl q
  · refine Or.inr ?_
    omega
def tb_bk (c : Nat → Nat → Int) (e : Nat → Int) (t s x : Nat) : List Int := (tb_D c e x (s - 2 ^ x)).map (tb_sh (c t x))
def tb_Dp (c : Nat → Nat → Int) (e : Nat → Int) (t s j : Nat) : List Int := ((List.range j).filter (fun i => s.testBit i)).flatMap (tb_bk c e t s)
theorem tb_Dp_0 (c : Nat → Nat → Int) (e : Nat → Int) (t s : Nat) : tb_Dp c e t s 0 = [] := rfl
theorem tb_Dp_t {c : Nat → Nat → Int} {e : Nat → Int} {t s j : Nat} (h : s.testBit j = true) : tb_Dp c e t s (j + 1) = tb_Dp c e t s j ++ tb_bk c e t s j := by
  unfold tb_Dp
  rw [List.range_succ, List.filter_append, List.flatMap_append]
  simp [h]
theorem tb_Dp_f {c : Nat → Nat → Int} {e : Nat → Int} {t s j : Nat} (h : s.testBit j = false) : tb_Dp c e t s (j + 1) = tb_Dp c e t s j := by
  unfold tb_Dp
  rw [List.range_succ, List.filter_append, List.flatMap_append]
  simp [h]
theorem tb_Dp_n (c : Nat → Nat → Int) (e : Nat → Int) (t : Nat) {n s : Nat} (hn : n < 8) (hs : s < 2 ^ n) (h0 : s ≠ 0) : tb_Dp c e t s n = tb_D c e t s := by
  have h7 : (2 : Nat) ^ n ≤ 2 ^ 7 := Nat.pow_le_pow_right (by decide) (by omega)
  rw [tb_D_rec c e t (by omega) h0]
  unfold tb_Dp
  rw [tb_bits_n n hn s hs]
  rfl
end
section
theorem tb_st_far {A B : List Int} (h : tb_mn B = 1000000) : tb_mn (A ++ B) = tb_mn A ∧ tb_ct (A ++ B) = tb_ct A := by
  have fA := tb_mn_far A
  have z : tb_ct B = 0 := if_neg (by omega)
  rw [tb_mn_app, tb_ct_app, if_neg (by omega), if_neg (by omega), z]
  refine ⟨rfl, ?_⟩
  split <;> omega
theorem tb_st_lt {A B : List Int} (h : tb_mn B < tb_mn A) : tb_mn (A ++ B) = tb_mn B ∧ tb_ct (A ++ B) = tb_ct B := by
  rw [tb_mn_app, tb_ct_app, if_pos h, if_pos h]
  exact ⟨rfl, rfl⟩
theorem tb_st_eq {A B : List Int} (h : tb_mn B = tb_mn A) : tb_mn (A ++ B) = tb_mn A ∧ tb_ct (A ++ B) = tb_ct A + tb_ct B := by
  rw [tb_mn_app, tb_ct_app, if_neg (by omega), if_neg (by omega), if_pos h]
  exact ⟨rfl, rfl⟩
theorem tb_st_gt {A B : List Int} (h : tb_mn A < tb_mn B) : tb_mn (A ++ B) = tb_mn A ∧ tb_ct (A ++ B) = tb_ct A := by
  rw [tb_mn_app, tb_ct_app, if_neg (by omega), if_neg (by omega), if_neg (by omega)]
  exact ⟨rfl, rfl⟩
section
variable {c : Nat → Nat → Int} {e : Nat → Int}
theorem tb_D_in {t s y : Nat} {w : Int} (hs : s < 128) (h0 : s ≠ 0) (hy : y ∈ tb_bits s) (hw : w ∈ tb_D c e y (s - 2 ^ y)) : tb_sh (c t y) w ∈ tb_D c e t s := by
  rw [tb_D_rec c e t hs h0]
  exact List.mem_flatMap.mpr ⟨y, hy, List.mem_map.mpr ⟨w, hw, rfl⟩⟩
theorem tb_D_le {t s y : Nat} (hs : s < 128) (h0 : s ≠ 0) (hy : y ∈ tb_bits s) (h1 : c t y < 1000000) (h2 : tb_mn (tb_D c e y (s - 2 ^ y)) < 1000000) : tb_mn (tb_D c e t s) ≤ c t y + tb_mn (tb_D c e y (s - 2 ^ y)) := by
  have h := tb_mn_le (tb_D_in (t := t) hs h0 hy (tb_mn_mem h2))
  rw [tb_sh_in h1 h2] at h
  exact h
def tb_good (c : Nat → Nat → Int) (e : Nat → Int) (t s x : Nat) : Prop := x ∈ tb_bits s ∧ c t x < 1000000 ∧ c t x + tb_mn (tb_D c e x (s - 2 ^ x)) = tb_mn (tb_D c e t s)
theorem tb_good_of {t s y : Nat} {w : Int} (hs : s < 128) (h0 : s ≠ 0) (hm : tb_mn (tb_D c e t s) < 1000000) (hy : y ∈ tb_bits s) (hw : w ∈ tb_D c e y (s - 2 ^ y)) (hq : tb_sh (c t y) w = tb_mn (tb_D c e t s)) : tb_good c e t s y := by
  have l1 := tb_mn_le hw
  by_cases z : c t y < 1000000 ∧ w < 1000000
  · rw [tb_sh_in z.1 z.2] at hq
    have l2 := tb_D_le (e := e) hs h0 hy z.1 (by omega)
    exact ⟨hy, z.1, by omega⟩
  · have q : tb_sh (c t y) w = 1000000 := if_neg z
    omega
theorem tb_good_ex {t s : Nat} (hs : s < 128) (h0 : s ≠ 0) (hm : tb_mn (tb_D c e t s) < 1000000) : ∃ x, tb_good c e t s x ∧ ∀ y, y < x → ¬ tb_good c e t s y := by
  apply pk_least
  have h := tb_mn_mem hm
  rw [tb_D_rec c e t hs h0] at h
  obtain ⟨y, hy, h2⟩ := List.mem_flatMap.mp h
  obtain ⟨w, hw, h3⟩ := List.mem_map.mp h2
  rw [← tb_D_rec c e t hs h0] at h3
  exact ⟨y, tb_good_of hs h0 hm hy hw h3⟩
theorem tb_good_mn (hc : tb_Cok c) (he : tb_Eok e) {t s x : Nat} (hm : tb_mn (tb_D c e t s) < 1000000) (hg : tb_good c e t s x) : tb_mn (tb_D c e x (s - 2 ^ x)) < 1000000 := by
  have f1 := tb_ok_mn (tb_D_ok hc he t s)
  have f2 := tb_ok_mn (tb_D_ok hc he x (s - 2 ^ x))
  have f3 := hc t x
  have := hg.2.1
  have := hg.2.2
  omega
theorem tb_find (hc : tb_Cok c) (he : tb_Eok e) {t s x : Nat} (hs : s < 128) (h0 : s ≠ 0) (hm : tb_mn (tb_D c e t s) < 1000000) (hg : tb_good c e t s x) (hmin : ∀ y, y < x → ¬ tb_good c e t s y) {l' : List Nat} (hl : (tb_P (s - 2 ^ x)).find? (fun l => decide (tb_W c e x l = tb_mn (tb_D c e x (s - 2 ^ x)))) = some l') : (tb_P s).find? (fun l => decide (tb_W c e t l = tb_mn (tb_D c e t s))) = some (x :: l') := by
  have hmx := tb_good_mn hc he hm hg
  obtain ⟨s1, s2, hs12⟩ := List.append_of_mem hg.1
  have hpw : (tb_bits s).Pairwise (· < ·) := List.pairwise_lt_range.sublist List.filter_sublist
  have hlt : ∀ y, y ∈ s1 → y < x := by
    intro y hy
    rw [hs12] at hpw
    exact (List.pairwise_append.mp hpw).2.2 y hy x List.mem_cons_self
  have n1 : (s1.flatMap (fun x => (tb_P (s - 2 ^ x)).map (fun l => x :: l))).find? (fun l => decide (tb_W c e t l = tb_mn (tb_D c e t s))) = none := by
    rw [List.find?_eq_none]
    intro z hz
    obtain ⟨y, hy, h2⟩ := List.mem_flatMap.mp hz
    obtain ⟨l, hl2, rfl⟩ := List.mem_map.mp h2
    intro hp
    have hp' := of_decide_eq_true hp
    have hy' : y ∈ tb_bits s := by rw [hs12]; exact List.mem_append_left _ hy
    exact hmin y (hlt y hy) (tb_good_of hs h0 hm hy' (List.mem_map.mpr ⟨l, hl2, rfl⟩) hp')
  have n2 : ((tb_P (s - 2 ^ x)).map (fun l => x :: l)).find? (fun l => decide (tb_W c e t l = tb_mn (tb_D c e t s))) = some (x :: l') := by
    rw [List.find?_map]
    have e1 : ((fun l => decide (tb_W c e t l = tb_mn (tb_D c e t s))) ∘ fun l => x :: l) = (fun l => decide (tb_W c e x l = tb_mn (tb_D c e x (s - 2 ^ x)))) := by
      funext l
      apply decide_eq_decide.mpr
      show tb_sh (c t x) (tb_W c e x l) = _ ↔ _
      have := hg.2.1
      have := hg.2.2
      by_cases z : tb_W c e x l < 1000000
      · rw [tb_sh_in hg.2.1 z]; omega
      · have q : tb_sh (c t x) (tb_W c e x l) = 1000000 := if_neg (fun y => z y.2)
        rw [q]; omega
    rw [e1, hl]
    rfl
  rw [tb_P_rec hs h0, hs12, List.flatMap_append, List.flatMap_cons, List.find?_append, List.find?_append, n1, n2]
  rfl
theorem tb_find_0 {t : Nat} (hm : tb_mn (tb_D c e t 0) < 1000000) : (tb_P 0).find? (fun l => decide (tb_W c e t l = tb_mn (tb_D c e t 0))) = some [] := by
  have h := tb_mn_mem hm
  rw [tb_P_0]
  rw [List.find?_cons_of_pos]
  apply decide_eq_true
  have h2 : tb_mn (tb_D c e t 0) ∈ [e t] := by rw [tb_D_0] at h ⊢; exact h
  exact (List.mem_singleton.mp h2).symm
def tb_cq (goal lim sp : Int) (L : List Int) : Nat := L.countP (fun w => decide (w < 1000000 ∧ sp + w ≤ goal ∧ sp + w ≤ lim))
theorem tb_cq_app (goal lim sp : Int) (A B : List Int) : tb_cq goal lim sp (A ++ B) = tb_cq goal lim sp A + tb_cq goal lim sp B := List.countP_append
theorem tb_cq_far {goal lim sp : Int} {t s j : Nat} (h : c t j = 1000000) : tb_cq goal lim sp (tb_bk c e t s j) = 0 := by
  apply List.countP_eq_zero.mpr
  intro w hw
  obtain ⟨v, _, rfl⟩ := List.mem_map.mp hw
  rw [h, tb_sh_far]
  simp
theorem tb_cq_prune {goal lim sp : Int} {L : List Int} (h : goal < sp + tb_mn L) : tb_cq goal lim sp L = 0 := by
  apply List.countP_eq_zero.mpr
  intro w hw
  have := tb_mn_le hw
  simp only [decide_eq_true_eq]
  omega
theorem tb_cq_bk (hc : tb_Cok c) (he : tb_Eok e) {goal lim sp : Int} {t s j : Nat} (h : c t j < 1000000) : tb_cq goal lim sp (tb_bk c e t s j) = tb_cq goal lim (sp + c t j) (tb_D c e j (s - 2 ^ j)) := by
  unfold tb_cq tb_bk
  rw [List.countP_map]
  apply List.countP_congr
  intro w hw
  have b1 := tb_D_ok hc he j (s - 2 ^ j) w hw
  have b2 := hc t j
  simp only [Function.comp_def, decide_eq_true_eq]
  by_cases z : w < 1000000
  · rw [tb_sh_in h z]; omega
  · have q : tb_sh (c t j) w = 1000000 := if_neg (fun y => z y.2)
    rw [q]; omega
end
end
section
def tb_c (w : Bool) (pr mk : Nat → Int32) (a b : Nat) : Int := if a < 7 ∧ b < 7 ∧ a ≠ b ∧ mk (7 * a + b) ≠ 2 then (if w = true ∧ mk (7 * a + b) = 1 then (pr (7 * a + b)).toInt - 1000 else (pr (7 * a + b)).toInt) else 1000000
def tb_Pok (pr : Nat → Int32) : Prop := ∀ k, k < 49 → 0 ≤ (pr k).toInt ∧ (pr k).toInt ≤ 40
theorem tb_c_ok {w : Bool} {pr mk : Nat → Int32} (h : tb_Pok pr) : tb_Cok (tb_c w pr mk) := by
  intro a b
  unfold tb_c
  by_cases z : a < 7 ∧ b < 7 ∧ a ≠ b ∧ mk (7 * a + b) ≠ 2
  · have hb := h (7 * a + b) (by omega)
    rw [if_pos z]
    right
    split <;> omega
  · rw [if_neg z]; exact Or.inl rfl
def tb_V (c : Nat → Nat → Int) : Nat → List Nat → Int
  | _, [] => 0
  | t, x :: l => tb_sh (c t x) (tb_V c x l)
def tb_pe : Nat → List Nat → List Nat
  | _, [] => []
  | t, x :: l => (7 * t + x) :: tb_pe x l
def tb_pp (pr : Nat → Int32) : Nat → List Nat → Int
  | _, [] => 0
  | t, x :: l => (pr (7 * t + x)).toInt + tb_pp pr x l
def tb_ch (n : Nat) : Nat → List Nat → Prop
  | _, [] => True
  | t, x :: l => t < n ∧ x < n ∧ t ≠ x ∧ tb_ch n x l
theorem tb_V_closed {w : Bool} {pr mk : Nat → Int32} : ∀ {l : List Nat} {t f : Nat}, f ∈ tb_pe t l → mk f = 2 → tb_V (tb_c w pr mk) t l = 1000000
  | [], _, _, h, _ => by simp [tb_pe] at h
  | x :: l, t, f, h, hf => by
    simp only [tb_V]
    rcases List.mem_cons.mp h with q | q
    · have z : tb_c w pr mk t x = 1000000 := if_neg (fun y => y.2.2.2 (by rw [← q]; exact hf))
      rw [z, tb_sh_far]
    · rw [tb_V_closed q hf, tb_sh_far']
theorem tb_pp_bd {n : Nat} {pr : Nat → Int32} (hn : n ≤ 7) (hp : tb_Pok pr) : ∀ {l : List Nat} {t : Nat}, tb_ch n t l → 0 ≤ tb_pp pr t l ∧ tb_pp pr t l ≤ 40 * (l.length : Int)
  | [], _, _ => by simp [tb_pp]
  | x :: l, t, h => by
    have ih := tb_pp_bd hn hp h.2.2.2
    have h1 := h.1
    have h2 := h.2.1
    have b := hp (7 * t + x) (by omega)
    simp only [tb_pp, List.length_cons]
    omega
theorem tb_V_free {n : Nat} {w : Bool} {pr mk : Nat → Int32} (hn : n ≤ 7) (hp : tb_Pok pr) : ∀ {l : List Nat} {t : Nat}, tb_ch n t l → l.length ≤ 8 → (∀ f, f ∈ tb_pe t l → mk f ≠ 2) → tb_V (tb_c w pr mk) t l = tb_pp pr t l - (if w = true then 1000 * ((tb_pe t l).countP (fun f => decide (mk f = 1)) : Int) else 0)
  | [], _, _, _, _ => by simp [tb_V, tb_pp, tb_pe]
  | x :: l, t, h, hl, hf => by
    have hl' : l.length ≤ 8 := by simp at hl; omega
    have ih := tb_V_free (w := w) hn hp h.2.2.2 hl' (fun f q => hf f (List.mem_cons_of_mem _ q))
    have bd := tb_pp_bd hn hp h.2.2.2
    have h1 := h.1
    have h2 := h.2.1
    have h3 := h.2.2.1
    have b := hp (7 * t + x) (by omega)
    have h4 : mk (7 * t + x) ≠ 2 := hf _ List.mem_cons_self
    have z : tb_c w pr mk t x = (if w = true ∧ mk (7 * t + x) = 1 then (pr (7 * t + x)).toInt - 1000 else (pr (7 * t + x)).toInt) := if_pos ⟨by omega, by omega, h3, h4⟩
    simp only [tb_V, tb_pp, tb_pe]
    rw [z, ih, List.countP_cons]
    cases w with
    | false =>
      simp only [Bool.false_eq_true, false_and, if_false]
      rw [tb_sh_in (by omega) (by omega)]
      omega
    | true =>
      simp only [true_and, if_true]
      by_cases m1 : mk (7 * t + x) = 1
      · rw [if_pos m1, tb_sh_in (by omega) (by omega), decide_eq_true m1]
        simp only [if_true]
        omega
      · rw [if_neg m1, tb_sh_in (by omega) (by omega), decide_eq_false m1]
        simp only [Bool.false_eq_true, if_false]
        omega
theorem tb_W_tour (c : Nat → Nat → Int) (hc : tb_Cok c) : ∀ (l : List Nat) (t : Nat), tb_W c (fun t => c t 0) t l = tb_V c t (l ++ [0])
  | [], t => by
    show c t 0 = tb_sh (c t 0) 0
    rcases hc t 0 with q | q
    · rw [q, tb_sh_far]
    · rw [tb_sh_in (by omega) (by omega)]; omega
  | x :: l, t => by
    rw [List.cons_append, tb_W, tb_V, tb_W_tour c hc l x]
def tb_eb (b : Nat) (t : Nat) : Int := if t = b then 0 else 1000000
theorem tb_eb_ok (b : Nat) : tb_Eok (tb_eb b) := by
  intro t
  unfold tb_eb
  split <;> omega
theorem tb_W_path (c : Nat → Nat → Int) (b : Nat) : ∀ (l : List Nat) (t : Nat), tb_W c (tb_eb b) t (l ++ [b]) = tb_V c t (l ++ [b])
  | [], t => by
    show tb_sh (c t b) (tb_eb b b) = tb_sh (c t b) 0
    rw [show tb_eb b b = 0 from if_pos rfl]
  | x :: l, t => by
    rw [List.cons_append, tb_W, tb_V, tb_W_path c b l x]
theorem tb_W_path_no (c : Nat → Nat → Int) {b : Nat} : ∀ (l : List Nat) (t x : Nat), x ≠ b → tb_W c (tb_eb b) t (l ++ [x]) = 1000000
  | [], t, x, h => by
    show tb_sh (c t x) (tb_eb b x) = 1000000
    rw [show tb_eb b x = 1000000 from if_neg h, tb_sh_far']
  | y :: l, t, x, h => by
    rw [List.cons_append, tb_W, tb_W_path_no c l y x h, tb_sh_far']
theorem tb_ch_of {n : Nat} : ∀ {l : List Nat} {t : Nat}, (t :: l).Nodup → (∀ x, x ∈ t :: l → x < n) → tb_ch n t l
  | [], _, _, _ => trivial
  | x :: l, t, hn, hb => by
    have hn' := List.nodup_cons.mp hn
    refine ⟨hb t List.mem_cons_self, hb x (List.mem_cons_of_mem _ List.mem_cons_self), fun q => hn'.1 (by rw [q]; exact List.mem_cons_self), tb_ch_of hn'.2 (fun y hy => hb y (List.mem_cons_of_mem _ hy))⟩
theorem tb_ch_app {n : Nat} : ∀ {l : List Nat} {t b : Nat}, tb_ch n t l → t < n → b < n → t ≠ b → b ∉ l → tb_ch n t (l ++ [b])
  | [], _, _, _, h1, h2, h3, _ => ⟨h1, h2, h3, trivial⟩
  | x :: l, t, b, h, _, h2, _, h4 => ⟨h.1, h.2.1, h.2.2.1, tb_ch_app h.2.2.2 h.2.1 h2 (fun q => h4 (by rw [q]; exact List.mem_cons_self)) (fun q => h4 (List.mem_cons_of_mem _ q))⟩
theorem tb_ch_tour {n : Nat} {l : List Nat} (hn : 0 < n) (h : (0 :: l).Nodup) (hb : ∀ x, x ∈ l → x < n) (hl : l ≠ []) : tb_ch n 0 (l ++ [0]) := by
  cases l with
  | nil => exact absurd rfl hl
  | cons x l =>
    have h' := List.nodup_cons.mp h
    have hx : 0 ≠ x := fun q => h'.1 (by rw [q]; exact List.mem_cons_self)
    refine ⟨hn, hb x List.mem_cons_self, hx, tb_ch_app (tb_ch_of h'.2 hb) (hb x List.mem_cons_self) hn (Ne.symm hx) (fun q => h'.1 (List.mem_cons_of_mem _ q))⟩
theorem tb_pp_eq {n : Nat} {pr co : Nat → Int32} (h : ∀ a b, a < n → b < n → a ≠ b → co (7 * a + b) = pr (7 * a + b)) : ∀ {l : List Nat} {t : Nat}, tb_ch n t l → tb_pp co t l = tb_pp pr t l
  | [], _, _ => rfl
  | x :: l, t, hc => by
    show _ + _ = _ + _
    rw [h t x hc.1 hc.2.1 hc.2.2.1, tb_pp_eq h hc.2.2.2]
theorem tb_full_bits : ∀ n, n < 8 → 2 ≤ n → tb_bits (2 ^ n - 2) = (List.range n).tail ∧ (tb_bits (2 ^ n - 2)).length = n - 1 ∧ 2 ^ n - 2 < 128 ∧ 2 ^ n - 2 ≠ 0 := by decide +kernel
theorem tb_full_mem : ∀ n, n < 8 → 2 ≤ n → ∀ x, x < 7 → ((2 ^ n - 2).testBit x = true ↔ 1 ≤ x ∧ x < n) := by decide +kernel
theorem tb_tour_facts {n : Nat} (h2 : 2 ≤ n) (h7 : n ≤ 7) {l : List Nat} (hl : List.Perm l (tb_bits (2 ^ n - 2))) : tb_ch n 0 (l ++ [0]) ∧ l.length = n - 1 ∧ (∀ x, x ∈ l → 1 ≤ x ∧ x < n) ∧ l.Nodup := by
  have fb := tb_full_bits n (by omega) h2
  have hlen : l.length = n - 1 := by rw [hl.length_eq, fb.2.1]
  have hm : ∀ x, x ∈ l → 1 ≤ x ∧ x < n := by
    intro x hx
    have q := tb_bits_mem.mp (hl.mem_iff.mp hx)
    exact (tb_full_mem n (by omega) h2 x q.1).mp q.2
  have hnd : l.Nodup := hl.nodup_iff.mpr (tb_bits_nd _)
  refine ⟨tb_ch_tour (by omega) (List.nodup_cons.mpr ⟨fun q => by have := hm 0 q; omega, hnd⟩) (fun x hx => (hm x hx).2) (fun q => ?_), hlen, hm, hnd⟩
  rw [q] at hlen
  simp at hlen
  omega
end
section
def tb_rv (k : Nat) : Nat := 7 * (k % 7) + k / 7
def tb_nz (k : Nat) : Nat := if k / 7 < k % 7 then k else tb_rv k
def tb_us (E : List Nat) (k : Nat) : Bool := E.any (fun f => decide (k = f ∨ k = tb_rv f))
theorem tb_us_iff {E : List Nat} {k : Nat} : tb_us E k = true ↔ ∃ f, f ∈ E ∧ (k = f ∨ k = tb_rv f) := by
  unfold tb_us
  rw [List.any_eq_true]
  constructor
  · rintro ⟨f, h1, h2⟩; exact ⟨f, h1, of_decide_eq_true h2⟩
  · rintro ⟨f, h1, h2⟩; exact ⟨f, h1, decide_eq_true h2⟩
def tb_al (mk : Nat → Int32) (E : List Nat) : Bool := (List.range 49).all (fun k => decide ((mk k = 2 → tb_us E k = false) ∧ (mk k = 1 → tb_us E k = true)))
theorem tb_al_iff {mk : Nat → Int32} {E : List Nat} : tb_al mk E = true ↔ ∀ k, k < 49 → (mk k = 2 → tb_us E k = false) ∧ (mk k = 1 → tb_us E k = true) := by
  unfold tb_al
  rw [List.all_eq_true]
  constructor
  · intro h k hk; exact of_decide_eq_true (h k (List.mem_range.mpr hk))
  · intro h k hk; exact decide_eq_true (h k (List.mem_range.mp hk))
def tb_Mok (n : Nat) (mk : Nat → Int32) : Prop := (∀ k, k < 49 → mk k = 0 ∨ mk k = 1 ∨ mk k = 2) ∧ (∀ a b, a < 7 → b < 7 → mk (7 * a + b) = mk (7 * b + a)) ∧ (∀ a b, a < 7 → b < 7 → mk (7 * a + b) ≠ 0 → a < n ∧ b < n ∧ a ≠ b)
theorem tb_Mok_rv {n : Nat} {mk : Nat → Int32} (h : tb_Mok n mk) {k : Nat} (hk : k < 49) : mk (tb_rv k) = mk k := by
  have e : 7 * (k / 7) + k % 7 = k := by omega
  have q := h.2.1 (k / 7) (k % 7) (by omega) (by omega)
  rw [e] at q
  exact q.symm
theorem tb_Mok_nz {n : Nat} {mk : Nat → Int32} (h : tb_Mok n mk) {k : Nat} (hk : k < 49) : mk (tb_nz k) = mk k := by
  unfold tb_nz
  split
  · rfl
  · exact tb_Mok_rv h hk
theorem tb_Mok_ne {n : Nat} {mk : Nat → Int32} (h : tb_Mok n mk) {k : Nat} (hk : k < 49) (h0 : mk k ≠ 0) : k / 7 < n ∧ k % 7 < n ∧ k / 7 ≠ k % 7 := by
  have e : 7 * (k / 7) + k % 7 = k := by omega
  exact h.2.2 (k / 7) (k % 7) (by omega) (by omega) (by rw [e]; exact h0)
theorem tb_rv_tab : ∀ k, k < 49 → tb_rv k < 49 ∧ tb_rv (tb_rv k) = k ∧ (k / 7 ≠ k % 7 → tb_nz k < 49 ∧ tb_nz k / 7 < tb_nz k % 7 ∧ (tb_nz k = k ∨ tb_nz k = tb_rv k)) := by decide +kernel
theorem tb_nz_tab : ∀ f, f < 49 → ∀ k, k < 49 → tb_nz f = tb_nz k → k = f ∨ k = tb_rv f := by decide +kernel
theorem tb_nz_tab2 : ∀ v, v < 49 → v / 7 < v % 7 → ∀ f, f < 49 → (v = f ∨ v = tb_rv f) → tb_nz f = v := by decide +kernel
theorem tb_pe_in {n : Nat} : ∀ {l : List Nat} {t f : Nat}, tb_ch n t l → f ∈ tb_pe t l → ∃ a b, a < n ∧ b < n ∧ a ≠ b ∧ f = 7 * a + b
  | [], _, _, _, h => by simp [tb_pe] at h
  | x :: l, t, f, hc, h => by
    rcases List.mem_cons.mp h with q | q
    · exact ⟨t, x, hc.1, hc.2.1, hc.2.2.1, q⟩
    · exact tb_pe_in hc.2.2.2 q
theorem tb_nod3 : ∀ l, l ∈ tb_P 6 → ((tb_pe 0 (l ++ [0])).map tb_nz).Nodup := by decide +kernel
theorem tb_nod4 : ∀ l, l ∈ tb_P 14 → ((tb_pe 0 (l ++ [0])).map tb_nz).Nodup := by decide +kernel
theorem tb_nod5 : ∀ l, l ∈ tb_P 30 → ((tb_pe 0 (l ++ [0])).map tb_nz).Nodup := by decide +kernel
theorem tb_nod6 : ∀ l, l ∈ tb_P 62 → ((tb_pe 0 (l ++ [0])).map tb_nz).Nodup := by decide +kernel
theorem tb_nod7 : ∀ l, l ∈ tb_P 126 → ((tb_pe 0 (l ++ [0])).map tb_nz).Nodup := by decide +kernel
theorem tb_nod {n : Nat} (h3 : 3 ≤ n) (h7 : n ≤ 7) {l : List Nat} (hl : l ∈ tb_P (2 ^ n - 2)) : ((tb_pe 0 (l ++ [0])).map tb_nz).Nodup := by
  have hn : n = 3 ∨ n = 4 ∨ n = 5 ∨ n = 6 ∨ n = 7 := by omega
  rcases hn with e | e | e | e | e
  · subst e; exact tb_nod3 l hl
  · subst e; exact tb_nod4 l hl
  · subst e; exact tb_nod5 l hl
  · subst e; exact tb_nod6 l hl
  · subst e; exact tb_nod7 l hl
theorem tb_ext : ∀ (N U : List Nat), N.Nodup → (∀ x, x ∈ N → x ∈ U) → ∃ V, List.Perm U (N ++ V)
  | [], U, _, _ => ⟨U, List.Perm.refl _⟩
  | x :: N, U, hn, hs => by
    have hn' := List.nodup_cons.mp hn
    have hx := hs x List.mem_cons_self
    obtain ⟨V, hV⟩ := tb_ext N (U.erase x) hn'.2 (fun y hy => (List.mem_erase_of_ne (fun q => hn'.1 (by rw [← q]; exact hy))).mpr (hs y (List.mem_cons_of_mem _ hy)))
    exact ⟨V, (List.perm_cons_erase hx).trans (hV.cons x)⟩
def tb_r (mk : Nat → Int32) : Nat := (List.range 49).countP (fun k => decide (k / 7 < k % 7) && decide (mk k = 1))
def tb_R (n : Nat) (mk : Nat → Int32) : Nat := if n = 2 ∧ tb_r mk = 1 then 2 else tb_r mk
theorem tb_r_le (mk : Nat → Int32) : tb_r mk ≤ 49 := by
  have h := List.countP_le_length (p := fun k => decide (k / 7 < k % 7) && decide (mk k = 1)) (l := List.range 49)
  rw [List.length_range] at h
  exact h
theorem tb_R_le (n : Nat) (mk : Nat → Int32) : tb_R n mk ≤ 49 := by
  have := tb_r_le mk
  unfold tb_R
  split <;> omega
theorem tb_cntE {n : Nat} {mk : Nat → Int32} {E : List Nat} (hm : tb_Mok n mk) (hE : ∀ f, f ∈ E → f < 49 ∧ f / 7 ≠ f % 7) (hnd : (E.map tb_nz).Nodup) :
    ((∀ k, k < 49 → mk k = 1 → tb_us E k = true) ∧ E.countP (fun f => decide (mk f = 1)) = tb_r mk) ∨ ((∃ k, k < 49 ∧ mk k = 1 ∧ tb_us E k = false) ∧ E.countP (fun f => decide (mk f = 1)) < tb_r mk) := by
  have hU : ((List.range 49).filter (fun k => decide (k / 7 < k % 7))).Nodup := List.nodup_range.sublist List.filter_sublist
  have c1 : tb_r mk = ((List.range 49).filter (fun k => decide (k / 7 < k % 7))).countP (fun f => decide (mk f = 1)) := by
    unfold tb_r
    rw [List.countP_filter]
    apply List.countP_congr
    intro k _
    rw [Bool.and_comm]
  have sub : ∀ x, x ∈ E.map tb_nz → x ∈ (List.range 49).filter (fun k => decide (k / 7 < k % 7)) := by
    intro x hx
    obtain ⟨f, hf, rfl⟩ := List.mem_map.mp hx
    have h := hE f hf
    have t := (tb_rv_tab f h.1).2.2 h.2
    exact List.mem_filter.mpr ⟨List.mem_range.mpr t.1, decide_eq_true t.2.1⟩
  obtain ⟨V, hV⟩ := tb_ext _ _ hnd sub
  have c2 := hV.countP_eq (fun f => decide (mk f = 1))
  rw [List.countP_append] at c2
  have c3 : (E.map tb_nz).countP (fun f => decide (mk f = 1)) = E.countP (fun f => decide (mk f = 1)) := by
    rw [List.countP_map]
    apply List.countP_congr
    intro f hf
    simp only [Function.comp_def]
    rw [tb_Mok_nz hm (hE f hf).1]
  by_cases hA : ∀ k, k < 49 → mk k = 1 → tb_us E k = true
  · left
    refine ⟨hA, ?_⟩
    have z : V.countP (fun f => decide (mk f = 1)) = 0 := by
      apply List.countP_eq_zero.mpr
      intro v hv hp
      have hv1 : mk v = 1 := of_decide_eq_true hp
      have hvU := List.mem_filter.mp (hV.mem_iff.mpr (List.mem_append_right _ hv))
      have hv49 := List.mem_range.mp hvU.1
      obtain ⟨f, hf, hq⟩ := tb_us_iff.mp (hA v hv49 hv1)
      have q := tb_nz_tab2 v hv49 (of_decide_eq_true hvU.2) f (hE f hf).1 hq
      have nd := hV.nodup_iff.mp hU
      exact (List.nodup_append.mp nd).2.2 v (List.mem_map.mpr ⟨f, hf, q⟩) v hv rfl
    omega
  · right
    simp only [Classical.not_forall] at hA
    obtain ⟨k, hk, h1, hu⟩ := hA
    refine ⟨⟨k, hk, h1, by simpa using hu⟩, ?_⟩
    have ne : mk k ≠ 0 := by rw [h1]; decide
    have t := (tb_rv_tab k hk).2.2 (tb_Mok_ne hm hk ne).2.2
    have hvU : tb_nz k ∈ (List.range 49).filter (fun k => decide (k / 7 < k % 7)) := List.mem_filter.mpr ⟨List.mem_range.mpr t.1, decide_eq_true t.2.1⟩
    rcases List.mem_append.mp (hV.mem_iff.mp hvU) with q | q
    · obtain ⟨f, hf, q2⟩ := List.mem_map.mp q
      exact absurd (tb_us_iff.mpr ⟨f, hf, tb_nz_tab f (hE f hf).1 k hk q2⟩) hu
    · have pos : 0 < V.countP (fun f => decide (mk f = 1)) := List.countP_pos_iff.mpr ⟨tb_nz k, q, decide_eq_true (by rw [tb_Mok_nz hm hk]; exact h1)⟩
      omega
theorem tb_two_tab : ∀ k, k < 49 → k / 7 < 2 → k % 7 < 2 → k / 7 ≠ k % 7 → k = 1 ∨ k = 7 := by decide +kernel
theorem tb_r_two {mk : Nat → Int32} (hm : tb_Mok 2 mk) : tb_r mk = if mk 1 = 1 then 1 else 0 := by
  unfold tb_r
  by_cases h : mk 1 = 1
  · rw [if_pos h]
    have q : (List.range 49).countP (fun k => decide (k / 7 < k % 7) && decide (mk k = 1)) = (List.range 49).countP (fun k => decide (k = 1)) := by
      apply List.countP_congr
      intro k hk
      have hk' := List.mem_range.mp hk
      simp only [Bool.and_eq_true, decide_eq_true_eq]
      constructor
      · rintro ⟨h1, h2⟩
        have t := tb_Mok_ne hm hk' (by rw [h2]; decide)
        rcases tb_two_tab k hk' t.1 t.2.1 t.2.2 with q | q
        · exact q
        · subst q; omega
      · intro q; subst q; exact ⟨by decide, h⟩
    rw [q]
    decide
  · rw [if_neg h]
    apply List.countP_eq_zero.mpr
    intro k hk hp
    have hk' := List.mem_range.mp hk
    simp only [Bool.and_eq_true, decide_eq_true_eq] at hp
    have t := tb_Mok_ne hm hk' (by rw [hp.2]; decide)
    rcases tb_two_tab k hk' t.1 t.2.1 t.2.2 with q | q
    · subst q; exact h hp.2
    · subst q; omega
theorem tb_cnt {n : Nat} {mk : Nat → Int32} {l : List Nat} (h2 : 2 ≤ n) (h7 : n ≤ 7) (hm : tb_Mok n mk) (hl : List.Perm l (tb_bits (2 ^ n - 2))) :
    ((∀ k, k < 49 → mk k = 1 → tb_us (tb_pe 0 (l ++ [0])) k = true) ∧ (tb_pe 0 (l ++ [0])).countP (fun f => decide (mk f = 1)) = tb_R n mk) ∨ ((∃ k, k < 49 ∧ mk k = 1 ∧ tb_us (tb_pe 0 (l ++ [0])) k = false) ∧ (tb_pe 0 (l ++ [0])).countP (fun f => decide (mk f = 1)) < tb_R n mk) := by
  by_cases hn : n = 2
  · subst hn
    have e : l = [1] := List.perm_singleton.mp (by have q : tb_bits (2 ^ 2 - 2) = [1] := by decide +kernel
                                                   rw [q] at hl; exact hl)
    subst e
    left
    refine ⟨?_, ?_⟩
    · intro k hk h1
      have t := tb_Mok_ne hm hk (by rw [h1]; decide)
      rcases tb_two_tab k hk t.1 t.2.1 t.2.2 with q | q
      · subst q; decide +kernel
      · subst q; decide +kernel
    · have s : mk 7 = mk 1 := (hm.2.1 0 1 (by decide) (by decide)).symm
      show List.countP _ [1, 7] = _
      rw [List.countP_cons, List.countP_cons, List.countP_nil]
      unfold tb_R
      rw [tb_r_two hm, s]
      by_cases h : mk 1 = 1
      · simp [h]
      · simp [h]
  · have hR : tb_R n mk = tb_r mk := if_neg (fun q => hn q.1)
    rw [hR]
    refine tb_cntE hm ?_ (tb_nod (by omega) h7 (tb_P_mem.mpr hl))
    intro f hf
    obtain ⟨a, b, h1, h3, h4, q⟩ := tb_pe_in (tb_tour_facts h2 h7 hl).1 hf
    omega
theorem tb_br {n : Nat} {pr mk : Nat → Int32} {l : List Nat} (h2 : 2 ≤ n) (h7 : n ≤ 7) (hp : tb_Pok pr) (hm : tb_Mok n mk) (hl : List.Perm l (tb_bits (2 ^ n - 2))) :
    (tb_al mk (tb_pe 0 (l ++ [0])) = true ∧ tb_V (tb_c true pr mk) 0 (l ++ [0]) = tb_pp pr 0 (l ++ [0]) - 1000 * (tb_R n mk : Int) ∧ 0 ≤ tb_pp pr 0 (l ++ [0]) ∧ tb_pp pr 0 (l ++ [0]) ≤ 280) ∨ (tb_al mk (tb_pe 0 (l ++ [0])) = false ∧ (tb_V (tb_c true pr mk) 0 (l ++ [0]) = 1000000 ∨ 280 - 1000 * (tb_R n mk : Int) < tb_V (tb_c true pr mk) 0 (l ++ [0]))) := by
  have tf := tb_tour_facts h2 h7 hl
  have hlen : (l ++ [0]).length = n := by rw [List.length_append, tf.2.1]; simp; omega
  have bd := tb_pp_bd h7 hp tf.1
  have hE : ∀ f, f ∈ tb_pe 0 (l ++ [0]) → f < 49 := by
    intro f hf
    obtain ⟨a, b, h1, h3, h4, q⟩ := tb_pe_in tf.1 hf
    omega
  by_cases hc : ∃ f, f ∈ tb_pe 0 (l ++ [0]) ∧ mk f = 2
  · right
    obtain ⟨f, hf, h⟩ := hc
    refine ⟨?_, Or.inl (tb_V_closed hf h)⟩
    cases hz : tb_al mk (tb_pe 0 (l ++ [0])) with
    | false => rfl
    | true =>
      have q := (tb_al_iff.mp hz f (hE f hf)).1 h
      rw [tb_us_iff.mpr ⟨f, hf, Or.inl rfl⟩] at q
      exact q
  · have hc' : ∀ f, f ∈ tb_pe 0 (l ++ [0]) → mk f ≠ 2 := fun f hf q => hc ⟨f, hf, q⟩
    have hV := tb_V_free (w := true) h7 hp tf.1 (by rw [hlen]; omega) hc'
    rw [if_pos rfl] at hV
    rw [hlen] at bd
    rcases tb_cnt h2 h7 hm hl with ⟨q1, q2⟩ | ⟨q1, q2⟩
    · left
      refine ⟨tb_al_iff.mpr (fun k hk => ⟨fun h => ?_, q1 k hk⟩), by rw [hV, q2], by omega, by omega⟩
      cases hz : tb_us (tb_pe 0 (l ++ [0])) k with
      | false => rfl
      | true =>
        obtain ⟨f, hf, q⟩ := tb_us_iff.mp hz
        exfalso
        apply hc' f hf
        rcases q with q | q
        · rw [← q]; exact h
        · rw [q, tb_Mok_rv hm (hE f hf)] at h; exact h
    · right
      refine ⟨?_, Or.inr ?_⟩
      · obtain ⟨k, hk, h1, h3⟩ := q1
        cases hz : tb_al mk (tb_pe 0 (l ++ [0])) with
        | false => rfl
        | true =>
          have q := (tb_al_iff.mp hz k hk).2 h1
          rw [h3] at q
          exact q.symm
      · rw [hV]
        omega
end
section
def tb_cd (a : Nat) (l : List Nat) : Nat := l.foldl (fun a x => 7 * a + x) a
def tb_LK (A : List Nat → Bool) (q : List Nat → Int) (L : List (List Nat)) (least code : Int32) (ties : Nat) : Prop :=
  (least = -1 ∧ code = -1 ∧ ties = 0 ∧ ∀ l, l ∈ L → A l = false) ∨ (∃ l0, L.find? (fun l => A l && decide (q l = least.toInt)) = some l0 ∧ 0 ≤ least.toInt ∧ code = nI (tb_cd 0 l0) ∧ ties = L.countP (fun l => A l && decide (q l = least.toInt)) ∧ ∀ l, l ∈ L → A l = true → least.toInt ≤ q l)
theorem tb_LK_no {A : List Nat → Bool} {q : List Nat → Int} {L : List (List Nat)} {least code : Int32} {ties : Nat} {l : List Nat} (h : tb_LK A q L least code ties) (hA : A l = false) : tb_LK A q (L ++ [l]) least code ties := by
  rcases h with ⟨h1, h2, h3, h4⟩ | ⟨l0, h1, h2, h3, h4, h5⟩
  · refine Or.inl ⟨h1, h2, h3, fun x hx => ?_⟩
    rcases List.mem_append.mp hx with q | q
    · exact h4 x q
    · rw [List.mem_singleton.mp q]; exact hA
  · refine Or.inr ⟨l0, ?_, h2, h3, ?_, fun x hx hy => ?_⟩
    · rw [List.find?_append, h1]; rfl
    · rw [List.countP_append, ← h4, List.countP_singleton, hA]; rfl
    · rcases List.mem_append.mp hx with q | q
      · exact h5 x q hy
      · rw [List.mem_singleton.mp q, hA] at hy; exact absurd hy (by decide)
theorem tb_LK_tie {A : List Nat → Bool} {q : List Nat → Int} {L : List (List Nat)} {least code : Int32} {ties : Nat} {l : List Nat} (h : tb_LK A q L least code ties) (hA : A l = true) (hq : q l = least.toInt) (h0 : 0 ≤ q l) : tb_LK A q (L ++ [l]) least code (ties + 1) := by
  rcases h with ⟨h1, h2, h3, h4⟩ | ⟨l0, h1, h2, h3, h4, h5⟩
  · rw [h1] at hq
    have : (-1 : Int32).toInt = -1 := by decide
    omega
  · refine Or.inr ⟨l0, ?_, h2, h3, ?_, fun x hx hy => ?_⟩
    · rw [List.find?_append, h1]; rfl
    · rw [List.countP_append, ← h4, List.countP_singleton, hA, decide_eq_true hq]; rfl
    · rcases List.mem_append.mp hx with p | p
      · exact h5 x p hy
      · rw [List.mem_singleton.mp p]; omega
theorem tb_LK_more {A : List Nat → Bool} {q : List Nat → Int} {L : List (List Nat)} {least code : Int32} {ties : Nat} {l : List Nat} (h : tb_LK A q L least code ties) (h0 : 0 ≤ least.toInt) (hq : least.toInt < q l) : tb_LK A q (L ++ [l]) least code ties := by
  rcases h with ⟨h1, h2, h3, h4⟩ | ⟨l0, h1, h2, h3, h4, h5⟩
  · rw [h1] at h0
    have : (-1 : Int32).toInt = -1 := by decide
    omega
  · refine Or.inr ⟨l0, ?_, h2, h3, ?_, fun x hx hy => ?_⟩
    · rw [List.find?_append, h1]; rfl
    · have z : decide (q l = least.toInt) = false := decide_eq_false (by omega)
      rw [List.countP_append, ← h4, List.countP_singleton, z, Bool.and_false]; rfl
    · rcases List.mem_append.mp hx with p | p
      · exact h5 x p hy
      · rw [List.mem_singleton.mp p]; omega
theorem tb_LK_new {A : List Nat → Bool} {q : List Nat → Int} {L : List (List Nat)} {least code : Int32} {ties : Nat} {l : List Nat} {v : Int32} (h : tb_LK A q L least code ties) (hA : A l = true) (hv : v.toInt = q l) (h0 : 0 ≤ q l) (hq : least < 0 ∨ q l < least.toInt) : tb_LK A q (L ++ [l]) v (nI (tb_cd 0 l)) 1 := by
  have z : ∀ x, x ∈ L → A x = true → q l < q x := by
    intro x hx hy
    rcases h with ⟨h1, h2, h3, h4⟩ | ⟨l0, h1, h2, h3, h4, h5⟩
    · rw [h4 x hx] at hy; exact absurd hy (by decide)
    · have := h5 x hx hy
      rcases hq with p | p
      · rw [Int32.lt_iff_toInt_lt, show (0 : Int32).toInt = 0 from by decide] at p; omega
      · omega
  have n1 : ∀ x, x ∈ L → ¬ (A x && decide (q x = v.toInt)) = true := by
    intro x hx hp
    rw [Bool.and_eq_true, decide_eq_true_eq] at hp
    have := z x hx hp.1
    omega
  have n2 : (A l && decide (q l = v.toInt)) = true := by rw [hA, decide_eq_true hv.symm]; rfl
  refine Or.inr ⟨l, ?_, by omega, rfl, ?_, fun x hx hy => ?_⟩
  · rw [List.find?_append, List.find?_eq_none.mpr n1, List.find?_cons_of_pos (p := fun l => A l && decide (q l = v.toInt)) n2]; rfl
  · rw [List.countP_append, List.countP_eq_zero.mpr n1, List.countP_singleton, n2]; rfl
  · rcases List.mem_append.mp hx with p | p
    · have := z x p hy; omega
    · rw [List.mem_singleton.mp p]; omega
theorem tb_find_congr {α : Type} {p q : α → Bool} : ∀ {L : List α}, (∀ x, x ∈ L → (p x = true ↔ q x = true)) → L.find? p = L.find? q
  | [], _ => rfl
  | a :: L, h => by
    have ha := h a List.mem_cons_self
    have ih := tb_find_congr (L := L) (fun x hx => h x (List.mem_cons_of_mem _ hx))
    by_cases z : p a = true
    · rw [List.find?_cons_of_pos z, List.find?_cons_of_pos (ha.mp z)]
    · rw [List.find?_cons_of_neg z, List.find?_cons_of_neg (fun y => z (ha.mpr y)), ih]
section
variable {n : Nat} {pr mk : Nat → Int32}
def tb_tc (pr mk : Nat → Int32) : Nat → Nat → Int := tb_c true pr mk
def tb_te (pr mk : Nat → Int32) : Nat → Int := fun t => tb_tc pr mk t 0
theorem tb_tc_ok (hp : tb_Pok pr) : tb_Cok (tb_tc pr mk) := tb_c_ok hp
theorem tb_te_ok (hp : tb_Pok pr) : tb_Eok (tb_te pr mk) := fun t => tb_c_ok hp t 0
def tb_TD (n : Nat) (pr mk : Nat → Int32) : List Int := tb_D (tb_tc pr mk) (tb_te pr mk) 0 (2 ^ n - 2)
def tb_A (mk : Nat → Int32) (l : List Nat) : Bool := tb_al mk (tb_pe 0 (l ++ [0]))
def tb_q (pr : Nat → Int32) (l : List Nat) : Int := tb_pp pr 0 (l ++ [0])
theorem tb_brW (h2 : 2 ≤ n) (h7 : n ≤ 7) (hp : tb_Pok pr) (hm : tb_Mok n mk) {l : List Nat} (hl : l ∈ tb_P (2 ^ n - 2)) :
    (tb_A mk l = true ∧ tb_W (tb_tc pr mk) (tb_te pr mk) 0 l = tb_q pr l - 1000 * (tb_R n mk : Int) ∧ 0 ≤ tb_q pr l ∧ tb_q pr l ≤ 280) ∨ (tb_A mk l = false ∧ (tb_W (tb_tc pr mk) (tb_te pr mk) 0 l = 1000000 ∨ 280 - 1000 * (tb_R n mk : Int) < tb_W (tb_tc pr mk) (tb_te pr mk) 0 l)) := by
  have e : tb_W (tb_tc pr mk) (tb_te pr mk) 0 l = tb_V (tb_c true pr mk) 0 (l ++ [0]) := tb_W_tour (tb_tc pr mk) (tb_tc_ok hp) l 0
  rw [e]
  exact tb_br h2 h7 hp hm (tb_P_mem.mp hl)
theorem tb_fin (h2 : 2 ≤ n) (h7 : n ≤ 7) (hp : tb_Pok pr) (hm : tb_Mok n mk) {least code : Int32} {ties : Nat} (h : tb_LK (tb_A mk) (tb_q pr) (tb_P (2 ^ n - 2)) least code ties) :
    (least = -1 ∧ code = -1 ∧ ties = 0 ∧ (tb_mn (tb_TD n pr mk) = 1000000 ∨ 280 - 1000 * (tb_R n mk : Int) < tb_mn (tb_TD n pr mk))) ∨ (0 ≤ least.toInt ∧ least.toInt ≤ 280 ∧ tb_mn (tb_TD n pr mk) = least.toInt - 1000 * (tb_R n mk : Int) ∧ ties = tb_ct (tb_TD n pr mk) ∧ ∃ l0, (tb_P (2 ^ n - 2)).find? (fun l => decide (tb_W (tb_tc pr mk) (tb_te pr mk) 0 l = tb_mn (tb_TD n pr mk))) = some l0 ∧ code = nI (tb_cd 0 l0)) := by
  have far := tb_mn_far (tb_TD n pr mk)
  rcases h with ⟨h1, h2', h3, h4⟩ | ⟨l0, h1, h2', h3, h4, h5⟩
  · refine Or.inl ⟨h1, h2', h3, ?_⟩
    by_cases z : tb_mn (tb_TD n pr mk) < 1000000
    · obtain ⟨l, hl, q⟩ := List.mem_map.mp (tb_mn_mem z)
      rcases tb_brW h2 h7 hp hm hl with p | p
      · rw [h4 l hl] at p; exact absurd p.1 (by decide)
      · rw [q] at p; exact p.2
    · exact Or.inl (by omega)
  · right
    have m0 := List.mem_of_find?_eq_some h1
    have p0 := List.find?_some h1
    rw [Bool.and_eq_true, decide_eq_true_eq] at p0
    have b0 : tb_W (tb_tc pr mk) (tb_te pr mk) 0 l0 = least.toInt - 1000 * (tb_R n mk : Int) ∧ least.toInt ≤ 280 := by
      rcases tb_brW h2 h7 hp hm m0 with p | p
      · omega
      · rw [p0.1] at p; exact absurd p.1 (by decide)
    have le : tb_mn (tb_TD n pr mk) ≤ least.toInt - 1000 * (tb_R n mk : Int) := by
      rw [← b0.1]; exact tb_mn_le (List.mem_map.mpr ⟨l0, m0, rfl⟩)
    have mn : tb_mn (tb_TD n pr mk) = least.toInt - 1000 * (tb_R n mk : Int) := by
      obtain ⟨l, hl, q⟩ := List.mem_map.mp (tb_mn_mem (L := tb_TD n pr mk) (by omega))
      rcases tb_brW h2 h7 hp hm hl with p | p
      · have := h5 l hl p.1
        omega
      · omega
    have pt : ∀ l, l ∈ tb_P (2 ^ n - 2) → ((tb_A mk l && decide (tb_q pr l = least.toInt)) = true ↔ decide (tb_W (tb_tc pr mk) (tb_te pr mk) 0 l = tb_mn (tb_TD n pr mk)) = true) := by
      intro l hl
      rw [Bool.and_eq_true, decide_eq_true_eq, decide_eq_true_eq, mn]
      rcases tb_brW h2 h7 hp hm hl with p | p
      · have := p.1
        constructor
        · intro z; omega
        · intro z; exact ⟨p.1, by omega⟩
      · constructor
        · intro z; rw [p.1] at z; exact absurd z.1 (by decide)
        · intro z; omega
    refine ⟨h2', b0.2, mn, ?_, l0, ?_, h3⟩
    · rw [h4, tb_ct, if_pos (by omega)]
      have e1 : List.count (tb_mn (tb_TD n pr mk)) (tb_TD n pr mk) = (tb_P (2 ^ n - 2)).countP (fun l => decide (tb_W (tb_tc pr mk) (tb_te pr mk) 0 l = tb_mn (tb_TD n pr mk))) := by
        generalize tb_mn (tb_TD n pr mk) = v
        unfold tb_TD tb_D List.count
        rw [List.countP_map]
        apply List.countP_congr
        intro l _
        simp only [Function.comp_def, beq_iff_eq, decide_eq_true_eq]
      rw [e1]
      exact List.countP_congr pt
    · rw [← h1]
      exact (tb_find_congr pt).symm
theorem tb_cheap (h2 : 2 ≤ n) (h7 : n ≤ 7) (hp : tb_Pok pr) (hm : tb_Mok n mk) {goal limit : Int} (hg : (1000000 ≤ limit ∧ goal = 1000000) ∨ (limit < 1000000 ∧ goal = limit - 1000 * (tb_R n mk : Int))) : tb_cq goal (280 - 1000 * (tb_R n mk : Int)) 0 (tb_TD n pr mk) = (tb_P (2 ^ n - 2)).countP (fun l => tb_A mk l && decide (tb_q pr l ≤ limit)) := by
  unfold tb_cq tb_TD tb_D
  rw [List.countP_map]
  apply List.countP_congr
  intro l hl
  simp only [Function.comp_def, Bool.and_eq_true, decide_eq_true_eq]
  rcases tb_brW h2 h7 hp hm hl with p | p
  · have := p.1
    constructor
    · intro z; exact ⟨p.1, by omega⟩
    · intro z; omega
  · constructor
    · intro z; omega
    · intro z; rw [p.1] at z; exact absurd z.1 (by decide)
end
end
section
def tb_oth (n a b : Nat) : List Nat := (List.range n).filter (fun t => decide (t ≠ a ∧ t ≠ b))
def tb_othB (n a b : Nat) : Bool := List.isPerm (tb_oth n a b ++ [b]) (tb_bits (2 ^ n - 1 - 2 ^ a)) && decide ((tb_oth n a b).length = n - 2) && decide (2 ^ n - 1 - 2 ^ a < 128) && decide (2 ^ n - 1 - 2 ^ a ≠ 0)
theorem tb_oth_tab0 : ∀ n, n < 8 → ∀ a, a < n → ∀ b, b < n → (a = b ∨ tb_othB n a b = true) := by decide +kernel
theorem tb_oth_tab : ∀ n, n < 8 → 2 ≤ n → ∀ a, a < n → ∀ b, b < n → a ≠ b → List.Perm (tb_oth n a b ++ [b]) (tb_bits (2 ^ n - 1 - 2 ^ a)) ∧ (tb_oth n a b).length = n - 2 ∧ 2 ^ n - 1 - 2 ^ a < 128 ∧ 2 ^ n - 1 - 2 ^ a ≠ 0 := by
  intro n h1 h2 a ha b hb hab
  rcases tb_oth_tab0 n h1 a ha b hb with q | q
  · exact absurd q hab
  · unfold tb_othB at q
    rw [Bool.and_eq_true, Bool.and_eq_true, Bool.and_eq_true, decide_eq_true_eq, decide_eq_true_eq, decide_eq_true_eq] at q
    exact ⟨List.isPerm_iff.mp q.1.1.1, q.1.1.2, q.1.2, q.2⟩
theorem tb_oth_nd (n a b : Nat) : (tb_oth n a b).Nodup := List.nodup_range.sublist List.filter_sublist
theorem tb_oth_mem {n a b x : Nat} : x ∈ tb_oth n a b ↔ x < n ∧ x ≠ a ∧ x ≠ b := by
  simp [tb_oth]
def tb_cl (mk : Nat → Int32) (E : List Nat) : Bool := E.any (fun f => decide (mk f = 2))
theorem tb_cl_t {mk : Nat → Int32} {E : List Nat} : tb_cl mk E = true ↔ ∃ f, f ∈ E ∧ mk f = 2 := by
  unfold tb_cl
  rw [List.any_eq_true]
  constructor
  · rintro ⟨f, h1, h2⟩; exact ⟨f, h1, of_decide_eq_true h2⟩
  · rintro ⟨f, h1, h2⟩; exact ⟨f, h1, decide_eq_true h2⟩
theorem tb_cl_f {mk : Nat → Int32} {E : List Nat} (h : tb_cl mk E = false) : ∀ f, f ∈ E → mk f ≠ 2 := by
  intro f hf q
  rw [tb_cl_t.mpr ⟨f, hf, q⟩] at h
  exact absurd h (by decide)
section
variable {n : Nat} {pr mk : Nat → Int32} {a b : Nat}
def tb_pc (pr mk : Nat → Int32) : Nat → Nat → Int := tb_c false pr mk
theorem tb_pc_ok (hp : tb_Pok pr) : tb_Cok (tb_pc pr mk) := tb_c_ok hp
def tb_PD (n : Nat) (pr mk : Nat → Int32) (a b : Nat) : List Int := tb_D (tb_pc pr mk) (tb_eb b) a (2 ^ n - 1 - 2 ^ a)
theorem tb_path_ch (h7 : n ≤ 7) (ha : a < n) (hb : b < n) (hab : a ≠ b) {l : List Nat} (hl : List.Perm l (tb_oth n a b)) : tb_ch n a (l ++ [b]) := by
  have nd : l.Nodup := hl.nodup_iff.mpr (tb_oth_nd n a b)
  have hm : ∀ x, x ∈ l → x < n ∧ x ≠ a ∧ x ≠ b := fun x hx => tb_oth_mem.mp (hl.mem_iff.mp hx)
  refine tb_ch_app (tb_ch_of (List.nodup_cons.mpr ⟨fun q => (hm a q).2.1 rfl, nd⟩) (fun x hx => ?_)) ha hb hab (fun q => (hm b q).2.2 rfl)
  rcases List.mem_cons.mp hx with q | q
  · rw [q]; exact ha
  · exact (hm x q).1
theorem tb_path_W (h2 : 2 ≤ n) (h7 : n ≤ 7) (hp : tb_Pok pr) (ha : a < n) (hb : b < n) (hab : a ≠ b) {l : List Nat} (hl : List.Perm l (tb_oth n a b)) : (l ++ [b]) ∈ tb_P (2 ^ n - 1 - 2 ^ a) ∧ ((tb_cl mk (tb_pe a (l ++ [b])) = true ∧ tb_W (tb_pc pr mk) (tb_eb b) a (l ++ [b]) = 1000000) ∨ (tb_cl mk (tb_pe a (l ++ [b])) = false ∧ tb_W (tb_pc pr mk) (tb_eb b) a (l ++ [b]) = tb_pp pr a (l ++ [b]) ∧ 0 ≤ tb_pp pr a (l ++ [b]) ∧ tb_pp pr a (l ++ [b]) ≤ 240)) := by
  have tab := tb_oth_tab n (by omega) h2 a ha b hb hab
  refine ⟨tb_P_mem.mpr ((hl.append_right [b]).trans tab.1), ?_⟩
  rw [tb_W_path]
  have ch := tb_path_ch h7 ha hb hab hl
  have hlen : (l ++ [b]).length = n - 1 := by rw [List.length_append, hl.length_eq, tab.2.1]; simp; omega
  have bd := tb_pp_bd h7 hp ch
  cases hz : tb_cl mk (tb_pe a (l ++ [b])) with
  | true =>
    obtain ⟨f, hf, q⟩ := tb_cl_t.mp hz
    exact Or.inl ⟨rfl, tb_V_closed hf q⟩
  | false =>
    have hV := tb_V_free (w := false) h7 hp ch (by omega) (tb_cl_f hz)
    simp only [Bool.false_eq_true, if_false] at hV
    exact Or.inr ⟨rfl, by show tb_V (tb_c false pr mk) _ _ = _; omega, by omega, by omega⟩
def tb_MO (mk pr : Nat → Int32) (a b : Nat) (L : List (List Nat)) (most : Int32) : Prop :=
  (most = -3 ∧ ∀ l, l ∈ L → tb_cl mk (tb_pe a (l ++ [b])) = true) ∨ (0 ≤ most.toInt ∧ (∃ l, l ∈ L ∧ tb_cl mk (tb_pe a (l ++ [b])) = false ∧ tb_pp pr a (l ++ [b]) = most.toInt) ∧ ∀ l, l ∈ L → tb_cl mk (tb_pe a (l ++ [b])) = false → most.toInt ≤ tb_pp pr a (l ++ [b]))
theorem tb_MO_no {L : List (List Nat)} {most : Int32} {l : List Nat} (h : tb_MO mk pr a b L most) (hc : tb_cl mk (tb_pe a (l ++ [b])) = true) : tb_MO mk pr a b (L ++ [l]) most := by
  rcases h with ⟨h1, h2⟩ | ⟨h1, ⟨l0, h2, h3, h4⟩, h5⟩
  · refine Or.inl ⟨h1, fun x hx => ?_⟩
    rcases List.mem_append.mp hx with q | q
    · exact h2 x q
    · rw [List.mem_singleton.mp q]; exact hc
  · refine Or.inr ⟨h1, ⟨l0, List.mem_append_left _ h2, h3, h4⟩, fun x hx hy => ?_⟩
    rcases List.mem_append.mp hx with q | q
    · exact h5 x q hy
    · rw [List.mem_singleton.mp q, hc] at hy; exact absurd hy (by decide)
theorem tb_MO_keep {L : List (List Nat)} {most : Int32} {l : List Nat} (h : tb_MO mk pr a b L most) (h0 : 0 ≤ most.toInt) (hq : most.toInt ≤ tb_pp pr a (l ++ [b])) : tb_MO mk pr a b (L ++ [l]) most := by
  rcases h with ⟨h1, h2⟩ | ⟨h1, ⟨l0, h2, h3, h4⟩, h5⟩
  · rw [h1] at h0; exact absurd h0 (by decide)
  · refine Or.inr ⟨h1, ⟨l0, List.mem_append_left _ h2, h3, h4⟩, fun x hx hy => ?_⟩
    rcases List.mem_append.mp hx with q | q
    · exact h5 x q hy
    · rw [List.mem_singleton.mp q]; exact hq
theorem tb_MO_new {L : List (List Nat)} {most v : Int32} {l : List Nat} (h : tb_MO mk pr a b L most) (hc : tb_cl mk (tb_pe a (l ++ [b])) = false) (hv : v.toInt = tb_pp pr a (l ++ [b])) (h0 : 0 ≤ v.toInt) (hq : most.toInt < 0 ∨ v.toInt < most.toInt) : tb_MO mk pr a b (L ++ [l]) v := by
  refine Or.inr ⟨h0, ⟨l, List.mem_append_right _ List.mem_cons_self, hc, hv.symm⟩, fun x hx hy => ?_⟩
  rcases List.mem_append.mp hx with q | q
  · rcases h with ⟨h1, h2⟩ | ⟨h1, h2, h5⟩
    · rw [h2 x q] at hy; exact absurd hy (by decide)
    · have := h5 x q hy; omega
  · rw [List.mem_singleton.mp q]; omega
theorem tb_path_fin (h2 : 2 ≤ n) (h7 : n ≤ 7) (hp : tb_Pok pr) (ha : a < n) (hb : b < n) (hab : a ≠ b) {most : Int32} (h : tb_MO mk pr a b (tb_perms (n - 2) (tb_oth n a b)) most) : (most = -3 ∧ tb_mn (tb_PD n pr mk a b) = 1000000) ∨ (0 ≤ most.toInt ∧ most.toInt ≤ 240 ∧ tb_mn (tb_PD n pr mk a b) = most.toInt) := by
  have tab := tb_oth_tab n (by omega) h2 a ha b hb hab
  have far := tb_mn_far (tb_PD n pr mk a b)
  have pm : ∀ l, l ∈ tb_perms (n - 2) (tb_oth n a b) ↔ List.Perm l (tb_oth n a b) := tb_perms_mem _ _ tab.2.1
  have back : tb_mn (tb_PD n pr mk a b) < 1000000 → ∃ l, List.Perm l (tb_oth n a b) ∧ tb_cl mk (tb_pe a (l ++ [b])) = false ∧ tb_mn (tb_PD n pr mk a b) = tb_pp pr a (l ++ [b]) := by
    intro z
    obtain ⟨l, hl, q0⟩ := List.mem_map.mp (tb_mn_mem z)
    have q : tb_W (tb_pc pr mk) (tb_eb b) a l = tb_mn (tb_PD n pr mk a b) := q0
    have hl' := tb_P_mem.mp hl
    clear q0
    rcases List.eq_nil_or_concat l with e | ⟨l', x, e⟩
    · rw [e] at hl'
      have h1 := hl'.length_eq
      exact absurd h1.symm (tb_bits_pos _ tab.2.2.1 tab.2.2.2)
    · rw [List.concat_eq_append] at e
      subst e
      by_cases hx : x = b
      · subst hx
        have hs : List.Perm l' (tb_oth n a x) := (List.perm_append_right_iff [x]).mp (hl'.trans tab.1.symm)
        rcases (tb_path_W (mk := mk) h2 h7 hp ha hb hab hs).2 with p | p
        · omega
        · exact ⟨l', hs, p.1, by omega⟩
      · rw [tb_W_path_no _ l' a x hx] at q
        omega
  rcases h with ⟨h1, h3⟩ | ⟨h1, ⟨l0, h3, h4, h5⟩, h6⟩
  · refine Or.inl ⟨h1, ?_⟩
    by_cases z : tb_mn (tb_PD n pr mk a b) < 1000000
    · obtain ⟨l, hl, q, _⟩ := back z
      rw [h3 l ((pm l).mpr hl)] at q
      exact absurd q (by decide)
    · omega
  · right
    have w0 := tb_path_W (mk := mk) h2 h7 hp ha hb hab ((pm l0).mp h3)
    have le : tb_mn (tb_PD n pr mk a b) ≤ most.toInt ∧ most.toInt ≤ 240 := by
      rcases w0.2 with p | p
      · rw [p.1] at h4; exact absurd h4 (by decide)
      · have := tb_mn_le (L := tb_PD n pr mk a b) (List.mem_map.mpr ⟨_, w0.1, rfl⟩)
        omega
    refine ⟨h1, le.2, ?_⟩
    obtain ⟨l, hl, q, q2⟩ := back (by omega)
    have := h6 l ((pm l).mpr hl) q
    omega
end
end
section
def tb_Con (E : List (Nat × Nat)) (K V : Nat → Prop) : Prop := ∀ S : Nat → Prop, (∀ x y, K x → K y → S x → S y) → (∀ a b, (a, b) ∈ E → (S a ↔ S b)) → ∀ x y, V x → V y → S x → S y
def tb_cost (c : Nat → Nat → Int) : List (Nat × Nat) → Int
  | [] => 0
  | e :: E => c e.1 e.2 + tb_cost c E
theorem tb_cost_erase {c : Nat → Nat → Int} : ∀ {E : List (Nat × Nat)} {e : Nat × Nat}, e ∈ E → tb_cost c E = c e.1 e.2 + tb_cost c (E.erase e)
  | [], _, h => by simp at h
  | f :: E, e, h => by
    by_cases q : f = e
    · subst q
      rw [List.erase_cons_head]
      rfl
    · have h' : e ∈ E := by
        rcases List.mem_cons.mp h with p | p
        · exact absurd p.symm q
        · exact p
      rw [List.erase_cons_tail (by simpa using q)]
      have ih := tb_cost_erase (c := c) h'
      simp only [tb_cost]
      omega
theorem tb_cost_app (c : Nat → Nat → Int) : ∀ A B : List (Nat × Nat), tb_cost c (A ++ B) = tb_cost c A + tb_cost c B
  | [], B => by simp [tb_cost]
  | a :: A, B => by
    have := tb_cost_app c A B
    simp only [List.cons_append, tb_cost]
    omega
theorem tb_cost_pos {c : Nat → Nat → Int} : ∀ {E : List (Nat × Nat)}, (∀ e, e ∈ E → 0 ≤ c e.1 e.2) → 0 ≤ tb_cost c E
  | [], _ => Int.le_refl _
  | e :: E, h => by
    have h1 := h e List.mem_cons_self
    have h2 := tb_cost_pos (fun f hf => h f (List.mem_cons_of_mem e hf))
    simp only [tb_cost]
    omega
theorem tb_exch {E : List (Nat × Nat)} {K V : Nat → Prop} {v k : Nat} (hc : tb_Con E K V) (hv : V v) (hk : K k) (hkV : V k) (hK : ¬ K v) : ∃ e, e ∈ E ∧ ((K e.1 ∧ ¬ K e.2) ∨ (¬ K e.1 ∧ K e.2)) ∧ tb_Con (E.erase e) (fun z => K z ∨ z = v) V := by
  let C : Nat → Prop := fun z => ∀ T : Nat → Prop, T v → (∀ a b, (a, b) ∈ E → ¬ K a → ¬ K b → (T a ↔ T b)) → T z
  have Cv : C v := fun T h _ => h
  have CK : ∀ z, C z → ¬ K z := fun z h => h (fun z => ¬ K z) hK (fun a b _ ha hb => ⟨fun _ => hb, fun _ => ha⟩)
  have Cc : ∀ a b, (a, b) ∈ E → ¬ K a → ¬ K b → (C a ↔ C b) := fun a b h ha hb => ⟨fun q T h1 h2 => (h2 a b h ha hb).mp (q T h1 h2), fun q T h1 h2 => (h2 a b h ha hb).mpr (q T h1 h2)⟩
  have ex : ∃ a b, (a, b) ∈ E ∧ ¬ (C a ↔ C b) := by
    apply Classical.byContradiction
    intro hno
    have h1 : C k := hc C (fun x y hx _ h => absurd hx (CK x h)) (fun a b h => Classical.byContradiction (fun q => hno ⟨a, b, h, q⟩)) v k hv hkV Cv
    exact CK k h1 hk
  obtain ⟨a, b, hab, hne⟩ := ex
  have fin : ∀ x y, C x → K y → (∀ S : Nat → Prop, (S x ↔ S y) → (S a ↔ S b)) → (∀ p q, ¬ K p → ¬ K q → (p, q) ≠ (a, b)) → tb_Con (E.erase (a, b)) (fun z => K z ∨ z = v) V := by
    intro x y hx hy hS hpq S s1 s2
    apply hc S (fun p q hp hq => s1 p q (Or.inl hp) (Or.inl hq))
    intro p q hpqE
    by_cases z : (p, q) = (a, b)
    · have zp : p = a := congrArg Prod.fst z
      have zq : q = b := congrArg Prod.snd z
      rw [zp, zq]
      apply hS
      have t : S x ↔ S v := hx (fun z => S z ↔ S v) Iff.rfl (fun p q h hp hq => by
        have w := s2 p q ((List.mem_erase_of_ne (hpq p q hp hq)).mpr h)
        rw [w])
      rw [t]
      exact ⟨s1 v y (Or.inr rfl) (Or.inl hy), s1 y v (Or.inl hy) (Or.inr rfl)⟩
    · exact s2 p q ((List.mem_erase_of_ne z).mpr hpqE)
  by_cases ha : C a
  · have hb : ¬ C b := fun h => hne ⟨fun _ => h, fun _ => ha⟩
    have kb : K b := Classical.byContradiction (fun h => hb ((Cc a b hab (CK a ha) h).mp ha))
    exact ⟨(a, b), hab, Or.inr ⟨CK a ha, kb⟩, fin a b ha kb (fun S h => h) (fun p q _ hq h => hq (by rw [show q = b from congrArg Prod.snd h]; exact kb))⟩
  · have hb : C b := Classical.byContradiction (fun h => hne ⟨fun q => absurd q ha, fun q => absurd q h⟩)
    have ka : K a := Classical.byContradiction (fun h => ha ((Cc a b hab h (CK b hb)).mpr hb))
    exact ⟨(a, b), hab, Or.inl ⟨ka, CK b hb⟩, fin b a hb ka (fun S h => h.symm) (fun p q hp _ h => hp (by rw [show p = a from congrArg Prod.fst h]; exact ka))⟩
def tb_good_E (n : Nat) (c : Nat → Nat → Int) (E : List (Nat × Nat)) : Prop := ∀ e, e ∈ E → e.1 < n ∧ e.2 < n ∧ c e.1 e.2 < 1000000
def tb_LB (n : Nat) (c : Nat → Nat → Int) (K : Nat → Prop) (total : Int) : Prop := ∀ E, tb_good_E n c E → tb_Con E (fun z => z = 0) (fun z => z < n) → ∃ E', tb_good_E n c E' ∧ tb_Con E' K (fun z => z < n) ∧ tb_cost c E' + total ≤ tb_cost c E
theorem tb_LB_0 (n : Nat) (c : Nat → Nat → Int) : tb_LB n c (fun z => z = 0) 0 := fun E h1 h2 => ⟨E, h1, h2, by omega⟩
theorem tb_Con_K {E : List (Nat × Nat)} {K K' V : Nat → Prop} (h : ∀ z, K z ↔ K' z) (hc : tb_Con E K V) : tb_Con E K' V := fun S s1 s2 => hc S (fun x y hx hy => s1 x y ((h x).mp hx) ((h y).mp hy)) s2
theorem tb_LB_step {n : Nat} {c : Nat → Nat → Int} {K K' : Nat → Prop} {total : Int} {v k : Nat} (hs : ∀ a b, c a b = c b a) (h : tb_LB n c K total) (hv : v < n) (hK : ¬ K v) (hk : K k) (hkn : k < n) (hK' : ∀ z, (K z ∨ z = v) ↔ K' z) {m : Int} (hm : ∀ a b, a < n → b < n → K a → ¬ K b → m ≤ c a b) : tb_LB n c K' (total + m) := by
  intro E h1 h2
  obtain ⟨E', g1, g2, g3⟩ := h E h1 h2
  obtain ⟨e, he, hx, hcon⟩ := tb_exch (k := k) g2 hv hk hkn hK
  have ge := g1 e he
  have mm : m ≤ c e.1 e.2 := by
    rcases hx with q | q
    · exact hm _ _ ge.1 ge.2.1 q.1 q.2
    · rw [hs]; exact hm _ _ ge.2.1 ge.1 q.2 q.1
  have ce := tb_cost_erase (c := c) he
  exact ⟨E'.erase e, fun f hf => g1 f (List.mem_of_mem_erase hf), tb_Con_K hK' hcon, by omega⟩
theorem tb_LB_stuck {n : Nat} {c : Nat → Nat → Int} {K : Nat → Prop} {total : Int} {v k : Nat} (hs : ∀ a b, c a b = c b a) (h : tb_LB n c K total) (hv : v < n) (hK : ¬ K v) (hk : K k) (hkn : k < n) (hm : ∀ a b, a < n → b < n → K a → ¬ K b → 1000000 ≤ c a b) : ∀ E, tb_good_E n c E → ¬ tb_Con E (fun z => z = 0) (fun z => z < n) := by
  intro E h1 h2
  obtain ⟨E', g1, g2, g3⟩ := h E h1 h2
  obtain ⟨e, he, hx, hcon⟩ := tb_exch (k := k) g2 hv hk hkn hK
  have ge := g1 e he
  have mm : 1000000 ≤ c e.1 e.2 := by
    rcases hx with q | q
    · exact hm _ _ ge.1 ge.2.1 q.1 q.2
    · rw [hs]; exact hm _ _ ge.2.1 ge.1 q.2 q.1
  omega
theorem tb_LB_end {n : Nat} {c : Nat → Nat → Int} {K : Nat → Prop} {total : Int} (h : tb_LB n c K total) (h0 : ∀ a b, 0 ≤ c a b) : ∀ E, tb_good_E n c E → tb_Con E (fun z => z = 0) (fun z => z < n) → total ≤ tb_cost c E := by
  intro E h1 h2
  obtain ⟨E', g1, g2, g3⟩ := h E h1 h2
  have := tb_cost_pos (c := c) (E := E') (fun e _ => h0 _ _)
  omega
def tb_UB (n : Nat) (c : Nat → Nat → Int) (K : Nat) (total : Int) : Prop := ∀ J : Nat → Int, J 1 ≤ 0 → (∀ s v a, s < 2 ^ n → v < n → a < n → s.testBit v = false → s.testBit a = true → c a v < 1000000 → J (s + 2 ^ v) ≤ J s + c a v) → J K ≤ total
theorem tb_UB_0 (n : Nat) (c : Nat → Nat → Int) : tb_UB n c 1 0 := fun _ h _ => h
theorem tb_UB_step {n : Nat} {c : Nat → Nat → Int} {K v a : Nat} {total : Int} (h : tb_UB n c K total) (hK : K < 2 ^ n) (hv : v < n) (ha : a < n) (h1 : K.testBit v = false) (h2 : K.testBit a = true) (h3 : c a v < 1000000) : tb_UB n c (K + 2 ^ v) (total + c a v) := by
  intro J j0 j1
  have := h J j0 j1
  have := j1 K v a hK hv ha h1 h2 h3
  omega
end
section
theorem tb_b1 : ∀ s, s < 128 → ∀ x, x < 8 → ((nI s >>> (nI x &&& 31)) &&& 1) = if s.testBit x = true then 1 else 0 := by decide +kernel
theorem tb_ms : ∀ s, s < 128 → ∀ x, x < 8 → nI s &&& (((1 : Int32) <<< (nI x &&& 31)) ^^^ (-1)) = nI (if s.testBit x = true then s - 2 ^ x else s) := by decide +kernel
theorem tb_sl : ∀ n, n < 8 → (1 : Int32) <<< (nI n &&& 31) = nI (2 ^ n) := by decide +kernel
theorem tb_or : ∀ s, s < 128 → ∀ x, x < 7 → nI s ||| ((1 : Int32) <<< (nI x &&& 31)) = nI (if s.testBit x = true then s else s + 2 ^ x) := by decide +kernel
theorem tb_b1t {s x : Nat} (hs : s < 128) (hx : x < 8) (h : s.testBit x = true) : ((nI s >>> (nI x &&& 31)) &&& 1) = 1 := by rw [tb_b1 s hs x hx, if_pos h]
theorem tb_b1f {s x : Nat} (hs : s < 128) (hx : x < 8) (h : s.testBit x = false) : ((nI s >>> (nI x &&& 31)) &&& 1) = 0 := by rw [tb_b1 s hs x hx, h]; rfl
theorem tb_b1t' {s x : Nat} (hs : s < 128) (hx : x < 8) (h : s.testBit x = true) : ¬ ((nI s >>> (nI x &&& 31)) &&& 1) = 0 := by rw [tb_b1t hs hx h]; decide
theorem tb_b1f' {s x : Nat} (hs : s < 128) (hx : x < 8) (h : s.testBit x = false) : ¬ ((nI s >>> (nI x &&& 31)) &&& 1) = 1 := by rw [tb_b1f hs hx h]; decide
theorem tb_ms_t {s x : Nat} (hs : s < 128) (hx : x < 8) (h : s.testBit x = true) : nI s &&& (((1 : Int32) <<< (nI x &&& 31)) ^^^ (-1)) = nI (s - 2 ^ x) := by rw [tb_ms s hs x hx, if_pos h]
theorem tb_ms_f {s x : Nat} (hs : s < 128) (hx : x < 8) (h : s.testBit x = false) : nI s &&& (((1 : Int32) <<< (nI x &&& 31)) ^^^ (-1)) = nI s := by rw [tb_ms s hs x hx, h]; rfl
theorem tb_or_f {s x : Nat} (hs : s < 128) (hx : x < 7) (h : s.testBit x = false) : nI s ||| ((1 : Int32) <<< (nI x &&& 31)) = nI (s + 2 ^ x) := by rw [tb_or s hs x hx, h]; rfl
theorem tb_ix (a b : Nat) : (7 : Int32) * nI a + nI b = nI (7 * a + b) := by
  rw [show (7 : Int32) = nI 7 from rfl, pk_mul, nI_add]
theorem tb_ix0 (a : Nat) : (7 : Int32) * nI a = nI (7 * a) := by
  rw [show (7 : Int32) = nI 7 from rfl, pk_mul]
theorem tb_iy (a b : Nat) : nI a * (7 : Int32) + nI b = nI (7 * a + b) := by
  rw [show (7 : Int32) = nI 7 from rfl, pk_mul, nI_add, Nat.mul_comm]
theorem tb_dv {k : Nat} (hk : k < 2 ^ 31) : nI k / 7 = nI (k / 7) := pk_div (d := 7) hk (by omega) (by omega)
theorem tb_md {k : Nat} (hk : k < 2 ^ 31) : nI k - nI k / 7 * 7 = nI (k % 7) := pk_rem (d := 7) hk (by omega) (by omega)
theorem tb_le {x y : Int32} {A B : Prop} (a b : Int) (hx : x.toInt = a) (hy : y.toInt = b) (f : a ≤ b → A) (g : b < a → B) : (x ≤ y → A) ∧ (¬ x ≤ y → B) := by
  subst hx hy
  rw [Int32.le_iff_toInt_le]
  exact ⟨f, fun z => g (by omega)⟩
theorem tb_lt {x y : Int32} {A B : Prop} (a b : Int) (hx : x.toInt = a) (hy : y.toInt = b) (f : a < b → A) (g : b ≤ a → B) : (x < y → A) ∧ (¬ x < y → B) := by
  subst hx hy
  rw [Int32.lt_iff_toInt_lt]
  exact ⟨f, fun z => g (by omega)⟩
theorem tb_eq {x y : Int32} {A B : Prop} (a b : Int) (hx : x.toInt = a) (hy : y.toInt = b) (f : a = b → A) (g : a ≠ b → B) : (x = y → A) ∧ (¬ x = y → B) := by
  subst hx hy
  exact ⟨fun h => f (congrArg Int32.toInt h), fun h => g (fun q => h (Int32.toInt_inj.mp q))⟩
theorem tb_ad {x y : Int32} {a b : Int} (hx : x.toInt = a) (hy : y.toInt = b) (h1 : -2147483648 ≤ a + b) (h2 : a + b < 2147483648) : (x + y).toInt = a + b := by
  subst hx hy
  rw [Int32.toInt_add]
  exact Int.bmod_eq_of_le (by omega) (by omega)
theorem tb_sb {x y : Int32} {a b : Int} (hx : x.toInt = a) (hy : y.toInt = b) (h1 : -2147483648 ≤ a - b) (h2 : a - b < 2147483648) : (x - y).toInt = a - b := by
  subst hx hy
  rw [Int32.toInt_sub]
  exact Int.bmod_eq_of_le (by omega) (by omega)
theorem tb_ml {x y : Int32} {a b : Int} (hx : x.toInt = a) (hy : y.toInt = b) (h1 : -2147483648 ≤ a * b) (h2 : a * b < 2147483648) : (x * y).toInt = a * b := by
  subst hx hy
  rw [Int32.toInt_mul]
  exact Int.bmod_eq_of_le (by omega) (by omega)
theorem tb_FAR : (1000000 : Int32).toInt = 1000000 := by decide
theorem tb_Z : (0 : Int32).toInt = 0 := by decide
theorem tb_M1 : (-1 : Int32).toInt = -1 := by decide
theorem tb_M3 : (-3 : Int32).toInt = -3 := by decide
theorem tb_rqT {r : Nat} (h : r ≤ 49) : (280 - 1000 * nI r : Int32).toInt = 280 - 1000 * (r : Int) := by
  have h1 : (1000 * nI r : Int32).toInt = 1000 * (r : Int) := tb_ml (by decide) (nI_toInt (by omega)) (by omega) (by omega)
  exact tb_sb (by decide) h1 (by omega) (by omega)
theorem tb_ug {f : Nat → Int32} {k j : Nat} {x : Int32} : upd f k x j = if j = k then x else f j := rfl
theorem tb_7 (k : Nat) : 7 * (k / 7) + k % 7 = k := by omega
end
section
section
variable {pr mk cs ls wy aa lf sp tn nr od : Nat → Int32} {rq : Int32} {n : Nat}
theorem tb_xT0 {post : Int32 → Prop} {p : Int32} (h : p < 0 ∨ nI n ≤ p) (hp : post 0) : wpX_isTown post ((nI n), rq, pr, mk, cs, ls, wy, aa, lf, sp, tn, nr, od) p := by
  rcases h with h | h
  · exact br_t h hp
  · by_cases z : p < 0
    · exact br_t z hp
    · exact br_f z (br_t h hp)
theorem tb_xT1 {post : Int32 → Prop} {j : Nat} (hn : n ≤ 7) (h : j < n) (hp : post 1) : wpX_isTown post ((nI n), rq, pr, mk, cs, ls, wy, aa, lf, sp, tn, nr, od) (nI j) := br_f (nI_pos (by omega)) (br_f (nI_ge h (by omega)) hp)
def tb_Cs (w : Bool) (pr mk cs : Nat → Int32) (k : Nat) : Prop := ∀ j, j < k → (cs j).toInt = tb_c w pr mk (j / 7) (j % 7)
theorem tb_Cs_s {w : Bool} {cs' : Nat → Int32} {k : Nat} (h : tb_Cs w pr mk cs k) (h1 : ∀ j, j ≠ k → cs' j = cs j) (h2 : (cs' k).toInt = tb_c w pr mk (k / 7) (k % 7)) : tb_Cs w pr mk cs' (k + 1) := by
  intro j hj
  by_cases q : j = k
  · rw [q]; exact h2
  · rw [h1 j q]; exact h j (by omega)
def tb_rk (w : Bool) (mk : Nat → Int32) (k : Nat) : Nat := if w = true then (List.range k).countP (fun k => decide (k / 7 < k % 7) && decide (mk k = 1)) else 0
theorem tb_rk_f (k : Nat) : tb_rk false mk k = 0 := rfl
theorem tb_rk_y {k : Nat} (h : k / 7 < k % 7 ∧ mk k = 1) : tb_rk true mk (k + 1) = tb_rk true mk k + 1 := by
  unfold tb_rk
  rw [if_pos rfl, if_pos rfl, List.range_succ, List.countP_append, List.countP_singleton, decide_eq_true h.1, decide_eq_true h.2]
  rfl
theorem tb_rk_n {w : Bool} {k : Nat} (h : ¬ (k / 7 < k % 7 ∧ mk k = 1)) : tb_rk w mk (k + 1) = tb_rk w mk k := by
  cases w with
  | false => rfl
  | true =>
    unfold tb_rk
    have z : (decide (k / 7 < k % 7) && decide (mk k = 1)) = false := by
      rw [Bool.and_eq_false_iff, decide_eq_false_iff_not, decide_eq_false_iff_not]
      by_cases q : k / 7 < k % 7
      · exact Or.inr (fun p => h ⟨q, p⟩)
      · exact Or.inl q
    rw [if_pos rfl, if_pos rfl, List.range_succ, List.countP_append, List.countP_singleton, z]
    rfl
def tb_Rw (w : Bool) (n : Nat) (mk : Nat → Int32) : Nat := if w = true then tb_R n mk else 0
theorem tb_xTCl {post : SX → Prop} (w : Bool) {x1 : Int32} (hx : x1 = if w = true then 1 else 0) (hn : n ≤ 7) (hp : tb_Pok pr) (hm : tb_Mok n mk) (h : ∀ cs', tb_Cs w pr mk cs' 49 → post ((nI n), (nI (tb_Rw w n mk)), pr, mk, cs', ls, wy, aa, lf, sp, tn, nr, od)) :
    ∀ d k, k + d = 49 → ∀ cs, tb_Cs w pr mk cs k → wX_takeCosts_7 post x1 (nI n) (d + 1) (nI k) (nI (tb_rk w mk k)) pr mk cs ls wy aa lf sp tn nr od := by
  intro d
  induction d with
  | zero =>
    intro k hk cs hc
    have e : k = 49 := by omega
    subst e
    have hh := h cs hc
    have r49 : tb_rk true mk 49 = tb_r mk := rfl
    have rle := tb_r_le mk
    refine br_t (by decide) ?_
    cases w with
    | false =>
      have e2 : tb_rk false mk 49 = tb_Rw false n mk := rfl
      rw [e2]
      exact pk_eq n 2 (fun _ => br_t hx hh) (fun _ => hh)
    | true =>
      have hx0 : ¬ x1 = 0 := by rw [hx]; decide
      refine pk_eq n 2 (fun q => br_f hx0 (pk_eq (tb_rk true mk 49) 1 (fun q2 => ?_) (fun q2 => ?_))) (fun q => ?_)
      · have e2 : tb_Rw true n mk = 2 := by
          show tb_R n mk = 2
          exact if_pos ⟨q, q2⟩
        rw [e2] at hh
        exact hh
      · have e2 : tb_Rw true n mk = tb_rk true mk 49 := by
          show tb_R n mk = tb_r mk
          exact if_neg (fun z => q2 z.2)
        rw [e2] at hh
        exact hh
      · have e2 : tb_Rw true n mk = tb_rk true mk 49 := by
          show tb_R n mk = tb_r mk
          exact if_neg (fun z => q z.1)
        rw [e2] at hh
        exact hh
  | succ d ih =>
    intro k hk cs hc
    have hcl : (nI k).toNatClampNeg = k := nI_clamp (by omega)
    have hin : vp_in (nI k) 49 := vp_in_nI (by omega) (by omega)
    have h7 : ¬ (7 : Int32) = 0 := by decide
    have IH := ih (k + 1) (by omega)
    have ka : k / 7 < 7 := by omega
    have kb : k % 7 < 7 := by omega
    have far : ∀ cs', (k / 7 = k % 7 ∨ mk k = 2) → (∀ j, j ≠ k → cs' j = cs j) → cs' k = 1000000 → wX_takeCosts_7 post x1 (nI n) (d + 1) (nI (k + 1)) (nI (tb_rk w mk k)) pr mk cs' ls wy aa lf sp tn nr od := by
      intro cs' q h1 h2
      have e1 : tb_rk w mk (k + 1) = tb_rk w mk k := tb_rk_n (fun z => by
        rcases q with q | q
        · omega
        · rw [q] at z; exact absurd z.2 (by decide))
      have I2 := IH cs' (tb_Cs_s hc h1 (by
        rw [h2, tb_FAR]
        symm
        refine if_neg (fun z => ?_)
        rw [tb_7] at z
        rcases q with q | q
        · exact z.2.2.1 q
        · exact z.2.2.2 q))
      rw [e1] at I2
      exact I2
    refine br_f (nI_ge (a := k) (b := 49) (by omega) (by decide)) ⟨hin, hin, nm_r (e' := upd cs k (pr k)) (by rw [hcl]) ⟨h7, h7, pk_eq (k / 7) (k % 7) (fun q => ?_) (fun q => ?_) (tb_dv (by omega)) (tb_md (by omega))⟩⟩
    · exact ⟨hin, nm_r (e' := upd (upd cs k (pr k)) k 1000000) (by rw [hcl]) (nm_r (nI_1 k) (far _ (Or.inl q) (fun j hj => by rw [pk_un hj, pk_un hj]) pk_us))⟩
    · refine ⟨hin, br_c (fun m2 => ?_) (fun m2 => ?_)⟩
      · rw [hcl] at m2
        exact ⟨hin, nm_r (e' := upd (upd cs k (pr k)) k 1000000) (by rw [hcl]) (nm_r (nI_1 k) (far _ (Or.inr m2) (fun j hj => by rw [pk_un hj, pk_un hj]) pk_us))⟩
      · rw [hcl] at m2
        have cz : tb_c w pr mk (k / 7) (k % 7) = (if w = true ∧ mk k = 1 then (pr k).toInt - 1000 else (pr k).toInt) := by
          unfold tb_c
          rw [tb_7, if_pos ⟨ka, kb, q, m2⟩]
        have plain : ¬ (w = true ∧ mk k = 1) → wX_takeCosts_7 post x1 (nI n) (d + 1) (nI (k + 1)) (nI (tb_rk w mk k)) pr mk (upd cs k (pr k)) ls wy aa lf sp tn nr od := by
          intro z
          have e1 : tb_rk w mk (k + 1) = tb_rk w mk k := by
            cases w with
            | false => rfl
            | true => exact tb_rk_n (fun y => z ⟨rfl, y.2⟩)
          have I2 := IH (upd cs k (pr k)) (tb_Cs_s hc (fun j hj => pk_un hj) (by rw [pk_us, cz, if_neg z]))
          rw [e1] at I2
          exact I2
        cases w with
        | false => exact br_t hx (nm_r (nI_1 k) (plain (fun z => by simp at z)))
        | true =>
          have hx0 : ¬ x1 = 0 := by rw [hx]; decide
          refine br_f hx0 ⟨hin, br_c (fun m1 => ?_) (fun m1 => ?_)⟩
          · rw [hcl] at m1
            have cs2 : ∀ j, j ≠ k → upd (upd cs k (pr k)) k (pr k - 1000) j = cs j := fun j hj => by rw [pk_un hj, pk_un hj]
            have I2 := IH (upd (upd cs k (pr k)) k (pr k - 1000)) (tb_Cs_s hc cs2 (by
              rw [pk_us, cz, if_pos ⟨rfl, m1⟩]
              have := hp k (by omega)
              exact tb_sb rfl (by decide) (by omega) (by omega)))
            refine ⟨hin, hin, nm_r (e' := upd (upd cs k (pr k)) k (pr k - 1000)) (by rw [hcl, pk_us]) ⟨h7, h7, pk_le (k % 7) (k / 7) (fun y => ?_) (fun y => ?_) (tb_md (by omega)) (tb_dv (by omega))⟩⟩
            · have e1 : tb_rk true mk (k + 1) = tb_rk true mk k := tb_rk_n (fun z => by omega)
              rw [e1] at I2
              exact nm_r (Int32.add_zero _) (nm_r (nI_1 k) I2)
            · have e1 : tb_rk true mk (k + 1) = tb_rk true mk k + 1 := tb_rk_y ⟨y, m1⟩
              rw [e1] at I2
              exact nm_r (nI_1 _) (nm_r (nI_1 k) I2)
          · rw [hcl] at m1
            exact nm_r (nI_1 k) (plain (fun z => m1 z.2))
theorem tb_xTC {post : SX → Prop} (w : Bool) {x1 : Int32} (hx : x1 = if w = true then 1 else 0) (hn : n ≤ 7) (hp : tb_Pok pr) (hm : tb_Mok n mk) (h : ∀ cs', tb_Cs w pr mk cs' 49 → post ((nI n), (nI (tb_Rw w n mk)), pr, mk, cs', ls, wy, aa, lf, sp, tn, nr, od)) : wpX_takeCosts post ((nI n), rq, pr, mk, cs, ls, wy, aa, lf, sp, tn, nr, od) x1 := by
  have e : tb_rk w mk 0 = 0 := by cases w <;> rfl
  have q := tb_xTCl w hx hn hp hm h 49 0 rfl cs (fun j hj => absurd hj (by omega))
  rw [e] at q
  exact ⟨50, q⟩
end
end
section
theorem tb_mn1 {v : Int} (h : v ≤ 1000000) : tb_mn [v] = v := tb_mn_eq h (fun a ha => by rw [List.mem_singleton.mp ha]; exact Int.le_refl _) (fun _ => List.mem_singleton.mpr rfl)
section
variable {pr mk cs ls wy aa lf sp tn nr od : Nat → Int32} {rq : Int32} {n : Nat}
theorem tb_Cs_at {w : Bool} (h : tb_Cs w pr mk cs 49) {t j : Nat} (ht : t < 7) (hj : j < 7) : (cs (7 * t + j)).toInt = tb_c w pr mk t j := by
  have q := h (7 * t + j) (by omega)
  rw [show (7 * t + j) / 7 = t from by omega, show (7 * t + j) % 7 = j from by omega] at q
  exact q
def tb_Ent (c : Nat → Nat → Int) (e : Nat → Int) (ls wy : Nat → Int32) (s t : Nat) : Prop := (ls (7 * s + t)).toInt = tb_mn (tb_D c e t s) ∧ wy (7 * s + t) = nI (tb_ct (tb_D c e t s))
def tb_Til (c : Nat → Nat → Int) (e : Nat → Int) (n : Nat) (ls wy : Nat → Int32) (s : Nat) : Prop := ∀ s', s' < s → ∀ t, t < n → s'.testBit t = false → tb_Ent c e ls wy s' t
theorem tb_Ent_k {c : Nat → Nat → Int} {e : Nat → Int} {ls' wy' : Nat → Int32} {s t : Nat} (h : tb_Ent c e ls wy s t) (h1 : ls' (7 * s + t) = ls (7 * s + t)) (h2 : wy' (7 * s + t) = wy (7 * s + t)) : tb_Ent c e ls' wy' s t := ⟨by rw [h1]; exact h.1, by rw [h2]; exact h.2⟩
theorem tb_p7 (hn : n ≤ 7) : (2 : Nat) ^ n ≤ 128 := Nat.pow_le_pow_right (n := 2) (by decide) hn
theorem tb_xFEl {post : SX → Prop} {w : Bool} {e : Nat → Int} {s t : Nat} {ls0 wy0 : Nat → Int32} (hn : n ≤ 7) (hp : tb_Pok pr) (he : tb_Eok e) (hcs : tb_Cs w pr mk cs 49) (hs : s < 2 ^ n) (hs0 : s ≠ 0) (ht : t < n) (hT : tb_Til (tb_c w pr mk) e n ls0 wy0 s)
    (h : ∀ ls' wy' : Nat → Int32, (∀ j, j ≠ 7 * s + t → ls' j = ls0 j ∧ wy' j = wy0 j) → tb_Ent (tb_c w pr mk) e ls' wy' s t → post ((nI n), rq, pr, mk, cs, ls', wy', aa, lf, sp, tn, nr, od)) :
    ∀ d j, j + d = n → ∀ ls wy : Nat → Int32, (∀ i, i ≠ 7 * s + t → ls i = ls0 i ∧ wy i = wy0 i) → (ls (7 * s + t)).toInt = tb_mn (tb_Dp (tb_c w pr mk) e t s j) → wy (7 * s + t) = nI (tb_ct (tb_Dp (tb_c w pr mk) e t s j)) → wX_fillEntry_10 post (nI s) (nI t) (nI (7 * s + t)) (nI n) rq (d + 1) (nI j) pr mk cs ls wy aa lf sp tn nr od := by
  have hs7 := tb_p7 hn
  have hc : tb_Cok (tb_c w pr mk) := tb_c_ok hp
  intro d
  induction d with
  | zero =>
    intro j hj ls wy h1 h2 h3
    have q : j = n := by omega
    subst q
    rw [tb_Dp_n _ _ _ (by omega) hs hs0] at h2 h3
    exact br_t (nI_le (Nat.le_refl _) (by omega)) (h ls wy h1 ⟨h2, h3⟩)
  | succ d ih =>
    intro j hj ls wy h1 h2 h3
    have IH := ih (j + 1) (by omega)
    have hcj := tb_Cs_at hcs (t := t) (j := j) (by omega) (by omega)
    have hclk : (nI (7 * s + t)).toNatClampNeg = 7 * s + t := nI_clamp (by omega)
    have ink : vp_in (nI (7 * s + t)) 896 := vp_in_nI (by omega) (by omega)
    refine br_f (nI_ge (a := j) (b := n) (by omega) (by omega)) ⟨pk_in (7 * t + j) 49 (by omega) (tb_ix t j), nm_r (e' := cs (7 * t + j)) (by rw [tb_ix, nI_clamp (by omega)]) ?_⟩
    cases hb : s.testBit j with
    | false =>
      have q := IH ls wy h1
      rw [tb_Dp_f hb] at q
      exact br_f (tb_b1f' (by omega) (by omega) hb) (nm_r (nI_1 j) (q h2 h3))
    | true =>
      obtain ⟨_, _, slt, sbit⟩ := tb_bits_er s (by omega) j (by omega) hb
      have hE := hT (s - 2 ^ j) slt j (by omega) sbit
      have bne : 7 * (s - 2 ^ j) + j ≠ 7 * s + t := by omega
      have hclb : (nI (7 * (s - 2 ^ j) + j)).toNatClampNeg = 7 * (s - 2 ^ j) + j := nI_clamp (by omega)
      have inb : vp_in (nI (7 * (s - 2 ^ j) + j)) 896 := vp_in_nI (by omega) (by omega)
      have vL : (ls (nI (7 * (s - 2 ^ j) + j)).toNatClampNeg).toInt = tb_mn (tb_D (tb_c w pr mk) e j (s - 2 ^ j)) := by
        rw [hclb, (h1 _ bne).1]; exact hE.1
      have vW : wy (7 * (s - 2 ^ j) + j) = nI (tb_ct (tb_D (tb_c w pr mk) e j (s - 2 ^ j))) := by
        rw [(h1 _ bne).2]; exact hE.2
      have vK : (ls (nI (7 * s + t)).toNatClampNeg).toInt = tb_mn (tb_Dp (tb_c w pr mk) e t s j) := by rw [hclk]; exact h2
      have dok := tb_D_ok hc he j (s - 2 ^ j)
      have dmn := tb_ok_mn dok
      have cj := hc t j
      have mnB : tb_mn (tb_bk (tb_c w pr mk) e t s j) = tb_sh (tb_c w pr mk t j) (tb_mn (tb_D (tb_c w pr mk) e j (s - 2 ^ j))) := tb_mn_sh cj dok
      rw [tb_Dp_t hb] at IH
      have skip : tb_mn (tb_bk (tb_c w pr mk) e t s j) = 1000000 → wX_fillEntry_10 post (nI s) (nI t) (nI (7 * s + t)) (nI n) rq (d + 1) (nI (j + 1)) pr mk cs ls wy aa lf sp tn nr od := by
        intro z
        have f := tb_st_far (A := tb_Dp (tb_c w pr mk) e t s j) z
        exact IH ls wy h1 (by rw [f.1]; exact h2) (by rw [f.2]; exact h3)
      refine br_t (tb_b1t (by omega) (by omega) hb) (tb_le 1000000 _ tb_FAR hcj (fun z => nm_r (nI_1 j) (skip ?_)) (fun z => nm_r (e' := nI (7 * (s - 2 ^ j) + j)) (by rw [tb_ms_t (by omega) (by omega) hb, tb_ix]) ⟨inb, nm_r (e' := cs (7 * t + j) + ls (7 * (s - 2 ^ j) + j)) (by rw [hclb]) ⟨inb, tb_le 1000000 _ tb_FAR vL (fun y => ?_) (fun y => ?_)⟩⟩))
      · rw [mnB, show tb_c w pr mk t j = 1000000 from by omega, tb_sh_far]
      · refine ⟨inb, tb_le 1000000 _ tb_FAR vL (fun _ => nm_r (nI_1 j) (skip ?_)) (fun y2 => absurd y2 (by omega))⟩
        rw [mnB, show tb_mn (tb_D (tb_c w pr mk) e j (s - 2 ^ j)) = 1000000 from by omega, tb_sh_far']
      · rw [tb_sh_in z y] at mnB
        have ctB : tb_ct (tb_bk (tb_c w pr mk) e t s j) = tb_ct (tb_D (tb_c w pr mk) e j (s - 2 ^ j)) := tb_ct_sh (by omega) dok
        have x7 : (cs (7 * t + j) + ls (7 * (s - 2 ^ j) + j)).toInt = tb_c w pr mk t j + tb_mn (tb_D (tb_c w pr mk) e j (s - 2 ^ j)) := tb_ad hcj (by rw [hclb] at vL; exact vL) (by omega) (by omega)
        refine ⟨ink, tb_le _ _ vK x7 (fun q => ⟨inb, tb_le 1000000 _ tb_FAR vL (fun y2 => absurd y2 (by omega)) (fun _ => ⟨ink, tb_eq _ _ x7 vK (fun p => ⟨ink, inb, ink, nm_r (e' := upd wy (7 * s + t) (wy (7 * s + t) + wy (7 * (s - 2 ^ j) + j))) (by rw [hclk, hclb]) (nm_r (nI_1 j) ?_)⟩) (fun p => nm_r (nI_1 j) ?_)⟩)⟩) (fun q => ⟨ink, nm_r (e' := upd ls (7 * s + t) (cs (7 * t + j) + ls (7 * (s - 2 ^ j) + j))) (by rw [hclk]) ⟨inb, ink, nm_r (e' := upd wy (7 * s + t) (wy (7 * (s - 2 ^ j) + j))) (by rw [hclk, hclb]) (nm_r (nI_1 j) ?_)⟩⟩)⟩
        · have f := tb_st_eq (A := tb_Dp (tb_c w pr mk) e t s j) (B := tb_bk (tb_c w pr mk) e t s j) (by omega)
          refine IH ls _ (fun i hi => ⟨(h1 i hi).1, by rw [pk_un hi]; exact (h1 i hi).2⟩) (by rw [f.1]; exact h2) ?_
          rw [pk_us, f.2, h3, vW, nI_add, ctB]
        · have f := tb_st_gt (A := tb_Dp (tb_c w pr mk) e t s j) (B := tb_bk (tb_c w pr mk) e t s j) (by omega)
          exact IH ls wy h1 (by rw [f.1]; exact h2) (by rw [f.2]; exact h3)
        · have f := tb_st_lt (A := tb_Dp (tb_c w pr mk) e t s j) (B := tb_bk (tb_c w pr mk) e t s j) (by omega)
          refine IH _ _ (fun i hi => ⟨by rw [pk_un hi]; exact (h1 i hi).1, by rw [pk_un hi]; exact (h1 i hi).2⟩) ?_ ?_
          · rw [pk_us, f.1, mnB]; exact x7
          · rw [pk_us, f.2, ctB]; exact vW
theorem tb_xFE {post : SX → Prop} {w : Bool} {e : Nat → Int} {s t : Nat} (hn : n ≤ 7) (hp : tb_Pok pr) (he : tb_Eok e) (hcs : tb_Cs w pr mk cs 49) (hs : s < 2 ^ n) (hs0 : s ≠ 0) (ht : t < n) (hT : tb_Til (tb_c w pr mk) e n ls wy s) (hl : ls (7 * s + t) = 1000000) (hw : wy (7 * s + t) = 0)
    (h : ∀ ls' wy' : Nat → Int32, (∀ j, j ≠ 7 * s + t → ls' j = ls j ∧ wy' j = wy j) → tb_Ent (tb_c w pr mk) e ls' wy' s t → post ((nI n), rq, pr, mk, cs, ls', wy', aa, lf, sp, tn, nr, od)) : wpX_fillEntry post ((nI n), rq, pr, mk, cs, ls, wy, aa, lf, sp, tn, nr, od) (nI s) (nI t) := by
  refine nm_r (tb_ix s t) ⟨n + 1, ?_⟩
  exact tb_xFEl hn hp he hcs hs hs0 ht hT h n 0 (by omega) ls wy (fun i _ => ⟨rfl, rfl⟩) (by rw [hl]; rfl) (by rw [hw]; rfl)
theorem tb_xFS14 {post : SX → Prop} {J2 : Int32 → Int32 → Int32 → (Nat → Int32) → (Nat → Int32) → (Nat → Int32) → (Nat → Int32) → (Nat → Int32) → (Nat → Int32) → (Nat → Int32) → (Nat → Int32) → (Nat → Int32) → (Nat → Int32) → (Nat → Int32) → Prop} {w : Bool} {e : Nat → Int} {s : Nat} (hn : n ≤ 7) (hp : tb_Pok pr) (he : tb_Eok e) (hcs : tb_Cs w pr mk cs 49) (hs : s < 2 ^ n) (hs0 : s ≠ 0)
    (h : ∀ ls' wy' : Nat → Int32, tb_Til (tb_c w pr mk) e n ls' wy' (s + 1) → J2 (nI (s + 1)) (nI n) rq pr mk cs ls' wy' aa lf sp tn nr od) :
    ∀ d t, t + d = n → ∀ ls wy : Nat → Int32, tb_Til (tb_c w pr mk) e n ls wy s → (∀ t', t' < t → s.testBit t' = false → tb_Ent (tb_c w pr mk) e ls wy s t') → wX_fillSets_14 post J2 (nI s) (d + 1) (nI t) (nI n) rq pr mk cs ls wy aa lf sp tn nr od := by
  have hs7 := tb_p7 hn
  intro d
  induction d with
  | zero =>
    intro t ht ls wy h1 h2
    have q : t = n := by omega
    subst q
    refine br_t (nI_le (Nat.le_refl _) (by omega)) (nm_r (nI_1 s) (h ls wy ?_))
    intro s' hs' t' ht' hb
    by_cases q : s' = s
    · subst q; exact h2 t' ht' hb
    · exact h1 s' (by omega) t' ht' hb
  | succ d ih =>
    intro t ht ls wy h1 h2
    have IH := ih (t + 1) (by omega)
    have hclk : (nI (7 * s + t)).toNatClampNeg = 7 * s + t := nI_clamp (by omega)
    have ink : vp_in (nI (7 * s + t)) 896 := vp_in_nI (by omega) (by omega)
    have keep : ∀ {ls' wy' : Nat → Int32}, (∀ j, j ≠ 7 * s + t → ls' j = ls j ∧ wy' j = wy j) → tb_Til (tb_c w pr mk) e n ls' wy' s ∧ (∀ t', t' < t → s.testBit t' = false → tb_Ent (tb_c w pr mk) e ls' wy' s t') := by
      intro ls' wy' hk
      refine ⟨fun s' hs' t' ht' hb => ?_, fun t' ht' hb => ?_⟩
      · have q := hk (7 * s' + t') (by omega)
        exact tb_Ent_k (h1 s' hs' t' ht' hb) q.1 q.2
      · have q := hk (7 * s + t') (by omega)
        exact tb_Ent_k (h2 t' ht' hb) q.1 q.2
    refine br_f (nI_ge (a := t) (b := n) (by omega) (by omega)) (nm_r (tb_ix s t) ⟨ink, nm_r (e' := upd ls (7 * s + t) 1000000) (by rw [hclk]) ⟨ink, nm_r (e' := upd wy (7 * s + t) 0) (by rw [hclk]) ?_⟩⟩)
    have k0 := keep (ls' := upd ls (7 * s + t) 1000000) (wy' := upd wy (7 * s + t) 0) (fun j hj => ⟨pk_un hj, pk_un hj⟩)
    cases hb : s.testBit t with
    | true =>
      refine br_f (tb_b1t' (by omega) (by omega) hb) (nm_r (nI_1 t) (IH _ _ k0.1 (fun t' ht' hb' => ?_)))
      by_cases q : t' = t
      · rw [q, hb] at hb'; exact absurd hb' (by decide)
      · exact k0.2 t' (by omega) hb'
    | false =>
      refine br_t (tb_b1f (by omega) (by omega) hb) (tb_xFE hn hp he hcs hs hs0 (by omega) k0.1 pk_us pk_us (fun ls' wy' g1 g2 => nm_r (nI_1 t) ?_))
      have k1 := keep (ls' := ls') (wy' := wy') (fun j hj => ⟨by rw [(g1 j hj).1, pk_un hj], by rw [(g1 j hj).2, pk_un hj]⟩)
      refine IH _ _ k1.1 (fun t' ht' hb' => ?_)
      by_cases q : t' = t
      · rw [q]; exact g2
      · exact k1.2 t' (by omega) hb'
theorem tb_xFS2 {post : SX → Prop} {w : Bool} {e : Nat → Int} (hn : n ≤ 7) (hp : tb_Pok pr) (he : tb_Eok e) (hcs : tb_Cs w pr mk cs 49)
    (h : ∀ ls' wy' : Nat → Int32, tb_Til (tb_c w pr mk) e n ls' wy' (2 ^ n) → post ((nI n), rq, pr, mk, cs, ls', wy', aa, lf, sp, tn, nr, od)) :
    ∀ d s, s + d = 2 ^ n → s ≠ 0 → ∀ ls wy : Nat → Int32, tb_Til (tb_c w pr mk) e n ls wy s → wX_fillSets_2 post (d + 1) (nI s) (nI n) rq pr mk cs ls wy aa lf sp tn nr od := by
  have hs7 := tb_p7 hn
  intro d
  induction d with
  | zero =>
    intro s hs hs0 ls wy h1
    have q : s = 2 ^ n := by omega
    subst q
    exact br_t (by rw [tb_sl n (by omega)]; exact nI_le (Nat.le_refl _) (by omega)) (h ls wy h1)
  | succ d ih =>
    intro s hs hs0 ls wy h1
    refine br_f (by rw [tb_sl n (by omega)]; exact nI_ge (by omega) (by omega)) ⟨n + 1, ?_⟩
    exact tb_xFS14 hn hp he hcs (by omega) hs0 (fun ls' wy' g => ih (s + 1) (by omega) (by omega) ls' wy' g) n 0 (by omega) ls wy h1 (fun t' ht' => absurd ht' (by omega))
theorem tb_xFS {post : SX → Prop} {w : Bool} {e : Nat → Int} (hn : n ≤ 7) (hp : tb_Pok pr) (he : tb_Eok e) (hcs : tb_Cs w pr mk cs 49) (h1 : tb_Til (tb_c w pr mk) e n ls wy 1)
    (h : ∀ ls' wy' : Nat → Int32, tb_Til (tb_c w pr mk) e n ls' wy' (2 ^ n) → post ((nI n), rq, pr, mk, cs, ls', wy', aa, lf, sp, tn, nr, od)) : wpX_fillSets post ((nI n), rq, pr, mk, cs, ls, wy, aa, lf, sp, tn, nr, od) := by
  have q : 1 ≤ 2 ^ n := Nat.one_le_two_pow
  exact ⟨2 ^ n - 1 + 1, tb_xFS2 hn hp he hcs h (2 ^ n - 1) 1 (by omega) (by omega) ls wy h1⟩
def tb_B0 (e : Nat → Int) (n : Nat) (ls wy : Nat → Int32) (t : Nat) : Prop := ∀ t', t' < t → t' < n → (ls t').toInt = e t' ∧ wy t' = nI (if e t' < 1000000 then 1 else 0)
theorem tb_B0_s {e : Nat → Int} {ls' wy' : Nat → Int32} {t : Nat} (h : tb_B0 e n ls wy t) (h1 : ∀ j, j ≠ t → ls' j = ls j ∧ wy' j = wy j) (h2 : t < n → (ls' t).toInt = e t ∧ wy' t = nI (if e t < 1000000 then 1 else 0)) : tb_B0 e n ls' wy' (t + 1) := by
  intro t' ht' hn'
  by_cases q : t' = t
  · rw [q] at hn' ⊢; exact h2 hn'
  · rw [(h1 t' q).1, (h1 t' q).2]; exact h t' (by omega) hn'
theorem tb_B0_T {c : Nat → Nat → Int} {e : Nat → Int} (hn : n ≤ 7) (he : tb_Eok e) (h : tb_B0 e n ls wy 7) : tb_Til c e n ls wy 1 := by
  intro s' hs' t ht _
  have q : s' = 0 := by omega
  subst q
  have g := h t (by omega) ht
  have e1 : tb_mn [e t] = e t := tb_mn1 (by have := he t; omega)
  unfold tb_Ent
  rw [tb_D_0, show 7 * 0 + t = t from by omega]
  refine ⟨by rw [e1]; exact g.1, ?_⟩
  rw [g.2]
  unfold tb_ct
  rw [e1]
  by_cases z : e t < 1000000
  · rw [if_pos z, if_pos z, List.count_singleton_self]
  · rw [if_neg z, if_neg z]
end
end
section
section
variable {pr mk cs ls wy aa lf sp tn nr od : Nat → Int32} {rq : Int32} {n : Nat}
theorem tb_x44 {post : SX → Prop} {J7 : Int32 → (Nat → Int32) → (Nat → Int32) → (Nat → Int32) → (Nat → Int32) → (Nat → Int32) → (Nat → Int32) → (Nat → Int32) → (Nat → Int32) → (Nat → Int32) → (Nat → Int32) → (Nat → Int32) → Prop} {t : Nat} {z0 : Int32} (ht : t < 7)
    (h : ∀ ls' wy' : Nat → Int32, (∀ j, j ≠ t → ls' j = ls j ∧ wy' j = wy j) → ls' t = z0 → wy' t = nI (if z0.toInt < 1000000 then 1 else 0) → J7 (nI (t + 1)) pr mk cs ls' wy' aa lf sp tn nr od) : wX_fill_44 post J7 (nI t) z0 (nI t) (nI n) rq pr mk cs ls wy aa lf sp tn nr od := by
  have hcl : (nI t).toNatClampNeg = t := nI_clamp (by omega)
  have hin : vp_in (nI t) 896 := vp_in_nI (by omega) (by omega)
  have hv : (upd ls t z0 (nI t).toNatClampNeg).toInt = z0.toInt := by rw [hcl, pk_us]
  refine ⟨hin, nm_r (e' := upd ls t z0) (by rw [hcl]) ⟨hin, tb_le 1000000 _ tb_FAR hv (fun y => ⟨hin, nm_r (e' := upd wy t 0) (by rw [hcl]) (nm_r (nI_1 t) ?_)⟩) (fun y => ⟨hin, nm_r (e' := upd wy t 1) (by rw [hcl]) (nm_r (nI_1 t) ?_)⟩)⟩⟩
  · exact h _ _ (fun j hj => ⟨pk_un hj, pk_un hj⟩) pk_us (by rw [pk_us, if_neg (by omega)]; rfl)
  · exact h _ _ (fun j hj => ⟨pk_un hj, pk_un hj⟩) pk_us (by rw [pk_us, if_pos y]; rfl)
theorem tb_xFl {post : SX → Prop} (hn : n ≤ 7) (hp : tb_Pok pr) (hcs : tb_Cs true pr mk cs 49)
    (h : ∀ ls' wy' : Nat → Int32, tb_Til (tb_tc pr mk) (tb_te pr mk) n ls' wy' (2 ^ n) → post ((nI n), rq, pr, mk, cs, ls', wy', aa, lf, sp, tn, nr, od)) :
    ∀ d t, t + d = 7 → ∀ ls wy : Nat → Int32, tb_B0 (tb_te pr mk) n ls wy t → wX_fill_7 post (nI n) rq (d + 1) (nI t) pr mk cs ls wy aa lf sp tn nr od := by
  intro d
  induction d with
  | zero =>
    intro t ht ls wy h1
    have q : t = 7 := by omega
    subst q
    exact br_t (by decide) (tb_xFS (w := true) (e := tb_te pr mk) hn hp (tb_te_ok hp) hcs (tb_B0_T hn (tb_te_ok hp) h1) (fun ls' wy' g => h ls' wy' g))
  | succ d ih =>
    intro t ht ls wy h1
    have IH := ih (t + 1) (by omega)
    refine br_f (nI_ge (a := t) (b := 7) (by omega) (by decide)) (pk_eq t 0 (fun q => ?_) (fun q => pk_lt t n (fun q2 => ⟨pk_in (7 * t) 49 (by omega) (tb_ix0 t), ?_⟩) (fun q2 => ?_)))
    · refine tb_x44 (by omega) (fun ls' wy' g1 g2 g3 => IH ls' wy' (tb_B0_s h1 g1 (fun _ => ?_)))
      have e0 : tb_te pr mk t = 1000000 := if_neg (fun z => z.2.2.1 q)
      rw [g2, g3, e0, tb_FAR]
      exact ⟨rfl, rfl⟩
    · have e0 : (cs (7 * nI t).toNatClampNeg).toInt = tb_te pr mk t := by
        rw [tb_ix0, nI_clamp (by omega)]
        exact tb_Cs_at hcs (t := t) (j := 0) (by omega) (by omega)
      refine tb_x44 (by omega) (fun ls' wy' g1 g2 g3 => IH ls' wy' (tb_B0_s h1 g1 (fun _ => ?_)))
      rw [g2, g3, e0]
      exact ⟨rfl, rfl⟩
    · exact tb_x44 (by omega) (fun ls' wy' g1 g2 g3 => IH ls' wy' (tb_B0_s h1 g1 (fun z => absurd z (by omega))))
theorem tb_xF {post : SX → Prop} (hn : n ≤ 7) (hp : tb_Pok pr) (hm : tb_Mok n mk)
    (h : ∀ cs' ls' wy' : Nat → Int32, tb_Cs true pr mk cs' 49 → tb_Til (tb_tc pr mk) (tb_te pr mk) n ls' wy' (2 ^ n) → post ((nI n), (nI (tb_R n mk)), pr, mk, cs', ls', wy', aa, lf, sp, tn, nr, od)) : wpX_fill post ((nI n), rq, pr, mk, cs, ls, wy, aa, lf, sp, tn, nr, od) := by
  refine tb_xTC (rq := rq) true rfl hn hp hm (fun cs' g => ⟨8, ?_⟩)
  exact tb_xFl hn hp g (fun ls' wy' g2 => h cs' ls' wy' g g2) 7 0 rfl ls wy (fun t' ht' => absurd ht' (by omega))
def tb_Bst (n : Nat) (pr mk : Nat → Int32) (r : Int32) : Prop := (r = -1 ∧ (tb_mn (tb_TD n pr mk) = 1000000 ∨ 280 - 1000 * (tb_R n mk : Int) < tb_mn (tb_TD n pr mk))) ∨ (0 ≤ r.toInt ∧ r.toInt ≤ 280 ∧ tb_mn (tb_TD n pr mk) = r.toInt - 1000 * (tb_R n mk : Int))
theorem tb_Bst_u {r r' : Int32} (h : tb_Bst n pr mk r) (h' : tb_Bst n pr mk r') : r = r' := by
  rcases h with h | h
  · rcases h' with g | g
    · rw [h.1, g.1]
    · omega
  · rcases h' with g | g
    · omega
    · exact Int32.toInt_inj.mp (by omega)
theorem tb_xU {post : Int32 → Prop} {v : Int32} (r : Nat) (hr : r ≤ 49) (h0 : 280 - 1000 * (r : Int) < v.toInt → post 0) (h1 : v.toInt ≤ 280 - 1000 * (r : Int) → post 1) : wpX_usesAll post ((nI n), (nI r), pr, mk, cs, ls, wy, aa, lf, sp, tn, nr, od) v := tb_lt _ _ (tb_rqT hr) rfl h0 h1
theorem tb_full_ix (h2 : 2 ≤ n) (hn : n ≤ 7) : (7 : Int32) * (((1 : Int32) <<< (nI n &&& 31)) - 2) = nI (7 * (2 ^ n - 2) + 0) := by
  have q : 2 ^ 2 ≤ 2 ^ n := Nat.pow_le_pow_right (by decide) h2
  rw [tb_sl n (by omega), show (2 : Int32) = nI 2 from rfl, pk_sub (by omega), tb_ix0]
  rfl
theorem tb_xN {post : Int32 → Prop} (h2 : 2 ≤ n) (hn : n ≤ 7) (hp : tb_Pok pr) (hm : tb_Mok n mk) (hT : tb_Til (tb_tc pr mk) (tb_te pr mk) n ls wy (2 ^ n)) (h : ∀ r, tb_Bst n pr mk r → post r) : wpX_bestNow post ((nI n), (nI (tb_R n mk)), pr, mk, cs, ls, wy, aa, lf, sp, tn, nr, od) := by
  have fb := tb_full_bits n (by omega) h2
  have hR := tb_R_le n mk
  have hl : 2 ^ n - 2 < 2 ^ n := by have : 0 < 2 ^ n := Nat.two_pow_pos n; omega
  have b0 : (2 ^ n - 2).testBit 0 = false := by
    cases z : (2 ^ n - 2).testBit 0 with
    | false => rfl
    | true => have := (tb_full_mem n (by omega) h2 0 (by omega)).mp z; omega
  have hE := (hT (2 ^ n - 2) hl 0 (by omega) b0).1
  have far := tb_mn_far (tb_TD n pr mk)
  have ok := tb_ok_mn (tb_D_ok (tb_tc_ok hp (mk := mk)) (tb_te_ok hp (mk := mk)) 0 (2 ^ n - 2))
  refine ⟨pk_in (7 * (2 ^ n - 2) + 0) 896 (by omega) (tb_full_ix h2 hn), nm_r (e' := ls (7 * (2 ^ n - 2) + 0)) (by rw [tb_full_ix h2 hn, nI_clamp (by omega)]) (tb_le 1000000 _ tb_FAR hE (fun z => h _ (Or.inl ⟨rfl, Or.inl ?_⟩)) (fun z => tb_xU (tb_R n mk) hR (fun y => br_t rfl (h _ (Or.inl ⟨rfl, Or.inr ?_⟩))) (fun y => br_f (by decide) (h _ (Or.inr ?_)))))⟩
  · exact Int.le_antisymm far z
  · rw [hE] at y; exact y
  · rw [hE] at y
    have e1 : (1000 * nI (tb_R n mk) : Int32).toInt = 1000 * (tb_R n mk : Int) := tb_ml (by decide) (nI_toInt (by omega)) (by omega) (by omega)
    have e2 := tb_ad hE e1 (by omega) (by omega)
    rw [e2]
    obtain ⟨l, hl2, q⟩ := List.mem_map.mp (tb_mn_mem (L := tb_TD n pr mk) z)
    have bw := tb_brW h2 hn hp hm hl2
    have q2 : tb_W (tb_tc pr mk) (tb_te pr mk) 0 l = tb_mn (tb_D (tb_tc pr mk) (tb_te pr mk) 0 (2 ^ n - 2)) := q
    have q3 : tb_mn (tb_TD n pr mk) = tb_mn (tb_D (tb_tc pr mk) (tb_te pr mk) 0 (2 ^ n - 2)) := rfl
    rw [q3]
    omega
theorem tb_xBest {post : Int32 → SX → Prop} (h2 : 2 ≤ n) (hn : n ≤ 7) (hp : tb_Pok pr) (hm : tb_Mok n mk) (h : ∀ r rq' cs' ls' wy', tb_Bst n pr mk r → post r ((nI n), rq', pr, mk, cs', ls', wy', aa, lf, sp, tn, nr, od)) : wpX_best post ((nI n), rq, pr, mk, cs, ls, wy, aa, lf, sp, tn, nr, od) :=
  tb_xF (rq := rq) hn hp hm (fun cs' ls' wy' _ g2 => tb_xN h2 hn hp hm g2 (fun r hr => h r _ cs' ls' wy' hr))
theorem tb_xBT {post : Int32 → SX → Prop} (h2 : 2 ≤ n) (hn : n ≤ 7) (hp : tb_Pok pr) (hm : tb_Mok n mk) (h : ∀ r rq' cs' ls' wy', tb_Bst n pr mk r → post (if 0 ≤ r.toInt then nI (tb_ct (tb_TD n pr mk)) else 0) ((nI n), rq', pr, mk, cs', ls', wy', aa, lf, sp, tn, nr, od)) : wpX_bestTours post ((nI n), rq, pr, mk, cs, ls, wy, aa, lf, sp, tn, nr, od) := by
  refine tb_xF (rq := rq) hn hp hm (fun cs' ls' wy' _ g2 => tb_xN h2 hn hp hm g2 (fun r hr => ?_))
  have fb := tb_full_bits n (by omega) h2
  have hl : 2 ^ n - 2 < 2 ^ n := by have : 0 < 2 ^ n := Nat.two_pow_pos n; omega
  have b0 : (2 ^ n - 2).testBit 0 = false := by
    cases z : (2 ^ n - 2).testBit 0 with
    | false => rfl
    | true => have := (tb_full_mem n (by omega) h2 0 (by omega)).mp z; omega
  have hE := (g2 (2 ^ n - 2) hl 0 (by omega) b0).2
  have hh := h r (nI (tb_R n mk)) cs' ls' wy' hr
  refine tb_le 0 _ tb_Z rfl (fun z => ⟨pk_in (7 * (2 ^ n - 2) + 0) 896 (by omega) (tb_full_ix h2 hn), ?_⟩) (fun z => ?_)
  · rw [if_pos z] at hh
    have e : wy' (7 * (((1 : Int32) <<< (nI n &&& 31)) - 2)).toNatClampNeg = nI (tb_ct (tb_TD n pr mk)) := by
      rw [tb_full_ix h2 hn, nI_clamp (by omega)]; exact hE
    rw [e]
    exact hh
  · rw [if_neg (by omega)] at hh
    exact hh
end
end
section
theorem tb_sub_bit : ∀ s, s < 128 → ∀ x, x < 7 → s.testBit x = true → ∀ i, i < 7 → (s - 2 ^ x).testBit i = (s.testBit i && decide (i ≠ x)) := by decide +kernel
theorem tb_bit_lt {n s i : Nat} (hs : s < 2 ^ n) (h : s.testBit i = true) : i < n := by
  apply Classical.byContradiction
  intro q
  have h1 : 2 ^ n ≤ 2 ^ i := Nat.pow_le_pow_right (by decide) (by omega)
  rw [Nat.testBit_lt_two_pow (by omega)] at h
  exact absurd h (by decide)
theorem tb_find_some {c : Nat → Nat → Int} {e : Nat → Int} {t s : Nat} (hm : tb_mn (tb_D c e t s) < 1000000) : ∃ l, (tb_P s).find? (fun l => decide (tb_W c e t l = tb_mn (tb_D c e t s))) = some l := by
  obtain ⟨l, hl, q⟩ := List.mem_map.mp (tb_mn_mem hm)
  cases z : (tb_P s).find? (fun l => decide (tb_W c e t l = tb_mn (tb_D c e t s))) with
  | some l' => exact ⟨l', rfl⟩
  | none => exact absurd (decide_eq_true q) (List.find?_eq_none.mp z l hl)
section
variable {pr mk cs ls wy aa lf sp tn nr od : Nat → Int32} {rq : Int32} {n : Nat}
theorem tb_xLO {post : Int32 → Prop} {w : Bool} {e : Nat → Int} {s t x : Nat} (hn : n ≤ 7) (hp : tb_Pok pr) (he : tb_Eok e) (hcs : tb_Cs w pr mk cs 49) (hT : tb_Til (tb_c w pr mk) e n ls wy (2 ^ n)) (hs : s < 2 ^ n) (ht : t < n) (hst : s.testBit t = false) (hx : x < n) (h1 : tb_good (tb_c w pr mk) e t s x → post 1) (h0 : ¬ tb_good (tb_c w pr mk) e t s x → post 0) : wpX_leadsOn post ((nI n), rq, pr, mk, cs, ls, wy, aa, lf, sp, tn, nr, od) (nI s) (nI t) (nI x) := by
  have hs7 := tb_p7 hn
  cases hb : s.testBit x with
  | false => exact br_t (tb_b1f (by omega) (by omega) hb) (h0 (fun z => by have := (tb_bits_mem.mp z.1).2; rw [hb] at this; exact absurd this (by decide)))
  | true =>
    obtain ⟨_, _, slt, sbit⟩ := tb_bits_er s (by omega) x (by omega) hb
    have hc := tb_Cs_at hcs (t := t) (j := x) (by omega) (by omega)
    have ix : (7 * nI t + nI x).toNatClampNeg = 7 * t + x := by rw [tb_ix, nI_clamp (by omega)]
    have in1 : vp_in (7 * nI t + nI x) 49 := pk_in (7 * t + x) 49 (by omega) (tb_ix t x)
    have hc' : (cs (7 * nI t + nI x).toNatClampNeg).toInt = tb_c w pr mk t x := by rw [ix]; exact hc
    have eb := (hT (s - 2 ^ x) (by omega) x hx sbit).1
    have ek := (hT s hs t ht hst).1
    have cok := tb_c_ok (w := w) (mk := mk) hp t x
    have dok := tb_ok_mn (tb_D_ok (tb_c_ok (w := w) (mk := mk) hp) he x (s - 2 ^ x))
    have sum : (cs (7 * nI t + nI x).toNatClampNeg + ls (nI (7 * (s - 2 ^ x) + x)).toNatClampNeg).toInt = tb_c w pr mk t x + tb_mn (tb_D (tb_c w pr mk) e x (s - 2 ^ x)) := tb_ad hc' (by rw [nI_clamp (by omega)]; exact eb) (by omega) (by omega)
    have ek' : (ls (7 * nI s + nI t).toNatClampNeg).toInt = tb_mn (tb_D (tb_c w pr mk) e t s) := by rw [tb_ix, nI_clamp (by omega)]; exact ek
    refine br_f (tb_b1t' (by omega) (by omega) hb) ⟨in1, tb_lt _ 1000000 hc' tb_FAR (fun z => nm_r (e' := nI (7 * (s - 2 ^ x) + x)) (by rw [tb_ms_t (by omega) (by omega) hb, tb_ix]) ⟨in1, pk_in (7 * (s - 2 ^ x) + x) 896 (by omega), pk_in (7 * s + t) 896 (by omega) (tb_ix s t), tb_eq _ _ sum ek' (fun y => h1 ⟨tb_bits_mem.mpr ⟨by omega, hb⟩, z, y⟩) (fun y => h0 (fun g => y g.2.2))⟩) (fun z => h0 (fun g => by have := g.2.1; omega))⟩
theorem tb_xBC41 {post : Int32 → SX → Prop} {J29 : Int32 → Int32 → Int32 → Int32 → Prop} {w : Bool} {e : Nat → Int} {s t x k cd : Nat} (hn : n ≤ 7) (hp : tb_Pok pr) (he : tb_Eok e) (hcs : tb_Cs w pr mk cs 49) (hT : tb_Til (tb_c w pr mk) e n ls wy (2 ^ n)) (hs : s < 2 ^ n) (ht : t < n) (hst : s.testBit t = false) (hg : tb_good (tb_c w pr mk) e t s x) (hmin : ∀ y, y < x → ¬ tb_good (tb_c w pr mk) e t s y) (h : J29 (nI (s - 2 ^ x)) (nI x) (nI (7 * cd + x)) (nI (k + 1))) :
    ∀ d j, j + d = x → wX_bestCode_41 post J29 (nI s) (nI t) (nI cd) (nI k) (nI n) rq pr mk cs ls wy aa lf sp tn nr od (d + 1) (nI j) := by
  have hs7 := tb_p7 hn
  have hxb := tb_bits_mem.mp hg.1
  have hx : x < n := tb_bit_lt hs hxb.2
  have fin : wX_bestCode_69 post J29 (nI s) (nI cd) (nI k) (nI x) (nI n) rq pr mk cs ls wy aa lf sp tn nr od := nm_r (tb_ix cd x) (nm_r (tb_ms_t (by omega) (by omega) hxb.2) (nm_r (nI_1 k) h))
  intro d
  induction d with
  | zero =>
    intro j hj
    have q : j = x := by omega
    subst q
    refine pk_le (n - 1) j (fun _ => fin) (fun _ => ?_) (pk_sub (b := 1) (by omega))
    exact tb_xLO hn hp he hcs hT hs ht hst hx (fun _ => br_f (by decide) fin) (fun z => absurd hg z)
  | succ d ih =>
    intro j hj
    refine pk_le (n - 1) j (fun z => absurd z (by omega)) (fun _ => ?_) (pk_sub (b := 1) (by omega))
    exact tb_xLO hn hp he hcs hT hs ht hst (by omega) (fun z => absurd z (hmin j (by omega))) (fun _ => br_t rfl (nm_r (nI_1 j) (ih (j + 1) (by omega))))
theorem tb_xBC29 {post : Int32 → SX → Prop} {w : Bool} {e : Nat → Int} (hn : n ≤ 7) (hp : tb_Pok pr) (he : tb_Eok e) (hcs : tb_Cs w pr mk cs 49) (hT : tb_Til (tb_c w pr mk) e n ls wy (2 ^ n)) :
    ∀ d k s t cd l, k + d = n → s < 2 ^ n → t < n → s.testBit 0 = false → s.testBit t = false → (tb_bits s).length = d → tb_mn (tb_D (tb_c w pr mk) e t s) < 1000000 → (tb_P s).find? (fun l => decide (tb_W (tb_c w pr mk) e t l = tb_mn (tb_D (tb_c w pr mk) e t s))) = some l → post (nI (tb_cd cd l)) ((nI n), rq, pr, mk, cs, ls, wy, aa, lf, sp, tn, nr, od) → wX_bestCode_29 post (nI n) rq pr mk cs ls wy aa lf sp tn nr od (d + 1) (nI s) (nI t) (nI cd) (nI k) := by
  have hs7 := tb_p7 hn
  intro d
  induction d with
  | zero =>
    intro k s t cd l hk hs ht h0 hst hlen hm hf hpost
    have q : s = 0 := by
      apply Classical.byContradiction
      intro z
      exact tb_bits_pos s (by omega) z hlen
    subst q
    rw [tb_find_0 hm] at hf
    rw [← Option.some.inj hf] at hpost
    exact br_t (nI_le (by omega) (by omega)) hpost
  | succ d ih =>
    intro k s t cd l hk hs ht h0 hst hlen hm hf hpost
    have hs0 : s ≠ 0 := by
      intro z
      subst z
      rw [show (tb_bits 0).length = 0 from by decide +kernel] at hlen
      omega
    obtain ⟨x, hg, hmin⟩ := tb_good_ex (by omega) hs0 hm
    have hxb := tb_bits_mem.mp hg.1
    have hx : x < n := tb_bit_lt hs hxb.2
    have hx0 : x ≠ 0 := fun z => by rw [z, h0] at hxb; exact absurd hxb.2 (by decide)
    obtain ⟨_, e2, slt, sbit⟩ := tb_bits_er s (by omega) x (by omega) hxb.2
    have hmx := tb_good_mn (tb_c_ok (w := w) (mk := mk) hp) he hm hg
    obtain ⟨l', hl'⟩ := tb_find_some hmx
    have hfx := tb_find (tb_c_ok (w := w) (mk := mk) hp) he (by omega) hs0 hm hg hmin hl'
    rw [hf] at hfx
    have el := Option.some.inj hfx
    subst el
    have b0 : (s - 2 ^ x).testBit 0 = false := by rw [tb_sub_bit s (by omega) x (by omega) hxb.2 0 (by omega), h0]; rfl
    refine br_f (nI_ge (by omega) (by omega)) ⟨x - 1 + 1, ?_⟩
    exact tb_xBC41 hn hp he hcs hT hs ht hst hg hmin (ih (k + 1) (s - 2 ^ x) x (7 * cd + x) l' (by omega) (by omega) hx b0 sbit (by omega) hmx hl' hpost) (x - 1) 1 (by omega)
theorem tb_xBC {post : Int32 → SX → Prop} (h2 : 2 ≤ n) (hn : n ≤ 7) (hp : tb_Pok pr) (hm : tb_Mok n mk) (h : ∀ r rq' cs' ls' wy' v, tb_Bst n pr mk r → ((0 ≤ r.toInt ∧ ∃ l0, (tb_P (2 ^ n - 2)).find? (fun l => decide (tb_W (tb_tc pr mk) (tb_te pr mk) 0 l = tb_mn (tb_TD n pr mk))) = some l0 ∧ v = nI (tb_cd 0 l0)) ∨ (r.toInt < 0 ∧ v = -1)) → post v ((nI n), rq', pr, mk, cs', ls', wy', aa, lf, sp, tn, nr, od)) : wpX_bestCode post ((nI n), rq, pr, mk, cs, ls, wy, aa, lf, sp, tn, nr, od) := by
  refine tb_xF (rq := rq) hn hp hm (fun cs' ls' wy' g1 g2 => tb_xN h2 hn hp hm g2 (fun r hr => ?_))
  have fb := tb_full_bits n (by omega) h2
  have q2 : 2 ^ 2 ≤ 2 ^ n := Nat.pow_le_pow_right (by decide) h2
  have b0 : (2 ^ n - 2).testBit 0 = false := by
    cases z : (2 ^ n - 2).testBit 0 with
    | false => rfl
    | true => have := (tb_full_mem n (by omega) h2 0 (by omega)).mp z; omega
  refine tb_le 0 _ tb_Z rfl (fun z => nm_r (e' := nI (2 ^ n - 2)) (by rw [tb_sl n (by omega)]; exact pk_sub (b := 2) (by omega)) ⟨n - 1 + 1, ?_⟩) (fun z => h r _ cs' ls' wy' _ hr (Or.inr ⟨z, rfl⟩))
  have hmn : tb_mn (tb_TD n pr mk) < 1000000 := by
    rcases hr with q | q
    · rw [q.1] at z; exact absurd z (by decide)
    · omega
  obtain ⟨l0, hl0⟩ := tb_find_some (c := tb_tc pr mk) (e := tb_te pr mk) (t := 0) (s := 2 ^ n - 2) hmn
  exact tb_xBC29 (w := true) (e := tb_te pr mk) hn hp (tb_te_ok hp) g1 g2 (n - 1) 1 (2 ^ n - 2) 0 0 l0 (by omega) (by omega) (by omega) b0 b0 fb.2.1 hmn hl0 (h r _ cs' ls' wy' _ hr (Or.inl ⟨z, l0, hl0, rfl⟩))
end
end
section
def tb_T : Nat → Nat
  | 0 => 1
  | k + 1 => 7 + (k + 1) * tb_T k
theorem tb_T_le : ∀ k, k < 7 → tb_T k ≤ 9379 := by decide
theorem tb_T_pos : ∀ k, 1 ≤ tb_T k
  | 0 => by decide
  | k + 1 => by simp only [tb_T]; omega
def tb_rem (s : Nat) : Nat → Nat → Nat
  | _, 0 => 0
  | j, d + 1 => (if s.testBit j = true then 1 else 0) + tb_rem s (j + 1) d
theorem tb_rem_tab : ∀ n, n < 8 → 1 ≤ n → ∀ s, s < 2 ^ n → s.testBit 0 = false → tb_rem s 1 (n - 1) = (tb_bits s).length := by decide +kernel
theorem tb_rem_t {s j d : Nat} (h : s.testBit j = true) : tb_rem s j (d + 1) = tb_rem s (j + 1) d + 1 := by
  simp only [tb_rem]; rw [if_pos h]; omega
theorem tb_rem_f {s j d : Nat} (h : s.testBit j = false) : tb_rem s j (d + 1) = tb_rem s (j + 1) d := by
  simp only [tb_rem]; rw [h]; simp
section
variable {pr mk cs ls wy nr od : Nat → Int32} {rq : Int32} {n : Nat}
def tb_St (dep s t : Nat) (spv : Int) (j : Nat) (aa lf sp tn : Nat → Int32) : Prop := aa dep = nI t ∧ lf dep = nI s ∧ (sp dep).toInt = spv ∧ tn dep = nI j
def tb_Ag (dep : Nat) (aa lf sp tn aa' lf' sp' tn' : Nat → Int32) : Prop := ∀ i, i < dep → aa' i = aa i ∧ lf' i = lf i ∧ sp' i = sp i ∧ tn' i = tn i
theorem tb_xDleaf {post : Int32 → SX → Prop} {goalI : Int32} {goal : Int} {r : Nat} {e : Nat → Int} {w : Bool} (hn : n ≤ 7) (hr : r ≤ 49) (he : tb_Eok e) (hgo : goalI.toInt = goal) (hT : tb_Til (tb_c w pr mk) e n ls wy (2 ^ n))
    {dep t f step : Nat} {spv : Int} {aa lf sp tn : Nat → Int32} (hd : dep < 8) (ht : t < n) (hst : step < 20000) (h1 : -8000 ≤ spv) (h2 : spv ≤ 400) (hS : tb_St dep 0 t spv 1 aa lf sp tn)
    (h : wX_within_75 post goalI (nI n) (nI r) (20001 - (step + 1)) (nI (f + tb_cq goal (280 - 1000 * (r : Int)) spv (tb_D (tb_c w pr mk) e t 0))) (nI dep + (-1)) (nI (step + 1)) pr mk cs ls wy aa lf sp tn nr od) :
    wX_within_75 post goalI (nI n) (nI r) (20001 - step) (nI f) (nI dep) (nI step) pr mk cs ls wy aa lf sp tn nr od := by
  obtain ⟨sa, sl, ss, st⟩ := hS
  have p1 : 0 < 2 ^ n := Nat.two_pow_pos n
  have hE := (hT 0 p1 t ht (Nat.zero_testBit t)).1
  rw [tb_D_0] at hE h
  have e1 : tb_mn [e t] = e t := tb_mn1 (by have := he t; omega)
  rw [e1, show 7 * 0 + t = t from by omega] at hE
  have et := he t
  have hcl : (nI dep).toNatClampNeg = dep := nI_clamp (by omega)
  have hin : vp_in (nI dep) 8 := vp_in_nI hd (by omega)
  have hz : lf (nI dep).toNatClampNeg = 0 := by rw [hcl, sl]; rfl
  have hat : aa (nI dep).toNatClampNeg = nI t := by rw [hcl, sa]
  have hin2 : vp_in (aa (nI dep).toNatClampNeg) 896 := pk_in t 896 (by omega) hat
  have hsum : (sp dep + ls t).toInt = spv + e t := tb_ad ss hE (by omega) (by omega)
  have no : ¬ (e t < 1000000 ∧ spv + e t ≤ goal ∧ spv + e t ≤ 280 - 1000 * (r : Int)) → wX_within_75 post goalI (nI n) (nI r) (20001 - (step + 1)) (nI f) (nI dep + (-1)) (nI (step + 1)) pr mk cs ls wy aa lf sp tn nr od := by
    intro z
    have q : tb_cq goal (280 - 1000 * (r : Int)) spv [e t] = 0 := by
      unfold tb_cq
      rw [List.countP_singleton, decide_eq_false z]; rfl
    rw [q] at h
    exact h
  have yes : (e t < 1000000 ∧ spv + e t ≤ goal ∧ spv + e t ≤ 280 - 1000 * (r : Int)) → wX_within_75 post goalI (nI n) (nI r) (20001 - (step + 1)) (nI (f + 1)) (nI dep + (-1)) (nI (step + 1)) pr mk cs ls wy aa lf sp tn nr od := by
    intro z
    have q : tb_cq goal (280 - 1000 * (r : Int)) spv [e t] = 1 := by
      unfold tb_cq
      rw [List.countP_singleton, decide_eq_true z]; rfl
    rw [q] at h
    exact h
  rw [show 20001 - step = 20001 - (step + 1) + 1 from by omega]
  refine br_f (nI_ge (a := step) (b := 20000) hst (by decide)) (br_f (nI_pos (by omega)) ⟨hin, nm_e ⟨hin, br_t hz ⟨hin, hin, hin2, nm_r (e' := sp dep + ls t) (by rw [hat, nI_clamp (n := t) (by omega), hcl]) ?_⟩⟩⟩)
  refine tb_le 1000000 _ tb_FAR hsum (fun y => nm_r (Int32.add_zero _) (nm_e (nm_r (nI_1 step) (no (by omega))))) (fun y => tb_lt _ _ hgo hsum (fun y2 => nm_r (Int32.add_zero _) (nm_e (nm_r (nI_1 step) (no (by omega))))) (fun y2 => ?_))
  refine tb_xU r hr (fun y3 => br_t rfl (nm_r (Int32.add_zero _) (nm_e (nm_r (nI_1 step) (no ?_))))) (fun y3 => br_f (by decide) (nm_r (nI_1 f) (nm_e (nm_r (nI_1 step) (yes ?_)))))
  · rw [hsum] at y3; omega
  · rw [hsum] at y3; omega
end
end
section
section
variable {pr mk cs ls wy nr od : Nat → Int32} {n : Nat}
theorem tb_xDin {post : Int32 → SX → Prop} {goalI : Int32} {goal : Int} {r : Nat} {e : Nat → Int} {w : Bool} (hn : n ≤ 7) (hp : tb_Pok pr) (he : tb_Eok e) (hgo : goalI.toInt = goal) (hcs : tb_Cs w pr mk cs 49) (hT : tb_Til (tb_c w pr mk) e n ls wy (2 ^ n))
    {k dep s t f0 B : Nat} {spv : Int} {aa0 lf0 sp0 tn0 : Nat → Int32} (hd : dep + 1 < 8) (ht : t < n) (hs : s < 2 ^ n) (hs0 : s ≠ 0) (h1 : -8000 + 1000 ≤ spv) (h2 : spv ≤ 400 - 40) (hB : B < 20000)
    (child : ∀ j f step (aa lf sp tn : Nat → Int32), s.testBit j = true → j < n → tb_St (dep + 1) (s - 2 ^ j) j (spv + tb_c w pr mk t j) 1 aa lf sp tn → -1000 ≤ tb_c w pr mk t j → tb_c w pr mk t j ≤ 40 → step + tb_T k ≤ B →
      (∀ step' (aa' lf' sp' tn' : Nat → Int32), step' ≤ step + tb_T k → tb_Ag (dep + 1) aa lf sp tn aa' lf' sp' tn' → wX_within_75 post goalI (nI n) (nI r) (20001 - step') (nI (f + tb_cq goal (280 - 1000 * (r : Int)) (spv + tb_c w pr mk t j) (tb_D (tb_c w pr mk) e j (s - 2 ^ j)))) (nI (dep + 1) + (-1)) (nI step') pr mk cs ls wy aa' lf' sp' tn' nr od) →
      wX_within_75 post goalI (nI n) (nI r) (20001 - step) (nI f) (nI (dep + 1)) (nI step) pr mk cs ls wy aa lf sp tn nr od)
    (h : ∀ step' (aa' lf' sp' tn' : Nat → Int32), step' ≤ B → tb_Ag dep aa0 lf0 sp0 tn0 aa' lf' sp' tn' → wX_within_75 post goalI (nI n) (nI r) (20001 - step') (nI (f0 + tb_cq goal (280 - 1000 * (r : Int)) spv (tb_D (tb_c w pr mk) e t s))) (nI dep + (-1)) (nI step') pr mk cs ls wy aa' lf' sp' tn' nr od) :
    ∀ d j, j + d = n → ∀ step (aa lf sp tn : Nat → Int32), tb_St dep s t spv j aa lf sp tn → tb_Ag dep aa0 lf0 sp0 tn0 aa lf sp tn → step + (d + 1) + tb_rem s j d * tb_T k ≤ B → wX_within_75 post goalI (nI n) (nI r) (20001 - step) (nI (f0 + tb_cq goal (280 - 1000 * (r : Int)) spv (tb_Dp (tb_c w pr mk) e t s j))) (nI dep) (nI step) pr mk cs ls wy aa lf sp tn nr od := by
  have hs7 := tb_p7 hn
  have hc : tb_Cok (tb_c w pr mk) := tb_c_ok hp
  have hcl : (nI dep).toNatClampNeg = dep := nI_clamp (by omega)
  have hin : vp_in (nI dep) 8 := vp_in_nI (by omega) (by omega)
  have hcl1 : (nI dep + 1).toNatClampNeg = dep + 1 := by rw [nI_1, nI_clamp (by omega)]
  have hin1 : vp_in (nI dep + 1) 8 := by rw [nI_1]; exact vp_in_nI (by omega) (by omega)
  intro d
  induction d with
  | zero =>
    intro j hj step aa lf sp tn hS hA hst
    obtain ⟨sa, sl, ss, sn⟩ := hS
    have q : j = n := by omega
    subst q
    have hz : ¬ lf (nI dep).toNatClampNeg = 0 := by rw [hcl, sl]; exact nI_ne0 (by omega) (by omega)
    rw [tb_Dp_n _ _ _ (by omega) hs hs0]
    rw [show 20001 - step = 20001 - (step + 1) + 1 from by omega]
    exact br_f (nI_ge (a := step) (b := 20000) (by omega) (by decide)) (br_f (nI_pos (by omega)) ⟨hin, nm_r (e' := nI j) (by rw [hcl, sn]) ⟨hin, br_f hz (br_t rfl (nm_e (nm_r (nI_1 step) (h (step + 1) aa lf sp tn (by omega) hA))))⟩⟩)
  | succ d ih =>
    intro j hj step aa lf sp tn hS hA hst
    obtain ⟨sa, sl, ss, sn⟩ := hS
    have hz : ¬ lf (nI dep).toNatClampNeg = 0 := by rw [hcl, sl]; exact nI_ne0 (by omega) (by omega)
    have hjn : ¬ nI j = nI n := by rw [nI_eq (by omega) (by omega)]; omega
    have hat : aa (nI dep).toNatClampNeg = nI t := by rw [hcl, sa]
    have hlf : lf (nI dep).toNatClampNeg = nI s := by rw [hcl, sl]
    have hcj := tb_Cs_at hcs (t := t) (j := j) (by omega) (by omega)
    have hinc : vp_in (7 * aa (nI dep).toNatClampNeg + nI j) 49 := by rw [hat]; exact pk_in (7 * t + j) 49 (by omega) (tb_ix t j)
    have IH := ih (j + 1) (by omega)
    have A1 : tb_Ag dep aa0 lf0 sp0 tn0 aa lf sp (upd tn dep (nI (j + 1))) := fun i hi => ⟨(hA i hi).1, (hA i hi).2.1, (hA i hi).2.2.1, by rw [pk_un (by omega)]; exact (hA i hi).2.2.2⟩
    have S1 : tb_St dep s t spv (j + 1) aa lf sp (upd tn dep (nI (j + 1))) := ⟨sa, sl, ss, pk_us⟩
    have cok := hc t j
    rw [show 20001 - step = 20001 - (step + 1) + 1 from by omega]
    refine br_f (nI_ge (a := step) (b := 20000) (by omega) (by decide)) (br_f (nI_pos (by omega)) ⟨hin, nm_r (e' := nI j) (by rw [hcl, sn]) ⟨hin, br_f hz (br_f hjn ⟨hin, hin, nm_r (e' := upd tn dep (nI (j + 1))) (by rw [hcl, sn, nI_1]) ⟨hin, hinc, nm_r (e' := cs (7 * t + j)) (by rw [hat, tb_ix, nI_clamp (by omega)]) ⟨hin, ?_⟩⟩⟩)⟩⟩)
    cases hb : s.testBit j with
    | false =>
      rw [tb_rem_f hb] at hst
      have q := IH (step + 1) aa lf sp (upd tn dep (nI (j + 1))) S1 A1 (by omega)
      rw [tb_Dp_f hb] at q
      exact nm_r (e' := nI s) (by rw [hlf, tb_ms_f (by omega) (by omega) hb]) ⟨hin, br_t hlf.symm (br_t rfl (nm_r (nI_1 step) q))⟩
    | true =>
      rw [tb_rem_t hb] at hst
      rw [Nat.add_mul, Nat.one_mul] at hst
      have tp := tb_T_pos k
      obtain ⟨_, _, slt, sbit⟩ := tb_bits_er s (by omega) j (by omega) hb
      have hne : ¬ nI (s - 2 ^ j) = lf (nI dep).toNatClampNeg := by rw [hlf, nI_eq (by omega) (by omega)]; omega
      have skip : tb_cq goal (280 - 1000 * (r : Int)) spv (tb_bk (tb_c w pr mk) e t s j) = 0 → wX_within_75 post goalI (nI n) (nI r) (20001 - (step + 1)) (nI (f0 + tb_cq goal (280 - 1000 * (r : Int)) spv (tb_Dp (tb_c w pr mk) e t s j))) (nI dep) (nI (step + 1)) pr mk cs ls wy aa lf sp (upd tn dep (nI (j + 1))) nr od := by
        intro z
        have q := IH (step + 1) aa lf sp (upd tn dep (nI (j + 1))) S1 A1 (by omega)
        rw [tb_Dp_t hb, tb_cq_app, z, Nat.add_zero] at q
        exact q
      refine nm_r (e' := nI (s - 2 ^ j)) (by rw [hlf, tb_ms_t (by omega) (by omega) hb]) ⟨hin, br_f hne (tb_le 1000000 _ tb_FAR hcj (fun z => br_t rfl (nm_r (nI_1 step) (skip (tb_cq_far (by omega))))) (fun z => ?_))⟩
      have dok := tb_D_ok hc he j (s - 2 ^ j)
      have dmn := tb_ok_mn dok
      have eb := (hT (s - 2 ^ j) (by omega) j (by omega) sbit).1
      have hsp : (sp (nI dep).toNatClampNeg + cs (7 * t + j)).toInt = spv + tb_c w pr mk t j := tb_ad (by rw [hcl]; exact ss) hcj (by omega) (by omega)
      have hsum : ((sp (nI dep).toNatClampNeg + cs (7 * t + j)) + ls (7 * nI (s - 2 ^ j) + nI j).toNatClampNeg).toInt = spv + tb_c w pr mk t j + tb_mn (tb_D (tb_c w pr mk) e j (s - 2 ^ j)) := tb_ad hsp (by rw [tb_ix, nI_clamp (by omega)]; exact eb) (by omega) (by omega)
      refine br_f (by decide) ⟨hin, pk_in (7 * (s - 2 ^ j) + j) 896 (by omega) (tb_ix _ _), tb_lt _ _ hgo hsum (fun y => nm_r (nI_1 step) (skip ?_)) (fun y => ⟨hin1, nm_r (e' := upd aa (dep + 1) (nI j)) (by rw [hcl1]) ⟨hin1, nm_r (e' := upd lf (dep + 1) (nI (s - 2 ^ j))) (by rw [hcl1]) ⟨hin, hin1, nm_r (e' := upd sp (dep + 1) (sp dep + cs (7 * t + j))) (by rw [hcl1, hcl]) ⟨hin1, nm_r (e' := upd (upd tn dep (nI (j + 1))) (dep + 1) 1) (by rw [hcl1]) (nm_r (nI_1 dep) (nm_r (nI_1 step) ?_))⟩⟩⟩⟩)⟩
      · rw [tb_cq_bk hc he z]
        exact tb_cq_prune y
      · rw [hcl] at hsp
        refine child j _ (step + 1) _ _ _ _ hb (by omega) ⟨pk_us, pk_us, by rw [pk_us]; exact hsp, pk_us⟩ (by omega) (by omega) (by omega) (fun step' aa' lf' sp' tn' g1 g2 => ?_)
        rw [pk_m1]
        have gd := g2 dep (by omega)
        rw [pk_un (by omega), pk_un (by omega), pk_un (by omega), pk_un (by omega), pk_us] at gd
        have q := IH step' aa' lf' sp' tn' ⟨by rw [gd.1]; exact sa, by rw [gd.2.1]; exact sl, by rw [gd.2.2.1]; exact ss, gd.2.2.2⟩ (fun i hi => by
          have gi := g2 i (by omega)
          rw [pk_un (by omega), pk_un (by omega), pk_un (by omega), pk_un (by omega), pk_un (by omega)] at gi
          rw [gi.1, gi.2.1, gi.2.2.1, gi.2.2.2]
          exact hA i hi) (by omega)
        rw [tb_Dp_t hb, tb_cq_app, tb_cq_bk hc he z, ← Nat.add_assoc] at q
        exact q
theorem tb_xD {post : Int32 → SX → Prop} {goalI : Int32} {goal : Int} {r : Nat} {e : Nat → Int} {w : Bool} (hn : n ≤ 7) (hr : r ≤ 49) (hp : tb_Pok pr) (he : tb_Eok e) (hgo : goalI.toInt = goal) (hcs : tb_Cs w pr mk cs 49) (hT : tb_Til (tb_c w pr mk) e n ls wy (2 ^ n)) :
    ∀ k dep s t f step (spv : Int) (aa lf sp tn : Nat → Int32), (tb_bits s).length = k → dep + k ≤ 6 → t < n → s < 2 ^ n → s.testBit 0 = false → -1000 * (dep : Int) ≤ spv → spv ≤ 40 * (dep : Int) → step + tb_T k < 20000 → tb_St dep s t spv 1 aa lf sp tn →
      (∀ step' (aa' lf' sp' tn' : Nat → Int32), step' ≤ step + tb_T k → tb_Ag dep aa lf sp tn aa' lf' sp' tn' → wX_within_75 post goalI (nI n) (nI r) (20001 - step') (nI (f + tb_cq goal (280 - 1000 * (r : Int)) spv (tb_D (tb_c w pr mk) e t s))) (nI dep + (-1)) (nI step') pr mk cs ls wy aa' lf' sp' tn' nr od) →
      wX_within_75 post goalI (nI n) (nI r) (20001 - step) (nI f) (nI dep) (nI step) pr mk cs ls wy aa lf sp tn nr od := by
  have hs7 := tb_p7 hn
  intro k
  induction k with
  | zero =>
    intro dep s t f step spv aa lf sp tn hlen hdk ht hs h0 h1 h2 hst hS h
    have q : s = 0 := by
      apply Classical.byContradiction
      intro z
      exact tb_bits_pos s (by omega) z hlen
    subst q
    exact tb_xDleaf hn hr he hgo hT (by omega) ht (by omega) (by omega) (by omega) hS (h (step + 1) aa lf sp tn (by simp only [tb_T]; omega) (fun i _ => ⟨rfl, rfl, rfl, rfl⟩))
  | succ k ih =>
    intro dep s t f step spv aa lf sp tn hlen hdk ht hs h0 h1 h2 hst hS h
    have hs0 : s ≠ 0 := by
      intro z
      rw [z] at hlen
      exact absurd hlen (by rw [show (tb_bits 0).length = 0 from by decide +kernel]; omega)
    have hT2 : tb_T (k + 1) = 7 + (k + 1) * tb_T k := rfl
    have hrem := tb_rem_tab n (by omega) (by omega) s hs h0
    have q := tb_xDin (k := k) (f0 := f) (B := step + tb_T (k + 1)) hn hp he hgo hcs hT (dep := dep) (t := t) (spv := spv) (by omega) ht hs hs0 (by omega) (by omega) hst (fun j f' step' aa' lf' sp' tn' hb hj g1 g2 g3 g4 g5 => ?_) h (n - 1) 1 (by omega) step aa lf sp tn hS (fun i _ => ⟨rfl, rfl, rfl, rfl⟩) (by rw [hrem, hlen]; omega)
    · rw [tb_Dp_f h0, tb_Dp_0] at q
      exact q
    · obtain ⟨_, e2, slt, sbit⟩ := tb_bits_er s (by omega) j (by omega) hb
      have b0 : (s - 2 ^ j).testBit 0 = false := by rw [tb_sub_bit s (by omega) j (by omega) hb 0 (by omega), h0]; rfl
      exact ih (dep + 1) (s - 2 ^ j) j f' step' _ aa' lf' sp' tn' (by omega) (by omega) hj (by omega) b0 (by omega) (by omega) (by omega) g1 g5
end
section
variable {pr mk cs ls wy aa lf sp tn nr od : Nat → Int32} {rq : Int32} {n : Nat}
theorem tb_xW31 {post : Int32 → SX → Prop} {goalI : Int32} {goal : Int} (h2 : 2 ≤ n) (hn : n ≤ 7) (hp : tb_Pok pr) (hgo : goalI.toInt = goal) (hcs : tb_Cs true pr mk cs 49) (hT : tb_Til (tb_tc pr mk) (tb_te pr mk) n ls wy (2 ^ n))
    (h : ∀ aa' lf' sp' tn' : Nat → Int32, post (nI (tb_cq goal (280 - 1000 * (tb_R n mk : Int)) 0 (tb_TD n pr mk))) ((nI n), (nI (tb_R n mk)), pr, mk, cs, ls, wy, aa', lf', sp', tn', nr, od)) : wX_within_31 post goalI (nI n) (nI (tb_R n mk)) pr mk cs ls wy aa lf sp tn nr od := by
  have fb := tb_full_bits n (by omega) h2
  have q2 : 2 ^ 2 ≤ 2 ^ n := Nat.pow_le_pow_right (by decide) h2
  have b0 : (2 ^ n - 2).testBit 0 = false := by
    cases z : (2 ^ n - 2).testBit 0 with
    | false => rfl
    | true => have := (tb_full_mem n (by omega) h2 0 (by omega)).mp z; omega
  have tl := tb_T_le (n - 1) (by omega)
  have hR := tb_R_le n mk
  refine nm_e (nm_r (e' := upd lf 0 (nI (2 ^ n - 2))) (by rw [tb_sl n (by omega), show (2 : Int32) = nI 2 from rfl, pk_sub (by omega)]) (nm_e (nm_e ⟨20001, ?_⟩)))
  refine tb_xD (w := true) (e := tb_te pr mk) hn hR hp (tb_te_ok hp) hgo hcs hT (n - 1) 0 (2 ^ n - 2) 0 0 0 0 _ _ _ _ fb.2.1 (by omega) (by omega) (by omega) b0 (by omega) (by omega) (by omega) ⟨pk_us, pk_us, by rw [pk_us]; rfl, pk_us⟩ (fun step' aa' lf' sp' tn' g1 g2 => ?_)
  rw [show 20001 - step' = 20000 - step' + 1 from by omega, Nat.zero_add]
  exact br_f (nI_ge (a := step') (b := 20000) (by omega) (by decide)) (br_t (by decide) (h aa' lf' sp' tn'))
theorem tb_xW {post : Int32 → SX → Prop} {p0 : Int32} (h2 : 2 ≤ n) (hn : n ≤ 7) (hp : tb_Pok pr) (hm : tb_Mok n mk)
    (h : ∀ (rq' : Int32) (cs' ls' wy' aa' lf' sp' tn' : Nat → Int32), post (nI ((tb_P (2 ^ n - 2)).countP (fun l => tb_A mk l && decide (tb_q pr l ≤ p0.toInt)))) ((nI n), rq', pr, mk, cs', ls', wy', aa', lf', sp', tn', nr, od)) : wpX_within post ((nI n), rq, pr, mk, cs, ls, wy, aa, lf, sp, tn, nr, od) p0 := by
  have hR := tb_R_le n mk
  refine tb_le 0 _ tb_Z rfl (fun z => tb_xF (rq := rq) hn hp hm (fun cs' ls' wy' g1 g2 => tb_lt _ 1000000 rfl tb_FAR (fun y => ?_) (fun y => ?_))) (fun z => ?_)
  · have e1 : (1000 * nI (tb_R n mk) : Int32).toInt = 1000 * (tb_R n mk : Int) := tb_ml (by decide) (nI_toInt (by omega)) (by omega) (by omega)
    have e2 : (p0 - 1000 * nI (tb_R n mk)).toInt = p0.toInt - 1000 * (tb_R n mk : Int) := tb_sb rfl e1 (by omega) (by omega)
    refine tb_xW31 h2 hn hp e2 g1 g2 (fun aa' lf' sp' tn' => ?_)
    rw [tb_cheap h2 hn hp hm (limit := p0.toInt) (Or.inr ⟨y, rfl⟩)]
    exact h _ cs' ls' wy' aa' lf' sp' tn'
  · refine tb_xW31 h2 hn hp tb_FAR g1 g2 (fun aa' lf' sp' tn' => ?_)
    rw [tb_cheap h2 hn hp hm (limit := p0.toInt) (Or.inl ⟨y, rfl⟩)]
    exact h _ cs' ls' wy' aa' lf' sp' tn'
  · have e : (tb_P (2 ^ n - 2)).countP (fun l => tb_A mk l && decide (tb_q pr l ≤ p0.toInt)) = 0 := by
      apply List.countP_eq_zero.mpr
      intro l hl hq
      rw [Bool.and_eq_true, decide_eq_true_eq] at hq
      rcases tb_brW h2 hn hp hm hl with q | q
      · omega
      · rw [q.1] at hq; exact absurd hq.1 (by decide)
    have hh := h rq cs ls wy aa lf sp tn
    rw [e] at hh
    exact hh
end
end
section
def tb_pr (n : Nat) (pr mk : Nat → Int32) (a b : Nat) : Int32 := if tb_mn (tb_PD n pr mk a b) < 1000000 then Int32.ofInt (tb_mn (tb_PD n pr mk a b)) else -3
theorem tb_pr_of {n : Nat} {pr mk : Nat → Int32} {a b : Nat} {v : Int32} (h : v.toInt = tb_mn (tb_PD n pr mk a b)) (hv : v.toInt < 1000000) : v = tb_pr n pr mk a b := by
  unfold tb_pr
  rw [if_pos (by omega), ← h, Int32.ofInt_toInt]
theorem tb_pr_no {n : Nat} {pr mk : Nat → Int32} {a b : Nat} (hv : tb_mn (tb_PD n pr mk a b) = 1000000) : -3 = tb_pr n pr mk a b := by
  unfold tb_pr
  rw [if_neg (by omega)]
def tb_pu (v r : Int32) : Int32 := if r < 0 then v else if v < 0 then r else if v ≤ r then v else r
def tb_bi (n : Nat) (pr mk : Nat → Int32) (a j : Nat) (v : Int32) : Int32 := (List.range j).foldl (fun v b => tb_pu v (tb_pr n pr mk a b)) v
def tb_bo (n : Nat) (pr mk : Nat → Int32) (j : Nat) : Int32 := (List.range j).foldl (fun v a => tb_bi n pr mk a a v) (-3)
theorem tb_bi_s (n : Nat) (pr mk : Nat → Int32) (a j : Nat) (v : Int32) : tb_bi n pr mk a (j + 1) v = tb_pu (tb_bi n pr mk a j v) (tb_pr n pr mk a j) := by
  unfold tb_bi
  rw [List.range_succ, List.foldl_append]
  rfl
theorem tb_bo_s (n : Nat) (pr mk : Nat → Int32) (j : Nat) : tb_bo n pr mk (j + 1) = tb_bi n pr mk j j (tb_bo n pr mk j) := by
  unfold tb_bo
  rw [List.range_succ, List.foldl_append]
  rfl
theorem tb_allbit : ∀ n, n < 8 → ∀ a, a < n → (2 ^ n - 1).testBit a = true := by decide +kernel
section
variable {pr mk cs ls wy aa lf sp tn nr od : Nat → Int32} {rq : Int32} {n : Nat}
theorem tb_xP29 {post : Int32 → SX → Prop} {J7 : Int32 → (Nat → Int32) → (Nat → Int32) → (Nat → Int32) → (Nat → Int32) → (Nat → Int32) → (Nat → Int32) → (Nat → Int32) → (Nat → Int32) → (Nat → Int32) → (Nat → Int32) → (Nat → Int32) → Prop} {a b t : Nat} {z0 : Int32} (ht : t < 7) (hb : b < 7) (hz : z0.toInt = tb_eb b t)
    (h : ∀ ls' wy' : Nat → Int32, (∀ j, j ≠ t → ls' j = ls j ∧ wy' j = wy j) → ((ls' t).toInt = tb_eb b t ∧ wy' t = nI (if tb_eb b t < 1000000 then 1 else 0)) → J7 (nI (t + 1)) pr mk cs ls' wy' aa lf sp tn nr od) : wX_pathPrice_29 post J7 (nI a) (nI b) (nI t) z0 (nI t) (nI n) rq pr mk cs ls wy aa lf sp tn nr od := by
  have hcl : (nI t).toNatClampNeg = t := nI_clamp (by omega)
  have hin : vp_in (nI t) 896 := vp_in_nI (by omega) (by omega)
  refine ⟨hin, nm_r (e' := upd ls t z0) (by rw [hcl]) (pk_eq t b (fun q => ⟨hin, nm_r (e' := upd wy t 1) (by rw [hcl]) (nm_r (nI_1 t) ?_)⟩) (fun q => ⟨hin, nm_r (e' := upd wy t 0) (by rw [hcl]) (nm_r (nI_1 t) ?_)⟩))⟩
  · refine h _ _ (fun j hj => ⟨pk_un hj, pk_un hj⟩) ⟨by rw [pk_us]; exact hz, ?_⟩
    rw [pk_us, show tb_eb b t = 0 from if_pos q]
    rfl
  · refine h _ _ (fun j hj => ⟨pk_un hj, pk_un hj⟩) ⟨by rw [pk_us]; exact hz, ?_⟩
    rw [pk_us, show tb_eb b t = 1000000 from if_neg q]
    rfl
theorem tb_xPl {post : Int32 → SX → Prop} {a b : Nat} (hn : n ≤ 7) (hp : tb_Pok pr) (ha : a < n) (hb : b < n) (hcs : tb_Cs false pr mk cs 49)
    (h : ∀ ls' wy' : Nat → Int32, post (tb_pr n pr mk a b) ((nI n), rq, pr, mk, cs, ls', wy', aa, lf, sp, tn, nr, od)) :
    ∀ d t, t + d = 7 → ∀ ls wy : Nat → Int32, tb_B0 (tb_eb b) n ls wy t → wX_pathPrice_7 post (nI a) (nI b) (nI n) rq (d + 1) (nI t) pr mk cs ls wy aa lf sp tn nr od := by
  have hs7 := tb_p7 hn
  have ab := tb_allbit n (by omega) a ha
  have p1 : 1 ≤ 2 ^ n := Nat.one_le_two_pow
  obtain ⟨_, _, slt, sbit⟩ := tb_bits_er (2 ^ n - 1) (by omega) a (by omega) ab
  intro d
  induction d with
  | zero =>
    intro t ht ls wy h1
    have q : t = 7 := by omega
    subst q
    refine br_t (by decide) (tb_xFS (w := false) (e := tb_eb b) hn hp (tb_eb_ok b) hcs (tb_B0_T hn (tb_eb_ok b) h1) (fun ls' wy' g => ?_))
    have ix : (7 * ((((1 : Int32) <<< (nI n &&& 31)) - 1) &&& (((1 : Int32) <<< (nI a &&& 31)) ^^^ (-1)))) + nI a = nI (7 * (2 ^ n - 1 - 2 ^ a) + a) := by
      rw [tb_sl n (by omega), show (1 : Int32) = nI 1 from rfl, pk_sub p1]
      rw [show (nI 1) = (1 : Int32) from rfl, tb_ms_t (by omega) (by omega) ab, tb_ix]
    have hE := (g (2 ^ n - 1 - 2 ^ a) (by omega) a ha sbit).1
    refine ⟨pk_in (7 * (2 ^ n - 1 - 2 ^ a) + a) 896 (by omega) ix, nm_r (e' := ls' (7 * (2 ^ n - 1 - 2 ^ a) + a)) (by rw [ix, nI_clamp (by omega)]) (tb_lt _ _ hE tb_FAR (fun z => ?_) (fun z => ?_))⟩
    · rw [tb_pr_of hE (by omega)]
      exact h ls' wy'
    · rw [tb_pr_no (a := a) (b := b) (Int.le_antisymm (tb_mn_far _) z)]
      exact h ls' wy'
  | succ d ih =>
    intro t ht ls wy h1
    have IH := ih (t + 1) (by omega)
    refine br_f (nI_ge (a := t) (b := 7) (by omega) (by decide)) (pk_eq t b (fun q => ?_) (fun q => ?_))
    · exact tb_xP29 (by omega) (by omega) (by rw [show tb_eb b t = 0 from if_pos q]; rfl) (fun ls' wy' g1 g2 => IH ls' wy' (tb_B0_s h1 g1 (fun _ => g2)))
    · exact tb_xP29 (by omega) (by omega) (by rw [show tb_eb b t = 1000000 from if_neg q]; rfl) (fun ls' wy' g1 g2 => IH ls' wy' (tb_B0_s h1 g1 (fun _ => g2)))
theorem tb_xPP {post : Int32 → SX → Prop} {a b : Nat} (hn : n ≤ 7) (hp : tb_Pok pr) (hm : tb_Mok n mk) (ha : a < n) (hb : b < n)
    (h : ∀ (rq' : Int32) (cs' ls' wy' : Nat → Int32), post (tb_pr n pr mk a b) ((nI n), rq', pr, mk, cs', ls', wy', aa, lf, sp, tn, nr, od)) : wpX_pathPrice post ((nI n), rq, pr, mk, cs, ls, wy, aa, lf, sp, tn, nr, od) (nI a) (nI b) := by
  refine tb_xTC (rq := rq) false rfl hn hp hm (fun cs' g => ⟨8, ?_⟩)
  exact tb_xPl hn hp ha hb g (fun ls' wy' => h _ cs' ls' wy') 7 0 rfl ls wy (fun t' ht' => absurd ht' (by omega))
theorem tb_xBP15 {post : Int32 → SX → Prop} {J5 : Int32 → Int32 → Int32 → Int32 → (Nat → Int32) → (Nat → Int32) → (Nat → Int32) → (Nat → Int32) → (Nat → Int32) → (Nat → Int32) → (Nat → Int32) → (Nat → Int32) → (Nat → Int32) → (Nat → Int32) → (Nat → Int32) → Prop} {a : Nat} {v : Int32} (hn : n ≤ 7) (hp : tb_Pok pr) (hm : tb_Mok n mk) (ha : a < n)
    (h : ∀ (rq' : Int32) (cs' ls' wy' : Nat → Int32), J5 (tb_bi n pr mk a a v) (nI (a + 1)) (nI n) rq' pr mk cs' ls' wy' aa lf sp tn nr od) :
    ∀ d j, j + d = a → ∀ (rq : Int32) (cs ls wy : Nat → Int32), wX_bestPath_15 post J5 (nI a) (d + 1) (tb_bi n pr mk a j v) (nI j) (nI n) rq pr mk cs ls wy aa lf sp tn nr od := by
  intro d
  induction d with
  | zero =>
    intro j hj rq cs ls wy
    have q : j = a := by omega
    subst q
    exact br_t (nI_le (Nat.le_refl _) (by omega)) (nm_r (nI_1 j) (h rq cs ls wy))
  | succ d ih =>
    intro j hj rq cs ls wy
    refine br_f (nI_ge (a := j) (b := a) (by omega) (by omega)) (tb_xPP hn hp hm ha (by omega) (fun rq' cs' ls' wy' => ?_))
    have IH := ih (j + 1) (by omega) rq' cs' ls' wy'
    rw [tb_bi_s] at IH
    refine br_c (fun z => nm_r (nI_1 j) ?_) (fun z => br_c (fun y => nm_r (nI_1 j) ?_) (fun y => br_c (fun x => nm_r (nI_1 j) ?_) (fun x => nm_r (nI_1 j) ?_)))
    · rw [show tb_pu (tb_bi n pr mk a j v) (tb_pr n pr mk a j) = tb_bi n pr mk a j v from if_pos z] at IH
      exact IH
    · rw [show tb_pu (tb_bi n pr mk a j v) (tb_pr n pr mk a j) = tb_pr n pr mk a j from by unfold tb_pu; rw [if_neg z, if_pos y]] at IH
      exact IH
    · rw [show tb_pu (tb_bi n pr mk a j v) (tb_pr n pr mk a j) = tb_bi n pr mk a j v from by unfold tb_pu; rw [if_neg z, if_neg y, if_pos x]] at IH
      exact IH
    · rw [show tb_pu (tb_bi n pr mk a j v) (tb_pr n pr mk a j) = tb_pr n pr mk a j from by unfold tb_pu; rw [if_neg z, if_neg y, if_neg x]] at IH
      exact IH
theorem tb_xBP5 {post : Int32 → SX → Prop} (hn : n ≤ 7) (hp : tb_Pok pr) (hm : tb_Mok n mk)
    (h : ∀ (rq' : Int32) (cs' ls' wy' : Nat → Int32), post (tb_bo n pr mk n) ((nI n), rq', pr, mk, cs', ls', wy', aa, lf, sp, tn, nr, od)) :
    ∀ d a, a + d = n → ∀ (rq : Int32) (cs ls wy : Nat → Int32), wX_bestPath_5 post (d + 1) (tb_bo n pr mk a) (nI a) (nI n) rq pr mk cs ls wy aa lf sp tn nr od := by
  intro d
  induction d with
  | zero =>
    intro a ha rq cs ls wy
    have q : a = n := by omega
    subst q
    exact br_t (nI_le (Nat.le_refl _) (by omega)) (h rq cs ls wy)
  | succ d ih =>
    intro a ha rq cs ls wy
    refine br_f (nI_ge (a := a) (b := n) (by omega) (by omega)) ⟨a + 1, ?_⟩
    refine tb_xBP15 hn hp hm (by omega) (fun rq' cs' ls' wy' => ?_) a 0 (by omega) rq cs ls wy
    have IH := ih (a + 1) (by omega) rq' cs' ls' wy'
    rw [tb_bo_s] at IH
    exact IH
theorem tb_xBP {post : Int32 → SX → Prop} (hn : n ≤ 7) (hp : tb_Pok pr) (hm : tb_Mok n mk)
    (h : ∀ (rq' : Int32) (cs' ls' wy' : Nat → Int32), post (tb_bo n pr mk n) ((nI n), rq', pr, mk, cs', ls', wy', aa, lf, sp, tn, nr, od)) : wpX_bestPath post ((nI n), rq, pr, mk, cs, ls, wy, aa, lf, sp, tn, nr, od) := ⟨n + 1, tb_xBP5 hn hp hm h n 0 (by omega) rq cs ls wy⟩
end
end
section
def tb_hold (f : Nat → Int32) : Nat → List Nat → Prop
  | _, [] => True
  | o, x :: l => f o = nI x ∧ tb_hold f (o + 1) l
theorem tb_hold_k {f g : Nat → Int32} : ∀ {l : List Nat} {o : Nat}, tb_hold f o l → (∀ i, o ≤ i → i < o + l.length → g i = f i) → tb_hold g o l
  | [], _, _, _ => trivial
  | x :: l, o, h, hg => ⟨by rw [hg o (Nat.le_refl _) (by rw [List.length_cons]; omega)]; exact h.1, tb_hold_k h.2 (fun i h1 h2 => hg i (by omega) (by rw [List.length_cons]; omega))⟩
theorem tb_hold_app {f : Nat → Int32} : ∀ {l m : List Nat} {o : Nat}, tb_hold f o l → tb_hold f (o + l.length) m → tb_hold f o (l ++ m)
  | [], _, _, _, h => h
  | x :: l, m, o, h, hm => ⟨h.1, tb_hold_app h.2 (by rw [List.length_cons, ← Nat.add_assoc, Nat.add_right_comm] at hm; exact hm)⟩
theorem tb_perm_of {N U : List Nat} (hn : N.Nodup) (hs : ∀ x, x ∈ N → x ∈ U) (hl : U.length ≤ N.length) : List.Perm U N := by
  obtain ⟨V, hV⟩ := tb_ext N U hn hs
  have h1 := hV.length_eq
  rw [List.length_append] at h1
  have h2 : V = [] := List.length_eq_zero_iff.mp (by omega)
  rw [h2, List.append_nil] at hV
  exact hV
def tb_dg : Nat → Nat → List Nat → List Nat × Nat
  | 0, r, suf => (suf, r)
  | k + 1, r, suf => tb_dg k (r / 7) ((r % 7) :: suf)
theorem tb_dg_suf : ∀ (k r : Nat) (suf : List Nat), ∃ p, (tb_dg k r suf).1 = p ++ suf ∧ p.length = k
  | 0, r, suf => ⟨[], rfl, rfl⟩
  | k + 1, r, suf => by
    obtain ⟨p, h1, h2⟩ := tb_dg_suf k (r / 7) ((r % 7) :: suf)
    exact ⟨p ++ [r % 7], by simp only [tb_dg]; rw [h1]; simp, by simp [h2]⟩
theorem tb_dg_lt : ∀ (k r : Nat) (suf : List Nat), (∀ x, x ∈ suf → x < 7) → ∀ x, x ∈ (tb_dg k r suf).1 → x < 7
  | 0, _, _, h => h
  | k + 1, r, suf, h => tb_dg_lt k (r / 7) ((r % 7) :: suf) (fun x hx => by
      rcases List.mem_cons.mp hx with q | q
      · omega
      · exact h x q)
def tb_val (n : Nat) (L : List Nat × Nat) : Prop := L.2 = 0 ∧ List.Perm L.1 (tb_bits (2 ^ n - 2))
theorem tb_full_in {n x : Nat} (h2 : 2 ≤ n) (h7 : n ≤ 7) : x ∈ tb_bits (2 ^ n - 2) ↔ 1 ≤ x ∧ x < n := by
  rw [tb_bits_mem]
  constructor
  · intro h; exact (tb_full_mem n (by omega) h2 x h.1).mp h.2
  · intro h; exact ⟨by omega, (tb_full_mem n (by omega) h2 x (by omega)).mpr h⟩
theorem tb_add_bit : ∀ s, s < 128 → ∀ x, x < 7 → s.testBit x = false → s + 2 ^ x < 128 ∧ ∀ i, i < 7 → (s + 2 ^ x).testBit i = (s.testBit i || decide (i = x)) := by decide +kernel
section
variable {pr mk cs ls wy aa lf sp tn nr od : Nat → Int32} {rq : Int32} {n : Nat}
theorem tb_xL25 {post : Int32 → SX → Prop} (h2 : 2 ≤ n) (hn : n ≤ 7) :
    ∀ k r sn suf od, r < 2 ^ 31 → suf.length + k = n - 1 → sn < 128 → (∀ i, i < 7 → sn.testBit i = decide (i = 0 ∨ i ∈ suf)) → suf.Nodup → (∀ x, x ∈ suf → 1 ≤ x ∧ x < n) → od 0 = nI 0 → tb_hold od (k + 1) suf →
      (∀ od' : Nat → Int32, tb_val n (tb_dg k r suf) → tb_hold od' 0 (0 :: (tb_dg k r suf).1) → post 1 ((nI n), rq, pr, mk, cs, ls, wy, aa, lf, sp, tn, nr, od')) → (∀ od' : Nat → Int32, ¬ tb_val n (tb_dg k r suf) → post 0 ((nI n), rq, pr, mk, cs, ls, wy, aa, lf, sp, tn, nr, od')) → wX_load_25 post (nI n) rq (k + 1) (nI r) (nI sn) (nI k) pr mk cs ls wy aa lf sp tn nr od := by
  have fb := tb_full_bits n (by omega) h2
  intro k
  induction k with
  | zero =>
    intro r sn suf od hr hl hs hsn hnd hin h0 hh g1 g0
    refine br_t (nI_lt (a := 0) (b := 1) (by decide) (by decide)) (pk_eq r 0 (fun q => g1 od ⟨q, ?_⟩ ⟨h0, hh⟩) (fun q => g0 od (fun z => q z.1)))
    have p := tb_perm_of (U := tb_bits (2 ^ n - 2)) hnd (fun x hx => (tb_full_in h2 hn).mpr (hin x hx)) (by omega)
    exact p.symm
  | succ k ih =>
    intro r sn suf od hr hl hs hsn hnd hin h0 hh g1 g0
    have h7 : ¬ (7 : Int32) = 0 := by decide
    obtain ⟨p, e1, e2⟩ := tb_dg_suf k (r / 7) ((r % 7) :: suf)
    have eq : tb_dg (k + 1) r suf = tb_dg k (r / 7) ((r % 7) :: suf) := rfl
    have mem : tb_val n (tb_dg (k + 1) r suf) → 1 ≤ r % 7 ∧ r % 7 < n ∧ r % 7 ∉ suf := by
      intro z
      rw [eq] at z
      have zp := z.2
      rw [e1] at zp
      have m1 := (tb_full_in h2 hn).mp (zp.mem_iff.mp (List.mem_append_right _ List.mem_cons_self))
      have nd : (p ++ (r % 7) :: suf).Nodup := zp.nodup_iff.mpr (tb_bits_nd _)
      exact ⟨m1.1, m1.2, (List.nodup_cons.mp (List.nodup_append.mp nd).2.1).1⟩
    refine br_f (nI_nlt (a := k + 1) (b := 1) (by omega) (by omega)) ⟨h7, nm_r (e' := nI (r % 7)) (tb_md hr) ⟨h7, nm_r (e' := nI (r / 7)) (tb_dv hr) (pk_le n (r % 7) (fun z => g0 od (fun y => by have := mem y; omega)) (fun z => ?_))⟩⟩
    cases hb : sn.testBit (r % 7) with
    | true =>
      refine br_t (tb_b1t hs (by omega) hb) (g0 od (fun y => ?_))
      rw [hsn (r % 7) (by omega), decide_eq_true_eq] at hb
      have m := mem y
      rcases hb with q | q
      · omega
      · exact m.2.2 q
    | false =>
      obtain ⟨a1, a2⟩ := tb_add_bit sn hs (r % 7) (by omega) hb
      have hb2 := hb
      rw [hsn (r % 7) (by omega), decide_eq_false_iff_not] at hb2
      refine br_f (tb_b1f' hs (by omega) hb) (nm_r (e' := nI (sn + 2 ^ (r % 7))) (tb_or_f hs (by omega) hb) ⟨pk_in (k + 1) 7 (by omega), nm_r (e' := upd od (k + 1) (nI (r % 7))) (by rw [nI_clamp (by omega)]) (nm_r (pk_m1 k) ?_)⟩)
      refine ih (r / 7) (sn + 2 ^ (r % 7)) ((r % 7) :: suf) _ (by omega) (by rw [List.length_cons]; omega) a1 (fun i hi => ?_) (List.nodup_cons.mpr ⟨fun q => hb2 (Or.inr q), hnd⟩) (fun x hx => ?_) (by rw [pk_un (by omega)]; exact h0) ⟨pk_us, tb_hold_k hh (fun i h1 h3 => pk_un (by omega))⟩ g1 g0
      · rw [a2 i hi, hsn i hi, ← Bool.decide_or]
        apply decide_eq_decide.mpr
        rw [List.mem_cons]
        constructor
        · rintro ((q | q) | q)
          · exact Or.inl q
          · exact Or.inr (Or.inr q)
          · exact Or.inr (Or.inl q)
        · rintro (q | q | q)
          · exact Or.inl (Or.inl q)
          · exact Or.inr q
          · exact Or.inl (Or.inr q)
      · rcases List.mem_cons.mp hx with q | q
        · subst q
          exact ⟨Nat.pos_of_ne_zero (fun y => hb2 (Or.inl y)), z⟩
        · exact hin x q
theorem tb_xL {post : Int32 → SX → Prop} {p0 : Int32} (h2 : 2 ≤ n) (hn : n ≤ 7)
    (g1 : ∀ (c : Nat) (od' : Nat → Int32), p0 = nI c → c < 2 ^ 31 → tb_val n (tb_dg (n - 1) c []) → tb_hold od' 0 (0 :: (tb_dg (n - 1) c []).1) → post 1 ((nI n), rq, pr, mk, cs, ls, wy, aa, lf, sp, tn, nr, od'))
    (g0 : ∀ (od' : Nat → Int32), (p0 < 0 ∨ ∃ c, p0 = nI c ∧ c < 2 ^ 31 ∧ ¬ tb_val n (tb_dg (n - 1) c [])) → post 0 ((nI n), rq, pr, mk, cs, ls, wy, aa, lf, sp, tn, nr, od')) : wpX_load post ((nI n), rq, pr, mk, cs, ls, wy, aa, lf, sp, tn, nr, od) p0 := by
  by_cases z : p0 < 0
  · exact br_f (fun y => absurd (Int32.lt_of_lt_of_le z y) Int32.lt_irrefl) (g0 od (Or.inl z))
  · obtain ⟨c, hc, e⟩ := nI_of z
    subst e
    refine br_t (nI_pos' hc) (nm_r (e' := upd od 0 (nI 0)) rfl (nm_r (e' := nI (n - 1)) (pk_sub (b := 1) (by omega)) ⟨n - 1 + 1, ?_⟩))
    exact tb_xL25 h2 hn (n - 1) c 1 [] _ hc (by simp) (by decide) (by decide +kernel) List.nodup_nil (by simp) pk_us trivial (fun od' v1 v2 => g1 c od' rfl hc v1 v2) (fun od' v1 => g0 od' (Or.inr ⟨c, rfl, hc, v1⟩))
theorem tb_xPT14 {post : Int32 → SX → Prop} (hn : n ≤ 7) (hp : tb_Pok pr) (h0 : od 0 = nI 0) {tot : Int} (h : ∀ r : Int32, r.toInt = tot → post r ((nI n), rq, pr, mk, cs, ls, wy, aa, lf, sp, tn, nr, od)) :
    ∀ (suf : List Nat) (k a : Nat) (v : Int32) (sv : Int), k + 1 + suf.length = n → od k = nI a → tb_hold od (k + 1) suf → tb_ch n a (suf ++ [0]) → v.toInt = sv → 0 ≤ sv → sv ≤ 40 * (k : Int) → sv + tb_pp pr a (suf ++ [0]) = tot → wX_priceOfTour_14 post (nI n) rq pr mk cs ls wy aa lf sp tn nr od (suf.length + 2) v (nI k) := by
  intro suf
  induction suf with
  | nil =>
    intro k a v sv hk ha hh hc hv h1 h2 ht
    have hkn : k + 1 = n := by simpa using hk
    have c1 := hc.1
    have c2 := hc.2.1
    have hcl : (nI k).toNatClampNeg = k := nI_clamp (by omega)
    have hix : (7 * od (nI k).toNatClampNeg) + od 0 = nI (7 * a + 0) := by rw [hcl, ha, h0, tb_ix]
    have b := hp (7 * a + 0) (by omega)
    have hs : (v + pr (7 * a + 0)).toInt = sv + (pr (7 * a + 0)).toInt := tb_ad hv rfl (by omega) (by omega)
    refine br_f (nI_ge (a := k) (b := n) (by omega) (by omega)) ⟨pk_in k 7 (by omega), pk_le n (k + 1) (fun _ => ⟨pk_in (7 * a + 0) 49 (by omega) hix, nm_r (e' := v + pr (7 * a + 0)) (by rw [hix, nI_clamp (by omega)]) (nm_r (nI_1 k) ?_)⟩) (fun z => absurd z (by omega)) rfl (nI_1 k)⟩
    refine br_t (nI_le (by omega) (by omega)) (h _ ?_)
    rw [hs, ← ht]
    simp only [List.nil_append, tb_pp]
    omega
  | cons x suf ih =>
    intro k a v sv hk ha hh hc hv h1 h2 ht
    rw [List.length_cons] at hk
    have c1 := hc.1
    have c2 := hc.2.1
    have hcl : (nI k).toNatClampNeg = k := nI_clamp (by omega)
    have hcl1 : (nI k + 1).toNatClampNeg = k + 1 := by rw [nI_1, nI_clamp (by omega)]
    have hix : (7 * od (nI k).toNatClampNeg) + od (nI k + 1).toNatClampNeg = nI (7 * a + x) := by rw [hcl, hcl1, ha, hh.1, tb_ix]
    have b := hp (7 * a + x) (by omega)
    have hs : (v + pr (7 * a + x)).toInt = sv + (pr (7 * a + x)).toInt := tb_ad hv rfl (by omega) (by omega)
    refine br_f (nI_ge (a := k) (b := n) (by omega) (by omega)) ⟨pk_in k 7 (by omega), pk_le n (k + 1) (fun z => absurd z (by omega)) (fun _ => ⟨pk_in (k + 1) 7 (by omega) (nI_1 k), pk_in (7 * a + x) 49 (by omega) hix, nm_r (e' := v + pr (7 * a + x)) (by rw [hix, nI_clamp (by omega)]) (nm_r (nI_1 k) ?_)⟩) rfl (nI_1 k)⟩
    refine ih (k + 1) x _ _ (by omega) hh.1 hh.2 hc.2.2.2 hs (by omega) (by omega) ?_
    rw [← ht]
    simp only [List.cons_append, tb_pp]
    omega
theorem tb_V_bd {w : Bool} (hp : tb_Pok pr) : ∀ (l : List Nat) (t : Nat), tb_V (tb_c w pr mk) t l = 1000000 ∨ (-1000 * (l.length : Int) ≤ tb_V (tb_c w pr mk) t l ∧ tb_V (tb_c w pr mk) t l ≤ 40 * (l.length : Int))
  | [], t => by right; simp [tb_V]
  | x :: l, t => by
    have ih := tb_V_bd (w := w) hp l x
    have cz := tb_c_ok (w := w) (mk := mk) hp t x
    simp only [tb_V, List.length_cons]
    rcases cz with q | q
    · rw [q, tb_sh_far]; exact Or.inl rfl
    · rcases ih with p | p
      · rw [p, tb_sh_far']; exact Or.inl rfl
      · by_cases z : tb_V (tb_c w pr mk) x l < 1000000
        · rw [tb_sh_in (by omega) z]; right; omega
        · left; exact if_neg (fun y => z y.2)
theorem tb_xIA19 {post : Int32 → SX → Prop} {r : Nat} (hr : r ≤ 49) (hn : n ≤ 7) (hp : tb_Pok pr) (hcs : tb_Cs true pr mk cs 49) (h0 : od 0 = nI 0) {tot : Int} (g0 : (tot = 1000000 ∨ 280 - 1000 * (r : Int) < tot) → post 0 ((nI n), (nI r), pr, mk, cs, ls, wy, aa, lf, sp, tn, nr, od)) (g1 : tot ≤ 280 - 1000 * (r : Int) → post 1 ((nI n), (nI r), pr, mk, cs, ls, wy, aa, lf, sp, tn, nr, od)) :
    ∀ (suf : List Nat) (k a : Nat) (v : Int32) (sv : Int), k + 1 + suf.length = n → a < 7 → (∀ x, x ∈ suf → x < 7) → od k = nI a → tb_hold od (k + 1) suf → v.toInt = sv → -1000 * (k : Int) ≤ sv → sv ≤ 40 * (k : Int) → ((tb_V (tb_c true pr mk) a (suf ++ [0]) = 1000000 ∧ tot = 1000000) ∨ (tb_V (tb_c true pr mk) a (suf ++ [0]) < 1000000 ∧ tot = sv + tb_V (tb_c true pr mk) a (suf ++ [0]))) → wX_isAllowed_19 post (nI n) (nI r) pr mk cs ls wy aa lf sp tn nr od (suf.length + 2) v (nI k) := by
  intro suf
  induction suf with
  | nil =>
    intro k a v sv hk ha7 hsf ha hh hv h1 h2 ht
    have hkn : k + 1 = n := by simpa using hk
    have hcl : (nI k).toNatClampNeg = k := nI_clamp (by omega)
    have hcl0 : (0 : Int32).toNatClampNeg = 0 := by decide
    have hix : (7 * od (nI k).toNatClampNeg) + od (0 : Int32).toNatClampNeg = nI (7 * a + 0) := by rw [hcl, hcl0, ha, h0, tb_ix]
    have hc := tb_Cs_at hcs (t := a) (j := 0) (by omega) (by omega)
    have cz := tb_c_ok (w := true) (mk := mk) hp a 0
    have eV : tb_V (tb_c true pr mk) a ([] ++ [0]) = tb_c true pr mk a 0 := by
      show tb_sh (tb_c true pr mk a 0) 0 = _
      rcases cz with q | q
      · rw [q, tb_sh_far]
      · rw [tb_sh_in (by omega) (by omega)]; omega
    rw [eV] at ht
    refine br_f (nI_ge (a := k) (b := n) (by omega) (by omega)) ⟨pk_in k 7 (by omega), pk_le n (k + 1) (fun _ => ⟨vp_in_nI (n := 0) (by omega) (by omega), pk_in (7 * a + 0) 49 (by omega) hix, nm_r (e' := cs (7 * a + 0)) (by rw [hix, nI_clamp (by omega)]) (tb_lt _ 1000000 hc tb_FAR (fun z => nm_e (nm_r (nI_1 k) ?_)) (fun z => g0 (Or.inl (by omega))))⟩) (fun z => absurd z (by omega)) rfl (nI_1 k)⟩
    have hs := tb_ad hv hc (by omega) (by omega)
    refine br_t (nI_le (by omega) (by omega)) (tb_xU r hr (fun y => br_t rfl (g0 (Or.inr ?_))) (fun y => br_f (by decide) (g1 ?_)))
    · rw [hs] at y; omega
    · rw [hs] at y; omega
  | cons x suf ih =>
    intro k a v sv hk ha7 hsf ha hh hv h1 h2 ht
    rw [List.length_cons] at hk
    have hx := hsf x List.mem_cons_self
    have hcl : (nI k).toNatClampNeg = k := nI_clamp (by omega)
    have hcl1 : (nI k + 1).toNatClampNeg = k + 1 := by rw [nI_1, nI_clamp (by omega)]
    have hix : (7 * od (nI k).toNatClampNeg) + od (nI k + 1).toNatClampNeg = nI (7 * a + x) := by rw [hcl, hcl1, ha, hh.1, tb_ix]
    have hc := tb_Cs_at hcs (t := a) (j := x) (by omega) (by omega)
    have cz := tb_c_ok (w := true) (mk := mk) hp a x
    have bV := tb_V_bd (w := true) (mk := mk) hp (suf ++ [0]) x
    rw [List.length_append] at bV
    simp only [List.length_singleton] at bV
    have eV : tb_V (tb_c true pr mk) a (x :: suf ++ [0]) = tb_sh (tb_c true pr mk a x) (tb_V (tb_c true pr mk) x (suf ++ [0])) := rfl
    rw [eV] at ht
    refine br_f (nI_ge (a := k) (b := n) (by omega) (by omega)) ⟨pk_in k 7 (by omega), pk_le n (k + 1) (fun z => absurd z (by omega)) (fun _ => ⟨pk_in (k + 1) 7 (by omega) (nI_1 k), pk_in (7 * a + x) 49 (by omega) hix, nm_r (e' := cs (7 * a + x)) (by rw [hix, nI_clamp (by omega)]) (tb_lt _ 1000000 hc tb_FAR (fun z => nm_e (nm_r (nI_1 k) ?_)) (fun z => g0 (Or.inl ?_)))⟩) rfl (nI_1 k)⟩
    · refine ih (k + 1) x _ _ (by omega) hx (fun y hy => hsf y (List.mem_cons_of_mem _ hy)) hh.1 hh.2 (tb_ad hv hc (by omega) (by omega)) (by omega) (by omega) ?_
      rcases bV with q | q
      · rw [q, tb_sh_far'] at ht
        left; omega
      · rw [tb_sh_in z (by omega)] at ht
        right; omega
    · rw [show tb_c true pr mk a x = 1000000 from by omega, tb_sh_far] at ht
      omega
theorem tb_xPT {post : Int32 → SX → Prop} {p0 : Int32} (h2 : 2 ≤ n) (hn : n ≤ 7) (hp : tb_Pok pr)
    (g1 : ∀ (c : Nat) (od' : Nat → Int32) (r : Int32), p0 = nI c → c < 2 ^ 31 → tb_val n (tb_dg (n - 1) c []) → r.toInt = tb_q pr (tb_dg (n - 1) c []).1 → post r ((nI n), rq, pr, mk, cs, ls, wy, aa, lf, sp, tn, nr, od'))
    (g0 : ∀ (od' : Nat → Int32), (p0 < 0 ∨ ∃ c, p0 = nI c ∧ c < 2 ^ 31 ∧ ¬ tb_val n (tb_dg (n - 1) c [])) → post (-1) ((nI n), rq, pr, mk, cs, ls, wy, aa, lf, sp, tn, nr, od')) : wpX_priceOfTour post ((nI n), rq, pr, mk, cs, ls, wy, aa, lf, sp, tn, nr, od) p0 := by
  refine tb_xL h2 hn (fun c od' e hc v1 v2 => br_f (by decide) ⟨(tb_dg (n - 1) c []).1.length + 2, ?_⟩) (fun od' z => br_t rfl (g0 od' z))
  have tf := tb_tour_facts h2 hn v1.2
  exact tb_xPT14 hn hp v2.1 (fun r hr => g1 c od' r e hc v1 hr) (tb_dg (n - 1) c []).1 0 0 0 0 (by rw [tf.2.1]; omega) v2.1 v2.2 tf.1 rfl (by omega) (by omega) (by rw [Int.zero_add]; rfl)
theorem tb_xIA {post : Int32 → SX → Prop} {p0 : Int32} (h2 : 2 ≤ n) (hn : n ≤ 7) (hp : tb_Pok pr) (hm : tb_Mok n mk)
    (g1 : ∀ (c : Nat) (rq' : Int32) (cs' od' : Nat → Int32), p0 = nI c → c < 2 ^ 31 → tb_val n (tb_dg (n - 1) c []) → post (if tb_A mk (tb_dg (n - 1) c []).1 = true then 1 else 0) ((nI n), rq', pr, mk, cs', ls, wy, aa, lf, sp, tn, nr, od'))
    (g0 : ∀ (od' : Nat → Int32), (p0 < 0 ∨ ∃ c, p0 = nI c ∧ c < 2 ^ 31 ∧ ¬ tb_val n (tb_dg (n - 1) c [])) → post (-1) ((nI n), rq, pr, mk, cs, ls, wy, aa, lf, sp, tn, nr, od')) : wpX_isAllowed post ((nI n), rq, pr, mk, cs, ls, wy, aa, lf, sp, tn, nr, od) p0 := by
  refine tb_xL h2 hn (fun c od' e hc v1 v2 => br_f (by decide) (tb_xTC (rq := rq) true rfl hn hp hm (fun cs' gc => ⟨(tb_dg (n - 1) c []).1.length + 2, ?_⟩))) (fun od' z => br_t rfl (g0 od' z))
  have tf := tb_tour_facts h2 hn v1.2
  have hh := g1 c (nI (tb_R n mk)) cs' od' e hc v1
  have br := tb_br h2 hn hp hm v1.2
  have bV := tb_V_bd (w := true) (mk := mk) hp ((tb_dg (n - 1) c []).1 ++ [0]) 0
  have hR := tb_R_le n mk
  rw [List.length_append, tf.2.1] at bV
  simp only [List.length_singleton] at bV
  refine tb_xIA19 (r := tb_R n mk) (tot := tb_V (tb_c true pr mk) 0 ((tb_dg (n - 1) c []).1 ++ [0])) hR hn hp gc v2.1 (fun z => ?_) (fun z => ?_) (tb_dg (n - 1) c []).1 0 0 0 0 (by rw [tf.2.1]; omega) (by omega) (fun x hx => by have := tf.2.2.1 x hx; omega) v2.1 v2.2 rfl (by omega) (by omega) (by omega)
  · have q : tb_A mk (tb_dg (n - 1) c []).1 = false := by
      rcases br with p | p
      · omega
      · exact p.1
    rw [q] at hh
    exact hh
  · have q : tb_A mk (tb_dg (n - 1) c []).1 = true := by
      rcases br with p | p
      · exact p.1
      · omega
    rw [q] at hh
    exact hh
end
end
section
def tb_KP (n K : Nat) (z : Nat) : Prop := z < n ∧ K.testBit z = true
def tb_SpX (n : Nat) (c : Nat → Nat → Int) (r : Int32) : Prop := (r = -3 ∧ ∀ E, tb_good_E n c E → ¬ tb_Con E (fun z => z = 0) (fun z => z < n)) ∨ (0 ≤ r.toInt ∧ r.toInt ≤ 240 ∧ (∀ E, tb_good_E n c E → tb_Con E (fun z => z = 0) (fun z => z < n) → r.toInt ≤ tb_cost c E) ∧ tb_UB n c (2 ^ n - 1) r.toInt)
theorem tb_addB : ∀ n, n < 8 → ∀ K, K < 2 ^ n → ∀ b, b < n → K.testBit b = false → K + 2 ^ b < 2 ^ n ∧ (tb_bits (K + 2 ^ b)).length = (tb_bits K).length + 1 := by decide +kernel
theorem tb_fullB : ∀ n, n < 8 → ∀ K, K < 2 ^ n → (tb_bits K).length = n → K = 2 ^ n - 1 := by decide +kernel
theorem tb_oneB : ∀ z, z < 7 → ((1 : Nat).testBit z = true ↔ z = 0) := by decide +kernel
def tb_Sym (pr : Nat → Int32) : Prop := ∀ a b, a < 7 → b < 7 → pr (7 * a + b) = pr (7 * b + a)
theorem tb_c_sym {n : Nat} {w : Bool} {pr mk : Nat → Int32} (hs : tb_Sym pr) (hm : tb_Mok n mk) (a b : Nat) : tb_c w pr mk a b = tb_c w pr mk b a := by
  unfold tb_c
  by_cases h : a < 7 ∧ b < 7
  · rw [hs a b h.1 h.2, hm.2.1 a b h.1 h.2]
    by_cases z : a < 7 ∧ b < 7 ∧ a ≠ b ∧ mk (7 * b + a) ≠ 2
    · have z' : b < 7 ∧ a < 7 ∧ b ≠ a ∧ mk (7 * b + a) ≠ 2 := ⟨z.2.1, z.1, Ne.symm z.2.2.1, z.2.2.2⟩
      rw [if_pos z, if_pos z']
    · rw [if_neg z, if_neg (fun y => z ⟨y.2.1, y.1, Ne.symm y.2.2.1, y.2.2.2⟩)]
  · rw [if_neg (fun y => h ⟨y.1, y.2.1⟩), if_neg (fun y => h ⟨y.2.1, y.1⟩)]
theorem tb_pc_bd {pr mk : Nat → Int32} (hp : tb_Pok pr) (a b : Nat) : tb_pc pr mk a b = 1000000 ∨ (0 ≤ tb_pc pr mk a b ∧ tb_pc pr mk a b ≤ 40) := by
  unfold tb_pc tb_c
  by_cases z : a < 7 ∧ b < 7 ∧ a ≠ b ∧ mk (7 * a + b) ≠ 2
  · have hb := hp (7 * a + b) (by omega)
    rw [if_pos z, if_neg (fun y => by simp at y)]
    right
    omega
  · rw [if_neg z]; exact Or.inl rfl
def tb_Nr (n : Nat) (c : Nat → Nat → Int) (K : Nat) (nr : Nat → Int32) : Prop := ∀ t, 1 ≤ t → t < n → K.testBit t = false → (∀ a, a < n → K.testBit a = true → (nr t).toInt ≤ c a t) ∧ ((nr t).toInt = 1000000 ∨ ∃ a, a < n ∧ K.testBit a = true ∧ (nr t).toInt = c a t)
section
variable {pr mk cs ls wy aa lf sp tn nr od : Nat → Int32} {rq : Int32} {n : Nat}
theorem tb_xS53 {post : Int32 → SX → Prop} {J39 : Int32 → Int32 → Int32 → (Nat → Int32) → (Nat → Int32) → (Nat → Int32) → (Nat → Int32) → (Nat → Int32) → (Nat → Int32) → (Nat → Int32) → (Nat → Int32) → (Nat → Int32) → (Nat → Int32) → (Nat → Int32) → Prop} {K k : Nat} {v : Int32} (hn : n ≤ 7) (hK : K < 128) (hex : ∃ t, 1 ≤ t ∧ t < n ∧ K.testBit t = false)
    (fin : ∀ b, 1 ≤ b → b < n → K.testBit b = false → (∀ t, 1 ≤ t → t < n → K.testBit t = false → (nr b).toInt ≤ (nr t).toInt) → wX_span_53 post J39 (nI K) v (nI k) (nI n) rq pr mk cs ls wy aa lf sp tn nr od 1 (nI b) (nI n)) :
    ∀ d t x4, t + d = n → 1 ≤ t → ((x4 = -1 ∧ ∀ t', 1 ≤ t' → t' < t → K.testBit t' = true) ∨ ∃ b, x4 = nI b ∧ 1 ≤ b ∧ b < t ∧ K.testBit b = false ∧ ∀ t', 1 ≤ t' → t' < t → K.testBit t' = false → (nr b).toInt ≤ (nr t').toInt) → wX_span_53 post J39 (nI K) v (nI k) (nI n) rq pr mk cs ls wy aa lf sp tn nr od (d + 1) x4 (nI t) := by
  intro d
  induction d with
  | zero =>
    intro t x4 ht h1 hx
    have q : t = n := by omega
    subst q
    rcases hx with ⟨_, h⟩ | ⟨b, e, h3, h4, h5, h6⟩
    · obtain ⟨t', g1, g2, g3⟩ := hex
      rw [h t' g1 g2] at g3
      exact absurd g3 (by decide)
    · rw [e]
      exact fin b h3 h4 h5 h6
  | succ d ih =>
    intro t x4 ht h1 hx
    have IH := fun x4 => ih (t + 1) x4 (by omega) (by omega)
    have hcl : (nI t).toNatClampNeg = t := nI_clamp (by omega)
    refine br_f (nI_ge (a := t) (b := n) (by omega) (by omega)) ?_
    cases hb : K.testBit t with
    | true =>
      refine br_f (tb_b1t' hK (by omega) hb) (nm_r (nI_1 t) (IH x4 ?_))
      rcases hx with ⟨e, h⟩ | ⟨b, e, h3, h4, h5, h6⟩
      · refine Or.inl ⟨e, fun t' g1 g2 => ?_⟩
        by_cases q : t' = t
        · rw [q]; exact hb
        · exact h t' g1 (by omega)
      · refine Or.inr ⟨b, e, h3, by omega, h5, fun t' g1 g2 g3 => ?_⟩
        by_cases q : t' = t
        · rw [q, hb] at g3; exact absurd g3 (by decide)
        · exact h6 t' g1 (by omega) g3
    | false =>
      refine br_t (tb_b1f hK (by omega) hb) ?_
      rcases hx with ⟨e, h⟩ | ⟨b, e, h3, h4, h5, h6⟩
      · refine br_t (by rw [e]; decide) (nm_r (nI_1 t) (IH (nI t) (Or.inr ⟨t, rfl, h1, by omega, hb, fun t' g1 g2 g3 => ?_⟩)))
        by_cases q : t' = t
        · rw [q]; exact Int.le_refl _
        · rw [h t' g1 (by omega)] at g3; exact absurd g3 (by decide)
      · have hclb : (nI b).toNatClampNeg = b := nI_clamp (by omega)
        rw [e]
        refine br_f (nI_pos (by omega)) ⟨pk_in t 7 (by omega), pk_in b 7 (by omega), tb_le (nr b).toInt (nr t).toInt (by rw [hclb]) (by rw [hcl]) (fun z => nm_r (nI_1 t) (IH (nI b) (Or.inr ⟨b, rfl, h3, by omega, h5, fun t' g1 g2 g3 => ?_⟩))) (fun z => nm_r (nI_1 t) (IH (nI t) (Or.inr ⟨t, rfl, h1, by omega, hb, fun t' g1 g2 g3 => ?_⟩)))⟩
        · by_cases q : t' = t
          · rw [q]; exact z
          · exact h6 t' g1 (by omega) g3
        · by_cases q : t' = t
          · rw [q]; exact Int.le_refl _
          · have := h6 t' g1 (by omega) g3
            omega
theorem tb_xS143 {post : Int32 → SX → Prop} {J39 : Int32 → Int32 → Int32 → (Nat → Int32) → (Nat → Int32) → (Nat → Int32) → (Nat → Int32) → (Nat → Int32) → (Nat → Int32) → (Nat → Int32) → (Nat → Int32) → (Nat → Int32) → (Nat → Int32) → (Nat → Int32) → Prop} {x1 x2 : Int32} {k b : Nat} {nr0 : Nat → Int32} (hn : n ≤ 7) (hb : b < n) (hcs : tb_Cs false pr mk cs 49)
    (h : ∀ nr' : Nat → Int32, (∀ t, 1 ≤ t → t < n → ((nr' t).toInt = (nr0 t).toInt ∧ (nr0 t).toInt ≤ tb_pc pr mk b t) ∨ ((nr' t).toInt = tb_pc pr mk b t ∧ tb_pc pr mk b t < (nr0 t).toInt)) → J39 x1 x2 (nI (k + 1)) pr mk cs ls wy aa lf sp tn nr' od) :
    ∀ d t, t + d = n → 1 ≤ t → ∀ nr : Nat → Int32, (∀ t', 1 ≤ t' → t' < t → ((nr t').toInt = (nr0 t').toInt ∧ (nr0 t').toInt ≤ tb_pc pr mk b t') ∨ ((nr t').toInt = tb_pc pr mk b t' ∧ tb_pc pr mk b t' < (nr0 t').toInt)) → (∀ t', t ≤ t' → nr t' = nr0 t') → wX_span_143 post J39 x1 x2 (nI k) (nI b) (nI n) rq (d + 1) (nI t) pr mk cs ls wy aa lf sp tn nr od := by
  intro d
  induction d with
  | zero =>
    intro t ht h1 nr g1 g2
    have q : t = n := by omega
    subst q
    exact br_t (nI_le (Nat.le_refl _) (by omega)) (nm_r (nI_1 k) (h nr g1))
  | succ d ih =>
    intro t ht h1 nr g1 g2
    have hcl : (nI t).toNatClampNeg = t := nI_clamp (by omega)
    have hin : vp_in (nI t) 7 := pk_in t 7 (by omega)
    have hc : (cs (7 * b + t)).toInt = tb_pc pr mk b t := tb_Cs_at hcs (by omega) (by omega)
    have g2t := g2 t (Nat.le_refl _)
    have IH := ih (t + 1) (by omega) (by omega)
    refine br_f (nI_ge (a := t) (b := n) (by omega) (by omega)) ⟨pk_in (7 * b + t) 49 (by omega) (tb_ix b t), nm_r (e' := cs (7 * b + t)) (by rw [tb_ix, nI_clamp (by omega)]) ⟨hin, tb_le (nr0 t).toInt _ (by rw [hcl, g2t]) hc (fun z => ⟨hin, hin, nm_r (e' := upd nr t (nr t)) (by rw [hcl]) (nm_r (nI_1 t) (IH _ (fun t' q1 q2 => ?_) (fun t' q => by rw [pk_un (by omega)]; exact g2 t' (by omega))))⟩) (fun z => ⟨hin, nm_r (e' := upd nr t (cs (7 * b + t))) (by rw [hcl]) (nm_r (nI_1 t) (IH _ (fun t' q1 q2 => ?_) (fun t' q => by rw [pk_un (by omega)]; exact g2 t' (by omega))))⟩)⟩⟩
    · by_cases q : t' = t
      · subst q
        rw [pk_us]
        exact Or.inl ⟨by rw [g2t], z⟩
      · rw [pk_un q]; exact g1 t' q1 (by omega)
    · by_cases q : t' = t
      · subst q
        rw [pk_us]
        exact Or.inr ⟨hc, z⟩
      · rw [pk_un q]; exact g1 t' q1 (by omega)
theorem tb_xS39 {post : Int32 → SX → Prop} (hn : n ≤ 7) (hp : tb_Pok pr) (hm : tb_Mok n mk) (hsy : tb_Sym pr) (hcs : tb_Cs false pr mk cs 49) (h : ∀ (r : Int32) (nr' : Nat → Int32), tb_SpX n (tb_pc pr mk) r → post r ((nI n), rq, pr, mk, cs, ls, wy, aa, lf, sp, tn, nr', od)) :
    ∀ d k, k + d = n → 1 ≤ k → ∀ (K : Nat) (v : Int32) (sv : Int) (nr : Nat → Int32), K < 2 ^ n → K.testBit 0 = true → (tb_bits K).length = k → v.toInt = sv → 0 ≤ sv → sv ≤ 40 * ((k : Int) - 1) → tb_Nr n (tb_pc pr mk) K nr → tb_LB n (tb_pc pr mk) (tb_KP n K) sv → tb_UB n (tb_pc pr mk) K sv → wX_span_39 post (nI n) rq (d + 1) (nI K) v (nI k) pr mk cs ls wy aa lf sp tn nr od := by
  have hs7 := tb_p7 hn
  have sym : ∀ a b, tb_pc pr mk a b = tb_pc pr mk b a := tb_c_sym hsy hm
  have bd : ∀ a b, tb_pc pr mk a b = 1000000 ∨ (0 ≤ tb_pc pr mk a b ∧ tb_pc pr mk a b ≤ 40) := tb_pc_bd hp
  intro d
  induction d with
  | zero =>
    intro k hk h1 K v sv nr hK h0 hlen hv s0 s1 hN hL hU
    have q : k = n := by omega
    subst q
    have eK := tb_fullB k (by omega) K hK hlen
    refine br_t (nI_le (Nat.le_refl _) (by omega)) (h v nr (Or.inr ⟨by omega, by omega, ?_, ?_⟩))
    · rw [hv]
      exact tb_LB_end hL (fun a b => by rcases bd a b with q | q <;> omega)
    · rw [hv, ← eK]; exact hU
  | succ d ih =>
    intro k hk h1 K v sv nr hK h0 hlen hv s0 s1 hN hL hU
    have hex : ∃ t, 1 ≤ t ∧ t < n ∧ K.testBit t = false := by
      apply Classical.byContradiction
      intro hno
      have sub : ∀ x, x ∈ List.range n → x ∈ tb_bits K := by
        intro x hx
        have hx' := List.mem_range.mp hx
        refine tb_bits_mem.mpr ⟨by omega, ?_⟩
        by_cases q : x = 0
        · rw [q]; exact h0
        · cases hz : K.testBit x with
          | true => rfl
          | false => exact absurd ⟨x, by omega, hx', hz⟩ hno
      have := List.nodup_range.length_le_of_subset sub
      rw [List.length_range] at this
      omega
    refine br_f (nI_ge (a := k) (b := n) (by omega) (by omega)) ⟨n - 1 + 1, tb_xS53 hn (by omega) hex (fun b b1 b2 b3 b4 => ?_) (n - 1) 1 (-1) (by omega) (by omega) (Or.inl ⟨rfl, fun t' q1 q2 => absurd q2 (by omega)⟩)⟩
    have hclb : (nI b).toNatClampNeg = b := nI_clamp (by omega)
    have hin : vp_in (nI b) 7 := pk_in b 7 (by omega)
    have Nb := hN b b1 b2 b3
    have hnK : ¬ tb_KP n K b := fun z => by have q := z.2; rw [b3] at q; exact absurd q (by decide)
    have hk0 : tb_KP n K 0 := ⟨by omega, h0⟩
    have cut : ∀ x y, x < n → y < n → tb_KP n K x → ¬ tb_KP n K y → (nr b).toInt ≤ tb_pc pr mk x y := by
      intro x y hx hy kx ky
      have hy0 : K.testBit y = false := by
        cases hz : K.testBit y with
        | true => exact absurd ⟨hy, hz⟩ ky
        | false => rfl
      have y1 : 1 ≤ y := Nat.pos_of_ne_zero (fun q => by rw [q, h0] at hy0; exact absurd hy0 (by decide))
      have q1 := b4 y y1 hy hy0
      have q2 := (hN y y1 hy hy0).1 x hx kx.2
      omega
    refine br_t (nI_le (Nat.le_refl _) (by omega)) (br_f (nI_pos (by omega)) ⟨hin, tb_lt (nr b).toInt 1000000 (by rw [hclb]) tb_FAR (fun z => ⟨hin, nm_r (e' := v + nr b) (by rw [hclb]) (nm_r (tb_or_f (by omega) (by omega) b3) ⟨n - 1 + 1, ?_⟩)⟩) (fun z => h _ nr (Or.inl ⟨rfl, ?_⟩))⟩)
    · obtain ⟨a, a1, a2, a3⟩ : ∃ a, a < n ∧ K.testBit a = true ∧ (nr b).toInt = tb_pc pr mk a b := by
        rcases Nb.2 with q | q
        · omega
        · exact q
      have bab := bd a b
      obtain ⟨k1, k2⟩ := tb_addB n (by omega) K hK b b2 b3
      obtain ⟨_, k3⟩ := tb_add_bit K (by omega) b (by omega) b3
      refine tb_xS143 (nr0 := nr) hn b2 hcs (fun nr' g => ?_) (n - 1) 1 (by omega) (by omega) nr (fun t' q1 q2 => absurd q2 (by omega)) (fun t' _ => rfl)
      refine ih (k + 1) (by omega) (by omega) (K + 2 ^ b) _ (sv + (nr b).toInt) nr' k1 ?_ (by omega) (tb_ad hv rfl (by omega) (by omega)) (by omega) (by omega) ?_ ?_ ?_
      · rw [k3 0 (by omega), h0]; rfl
      · intro t t1 t2 t3
        rw [k3 t (by omega), Bool.or_eq_false_iff, decide_eq_false_iff_not] at t3
        have Nt := hN t t1 t2 t3.1
        have gt := g t t1 t2
        refine ⟨fun x x1 x2 => ?_, ?_⟩
        · rw [k3 x (by omega), Bool.or_eq_true, decide_eq_true_eq] at x2
          rcases x2 with q | q
          · have := Nt.1 x x1 q
            omega
          · rw [q]; omega
        · rcases gt with q | q
          · rcases Nt.2 with p | ⟨x, p1, p2, p3⟩
            · left; omega
            · right
              exact ⟨x, p1, by rw [k3 x (by omega), p2]; rfl, by omega⟩
          · right
            exact ⟨b, b2, by rw [k3 b (by omega), decide_eq_true rfl, Bool.or_true], q.1⟩
      · refine tb_LB_step (v := b) (k := 0) sym hL b2 hnK hk0 (by omega) (fun z => ?_) cut
        constructor
        · rintro (q | q)
          · exact ⟨q.1, by rw [k3 z (by have := q.1; omega), q.2]; rfl⟩
          · rw [q]; exact ⟨b2, by rw [k3 b (by omega), decide_eq_true rfl, Bool.or_true]⟩
        · rintro ⟨q1, q2⟩
          rw [k3 z (by omega), Bool.or_eq_true, decide_eq_true_eq] at q2
          rcases q2 with q | q
          · exact Or.inl ⟨q1, q⟩
          · exact Or.inr q
      · rw [a3]
        exact tb_UB_step hU hK b2 a1 b3 a2 (by omega)
    · exact tb_LB_stuck (v := b) (k := 0) sym hL b2 hnK hk0 (by omega) (fun x y hx hy kx ky => by have := cut x y hx hy kx ky; omega)
theorem tb_xS11 {post : Int32 → SX → Prop} (hn : n ≤ 7) (hcs : tb_Cs false pr mk cs 49) {x1 x2 : Int32}
    (h : ∀ nr' : Nat → Int32, (∀ t, t < n → (nr' t).toInt = tb_pc pr mk 0 t) → ∃ m, wX_span_39 post (nI n) rq m x1 x2 1 pr mk cs ls wy aa lf sp tn nr' od) :
    ∀ d t, t + d = n → ∀ nr : Nat → Int32, (∀ t', t' < t → (nr t').toInt = tb_pc pr mk 0 t') → wX_span_11 post x1 x2 (nI n) rq (d + 1) (nI t) pr mk cs ls wy aa lf sp tn nr od := by
  intro d
  induction d with
  | zero =>
    intro t ht nr g
    have q : t = n := by omega
    subst q
    exact br_t (nI_le (Nat.le_refl _) (by omega)) (h nr g)
  | succ d ih =>
    intro t ht nr g
    have hcl : (nI t).toNatClampNeg = t := nI_clamp (by omega)
    refine br_f (nI_ge (a := t) (b := n) (by omega) (by omega)) ⟨pk_in t 49 (by omega), pk_in t 7 (by omega), nm_r (e' := upd nr t (cs t)) (by rw [hcl]) (nm_r (nI_1 t) (ih (t + 1) (by omega) _ (fun t' q => ?_)))⟩
    by_cases z : t' = t
    · subst z
      rw [pk_us]
      have := tb_Cs_at hcs (t := 0) (j := t') (by omega) (by omega)
      rw [show 7 * 0 + t' = t' from by omega] at this
      exact this
    · rw [pk_un z]; exact g t' (by omega)
theorem tb_xSp {post : Int32 → SX → Prop} (h2 : 2 ≤ n) (hn : n ≤ 7) (hp : tb_Pok pr) (hm : tb_Mok n mk) (hsy : tb_Sym pr) (h : ∀ (r rq' : Int32) (cs' nr' : Nat → Int32), tb_SpX n (tb_pc pr mk) r → post r ((nI n), rq', pr, mk, cs', ls, wy, aa, lf, sp, tn, nr', od)) : wpX_span post ((nI n), rq, pr, mk, cs, ls, wy, aa, lf, sp, tn, nr, od) := by
  have p2 : 2 ^ 2 ≤ 2 ^ n := Nat.pow_le_pow_right (by decide) h2
  refine tb_xTC (rq := rq) false rfl hn hp hm (fun cs' g => ⟨n + 1, ?_⟩)
  refine tb_xS11 hn g (fun nr' gn => ⟨n - 1 + 1, ?_⟩) n 0 (by omega) nr (fun t' q => absurd q (by omega))
  refine tb_xS39 hn hp hm hsy g (fun r nr'' q => h r _ cs' nr'' q) (n - 1) 1 (by omega) (by omega) 1 0 0 nr' (by omega) (by decide) (by decide +kernel) rfl (by omega) (by omega) (fun t t1 t2 _ => ⟨fun a a1 a2 => ?_, Or.inr ⟨0, by omega, by decide, gn t t2⟩⟩) ?_ (tb_UB_0 n _)
  · rw [(tb_oneB a (by omega)).mp a2, gn t t2]
    exact Int.le_refl _
  · intro E e1 e2
    refine ⟨E, e1, tb_Con_K (fun z => ?_) e2, by omega⟩
    constructor
    · intro q; rw [q]; exact ⟨by omega, by decide⟩
    · intro q; exact (tb_oneB z (by have := q.1; omega)).mp q.2
end
end
section
theorem tb_hold_ix {f : Nat → Int32} : ∀ {l : List Nat} {o : Nat}, tb_hold f o l → ∀ i, i < l.length → f (o + i) = nI (l.getD i 0)
  | [], _, _, i, hi => by simp at hi
  | x :: l, o, h, 0, _ => h.1
  | x :: l, o, h, i + 1, hi => by
    rw [List.getD_cons_succ, ← tb_hold_ix h.2 i (by simpa using hi)]
    exact congrArg f (by omega)
theorem tb_hold_of {f : Nat → Int32} : ∀ {l : List Nat} {o : Nat}, (∀ i, i < l.length → f (o + i) = nI (l.getD i 0)) → tb_hold f o l
  | [], _, _ => trivial
  | x :: l, o, h => ⟨h 0 (by simp), tb_hold_of (fun i hi => by
      have q := h (i + 1) (by simpa using hi)
      rw [List.getD_cons_succ, ← Nat.add_assoc, Nat.add_right_comm] at q
      exact q)⟩
theorem tb_er_getD (s : List Nat) (a i : Nat) : (s.eraseIdx a).getD i 0 = if i < a then s.getD i 0 else s.getD (i + 1) 0 := by
  rw [List.getD_eq_getElem?_getD, List.getElem?_eraseIdx]
  split <;> rw [List.getD_eq_getElem?_getD]
theorem tb_nI_sub1 {m : Nat} (h : 1 ≤ m) : nI m - 1 = nI (m - 1) := pk_sub (b := 1) h
theorem tb_fac_le : ∀ m, m < 8 → tb_fac m ≤ 5040 := by decide
section
variable {co mk le ro us jo : Nat → Int32} {gl gc gt gf gp : Int32} {n : Nat}
theorem tb_yB1 {post : Int32 → Prop} {p : Int32} (h : p < 0 ∨ nI n ≤ p) (hp : post 1) : wpY_bad post ((nI n), gl, gc, gt, gf, gp, co, mk, le, ro, us, jo) p := by
  rcases h with h | h
  · exact br_t h hp
  · by_cases z : p < 0
    · exact br_t z hp
    · exact br_f z (br_f (Int32.not_lt.mpr h) hp)
theorem tb_yB0 {post : Int32 → Prop} {j : Nat} (hn : n ≤ 7) (h : j < n) (hp : post 0) : wpY_bad post ((nI n), gl, gc, gt, gf, gp, co, mk, le, ro, us, jo) (nI j) := br_f (nI_pos (by omega)) (br_t (nI_lt h (by omega)) hp)
theorem tb_yO4 {post : Int32 → Prop} {m : Nat} (hm : m ≤ 6) (h : post (nI (tb_fac m))) : ∀ d k, k + d = m → wY_orders_4 post (nI m) (nI n) gl gc gt gf gp co mk le ro us jo (d + 1) (nI (tb_fac k)) (nI (k + 1)) := by
  intro d
  induction d with
  | zero =>
    intro k hk
    have q : k = m := by omega
    subst q
    exact br_t (nI_lt (by omega) (by omega)) h
  | succ d ih =>
    intro k hk
    refine br_f (nI_nlt (by omega) (by omega)) (br_f (nI_nlt (a := 7) (b := k + 1) (by omega) (by omega)) (nm_r (e' := nI (tb_fac (k + 1))) (by rw [pk_mul, Nat.mul_comm]; rfl) (nm_r (nI_1 (k + 1)) (ih (k + 1) (by omega)))))
theorem tb_yO {post : Int32 → Prop} {m : Nat} {p0 : Int32} (e : p0 = nI m) (hm : m ≤ 6) (h : post (nI (tb_fac m))) : wpY_orders post ((nI n), gl, gc, gt, gf, gp, co, mk, le, ro, us, jo) p0 := by
  subst e
  by_cases z : m = 0
  · subst z
    exact ⟨1, br_t (by decide) h⟩
  · exact ⟨m - 1 + 1, tb_yO4 hm h (m - 1) 1 (by omega)⟩
theorem tb_yA78 {post : SY → Prop} {J6 : Int32 → Int32 → (Nat → Int32) → (Nat → Int32) → (Nat → Int32) → (Nat → Int32) → (Nat → Int32) → (Nat → Int32) → Prop} {m len p a : Nat} {x3 x4 : Int32} {le0 : Nat → Int32} (hm : m ≤ 6) (hl : p + len + 1 = m)
    (h : ∀ le' : Nat → Int32, (∀ i, i < len → le' i = if i < a then le0 i else le0 (i + 1)) → J6 x4 (nI (p + 1)) co mk le' ro us jo) :
    ∀ d q, q + d = len → a ≤ q → ∀ le : Nat → Int32, (∀ i, i < q → le i = if i < a then le0 i else le0 (i + 1)) → (∀ i, q ≤ i → le i = le0 i) → wY_arrange_78 post J6 (nI m) x3 x4 (nI p) (nI n) gl gc gt gf gp (d + 1) (nI q) co mk le ro us jo := by
  have e1 : nI m - nI p = nI (len + 1) := by rw [pk_sub (by omega)]; exact congrArg nI (by omega)
  intro d
  induction d with
  | zero =>
    intro q hq ha le g1 g2
    have z : q = len := by omega
    subst z
    exact pk_le (q + 1) (q + 1) (fun _ => nm_r (nI_1 p) (h le g1)) (fun z => absurd z (by omega)) e1 (nI_1 q)
  | succ d ih =>
    intro q hq ha le g1 g2
    refine pk_le (len + 1) (q + 1) (fun z => absurd z (by omega)) (fun _ => ⟨pk_in (q + 1) 8 (by omega) (nI_1 q), pk_in q 8 (by omega), nm_r (e' := upd le q (le (q + 1))) (by rw [nI_1, nI_clamp (by omega), nI_clamp (by omega)]) (nm_r (nI_1 q) (ih (q + 1) (by omega) (by omega) _ (fun i hi => ?_) (fun i hi => ?_)))⟩) e1 (nI_1 q)
    · by_cases z : i = q
      · subst z
        rw [pk_us, if_neg (by omega)]
        exact g2 _ (by omega)
      · rw [pk_un z]; exact g1 i (by omega)
    · rw [pk_un (by omega)]; exact g2 i (by omega)
theorem tb_yA27 {post : SY → Prop} {J6 : Int32 → Int32 → (Nat → Int32) → (Nat → Int32) → (Nat → Int32) → (Nat → Int32) → (Nat → Int32) → (Nat → Int32) → Prop} {m len p f r0 : Nat} {x3 : Int32} (hm : m ≤ 6) (hl : p + len + 1 = m) (hf : 0 < f) (hr : r0 < 2 ^ 30) (hf2 : f < 2 ^ 30)
    (h : wY_arrange_58 post J6 (nI m) x3 (nI (r0 % f)) (nI p) (nI (r0 / f)) (nI n) gl gc gt gf gp co mk le ro us jo) :
    ∀ d a r, a + d = len → r < (d + 1) * f → r0 = f * a + r → wY_arrange_27 post J6 (nI m) x3 (nI p) (nI f) (nI n) gl gc gt gf gp co mk le ro us jo (d + 1) (nI r) (nI a) := by
  have e1 : (nI m - 1) - nI p = nI len := by rw [tb_nI_sub1 (by omega), pk_sub (by omega)]; exact congrArg nI (by omega)
  have fin : ∀ a r, r < f → r0 = f * a + r → wY_arrange_58 post J6 (nI m) x3 (nI r) (nI p) (nI a) (nI n) gl gc gt gf gp co mk le ro us jo := by
    intro a r h1 h2
    have d1 : r0 / f = a := by rw [h2, Nat.mul_add_div hf, Nat.div_eq_of_lt h1, Nat.add_zero]
    have d2 : r0 % f = r := by rw [h2, Nat.mul_add_mod, Nat.mod_eq_of_lt h1]
    rw [d1, d2] at h
    exact h
  intro d
  induction d with
  | zero =>
    intro a r ha hr1 hr2
    exact pk_le len a (fun _ => fin a r (by omega) hr2) (fun z => absurd z (by omega)) e1
  | succ d ih =>
    intro a r ha hr1 hr2
    refine pk_le len a (fun z => absurd z (by omega)) (fun _ => pk_lt r f (fun z => fin a r z hr2) (fun z => nm_r (pk_sub z) (nm_r (nI_1 a) (ih (a + 1) (r - f) (by omega) ?_ ?_)))) e1
    · rw [Nat.add_mul] at hr1; omega
    · rw [Nat.mul_add]; omega
theorem tb_yA6 {post : SY → Prop} {m fr : Nat} (hm : m ≤ 6) (hfr : fr + m ≤ 8) :
    ∀ len p r s le ro, p + len = m → s.length = len → r < tb_fac len → tb_hold le 0 s →
      (∀ le' ro' : Nat → Int32, tb_hold ro' (fr + p) (tb_nth len r s) → (∀ i, (i < fr + p ∨ fr + m ≤ i) → ro' i = ro i) → post ((nI n), gl, gc, gt, gf, gp, co, mk, le', ro', us, jo)) → wY_arrange_6 post (nI m) (nI fr) (nI n) gl gc gt gf gp (len + 1) (nI r) (nI p) co mk le ro us jo := by
  intro len
  induction len with
  | zero =>
    intro p r s le ro hp hs hr hh h
    exact br_t (nI_le (by omega) (by omega)) (h le ro trivial (fun _ _ => rfl))
  | succ len ih =>
    intro p r s le ro hp hs hr hh h
    have hf := tb_fac_pos len
    have fl := tb_fac_le len (by omega)
    have hr' : r < (len + 1) * tb_fac len := hr
    have fl2 := tb_fac_le (len + 1) (by omega)
    have hdiv : r / tb_fac len < len + 1 := Nat.div_lt_of_lt_mul (by rw [Nat.mul_comm]; exact hr')
    have e1 : (nI m - 1) - nI p = nI len := by rw [tb_nI_sub1 (by omega), pk_sub (by omega)]; exact congrArg nI (by omega)
    refine br_f (nI_ge (by omega) (by omega)) (tb_yO e1 (by omega) ⟨len + 1, tb_yA27 (len := len) (r0 := r) hm (by omega) hf (by omega) (by omega) ?_ len 0 r (by omega) hr' (by omega)⟩)
    have hx := tb_hold_ix hh (r / tb_fac len) (by omega)
    rw [Nat.zero_add] at hx
    refine ⟨pk_in (r / tb_fac len) 8 (by omega), pk_in (fr + p) 8 (by omega) (nI_add fr p), nm_r (e' := upd ro (fr + p) (nI (s.getD (r / tb_fac len) 0))) (by rw [nI_add, nI_clamp (by omega), nI_clamp (by omega), hx]) ⟨len - r / tb_fac len + 1, ?_⟩⟩
    refine tb_yA78 (le0 := le) hm (by omega) (fun le' g => ?_) (len - r / tb_fac len) (r / tb_fac len) (by omega) (Nat.le_refl _) le (fun i hi => by rw [if_pos hi]) (fun i _ => rfl)
    refine ih (p + 1) (r % tb_fac len) (s.eraseIdx (r / tb_fac len)) le' _ (by omega) (by rw [List.length_eraseIdx_of_lt (by omega)]; omega) (Nat.mod_lt _ hf) (tb_hold_of (fun i hi => ?_)) (fun le2 ro2 g1 g2 => h le2 ro2 ⟨?_, g1⟩ (fun i hi => ?_))
    · rw [List.length_eraseIdx_of_lt (by omega)] at hi
      rw [Nat.zero_add, g i (by omega), tb_er_getD]
      split
      · have q := tb_hold_ix hh i (by omega)
        rw [Nat.zero_add] at q
        exact q
      · have q := tb_hold_ix hh (i + 1) (by omega)
        rw [Nat.zero_add] at q
        exact q
    · rw [g2 (fr + p) (Or.inl (by omega)), pk_us]
    · rw [g2 i (by omega), pk_un (by omega)]
theorem tb_yA {post : SY → Prop} {m fr k : Nat} {p1 : Int32} {s : List Nat} (e : p1 = nI m) (hm : m ≤ 6) (hfr : fr + m ≤ 8) (hs : s.length = m) (hk : k < tb_fac m) (hh : tb_hold le 0 s)
    (h : ∀ le' ro' : Nat → Int32, tb_hold ro' fr (tb_nth m k s) → (∀ i, (i < fr ∨ fr + m ≤ i) → ro' i = ro i) → post ((nI n), gl, gc, gt, gf, gp, co, mk, le', ro', us, jo)) : wpY_arrange post ((nI n), gl, gc, gt, gf, gp, co, mk, le, ro, us, jo) (nI k) p1 (nI fr) := by
  subst e
  exact ⟨m + 1, tb_yA6 hm hfr m 0 k s le ro (by omega) hs hk hh h⟩
theorem tb_full_get : ∀ n, n < 8 → 2 ≤ n → ∀ i, i < n - 1 → (tb_bits (2 ^ n - 2)).getD i 0 = i + 1 := by decide +kernel
theorem tb_yT2 {post : SY → Prop} {k : Nat} (h2 : 2 ≤ n) (hn : n ≤ 7) (hk : k < tb_fac (n - 1)) (h : ∀ le' ro' : Nat → Int32, tb_hold ro' 0 (0 :: (tb_nth (n - 1) k (tb_bits (2 ^ n - 2)) ++ [0])) → post ((nI n), gl, gc, gt, gf, gp, co, mk, le', ro', us, jo)) :
    ∀ d t, t + d = n → 1 ≤ t → ∀ le : Nat → Int32, (∀ i, i + 1 < t → le i = nI (i + 1)) → wY_tour_2 post (nI k) (nI n) gl gc gt gf gp (d + 1) (nI t) co mk le ro us jo := by
  have fb := tb_full_bits n (by omega) h2
  have hlen : (tb_nth (n - 1) k (tb_bits (2 ^ n - 2))).length = n - 1 := tb_perms_len fb.2.1 (tb_nth_mem fb.2.1 (tb_bits_nd _) hk)
  intro d
  induction d with
  | zero =>
    intro t ht h1 le g
    have q : t = n := by omega
    subst q
    refine br_t (nI_le (Nat.le_refl _) (by omega)) (tb_yA (fr := 1) (s := tb_bits (2 ^ t - 2)) (tb_nI_sub1 (by omega)) (by omega) (by omega) fb.2.1 hk (tb_hold_of (fun i hi => ?_)) (fun le' ro' g1 g2 => nm_e ⟨pk_in t 8 (by omega), nm_r (e' := upd (upd ro' 0 0) t 0) (by rw [nI_clamp (by omega)]) (h le' _ ⟨?_, tb_hold_app (tb_hold_k g1 (fun i q1 q2 => ?_)) ⟨?_, trivial⟩⟩)⟩))
    · rw [fb.2.1] at hi
      rw [Nat.zero_add, tb_full_get t (by omega) h2 i hi]
      exact g i (by omega)
    · rw [pk_un (by omega), pk_us]; rfl
    · rw [hlen] at q2
      rw [pk_un (by omega), pk_un (by omega)]
    · rw [hlen, show 0 + 1 + (t - 1) = t from by omega, pk_us]; rfl
  | succ d ih =>
    intro t ht h1 le g
    refine br_f (nI_ge (by omega) (by omega)) ⟨pk_in (t - 1) 8 (by omega) (tb_nI_sub1 h1), nm_r (e' := upd le (t - 1) (nI t)) (by rw [tb_nI_sub1 h1, nI_clamp (by omega)]) (nm_r (nI_1 t) (ih (t + 1) (by omega) (by omega) _ (fun i hi => ?_)))⟩
    by_cases q : i = t - 1
    · rw [q, pk_us]; exact congrArg nI (by omega)
    · rw [pk_un q]; exact g i (by omega)
theorem tb_yT {post : SY → Prop} {k : Nat} (h2 : 2 ≤ n) (hn : n ≤ 7) (hk : k < tb_fac (n - 1)) (h : ∀ le' ro' : Nat → Int32, tb_hold ro' 0 (0 :: (tb_nth (n - 1) k (tb_bits (2 ^ n - 2)) ++ [0])) → post ((nI n), gl, gc, gt, gf, gp, co, mk, le', ro', us, jo)) : wpY_tour post ((nI n), gl, gc, gt, gf, gp, co, mk, le, ro, us, jo) (nI k) := ⟨n - 1 + 1, tb_yT2 h2 hn hk h (n - 1) 1 (by omega) (by omega) le (fun i hi => absurd hi (by omega))⟩
end
end
section
theorem tb_us_nil (k : Nat) : tb_us [] k = false := rfl
theorem tb_us_app (E : List Nat) (f k : Nat) : tb_us (E ++ [f]) k = (tb_us E k || decide (k = f ∨ k = tb_rv f)) := by
  unfold tb_us
  rw [List.any_append]
  simp
theorem tb_rv_at {a x : Nat} (ha : a < 7) (hx : x < 7) : tb_rv (7 * a + x) = 7 * x + a := by
  unfold tb_rv
  omega
section
variable {co mk le ro us jo : Nat → Int32} {gl gc gt gf gp : Int32} {n : Nat}
theorem tb_yC4 {post : Int32 → Prop} (hn : n ≤ 7) : ∀ (suf : List Nat) (t cd : Nat), t + suf.length = n → tb_hold ro t suf → post (nI (tb_cd cd suf)) → wY_codeOfRow_4 post (nI n) gl gc gt gf gp co mk le ro us jo (suf.length + 1) (nI cd) (nI t) := by
  intro suf
  induction suf with
  | nil =>
    intro t cd ht hh h
    exact br_t (nI_le (by simp at ht; omega) (by simp at ht; omega)) h
  | cons x suf ih =>
    intro t cd ht hh h
    rw [List.length_cons] at ht
    refine br_f (nI_ge (by omega) (by omega)) ⟨pk_in t 8 (by omega), nm_r (e' := nI (7 * cd + x)) (by rw [nI_clamp (by omega), hh.1, tb_iy]) (nm_r (nI_1 t) (ih (t + 1) (7 * cd + x) (by omega) hh.2 h))⟩
theorem tb_yC {post : Int32 → Prop} {l : List Nat} (hn : n ≤ 7) (hl : 1 + l.length = n) (hh : tb_hold ro 1 l) (h : post (nI (tb_cd 0 l))) : wpY_codeOfRow post ((nI n), gl, gc, gt, gf, gp, co, mk, le, ro, us, jo) := ⟨l.length + 1, tb_yC4 hn l 1 0 hl hh h⟩
theorem tb_yP4 {post : Int32 → Prop} {pr : Nat → Int32} {tot : Int} (hn : n ≤ 7) (hp : tb_Pok pr) (hco : ∀ a b, a < n → b < n → a ≠ b → co (7 * a + b) = pr (7 * a + b)) (h : ∀ r : Int32, r.toInt = tot → post r) :
    ∀ (L : List Nat) (t a : Nat) (v : Int32) (sv : Int), t + L.length = n → ro t = nI a → tb_hold ro (t + 1) L → tb_ch n a L → v.toInt = sv → 0 ≤ sv → sv ≤ 40 * (t : Int) → sv + tb_pp pr a L = tot → wY_priceOfRow_4 post (nI n) gl gc gt gf gp co mk le ro us jo (L.length + 1) v (nI t) := by
  intro L
  induction L with
  | nil =>
    intro t a v sv ht ha hh hc hv h1 h2 hs
    refine br_t (nI_le (by simp at ht; omega) (by simp at ht; omega)) (h v ?_)
    rw [hv, ← hs]
    simp [tb_pp]
  | cons x L ih =>
    intro t a v sv ht ha hh hc hv h1 h2 hs
    rw [List.length_cons] at ht
    have c1 := hc.1
    have c2 := hc.2.1
    have hcl : (nI t).toNatClampNeg = t := nI_clamp (by omega)
    have hcl1 : (nI t + 1).toNatClampNeg = t + 1 := by rw [nI_1, nI_clamp (by omega)]
    have hix : (ro (nI t).toNatClampNeg * 7) + ro (nI t + 1).toNatClampNeg = nI (7 * a + x) := by rw [hcl, hcl1, ha, hh.1, tb_iy]
    have b := hp (7 * a + x) (by omega)
    have hs1 : (v + pr (7 * a + x)).toInt = sv + (pr (7 * a + x)).toInt := tb_ad hv rfl (by omega) (by omega)
    refine br_f (nI_ge (by omega) (by omega)) ⟨pk_in t 8 (by omega), pk_in (t + 1) 8 (by omega) (nI_1 t), pk_in (7 * a + x) 49 (by omega) hix, nm_r (e' := v + pr (7 * a + x)) (by rw [hix, nI_clamp (by omega), hco a x c1 c2 hc.2.2.1]) (nm_r (nI_1 t) (ih (t + 1) x _ _ (by omega) hh.1 hh.2 hc.2.2.2 hs1 (by omega) (by omega) ?_))⟩
    rw [← hs]
    simp only [tb_pp]
    omega
theorem tb_yP {post : Int32 → Prop} {pr : Nat → Int32} {l : List Nat} (hn : n ≤ 7) (hp : tb_Pok pr) (hco : ∀ a b, a < n → b < n → a ≠ b → co (7 * a + b) = pr (7 * a + b)) (hl : (l ++ [0]).length = n) (hh : tb_hold ro 0 (0 :: (l ++ [0]))) (hc : tb_ch n 0 (l ++ [0])) (h : ∀ r : Int32, r.toInt = tb_q pr l → post r) : wpY_priceOfRow post ((nI n), gl, gc, gt, gf, gp, co, mk, le, ro, us, jo) :=
  ⟨(l ++ [0]).length + 1, tb_yP4 hn hp hco h (l ++ [0]) 0 0 0 0 (by omega) hh.1 hh.2 hc rfl (by omega) (by omega) (by rw [Int.zero_add]; rfl)⟩
def tb_Us (us : Nat → Int32) (E : List Nat) : Prop := ∀ k, k < 49 → us k = if tb_us E k = true then 1 else 0
theorem tb_yR87 {post : Int32 → SY → Prop} {E : List Nat} (hU : tb_Us us E) (h1 : tb_al mk E = true → post 1 ((nI n), gl, gc, gt, gf, gp, co, mk, le, ro, us, jo)) (h0 : tb_al mk E = false → post 0 ((nI n), gl, gc, gt, gf, gp, co, mk, le, ro, us, jo)) :
    ∀ d k, k + d = 49 → (∀ j, j < k → (mk j = 2 → tb_us E j = false) ∧ (mk j = 1 → tb_us E j = true)) → wY_rowAllowed_87 post (nI n) gl gc gt gf gp co mk le ro us jo (d + 1) (nI k) := by
  have bad : (∃ k, k < 49 ∧ ((mk k = 2 ∧ tb_us E k = true) ∨ (mk k = 1 ∧ tb_us E k = false))) → tb_al mk E = false := by
    rintro ⟨k, hk, q⟩
    cases hz : tb_al mk E with
    | false => rfl
    | true =>
      have z := tb_al_iff.mp hz k hk
      rcases q with q | q
      · rw [z.1 q.1] at q; exact absurd q.2 (by decide)
      · rw [z.2 q.1] at q; exact absurd q.2 (by decide)
  intro d
  induction d with
  | zero =>
    intro k hk g
    have q : k = 49 := by omega
    subst q
    exact br_t (by decide) (h1 (tb_al_iff.mpr (fun j hj => g j hj)))
  | succ d ih =>
    intro k hk g
    have hcl : (nI k).toNatClampNeg = k := nI_clamp (by omega)
    have hin : vp_in (nI k) 49 := pk_in k 49 (by omega)
    have uk := hU k (by omega)
    have next : (mk k = 2 → tb_us E k = false) → (mk k = 1 → tb_us E k = true) → wY_rowAllowed_87 post (nI n) gl gc gt gf gp co mk le ro us jo (d + 1) (nI (k + 1)) := by
      intro q1 q2
      refine ih (k + 1) (by omega) (fun j hj => ?_)
      by_cases z : j = k
      · rw [z]; exact ⟨q1, q2⟩
      · exact g j (by omega)
    have j114 : (mk k = 2 → tb_us E k = false) → wY_rowAllowed_114 post (wY_rowAllowed_87 post (nI n) gl gc gt gf gp co mk le ro us jo (d + 1)) (nI k) (nI n) gl gc gt gf gp co mk le ro us jo := by
      intro q1
      refine ⟨hin, br_c (fun m1 => ⟨hin, br_c (fun z => ?_) (fun z => nm_r (nI_1 k) (next q1 (fun _ => ?_)))⟩) (fun m1 => nm_r (nI_1 k) (next q1 (fun q => ?_)))⟩
      · rw [hcl] at m1 z
        refine h0 (bad ⟨k, by omega, Or.inr ⟨m1, ?_⟩⟩)
        cases hz : tb_us E k with
        | false => rfl
        | true => rw [uk, hz] at z; exact absurd z (by decide)
      · rw [hcl] at z
        cases hz : tb_us E k with
        | true => rfl
        | false => rw [uk, hz] at z; exact absurd rfl z
      · rw [hcl] at m1; exact absurd q m1
    refine br_f (nI_ge (a := k) (b := 49) (by omega) (by decide)) ⟨hin, br_c (fun m2 => ⟨hin, br_c (fun z => j114 (fun _ => ?_)) (fun z => h0 (bad ⟨k, by omega, Or.inl ⟨?_, ?_⟩⟩))⟩) (fun m2 => j114 (fun q => ?_))⟩
    · rw [hcl] at z
      cases hz : tb_us E k with
      | false => rfl
      | true => rw [uk, hz] at z; exact absurd z (by decide)
    · rw [hcl] at m2; exact m2
    · rw [hcl] at z
      cases hz : tb_us E k with
      | true => rfl
      | false => rw [uk, hz] at z; exact absurd rfl z
    · rw [hcl] at m2; exact absurd q m2
theorem tb_Us_s {us' : Nat → Int32} {E : List Nat} {a x : Nat} (ha : a < 7) (hx : x < 7) (h : tb_Us us E) (e : us' = upd (upd us (7 * a + x) 1) (7 * x + a) 1) : tb_Us us' (E ++ [7 * a + x]) := by
  intro k hk
  rw [e, tb_us_app, tb_rv_at ha hx]
  by_cases z1 : k = 7 * x + a
  · rw [z1, pk_us, decide_eq_true (Or.inr rfl), Bool.or_true]; rfl
  · by_cases z2 : k = 7 * a + x
    · rw [pk_un z1, z2, pk_us, decide_eq_true (Or.inl rfl), Bool.or_true]; rfl
    · rw [pk_un z1, pk_un z2, decide_eq_false (fun q => by omega), Bool.or_false]; exact h k hk
theorem tb_yR23 {post : Int32 → SY → Prop} {Et : List Nat} (hn : n ≤ 7) (h : ∀ us' : Nat → Int32, tb_Us us' Et → ∃ m, wY_rowAllowed_87 post (nI n) gl gc gt gf gp co mk le ro us' jo m 0) :
    ∀ (L : List Nat) (t a : Nat) (E : List Nat) (us : Nat → Int32), t + L.length = n → a < 7 → (∀ x, x ∈ L → x < 7) → ro t = nI a → tb_hold ro (t + 1) L → E ++ tb_pe a L = Et → tb_Us us E → wY_rowAllowed_23 post (nI n) gl gc gt gf gp (L.length + 1) (nI t) co mk le ro us jo := by
  intro L
  induction L with
  | nil =>
    intro t a E us ht ha hL hr hh hE hU
    simp only [tb_pe, List.append_nil] at hE
    rw [hE] at hU
    exact br_t (nI_le (by simp at ht; omega) (by simp at ht; omega)) (h us hU)
  | cons x L ih =>
    intro t a E us ht ha hL hr hh hE hU
    rw [List.length_cons] at ht
    have hx := hL x List.mem_cons_self
    have hcl : (nI t).toNatClampNeg = t := nI_clamp (by omega)
    have hcl1 : (nI t + 1).toNatClampNeg = t + 1 := by rw [nI_1, nI_clamp (by omega)]
    have hix : (ro (nI t).toNatClampNeg * 7) + ro (nI t + 1).toNatClampNeg = nI (7 * a + x) := by rw [hcl, hcl1, hr, hh.1, tb_iy]
    have hiy : (ro (nI t + 1).toNatClampNeg * 7) + ro (nI t).toNatClampNeg = nI (7 * x + a) := by rw [hcl, hcl1, hr, hh.1, tb_iy]
    have in0 : vp_in (nI t) 8 := pk_in t 8 (by omega)
    have in1 : vp_in (nI t + 1) 8 := pk_in (t + 1) 8 (by omega) (nI_1 t)
    have nb : vp_nar .boolean 1 = 1 := rfl
    refine br_f (nI_ge (by omega) (by omega)) ⟨in0, in1, pk_in (7 * a + x) 49 (by omega) hix, nm_r (e' := upd us (7 * a + x) 1) (by rw [hix, nI_clamp (by omega), nb]) ⟨in1, in0, pk_in (7 * x + a) 49 (by omega) hiy, nm_r (e' := upd (upd us (7 * a + x) 1) (7 * x + a) 1) (by rw [hiy, nI_clamp (by omega), nb]) (nm_r (nI_1 t) (ih (t + 1) x (E ++ [7 * a + x]) _ (by omega) hx (fun y hy => hL y (List.mem_cons_of_mem _ hy)) hh.1 hh.2 ?_ (tb_Us_s ha hx hU rfl)))⟩⟩
    rw [← hE]
    simp only [tb_pe, List.append_assoc, List.cons_append, List.nil_append]
theorem tb_yR2 {post : Int32 → SY → Prop} (h : ∀ us' : Nat → Int32, tb_Us us' [] → ∃ m, wY_rowAllowed_23 post (nI n) gl gc gt gf gp m 0 co mk le ro us' jo) :
    ∀ d k, k + d = 49 → ∀ us : Nat → Int32, (∀ j, j < k → us j = 0) → wY_rowAllowed_2 post (nI n) gl gc gt gf gp (d + 1) (nI k) co mk le ro us jo := by
  intro d
  induction d with
  | zero =>
    intro k hk us g
    have q : k = 49 := by omega
    subst q
    exact br_t (by decide) (h us (fun j hj => by rw [g j hj]; rfl))
  | succ d ih =>
    intro k hk us g
    refine br_f (nI_ge (a := k) (b := 49) (by omega) (by decide)) ⟨pk_in k 49 (by omega), nm_r (e' := upd us k 0) (by rw [nI_clamp (by omega)]; rfl) (nm_r (nI_1 k) (ih (k + 1) (by omega) _ (fun j hj => ?_)))⟩
    by_cases z : j = k
    · rw [z, pk_us]
    · rw [pk_un z]; exact g j (by omega)
theorem tb_yR {post : Int32 → SY → Prop} {l : List Nat} (hn : n ≤ 7) (hl : (l ++ [0]).length = n) (hx : ∀ x, x ∈ l → x < 7) (hh : tb_hold ro 0 (0 :: (l ++ [0]))) (h : ∀ us' : Nat → Int32, post (if tb_A mk l = true then 1 else 0) ((nI n), gl, gc, gt, gf, gp, co, mk, le, ro, us', jo)) : wpY_rowAllowed post ((nI n), gl, gc, gt, gf, gp, co, mk, le, ro, us, jo) := by
  refine ⟨50, tb_yR2 (fun us1 g1 => ⟨(l ++ [0]).length + 1, ?_⟩) 49 0 rfl us (fun j hj => absurd hj (by omega))⟩
  refine tb_yR23 (Et := tb_pe 0 (l ++ [0])) hn (fun us2 g2 => ⟨50, tb_yR87 g2 (fun q => ?_) (fun q => ?_) 49 0 rfl (fun j hj => absurd hj (by omega))⟩) (l ++ [0]) 0 0 [] us1 (by omega) (by omega) (fun x hx2 => ?_) hh.1 hh.2 rfl g1
  · have z := h us2
    have q' : tb_A mk l = true := q
    rw [if_pos q'] at z
    exact z
  · have z := h us2
    have q' : tb_A mk l = false := q
    rw [q'] at z
    exact z
  · rcases List.mem_append.mp hx2 with q | q
    · exact hx x q
    · rw [List.mem_singleton.mp q]; omega
theorem tb_yK {post : SY → Prop} {pr : Nat → Int32} {lim : Int32} (h2 : 2 ≤ n) (hn : n ≤ 7) (hp : tb_Pok pr) (hm : tb_Mok n mk) (hco : ∀ a b, a < n → b < n → a ≠ b → co (7 * a + b) = pr (7 * a + b))
    (h : ∀ (gl gc : Int32) (ti : Nat) (le ro us : Nat → Int32), tb_LK (tb_A mk) (tb_q pr) (tb_P (2 ^ n - 2)) gl gc ti → post ((nI n), gl, gc, (nI ti), (nI ((tb_P (2 ^ n - 2)).countP (tb_A mk))), (nI ((tb_P (2 ^ n - 2)).countP (fun l => tb_A mk l && decide (tb_q pr l ≤ lim.toInt)))), co, mk, le, ro, us, jo)) :
    ∀ d k, k + d = tb_fac (n - 1) → ∀ (gl gc : Int32) (ti : Nat) (le ro us : Nat → Int32), tb_LK (tb_A mk) (tb_q pr) ((tb_P (2 ^ n - 2)).take k) gl gc ti → wY_look_38 post lim (nI (tb_fac (n - 1))) (d + 1) (nI k) (nI n) gl gc (nI ti) (nI (((tb_P (2 ^ n - 2)).take k).countP (tb_A mk))) (nI (((tb_P (2 ^ n - 2)).take k).countP (fun l => tb_A mk l && decide (tb_q pr l ≤ lim.toInt)))) co mk le ro us jo := by
  have fb := tb_full_bits n (by omega) h2
  have fl := tb_fac_le (n - 1) (by omega)
  have ePP : tb_perms (n - 1) (tb_bits (2 ^ n - 2)) = tb_P (2 ^ n - 2) := by unfold tb_P; rw [fb.2.1]
  intro d
  induction d with
  | zero =>
    intro k hk gl gc ti le ro us g
    have q : k = tb_fac (n - 1) := by omega
    have e : (tb_P (2 ^ n - 2)).take k = tb_P (2 ^ n - 2) := List.take_of_length_le (by
      rw [← ePP, tb_perms_count fb.2.1 (tb_bits_nd _)]; omega)
    rw [e] at g ⊢
    exact br_t (nI_le (by omega) (by omega)) (h gl gc ti le ro us g)
  | succ d ih =>
    intro k hk gl gc ti le ro us g
    have IH := ih (k + 1) (by omega)
    have htake := tb_nth_take fb.2.1 (tb_bits_nd _) (k := k) (by omega)
    have hmem := tb_nth_mem fb.2.1 (tb_bits_nd _) (k := k) (by omega)
    rw [ePP] at htake hmem
    rw [htake] at IH
    refine br_f (nI_ge (by omega) (by omega)) (tb_yT h2 hn (by omega) (fun le1 ro1 hh => ?_))
    generalize tb_nth (n - 1) k (tb_bits (2 ^ n - 2)) = l at IH hmem hh
    have hpm := tb_P_mem.mp hmem
    have tf := tb_tour_facts h2 hn hpm
    have hlen : (l ++ [0]).length = n := by rw [List.length_append, tf.2.1]; simp; omega
    have hh2 := hh.2
    have br := tb_br h2 hn hp hm hpm
    refine tb_yR hn hlen (fun x hx => by have := tf.2.2.1 x hx; omega) hh (fun us1 => ?_)
    cases hA : tb_A mk l with
    | false =>
      have I2 := IH gl gc ti le1 ro1 us1 (tb_LK_no g hA)
      rw [List.countP_append, List.countP_append, List.countP_singleton, List.countP_singleton, hA] at I2
      exact br_t rfl (nm_r (nI_1 k) I2)
    | true =>
      have h1b : tb_hold ro1 1 l := by
        have q := hh.2
        refine tb_hold_of (fun i hi => ?_)
        have q2 := tb_hold_ix q i (by rw [List.length_append]; omega)
        rw [List.getD_eq_getElem?_getD, List.getElem?_append_left hi, ← List.getD_eq_getElem?_getD] at q2
        exact q2
      have pb : 0 ≤ tb_q pr l ∧ tb_q pr l ≤ 280 := by
        rcases br with q | q
        · exact q.2.2
        · have q1 : tb_A mk l = false := q.1
          rw [hA] at q1; exact absurd q1 (by decide)
      rw [List.countP_append, List.countP_append, List.countP_singleton, List.countP_singleton, hA] at IH
      refine br_f (by decide) (tb_yP hn hp hco hlen hh tf.1 (fun r hr => nm_r (nI_1 _) ?_))
      have fin : ∀ c2, c2 = ((tb_P (2 ^ n - 2)).take k).countP (fun l => tb_A mk l && decide (tb_q pr l ≤ lim.toInt)) + (if (true && decide (tb_q pr l ≤ lim.toInt)) = true then 1 else 0) → wY_look_90 post (wY_look_38 post lim (nI (tb_fac (n - 1))) (d + 1)) lim (nI (tb_fac (n - 1))) (nI k) r (nI n) gl gc (nI ti) (nI (((tb_P (2 ^ n - 2)).take k).countP (tb_A mk) + 1)) (nI c2) co mk le1 ro1 us1 jo := by
        intro c2 hc2
        rw [← hc2] at IH
        have newone : (gl < 0 ∨ tb_q pr l < gl.toInt) → ∀ ti' : Int32, wY_look_125 post (wY_look_38 post lim (nI (tb_fac (n - 1))) (d + 1)) lim (nI (tb_fac (n - 1))) (nI k) r (nI n) gl gc ti' (nI (((tb_P (2 ^ n - 2)).take k).countP (tb_A mk) + 1)) (nI c2) co mk le1 ro1 us1 jo := by
          intro z ti'
          exact tb_yC hn (by rw [tf.2.1]; omega) h1b (nm_r (nI_1 k) (IH r (nI (tb_cd 0 l)) 1 le1 ro1 us1 (tb_LK_new g hA hr pb.1 z)))
        refine tb_eq _ _ hr rfl (fun z => nm_r (nI_1 ti) ?_) (fun z => ?_)
        · refine tb_lt _ 0 rfl tb_Z (fun y => absurd y (by omega)) (fun y => tb_le _ _ rfl hr (fun x => nm_r (nI_1 k) ?_) (fun x => absurd x (by omega)))
          exact IH gl gc (ti + 1) le1 ro1 us1 (tb_LK_tie g hA z pb.1)
        · refine tb_lt _ 0 rfl tb_Z (fun y => newone (Or.inl (Int32.lt_iff_toInt_lt.mpr y)) _) (fun y => tb_le _ _ rfl hr (fun x => nm_r (nI_1 k) ?_) (fun x => newone (Or.inr x) _))
          exact IH gl gc ti le1 ro1 us1 (tb_LK_more g y (by omega))
      refine tb_lt _ _ rfl hr (fun z => fin _ ?_) (fun z => nm_r (nI_1 _) (fin _ ?_))
      · rw [decide_eq_false (by omega)]; rfl
      · rw [decide_eq_true z]; rfl
theorem tb_yL {post : SY → Prop} {pr : Nat → Int32} {lim : Int32} (h2 : 2 ≤ n) (hn : n ≤ 7) (hp : tb_Pok pr) (hm : tb_Mok n mk) (hco : ∀ a b, a < n → b < n → a ≠ b → co (7 * a + b) = pr (7 * a + b))
    (h : ∀ (gl gc : Int32) (ti : Nat) (le ro us : Nat → Int32), tb_LK (tb_A mk) (tb_q pr) (tb_P (2 ^ n - 2)) gl gc ti → post ((nI n), gl, gc, (nI ti), (nI ((tb_P (2 ^ n - 2)).countP (tb_A mk))), (nI ((tb_P (2 ^ n - 2)).countP (fun l => tb_A mk l && decide (tb_q pr l ≤ lim.toInt)))), co, mk, le, ro, us, jo)) : wpY_look post ((nI n), gl, gc, gt, gf, gp, co, mk, le, ro, us, jo) lim := by
  refine tb_yO (m := n - 1) (tb_nI_sub1 (by omega)) (by omega) ⟨tb_fac (n - 1) + 1, ?_⟩
  exact tb_yK h2 hn hp hm hco h (tb_fac (n - 1)) 0 (by omega) (-1) (-1) 0 le ro us (Or.inl ⟨rfl, rfl, rfl, fun l hl => by simp at hl⟩)
end
end
section
theorem tb_val_count {n : Nat} (h2 : 2 ≤ n) (hn : n ≤ 7) {l : List Nat} (h : List.Perm l (tb_bits (2 ^ n - 2))) {v : Nat} (h1 : 1 ≤ v) (hv : v < n) : l.count v = 1 := by
  rw [h.count_eq, (tb_bits_nd _).count, if_pos ((tb_full_in h2 hn).mpr ⟨h1, hv⟩)]
theorem tb_val_of {n : Nat} (h2 : 2 ≤ n) (hn : n ≤ 7) {l : List Nat} (hl : l.length = n - 1) (h : ∀ v, 1 ≤ v → v < n → l.count v = 1) : List.Perm l (tb_bits (2 ^ n - 2)) := by
  have fb := tb_full_bits n (by omega) h2
  refine tb_perm_of (tb_bits_nd _) (fun x hx => ?_) (by omega)
  have q := (tb_full_in h2 hn).mp hx
  apply Classical.byContradiction
  intro z
  have := h x q.1 q.2
  rw [List.count_eq_zero.mpr z] at this
  omega
section
variable {co mk le ro us jo : Nat → Int32} {gl gc gt gf gp : Int32} {n : Nat}
theorem tb_y80 {post : Int32 → SY → Prop} {J66 : Int32 → Prop} {v : Nat} {cn : Nat} (hn : n ≤ 7) (hv : v < 7) (h1 : cn = 1 → J66 (nI (v + 1))) (h0 : cn ≠ 1 → post 0 ((nI n), gl, gc, gt, gf, gp, co, mk, le, ro, us, jo)) :
    ∀ (suf : List Nat) (t c : Nat), t + suf.length = n → (∀ x, x ∈ suf → x < 7) → tb_hold ro t suf → c + suf.count v = cn → c ≤ t → wY_read_80 post J66 (nI v) (nI n) gl gc gt gf gp co mk le ro us jo (suf.length + 1) (nI c) (nI t) := by
  intro suf
  induction suf with
  | nil =>
    intro t c ht hs hh hc hc8
    have q : c = cn := by simpa using hc
    subst q
    simp at ht
    exact br_t (nI_le (by omega) (by omega)) (pk_eq c 1 (fun q => nm_r (nI_1 v) (h1 q)) (fun q => h0 q))
  | cons x suf ih =>
    intro t c ht hs hh hc hc8
    rw [List.length_cons] at ht
    have hx := hs x List.mem_cons_self
    have hr : ro (nI t).toNatClampNeg = nI x := by rw [nI_clamp (by omega)]; exact hh.1
    have hs' : ∀ y, y ∈ suf → y < 7 := fun y hy => hs y (List.mem_cons_of_mem _ hy)
    refine br_f (nI_ge (by omega) (by omega)) ⟨pk_in t 8 (by omega), pk_eq x v (fun q => nm_r (nI_1 c) (nm_r (nI_1 t) (ih (t + 1) (c + 1) (by omega) hs' hh.2 ?_ ?_))) (fun q => nm_r (nI_1 t) (ih (t + 1) c (by omega) hs' hh.2 ?_ (by omega))) hr⟩
    · subst q
      rw [List.count_cons_self] at hc
      omega
    · omega
    · rw [List.count_cons_of_ne q] at hc
      exact hc
theorem tb_y66 {post : Int32 → SY → Prop} {l : List Nat} (h2 : 2 ≤ n) (hn : n ≤ 7) (hl : l.length = n - 1) (hx : ∀ x, x ∈ l → x < 7) (hh : tb_hold ro 1 l) (h1 : List.Perm l (tb_bits (2 ^ n - 2)) → post 1 ((nI n), gl, gc, gt, gf, gp, co, mk, le, ro, us, jo)) (h0 : ¬ List.Perm l (tb_bits (2 ^ n - 2)) → post 0 ((nI n), gl, gc, gt, gf, gp, co, mk, le, ro, us, jo)) :
    ∀ d v, v + d = n → 1 ≤ v → (∀ v', 1 ≤ v' → v' < v → l.count v' = 1) → wY_read_66 post (nI n) gl gc gt gf gp co mk le ro us jo (d + 1) (nI v) := by
  intro d
  induction d with
  | zero =>
    intro v hv hv1 g
    have q : v = n := by omega
    subst q
    exact br_t (nI_le (Nat.le_refl _) (by omega)) (h1 (tb_val_of h2 hn hl g))
  | succ d ih =>
    intro v hv hv1 g
    refine br_f (nI_ge (by omega) (by omega)) ⟨l.length + 1, ?_⟩
    refine tb_y80 (cn := l.count v) hn (by omega) (fun q => ih (v + 1) (by omega) (by omega) (fun v' q1 q2 => ?_)) (fun q => h0 (fun z => q (tb_val_count h2 hn z hv1 (by omega)))) l 1 0 (by omega) hx hh (by omega) (by omega)
    by_cases z : v' = v
    · rw [z]; exact q
    · exact g v' q1 (by omega)
theorem tb_y15 {post : Int32 → SY → Prop} (h2 : 2 ≤ n) (hn : n ≤ 7) :
    ∀ k r suf ro, r < 2 ^ 31 → suf.length + k = n - 1 → (∀ x, x ∈ suf → x < 7) → tb_hold ro (k + 1) suf →
      (∀ ro' : Nat → Int32, tb_val n (tb_dg k r suf) → tb_hold ro' 0 (0 :: ((tb_dg k r suf).1 ++ [0])) → post 1 ((nI n), gl, gc, gt, gf, gp, co, mk, le, ro', us, jo)) → (∀ ro' : Nat → Int32, ¬ tb_val n (tb_dg k r suf) → post 0 ((nI n), gl, gc, gt, gf, gp, co, mk, le, ro', us, jo)) → wY_read_15 post (nI n) gl gc gt gf gp (k + 1) (nI r) (nI k) co mk le ro us jo := by
  intro k
  induction k with
  | zero =>
    intro r suf ro hr hl hx hh g1 g0
    refine br_t (nI_lt (a := 0) (b := 1) (by decide) (by decide)) (pk_eq r 0 (fun q => nm_e ⟨pk_in n 8 (by omega), nm_r (e' := upd (upd ro 0 0) n 0) (by rw [nI_clamp (by omega)]) ⟨n - 1 + 1, ?_⟩⟩) (fun q => g0 ro (fun z => q z.1)))
    have hh1 : tb_hold (upd (upd ro 0 0) n 0) 1 suf := tb_hold_k hh (fun i q1 q2 => by rw [pk_un (by omega), pk_un (by omega)])
    refine tb_y66 h2 hn (by omega) hx hh1 (fun z => g1 _ ⟨q, z⟩ ⟨?_, tb_hold_app hh1 ⟨?_, trivial⟩⟩) (fun z => g0 _ (fun y => z y.2)) (n - 1) 1 (by omega) (by omega) (fun v' q1 q2 => absurd q2 (by omega))
    · rw [pk_un (by omega), pk_us]; rfl
    · show upd (upd ro 0 0) n 0 (1 + suf.length) = _
      rw [show 1 + suf.length = n from by omega, pk_us]; rfl
  | succ k ih =>
    intro r suf ro hr hl hx hh g1 g0
    have h7 : ¬ (7 : Int32) = 0 := by decide
    refine br_f (nI_nlt (a := k + 1) (b := 1) (by omega) (by omega)) ⟨h7, pk_in (k + 1) 8 (by omega), nm_r (e' := upd ro (k + 1) (nI (r % 7))) (by rw [nI_clamp (by omega), tb_md hr]) ⟨h7, nm_r (tb_dv hr) (nm_r (pk_m1 k) (ih (r / 7) ((r % 7) :: suf) _ (by omega) (by rw [List.length_cons]; omega) (fun x hx2 => ?_) ⟨pk_us, tb_hold_k hh (fun i q1 q2 => pk_un (by omega))⟩ g1 g0))⟩⟩
    rcases List.mem_cons.mp hx2 with q | q
    · omega
    · exact hx x q
theorem tb_yRd {post : Int32 → SY → Prop} {p0 : Int32} (h2 : 2 ≤ n) (hn : n ≤ 7)
    (g1 : ∀ (c : Nat) (ro' : Nat → Int32), p0 = nI c → c < 2 ^ 31 → tb_val n (tb_dg (n - 1) c []) → tb_hold ro' 0 (0 :: ((tb_dg (n - 1) c []).1 ++ [0])) → post 1 ((nI n), gl, gc, gt, gf, gp, co, mk, le, ro', us, jo))
    (g0 : ∀ (ro' : Nat → Int32), (p0 < 0 ∨ ∃ c, p0 = nI c ∧ c < 2 ^ 31 ∧ ¬ tb_val n (tb_dg (n - 1) c [])) → post 0 ((nI n), gl, gc, gt, gf, gp, co, mk, le, ro', us, jo)) : wpY_read post ((nI n), gl, gc, gt, gf, gp, co, mk, le, ro, us, jo) p0 := by
  by_cases z : p0 < 0
  · exact br_f (fun y => absurd (Int32.lt_of_lt_of_le z y) Int32.lt_irrefl) (g0 ro (Or.inl z))
  · obtain ⟨c, hc, e⟩ := nI_of z
    subst e
    refine br_t (nI_pos' hc) (nm_r (e' := nI (n - 1)) (tb_nI_sub1 (by omega)) ⟨n - 1 + 1, ?_⟩)
    exact tb_y15 h2 hn (n - 1) c [] ro hc (by simp) (by simp) trivial (fun ro' v1 v2 => g1 c ro' rfl hc v1 v2) (fun ro' v1 => g0 ro' (Or.inr ⟨c, rfl, hc, v1⟩))
theorem tb_yPT {post : Int32 → SY → Prop} {pr : Nat → Int32} {p0 : Int32} (h2 : 2 ≤ n) (hn : n ≤ 7) (hp : tb_Pok pr) (hco : ∀ a b, a < n → b < n → a ≠ b → co (7 * a + b) = pr (7 * a + b))
    (g1 : ∀ (c : Nat) (ro' : Nat → Int32) (r : Int32), p0 = nI c → c < 2 ^ 31 → tb_val n (tb_dg (n - 1) c []) → r.toInt = tb_q pr (tb_dg (n - 1) c []).1 → post r ((nI n), gl, gc, gt, gf, gp, co, mk, le, ro', us, jo))
    (g0 : ∀ (ro' : Nat → Int32), (p0 < 0 ∨ ∃ c, p0 = nI c ∧ c < 2 ^ 31 ∧ ¬ tb_val n (tb_dg (n - 1) c [])) → post (-1) ((nI n), gl, gc, gt, gf, gp, co, mk, le, ro', us, jo)) : wpY_priceOfTour post ((nI n), gl, gc, gt, gf, gp, co, mk, le, ro, us, jo) p0 := by
  refine tb_yRd h2 hn (fun c ro' e hc v1 v2 => br_f (by decide) ?_) (fun ro' z => br_t rfl (g0 ro' z))
  have tf := tb_tour_facts h2 hn v1.2
  exact tb_yP hn hp hco (by rw [List.length_append, tf.2.1]; simp; omega) v2 tf.1 (fun r hr => g1 c ro' r e hc v1 hr)
theorem tb_yIA {post : Int32 → SY → Prop} {p0 : Int32} (h2 : 2 ≤ n) (hn : n ≤ 7)
    (g1 : ∀ (c : Nat) (ro' us' : Nat → Int32), p0 = nI c → c < 2 ^ 31 → tb_val n (tb_dg (n - 1) c []) → post (if tb_A mk (tb_dg (n - 1) c []).1 = true then 1 else 0) ((nI n), gl, gc, gt, gf, gp, co, mk, le, ro', us', jo))
    (g0 : ∀ (ro' : Nat → Int32), (p0 < 0 ∨ ∃ c, p0 = nI c ∧ c < 2 ^ 31 ∧ ¬ tb_val n (tb_dg (n - 1) c [])) → post (-1) ((nI n), gl, gc, gt, gf, gp, co, mk, le, ro', us, jo)) : wpY_isAllowed post ((nI n), gl, gc, gt, gf, gp, co, mk, le, ro, us, jo) p0 := by
  refine tb_yRd h2 hn (fun c ro' e hc v1 v2 => br_f (by decide) ?_) (fun ro' z => br_t rfl (g0 ro' z))
  have tf := tb_tour_facts h2 hn v1.2
  refine tb_yR hn (by rw [List.length_append, tf.2.1]; simp; omega) (fun x hx => by have := tf.2.2.1 x hx; omega) v2 (fun us' => ?_)
  have hh := g1 c ro' us' e hc v1
  cases hA : tb_A mk (tb_dg (n - 1) c []).1 with
  | true =>
    rw [hA] at hh
    exact br_f (by decide) hh
  | false =>
    rw [hA] at hh
    exact br_t rfl hh
end
end
section
theorem tb_oth_s (t a b : Nat) : tb_oth (t + 1) a b = tb_oth t a b ++ (if t ≠ a ∧ t ≠ b then [t] else []) := by
  unfold tb_oth
  rw [List.range_succ, List.filter_append]
  by_cases z : t ≠ a ∧ t ≠ b
  · rw [if_pos z, List.filter_cons_of_pos (p := fun t => decide (t ≠ a ∧ t ≠ b)) (decide_eq_true z)]; rfl
  · rw [if_neg z, List.filter_cons_of_neg (p := fun t => decide (t ≠ a ∧ t ≠ b)) (by rw [decide_eq_true_eq]; exact z)]; rfl
theorem tb_oth_len (t a b : Nat) : (tb_oth t a b).length ≤ t := by
  have := List.length_filter_le (fun x => decide (x ≠ a ∧ x ≠ b)) (List.range t)
  rw [List.length_range] at this
  exact this
section
variable {pr : Nat → Int32}
variable {co mk le ro us jo : Nat → Int32} {gl gc gt gf gp : Int32} {n : Nat}
theorem tb_yPP4 {post : Int32 → Prop} {tot : Int} {Et : List Nat} (hn : n ≤ 7) (hp : tb_Pok pr) (hco : ∀ a b, a < n → b < n → a ≠ b → co (7 * a + b) = pr (7 * a + b)) (h1 : tb_cl mk Et = true → post (-1)) (h0 : ∀ r : Int32, tb_cl mk Et = false → r.toInt = tot → post r) :
    ∀ (L : List Nat) (t a : Nat) (v : Int32) (sv : Int) (E : List Nat), t + 1 + L.length = n → ro t = nI a → tb_hold ro (t + 1) L → tb_ch n a L → v.toInt = sv → 0 ≤ sv → sv ≤ 40 * (t : Int) → sv + tb_pp pr a L = tot → Et = E ++ tb_pe a L → (∀ f, f ∈ E → mk f ≠ 2) → wY_priceOfPath_4 post (nI n) gl gc gt gf gp co mk le ro us jo (L.length + 1) v (nI t) := by
  intro L
  induction L with
  | nil =>
    intro t a v sv E ht ha hh hc hv q1 q2 hs hE hno
    simp only [List.length_nil] at ht
    refine pk_le n (t + 1) (fun _ => h0 v ?_ ?_) (fun z => absurd z (by omega)) rfl (nI_1 t)
    · cases hz : tb_cl mk Et with
      | false => rfl
      | true =>
        obtain ⟨f, f1, f2⟩ := tb_cl_t.mp hz
        rw [hE] at f1
        simp only [tb_pe, List.append_nil] at f1
        exact absurd f2 (hno f f1)
    · rw [hv, ← hs]; simp [tb_pp]
  | cons x L ih =>
    intro t a v sv E ht ha hh hc hv q1 q2 hs hE hno
    rw [List.length_cons] at ht
    have c1 := hc.1
    have c2 := hc.2.1
    have hcl : (nI t).toNatClampNeg = t := nI_clamp (by omega)
    have hcl1 : (nI t + 1).toNatClampNeg = t + 1 := by rw [nI_1, nI_clamp (by omega)]
    have hix : (ro (nI t).toNatClampNeg * 7) + ro (nI t + 1).toNatClampNeg = nI (7 * a + x) := by rw [hcl, hcl1, ha, hh.1, tb_iy]
    have hclx : (nI (7 * a + x)).toNatClampNeg = 7 * a + x := nI_clamp (by omega)
    have b := hp (7 * a + x) (by omega)
    have hs1 : (v + pr (7 * a + x)).toInt = sv + (pr (7 * a + x)).toInt := tb_ad hv rfl (by omega) (by omega)
    have in2 : vp_in (nI (7 * a + x)) 49 := pk_in (7 * a + x) 49 (by omega)
    refine pk_le n (t + 1) (fun z => absurd z (by omega)) (fun _ => ⟨pk_in t 8 (by omega), pk_in (t + 1) 8 (by omega) (nI_1 t), nm_r hix ⟨in2, br_c (fun m2 => h1 (tb_cl_t.mpr ⟨7 * a + x, ?_, ?_⟩)) (fun m2 => ⟨in2, nm_r (e' := v + pr (7 * a + x)) (by rw [hclx, hco a x c1 c2 hc.2.2.1]) (nm_r (nI_1 t) (ih (t + 1) x _ _ (E ++ [7 * a + x]) (by omega) hh.1 hh.2 hc.2.2.2 hs1 (by omega) (by omega) ?_ ?_ (fun f hf => ?_)))⟩)⟩⟩) rfl (nI_1 t)
    · rw [hE]; exact List.mem_append_right _ List.mem_cons_self
    · rw [hclx] at m2; exact m2
    · rw [← hs]; simp only [tb_pp]; omega
    · rw [hE]; simp only [tb_pe, List.append_assoc, List.cons_append, List.nil_append]
    · rw [hclx] at m2
      rcases List.mem_append.mp hf with q | q
      · exact hno f q
      · rw [List.mem_singleton.mp q]; exact m2
theorem tb_yPP {post : Int32 → Prop} {a b : Nat} {l : List Nat} (hn : n ≤ 7) (hp : tb_Pok pr) (hco : ∀ a b, a < n → b < n → a ≠ b → co (7 * a + b) = pr (7 * a + b)) (hl : 1 + (l ++ [b]).length = n) (hh : tb_hold ro 0 (a :: (l ++ [b]))) (hc : tb_ch n a (l ++ [b])) (h1 : tb_cl mk (tb_pe a (l ++ [b])) = true → post (-1)) (h0 : ∀ r : Int32, tb_cl mk (tb_pe a (l ++ [b])) = false → r.toInt = tb_pp pr a (l ++ [b]) → post r) : wpY_priceOfPath post ((nI n), gl, gc, gt, gf, gp, co, mk, le, ro, us, jo) :=
  ⟨(l ++ [b]).length + 1, tb_yPP4 hn hp hco h1 h0 (l ++ [b]) 0 a 0 0 [] (by omega) hh.1 hh.2 hc rfl (by omega) (by omega) (by rw [Int.zero_add]) rfl (fun f hf => by simp at hf)⟩
theorem tb_y57 {post : Int32 → SY → Prop} {J44 : Int32 → Int32 → Int32 → Int32 → Int32 → Int32 → Int32 → Int32 → (Nat → Int32) → (Nat → Int32) → (Nat → Int32) → (Nat → Int32) → (Nat → Int32) → (Nat → Int32) → Prop} {a b k : Nat} {most x4 : Int32} (h2 : 2 ≤ n) (hn : n ≤ 7) (hp : tb_Pok pr) (hco : ∀ a b, a < n → b < n → a ≠ b → co (7 * a + b) = pr (7 * a + b)) (ha : a < n) (hb : b < n) (hab : a ≠ b) (hk : k < tb_fac (n - 2)) {L : List (List Nat)} (hM : tb_MO mk pr a b L most)
    (h : ∀ (most' : Int32) (le' ro' : Nat → Int32), tb_MO mk pr a b (L ++ [tb_nth (n - 2) k (tb_oth n a b)]) most' → J44 most' (nI (k + 1)) (nI n) gl gc gt gf gp co mk le' ro' us jo) :
    ∀ d t, t + d = n → ∀ le : Nat → Int32, tb_hold le 0 (tb_oth t a b) → wY_path_57 post J44 (nI a) (nI b) most x4 (nI k) (nI n) gl gc gt gf gp (d + 1) (nI (tb_oth t a b).length) (nI t) co mk le ro us jo := by
  have tab := tb_oth_tab n (by omega) h2 a ha b hb hab
  have hpl := tb_perms_len tab.2.1 (tb_nth_mem tab.2.1 (tb_oth_nd n a b) hk)
  have hpm := (tb_perms_mem _ _ tab.2.1 _).mp (tb_nth_mem tab.2.1 (tb_oth_nd n a b) hk)
  intro d
  induction d with
  | zero =>
    intro t ht le hh
    have q : t = n := by omega
    subst q
    refine br_t (nI_le (Nat.le_refl _) (by omega)) (tb_yA (fr := 1) (m := t - 2) (s := tb_oth t a b) (congrArg nI tab.2.1) (by omega) (by omega) tab.2.1 hk hh (fun le' ro' g1 g2 => nm_e ⟨pk_in (t - 1) 8 (by omega) (tb_nI_sub1 (by omega)), nm_r (e' := upd (upd ro' 0 (nI a)) (t - 1) (nI b)) (by rw [tb_nI_sub1 (by omega), nI_clamp (by omega)]) ?_⟩))
    generalize tb_nth (t - 2) k (tb_oth t a b) = l at hpl hpm h g1
    have hh2 : tb_hold (upd (upd ro' 0 (nI a)) (t - 1) (nI b)) 0 (a :: (l ++ [b])) := by
      refine ⟨?_, tb_hold_app (tb_hold_k g1 (fun i q1 q2 => by rw [pk_un (by omega), pk_un (by omega)])) ⟨?_, trivial⟩⟩
      · rw [pk_un (by omega), pk_us]
      · rw [hpl, show 0 + 1 + (t - 2) = t - 1 from by omega, pk_us]
    have hlen : (l ++ [b]).length = t - 1 := by rw [List.length_append, hpl]; simp; omega
    have ch := tb_path_ch hn ha hb hab hpm
    have W := (tb_path_W (mk := mk) h2 hn hp ha hb hab hpm).2
    refine tb_yPP hn hp hco (by omega) hh2 ch (fun z => br_t (by decide) (nm_r (nI_1 k) (h most le' _ (tb_MO_no hM z)))) (fun r z hr => ?_)
    have r0 : 0 ≤ r.toInt := by
      rcases W with q | q
      · rw [z] at q; exact absurd q.1 (by decide)
      · omega
    refine tb_lt _ 0 rfl tb_Z (fun y => absurd y (by omega)) (fun _ => tb_lt _ 0 rfl tb_Z (fun y => nm_r (nI_1 k) (h r le' _ (tb_MO_new hM z hr r0 (Or.inl y)))) (fun y => tb_le _ _ rfl rfl (fun x => nm_r (nI_1 k) (h most le' _ (tb_MO_keep hM y (by omega)))) (fun x => nm_r (nI_1 k) (h r le' _ (tb_MO_new hM z hr r0 (Or.inr x))))))
  | succ d ih =>
    intro t ht le hh
    have ol := tb_oth_len t a b
    have os := tb_oth_s t a b
    have IH := ih (t + 1) (by omega)
    have same : ¬ (t ≠ a ∧ t ≠ b) → wY_path_57 post J44 (nI a) (nI b) most x4 (nI k) (nI n) gl gc gt gf gp (d + 1) (nI (tb_oth t a b).length) (nI (t + 1)) co mk le ro us jo := by
      intro z
      rw [if_neg z, List.append_nil] at os
      rw [os] at IH
      exact IH le hh
    refine br_f (nI_ge (by omega) (by omega)) (pk_eq t a (fun q => nm_r (nI_1 t) (same (fun z => z.1 q))) (fun q => pk_eq t b (fun q2 => nm_r (nI_1 t) (same (fun z => z.2 q2))) (fun q2 => ⟨pk_in _ 8 (Nat.lt_of_le_of_lt ol (by omega)) rfl (by omega), nm_r (e' := upd le (tb_oth t a b).length (nI t)) (by rw [nI_clamp (Nat.lt_of_le_of_lt ol (by omega))]) (nm_r (nI_1 _) (nm_r (nI_1 t) ?_))⟩)))
    rw [if_pos ⟨q, q2⟩] at os
    rw [os, List.length_append] at IH
    exact IH _ (tb_hold_app (tb_hold_k hh (fun i q1 q3 => pk_un (by omega))) ⟨by rw [Nat.zero_add, pk_us], trivial⟩)
theorem tb_y44 {post : Int32 → SY → Prop} {a b : Nat} (h2 : 2 ≤ n) (hn : n ≤ 7) (hp : tb_Pok pr) (hco : ∀ a b, a < n → b < n → a ≠ b → co (7 * a + b) = pr (7 * a + b)) (ha : a < n) (hb : b < n) (hab : a ≠ b)
    (h : ∀ (le' ro' : Nat → Int32), post (tb_pr n pr mk a b) ((nI n), gl, gc, gt, gf, gp, co, mk, le', ro', us, jo)) :
    ∀ d k, k + d = tb_fac (n - 2) → ∀ (most : Int32) (le ro : Nat → Int32), tb_MO mk pr a b ((tb_perms (n - 2) (tb_oth n a b)).take k) most → wY_path_44 post (nI a) (nI b) (nI (tb_fac (n - 2))) (d + 1) most (nI k) (nI n) gl gc gt gf gp co mk le ro us jo := by
  have tab := tb_oth_tab n (by omega) h2 a ha b hb hab
  have fl := tb_fac_le (n - 2) (by omega)
  intro d
  induction d with
  | zero =>
    intro k hk most le ro g
    have e : (tb_perms (n - 2) (tb_oth n a b)).take k = tb_perms (n - 2) (tb_oth n a b) := List.take_of_length_le (by
      rw [tb_perms_count tab.2.1 (tb_oth_nd n a b)]; omega)
    rw [e] at g
    have em : most = tb_pr n pr mk a b := by
      rcases tb_path_fin h2 hn hp ha hb hab g with q | q
      · rw [q.1]; exact tb_pr_no q.2
      · exact tb_pr_of q.2.2.symm (by omega)
    rw [em]
    exact br_t (nI_le (by omega) (by omega)) (h le ro)
  | succ d ih =>
    intro k hk most le ro g
    have htake := tb_nth_take tab.2.1 (tb_oth_nd n a b) (k := k) (by omega)
    refine br_f (nI_ge (by omega) (by omega)) ⟨n + 1, tb_y57 h2 hn hp hco ha hb hab (by omega) g (fun most' le' ro' g2 => ih (k + 1) (by omega) most' le' ro' (by rw [htake]; exact g2)) n 0 (by omega) le trivial⟩
theorem tb_yPa {post : Int32 → SY → Prop} {a b : Nat} (h2 : 2 ≤ n) (hn : n ≤ 7) (hp : tb_Pok pr) (hco : ∀ a b, a < n → b < n → a ≠ b → co (7 * a + b) = pr (7 * a + b)) (ha : a < n) (hb : b < n) (hab : a ≠ b)
    (h : ∀ (le' ro' : Nat → Int32), post (tb_pr n pr mk a b) ((nI n), gl, gc, gt, gf, gp, co, mk, le', ro', us, jo)) : wpY_path post ((nI n), gl, gc, gt, gf, gp, co, mk, le, ro, us, jo) (nI a) (nI b) := by
  unfold wpY_path
  dsimp only
  refine tb_yB0 hn ha ?_
  refine br_t rfl ?_
  refine tb_yB0 hn hb ?_
  refine br_t rfl (pk_eq a b (fun q => absurd q hab) (fun _ => ?_))
  refine tb_yO (m := n - 2) (pk_sub (b := 2) h2) (by omega) ?_
  refine ⟨tb_fac (n - 2) + 1, ?_⟩
  exact tb_y44 h2 hn hp hco ha hb hab h (tb_fac (n - 2)) 0 (by omega) (-3) le ro (Or.inl ⟨rfl, fun l hl => by simp at hl⟩)
theorem tb_yBP15 {post : Int32 → SY → Prop} {J5 : Int32 → Int32 → Int32 → Int32 → Int32 → Int32 → Int32 → Int32 → (Nat → Int32) → (Nat → Int32) → (Nat → Int32) → (Nat → Int32) → (Nat → Int32) → (Nat → Int32) → Prop} {a : Nat} {v : Int32} (h2 : 2 ≤ n) (hn : n ≤ 7) (hp : tb_Pok pr) (hco : ∀ a b, a < n → b < n → a ≠ b → co (7 * a + b) = pr (7 * a + b)) (ha : a < n)
    (h : ∀ (le' ro' : Nat → Int32), J5 (tb_bi n pr mk a a v) (nI (a + 1)) (nI n) gl gc gt gf gp co mk le' ro' us jo) :
    ∀ d j, j + d = a → ∀ (le ro : Nat → Int32), wY_bestPath_15 post J5 (nI a) (d + 1) (tb_bi n pr mk a j v) (nI j) (nI n) gl gc gt gf gp co mk le ro us jo := by
  intro d
  induction d with
  | zero =>
    intro j hj le ro
    have q : j = a := by omega
    subst q
    exact br_t (nI_le (Nat.le_refl _) (by omega)) (nm_r (nI_1 j) (h le ro))
  | succ d ih =>
    intro j hj le ro
    refine br_f (nI_ge (a := j) (b := a) (by omega) (by omega)) (tb_yPa h2 hn hp hco ha (by omega) (by omega) (fun le' ro' => ?_))
    have IH := ih (j + 1) (by omega) le' ro'
    rw [tb_bi_s] at IH
    refine br_c (fun z => nm_r (nI_1 j) ?_) (fun z => br_c (fun y => nm_r (nI_1 j) ?_) (fun y => br_c (fun x => nm_r (nI_1 j) ?_) (fun x => nm_r (nI_1 j) ?_)))
    · rw [show tb_pu (tb_bi n pr mk a j v) (tb_pr n pr mk a j) = tb_bi n pr mk a j v from if_pos z] at IH
      exact IH
    · rw [show tb_pu (tb_bi n pr mk a j v) (tb_pr n pr mk a j) = tb_pr n pr mk a j from by unfold tb_pu; rw [if_neg z, if_pos y]] at IH
      exact IH
    · rw [show tb_pu (tb_bi n pr mk a j v) (tb_pr n pr mk a j) = tb_bi n pr mk a j v from by unfold tb_pu; rw [if_neg z, if_neg y, if_pos x]] at IH
      exact IH
    · rw [show tb_pu (tb_bi n pr mk a j v) (tb_pr n pr mk a j) = tb_pr n pr mk a j from by unfold tb_pu; rw [if_neg z, if_neg y, if_neg x]] at IH
      exact IH
theorem tb_yBP5 {post : Int32 → SY → Prop} (h2 : 2 ≤ n) (hn : n ≤ 7) (hp : tb_Pok pr) (hco : ∀ a b, a < n → b < n → a ≠ b → co (7 * a + b) = pr (7 * a + b))
    (h : ∀ (le' ro' : Nat → Int32), post (tb_bo n pr mk n) ((nI n), gl, gc, gt, gf, gp, co, mk, le', ro', us, jo)) :
    ∀ d a, a + d = n → ∀ (le ro : Nat → Int32), wY_bestPath_5 post (d + 1) (tb_bo n pr mk a) (nI a) (nI n) gl gc gt gf gp co mk le ro us jo := by
  intro d
  induction d with
  | zero =>
    intro a ha le ro
    have q : a = n := by omega
    subst q
    exact br_t (nI_le (Nat.le_refl _) (by omega)) (h le ro)
  | succ d ih =>
    intro a ha le ro
    refine br_f (nI_ge (a := a) (b := n) (by omega) (by omega)) ⟨a + 1, ?_⟩
    refine tb_yBP15 h2 hn hp hco (by omega) (fun le' ro' => ?_) a 0 (by omega) le ro
    have IH := ih (a + 1) (by omega) le' ro'
    rw [tb_bo_s] at IH
    exact IH
theorem tb_yBP {post : Int32 → SY → Prop} (h2 : 2 ≤ n) (hn : n ≤ 7) (hp : tb_Pok pr) (hco : ∀ a b, a < n → b < n → a ≠ b → co (7 * a + b) = pr (7 * a + b))
    (h : ∀ (le' ro' : Nat → Int32), post (tb_bo n pr mk n) ((nI n), gl, gc, gt, gf, gp, co, mk, le', ro', us, jo)) : wpY_bestPath post ((nI n), gl, gc, gt, gf, gp, co, mk, le, ro, us, jo) := ⟨n + 1, tb_yBP5 h2 hn hp hco h n 0 (by omega) le ro⟩
end
end
section
theorem tb_andN (a b : Nat) : nI a &&& nI b = nI (a &&& b) := by
  apply Int32.toBitVec_inj.1
  show BitVec.ofNat 32 a &&& BitVec.ofNat 32 b = BitVec.ofNat 32 (a &&& b)
  apply BitVec.eq_of_getLsbD_eq
  intro i hi
  simp [hi]
theorem tb_spl : ∀ s, s < 128 → ∀ x, x < s → x &&& s = x → ∀ i, i < 7 → s.testBit i = (x.testBit i || (s - x).testBit i) ∧ (x.testBit i && (s - x).testBit i) = false := by decide +kernel
theorem tb_pw0 : ∀ s, s < 128 → 1 ≤ s → s &&& (s - 1) = 0 → s = 2 ^ 0 ∨ s = 2 ^ 1 ∨ s = 2 ^ 2 ∨ s = 2 ^ 3 ∨ s = 2 ^ 4 ∨ s = 2 ^ 5 ∨ s = 2 ^ 6 := by decide +kernel
theorem tb_pw1 : ∀ v, v < 7 → 2 ^ v &&& (2 ^ v - 1) = 0 := by decide +kernel
theorem tb_pw2 : ∀ v, v < 7 → ∀ z, z < 7 → ((2 ^ v).testBit z = true ↔ z = v) := by decide +kernel
theorem tb_pw3 : ∀ s, s < 128 → ∀ v, v < 7 → s.testBit v = false → s &&& (s + 2 ^ v) = s ∧ 2 ^ v &&& (s + 2 ^ v) = 2 ^ v := by decide +kernel
theorem tb_pw {n s : Nat} (hn : n ≤ 7) (hs : s < 2 ^ n) (h1 : 1 ≤ s) (h : s &&& (s - 1) = 0) : ∃ v, v < n ∧ s = 2 ^ v := by
  have h7 := tb_p7 hn
  have key : ∃ v, s = 2 ^ v := by
    rcases tb_pw0 s (by omega) h1 h with q | q | q | q | q | q | q
    · exact ⟨0, q⟩
    · exact ⟨1, q⟩
    · exact ⟨2, q⟩
    · exact ⟨3, q⟩
    · exact ⟨4, q⟩
    · exact ⟨5, q⟩
    · exact ⟨6, q⟩
  obtain ⟨v, e⟩ := key
  refine ⟨v, ?_, e⟩
  apply Classical.byContradiction
  intro z
  have : 2 ^ n ≤ 2 ^ v := Nat.pow_le_pow_right (by decide) (by omega)
  omega
def tb_Bw (n : Nat) (c : Nat → Nat → Int) (x y : Nat) (m : Int) : Prop := 0 ≤ m ∧ m ≤ 9999 ∧ (∀ a b, a < n → b < n → x.testBit a = true → y.testBit b = true → c a b < 1000000 → m ≤ c a b) ∧ (m = 9999 ∨ ∃ a b, a < n ∧ b < n ∧ x.testBit a = true ∧ y.testBit b = true ∧ c a b < 1000000 ∧ m = c a b)
def tb_JL (n : Nat) (c : Nat → Nat → Int) (jo : Nat → Int32) (s : Nat) : Prop := 0 ≤ (jo s).toInt ∧ (jo s).toInt ≤ 9999 ∧ ((jo s).toInt = 9999 ∨ ((jo s).toInt = 0 ∧ ∃ v, v < n ∧ s = 2 ^ v) ∨ ∃ x a b, 1 ≤ x ∧ x < s ∧ x &&& s = x ∧ a < n ∧ b < n ∧ x.testBit a = true ∧ (s - x).testBit b = true ∧ c a b < 1000000 ∧ (jo s).toInt = (jo x).toInt + (jo (s - x)).toInt + c a b)
def tb_JU (n : Nat) (c : Nat → Nat → Int) (jo : Nat → Int32) (s x1 : Nat) : Prop := ((∃ v, s = 2 ^ v) → (jo s).toInt = 0) ∧ ∀ x, 1 ≤ x → x < x1 → x < s → x &&& s = x → s - x ≤ x → ∀ a b, a < n → b < n → x.testBit a = true → (s - x).testBit b = true → c a b < 1000000 → (jo s).toInt ≤ (jo x).toInt + (jo (s - x)).toInt + c a b
def tb_JA (n : Nat) (c : Nat → Nat → Int) (jo : Nat → Int32) (s : Nat) : Prop := ∀ s', 1 ≤ s' → s' < s → tb_JL n c jo s' ∧ tb_JU n c jo s' s'
theorem tb_JA_k {n : Nat} {c : Nat → Nat → Int} {jo jo' : Nat → Int32} {s : Nat} (h : tb_JA n c jo s) (e : ∀ i, i < s → jo' i = jo i) : tb_JA n c jo' s := by
  intro s' h1 h2
  obtain ⟨⟨a1, a2, a3⟩, a4, a5⟩ := h s' h1 h2
  have es := e s' h2
  refine ⟨⟨by rw [es]; exact a1, by rw [es]; exact a2, ?_⟩, fun q => by rw [es]; exact a4 q, ?_⟩
  · rw [es]
    rcases a3 with q | q | ⟨x, a, b, q1, q2, q3⟩
    · exact Or.inl q
    · exact Or.inr (Or.inl q)
    · refine Or.inr (Or.inr ⟨x, a, b, q1, q2, ?_⟩)
      rw [e x (by omega), e (s' - x) (by omega)]
      exact q3
  · intro x q1 q2 q3 q4 q5
    rw [es, e x (by omega), e (s' - x) (by omega)]
    exact a5 x q1 q2 q3 q4 q5
theorem tb_Con_tree {n : Nat} {c : Nat → Nat → Int} {jo : Nat → Int32} (hn : n ≤ 7) (hc0 : ∀ a b, 0 ≤ c a b) (h : tb_JA n c jo (2 ^ n)) : ∀ k s, s < k → 1 ≤ s → s < 2 ^ n → (jo s).toInt < 9999 → ∃ E, tb_good_E n c E ∧ tb_Con E (fun z => z = 0) (tb_KP n s) ∧ tb_cost c E = (jo s).toInt := by
  have h7 := tb_p7 hn
  intro k
  induction k with
  | zero => intro s hs; omega
  | succ k ih =>
    intro s hk h1 hs hj
    obtain ⟨⟨a1, a2, a3⟩, _⟩ := h s h1 hs
    rcases a3 with q | ⟨q, v, hv, e⟩ | ⟨x, a, b, q1, q2, q3, q4, q5, q6, q7, q8, q9⟩
    · omega
    · refine ⟨[], fun f hf => by simp at hf, ?_, by rw [q]; rfl⟩
      intro S _ _ p1 p2 hp1 hp2 hS
      have e1 : p1 = v := (tb_pw2 v (by omega) p1 (by have := hp1.1; omega)).mp (by rw [← e]; exact hp1.2)
      have e2 : p2 = v := (tb_pw2 v (by omega) p2 (by have := hp2.1; omega)).mp (by rw [← e]; exact hp2.2)
      rw [e2, ← e1]
      exact hS
    · have px := (h x q1 (by omega)).1
      have py := (h (s - x) (by omega) (by omega)).1
      have p1 := px.1
      have p2 := py.1
      have c0 := hc0 a b
      have sp := tb_spl s (by omega) x q2 q3
      obtain ⟨Ex, g1, g2, g3⟩ := ih x (by omega) q1 (by omega) (by omega)
      obtain ⟨Ey, f1, f2, f3⟩ := ih (s - x) (by omega) (by omega) (by omega) (by omega)
      refine ⟨(a, b) :: (Ex ++ Ey), fun e he => ?_, ?_, ?_⟩
      · rcases List.mem_cons.mp he with z | z
        · rw [z]; exact ⟨q4, q5, q8⟩
        · rcases List.mem_append.mp z with y | y
          · exact g1 e y
          · exact f1 e y
      · intro S s1 s2
        have cx := g2 S s1 (fun p q hpq => s2 p q (List.mem_cons_of_mem _ (List.mem_append_left _ hpq)))
        have cy := f2 S s1 (fun p q hpq => s2 p q (List.mem_cons_of_mem _ (List.mem_append_right _ hpq)))
        have cab := s2 a b List.mem_cons_self
        have kx : tb_KP n x a := ⟨q4, q6⟩
        have ky : tb_KP n (s - x) b := ⟨q5, q7⟩
        have part : ∀ z, tb_KP n s z → tb_KP n x z ∨ tb_KP n (s - x) z := by
          intro z hz
          have t := (sp z (by have := hz.1; omega)).1
          rw [hz.2] at t
          rcases (Bool.or_eq_true _ _).mp t.symm with y | y
          · exact Or.inl ⟨hz.1, y⟩
          · exact Or.inr ⟨hz.1, y⟩
        intro p q hp hq hS
        rcases part p hp with u | u
        · rcases part q hq with w | w
          · exact cx p q u w hS
          · exact cy b q ky w (cab.mp (cx p a u kx hS))
        · rcases part q hq with w | w
          · exact cx a q kx w (cab.mpr (cy p b u ky hS))
          · exact cy p q u w hS
      · simp only [tb_cost]
        rw [tb_cost_app, g3, f3]
        omega
theorem tb_J_step {n : Nat} {c : Nat → Nat → Int} {jo : Nat → Int32} (hn : n ≤ 7) (hs : ∀ a b, c a b = c b a) (h : tb_JA n c jo (2 ^ n)) : ∀ s v a, s < 2 ^ n → v < n → a < n → s.testBit v = false → s.testBit a = true → c a v < 1000000 → (jo (s + 2 ^ v)).toInt ≤ (jo s).toInt + c a v := by
  have h7 := tb_p7 hn
  intro s v a hs2 hv ha b1 b2 hc
  have k1 := (tb_addB n (by omega) s hs2 v hv b1).1
  have k2 := tb_pw3 s (by omega) v (by omega) b1
  have k3 : (2 ^ v).testBit v = true := (tb_pw2 v (by omega) v (by omega)).mpr rfl
  have vp : 0 < 2 ^ v := Nat.two_pow_pos v
  have s1 : 1 ≤ s := Nat.pos_of_ne_zero (fun q => by rw [q, Nat.zero_testBit] at b2; exact absurd b2 (by decide))
  have hv2 : 2 ^ v < 2 ^ n := by omega
  have j0 := (h (2 ^ v) (by omega) hv2).2.1 ⟨v, rfl⟩
  have U := (h (s + 2 ^ v) (by omega) k1).2.2
  by_cases z : 2 ^ v ≤ s
  · have q := U s s1 (by omega) (by omega) k2.1 (by omega) a v ha hv b2 (by rw [Nat.add_sub_cancel_left]; exact k3) hc
    rw [Nat.add_sub_cancel_left] at q
    omega
  · have q := U (2 ^ v) (by omega) (by omega) (by omega) k2.2 (by omega) v a hv ha k3 (by rw [Nat.add_sub_cancel]; exact b2) (by rw [hs]; exact hc)
    rw [Nat.add_sub_cancel, hs] at q
    omega
theorem tb_J_fin {n : Nat} {c : Nat → Nat → Int} {jo : Nat → Int32} (h2 : 2 ≤ n) (hn : n ≤ 7) (hs : ∀ a b, c a b = c b a) (hc0 : ∀ a b, 0 ≤ c a b) (h : tb_JA n c jo (2 ^ n)) {r : Int32} (hr : tb_SpX n c r) : ((jo (2 ^ n - 1)).toInt < 9999 ∧ jo (2 ^ n - 1) = r) ∨ (9999 ≤ (jo (2 ^ n - 1)).toInt ∧ -3 = r) := by
  have p2 : 2 ^ 2 ≤ 2 ^ n := Nat.pow_le_pow_right (by decide) h2
  have tree : (jo (2 ^ n - 1)).toInt < 9999 → ∃ E, tb_good_E n c E ∧ tb_Con E (fun z => z = 0) (fun z => z < n) ∧ tb_cost c E = (jo (2 ^ n - 1)).toInt := by
    intro z
    obtain ⟨E, e1, e2, e3⟩ := tb_Con_tree hn hc0 h (2 ^ n) (2 ^ n - 1) (by omega) (by omega) (by omega) z
    refine ⟨E, e1, ?_, e3⟩
    intro S s1 s2 x y hx hy
    exact e2 S s1 s2 x y ⟨hx, tb_allbit n (by omega) x hx⟩ ⟨hy, tb_allbit n (by omega) y hy⟩
  rcases hr with ⟨e, q⟩ | ⟨q1, q2, q3, q4⟩
  · right
    refine ⟨?_, e.symm⟩
    apply Classical.byContradiction
    intro z
    obtain ⟨E, e1, e2, _⟩ := tree (by omega)
    exact q E e1 e2
  · left
    have j1 : (jo 1).toInt ≤ 0 := Int.le_of_eq ((h 1 (by omega) (by omega)).2.1 ⟨0, rfl⟩)
    have up := q4 (fun s => (jo s).toInt) j1 (tb_J_step hn hs h)
    have up2 : (jo (2 ^ n - 1)).toInt ≤ r.toInt := up
    obtain ⟨E, e1, e2, e3⟩ := tree (by omega)
    have lo := q3 E e1 e2
    exact ⟨by omega, Int32.toInt_inj.mp (by omega)⟩
end
section
section
variable {pr : Nat → Int32}
variable {co mk le ro us jo : Nat → Int32} {gl gc gt gf gp : Int32} {n : Nat}
theorem tb_y7 {post : Int32 → Prop} {x y : Nat} (hn : n ≤ 7) (hp : tb_Pok pr) (hm : tb_Mok n mk) (hco : ∀ a b, a < n → b < n → a ≠ b → co (7 * a + b) = pr (7 * a + b)) (hx : x < 2 ^ n) (hy : y < 2 ^ n) (hd : ∀ i, i < 7 → (x.testBit i && y.testBit i) = false) (h : ∀ m : Int32, tb_Bw n (tb_pc pr mk) x y m.toInt → post m) :
    ∀ d k, k + d = 49 → ∀ m : Int32, 0 ≤ m.toInt → m.toInt ≤ 9999 → (∀ j, j < k → x.testBit (j / 7) = true → y.testBit (j % 7) = true → tb_pc pr mk (j / 7) (j % 7) < 1000000 → m.toInt ≤ tb_pc pr mk (j / 7) (j % 7)) → (m.toInt = 9999 ∨ ∃ a b, a < n ∧ b < n ∧ x.testBit a = true ∧ y.testBit b = true ∧ tb_pc pr mk a b < 1000000 ∧ m.toInt = tb_pc pr mk a b) → wY_between_7 post (nI x) (nI y) (nI n) gl gc gt gf gp co mk le ro us jo (d + 1) m (nI k) := by
  have h7 := tb_p7 hn
  intro d
  induction d with
  | zero =>
    intro k hk m m0 m9 g1 g2
    have q : k = 49 := by omega
    subst q
    refine br_t (by decide) (h m ⟨m0, m9, fun a b ha hb xa yb hc => ?_, g2⟩)
    have q := g1 (7 * a + b) (by omega)
    rw [show (7 * a + b) / 7 = a from by omega, show (7 * a + b) % 7 = b from by omega] at q
    exact q xa yb hc
  | succ d ih =>
    intro k hk m m0 m9 g1 g2
    have z7 : ¬ (7 : Int32) = 0 := by decide
    have hcl : (nI k).toNatClampNeg = k := nI_clamp (by omega)
    have hin : vp_in (nI k) 49 := pk_in k 49 (by omega)
    have keep : ∀ m' : Int32, 0 ≤ m'.toInt → m'.toInt ≤ m.toInt → (x.testBit (k / 7) = true → y.testBit (k % 7) = true → tb_pc pr mk (k / 7) (k % 7) < 1000000 → m'.toInt ≤ tb_pc pr mk (k / 7) (k % 7)) → (m'.toInt = 9999 ∨ ∃ a b, a < n ∧ b < n ∧ x.testBit a = true ∧ y.testBit b = true ∧ tb_pc pr mk a b < 1000000 ∧ m'.toInt = tb_pc pr mk a b) → wY_between_7 post (nI x) (nI y) (nI n) gl gc gt gf gp co mk le ro us jo (d + 1) m' (nI (k + 1)) := by
      intro m' q0 q1 q2 q3
      refine ih (k + 1) (by omega) m' q0 (by omega) (fun j hj xa yb hc => ?_) q3
      by_cases z : j = k
      · rw [z] at xa yb hc ⊢; exact q2 xa yb hc
      · have := g1 j (by omega) xa yb hc
        omega
    refine br_f (nI_ge (a := k) (b := 49) (by omega) (by decide)) ⟨z7, nm_r (tb_dv (by omega)) ⟨z7, nm_r (tb_md (by omega)) ?_⟩⟩
    cases hxa : x.testBit (k / 7) with
    | false => exact br_f (tb_b1f' (by omega) (by omega) hxa) (br_t rfl (nm_r (nI_1 k) (keep m m0 (Int.le_refl _) (fun q => by rw [hxa] at q; exact absurd q (by decide)) g2)))
    | true =>
      cases hyb : y.testBit (k % 7) with
      | false => exact br_t (tb_b1t (by omega) (by omega) hxa) (br_f (tb_b1f' (by omega) (by omega) hyb) (br_t rfl (nm_r (nI_1 k) (keep m m0 (Int.le_refl _) (fun _ q => by rw [hyb] at q; exact absurd q (by decide)) g2))))
      | true =>
        have a1 := tb_bit_lt hx hxa
        have a2 := tb_bit_lt hy hyb
        have ne : k / 7 ≠ k % 7 := by
          intro q
          have t := hd (k / 7) (by omega)
          rw [hxa, q, hyb] at t
          exact absurd t (by decide)
        have e7 := tb_7 k
        have ck := hco (k / 7) (k % 7) a1 a2 ne
        rw [e7] at ck
        have pk := hp k (by omega)
        refine br_t (tb_b1t (by omega) (by omega) hxa) (br_t (tb_b1t (by omega) (by omega) hyb) (br_f (by decide) ⟨hin, br_c (fun m2 => nm_r (nI_1 k) (keep m m0 (Int.le_refl _) (fun _ _ q => ?_) g2)) (fun m2 => ⟨hin, ?_⟩)⟩))
        · rw [hcl] at m2
          have e : tb_pc pr mk (k / 7) (k % 7) = 1000000 := if_neg (fun y => y.2.2.2 (by rw [e7]; exact m2))
          omega
        · rw [hcl] at m2
          have e : tb_pc pr mk (k / 7) (k % 7) = (pr k).toInt := by
            unfold tb_pc tb_c
            rw [e7, if_pos ⟨by omega, by omega, ne, m2⟩, if_neg (fun y => by simp at y)]
          have cT : (co (nI k).toNatClampNeg).toInt = tb_pc pr mk (k / 7) (k % 7) := by rw [hcl, ck, e]
          refine tb_le _ _ rfl cT (fun z => nm_r (nI_1 k) (keep m m0 (Int.le_refl _) (fun _ _ _ => z) g2)) (fun z => ⟨hin, nm_e (nm_r (nI_1 k) (keep _ (by omega) (by omega) (fun _ _ _ => by omega) (Or.inr ⟨k / 7, k % 7, a1, a2, hxa, hyb, by omega, cT⟩)))⟩)
theorem tb_yBw {post : Int32 → Prop} {x y : Nat} (hn : n ≤ 7) (hp : tb_Pok pr) (hm : tb_Mok n mk) (hco : ∀ a b, a < n → b < n → a ≠ b → co (7 * a + b) = pr (7 * a + b)) (hx : x < 2 ^ n) (hy : y < 2 ^ n) (hd : ∀ i, i < 7 → (x.testBit i && y.testBit i) = false) (h : ∀ m : Int32, tb_Bw n (tb_pc pr mk) x y m.toInt → post m) : wpY_between post ((nI n), gl, gc, gt, gf, gp, co, mk, le, ro, us, jo) (nI x) (nI y) :=
  ⟨50, tb_y7 hn hp hm hco hx hy hd h 49 0 rfl 9999 (by decide) (by decide) (fun j hj => absurd hj (by omega)) (Or.inl (by decide))⟩
theorem tb_y39 {post : Int32 → SY → Prop} {J11 : Int32 → (Nat → Int32) → (Nat → Int32) → (Nat → Int32) → (Nat → Int32) → (Nat → Int32) → (Nat → Int32) → Prop} {x1 : Int32} {s : Nat} (hn : n ≤ 7) (hp : tb_Pok pr) (hm : tb_Mok n mk) (hco : ∀ a b, a < n → b < n → a ≠ b → co (7 * a + b) = pr (7 * a + b)) (hs1 : 1 ≤ s) (hs : s < 2 ^ n)
    (h : ∀ jo' : Nat → Int32, tb_JA n (tb_pc pr mk) jo' (s + 1) → J11 (nI (s + 1)) co mk le ro us jo') :
    ∀ d x, x + d = s → 1 ≤ x → ∀ jo : Nat → Int32, tb_JA n (tb_pc pr mk) jo s → tb_JL n (tb_pc pr mk) jo s → tb_JU n (tb_pc pr mk) jo s x → wY_span_39 post J11 x1 (nI s) (nI n) gl gc gt gf gp (d + 1) (nI x) co mk le ro us jo := by
  have h7 := tb_p7 hn
  intro d
  induction d with
  | zero =>
    intro x hx hx1 jo hA hL hU
    have q : x = s := by omega
    subst q
    refine br_t (nI_le (Nat.le_refl _) (by omega)) (nm_r (nI_1 x) (h jo (fun s' q1 q2 => ?_)))
    by_cases z : s' = x
    · rw [z]; exact ⟨hL, hU⟩
    · exact hA s' q1 (by omega)
  | succ d ih =>
    intro x hx hx1 jo hA hL hU
    have IH := ih (x + 1) (by omega) (by omega)
    have skip : ¬ (x &&& s = x ∧ s - x ≤ x) → wY_span_39 post J11 x1 (nI s) (nI n) gl gc gt gf gp (d + 1) (nI (x + 1)) co mk le ro us jo := by
      intro z
      refine IH jo hA hL ⟨hU.1, fun x' q1 q2 q3 q4 q5 => ?_⟩
      by_cases y : x' = x
      · rw [y] at q4 q5; exact absurd ⟨q4, q5⟩ z
      · exact hU.2 x' q1 (by omega) q3 q4 q5
    have le1 : x &&& s ≤ x := Nat.and_le_left
    refine br_f (nI_ge (by omega) (by omega)) (pk_eq (x &&& s) x (fun q => nm_r (pk_sub (by omega)) (pk_le (s - x) x (fun y => ?_) (fun y => nm_r (nI_1 x) (skip (fun z => by omega))))) (fun q => nm_r (nI_1 x) (skip (fun z => q z.1))) (tb_andN x s))
    have hclx : (nI x).toNatClampNeg = x := nI_clamp (by omega)
    have hcly : (nI (s - x)).toNatClampNeg = s - x := nI_clamp (by omega)
    have hcls : (nI s).toNatClampNeg = s := nI_clamp (by omega)
    have ins : vp_in (nI s) 128 := pk_in s 128 (by omega)
    have sp := tb_spl s (by omega) x (by omega) q
    have jx := (hA x hx1 (by omega)).1
    have jy := (hA (s - x) (by omega) (by omega)).1
    have jx0 := jx.1
    have jx1 := jx.2.1
    have jy0 := jy.1
    have jy1 := jy.2.1
    refine ⟨pk_in x 128 (by omega), pk_in (s - x) 128 (by omega), tb_yBw hn hp hm hco (by omega) (by omega) (fun i hi => (sp i hi).2) (fun m hw => nm_r (e' := (jo x + jo (s - x)) + m) (by rw [hclx, hcly]) ?_)⟩
    obtain ⟨w0, w1, w2, w3⟩ := hw
    have sum1 : (jo x + jo (s - x)).toInt = (jo x).toInt + (jo (s - x)).toInt := tb_ad rfl rfl (by omega) (by omega)
    have sum2 : ((jo x + jo (s - x)) + m).toInt = (jo x).toInt + (jo (s - x)).toInt + m.toInt := tb_ad sum1 rfl (by omega) (by omega)
    have js0 := hL.1
    have js1 := hL.2.1
    refine ⟨ins, tb_le (jo s).toInt _ (by rw [hcls]) sum2 (fun z => nm_r (nI_1 x) (IH jo hA hL ⟨hU.1, fun x' q1 q2 q3 q4 q5 a b ha hb xa yb hc => ?_⟩)) (fun z => ⟨ins, nm_r (e' := upd jo s ((jo x + jo (s - x)) + m)) (by rw [hcls]) (nm_r (nI_1 x) (IH _ (tb_JA_k hA (fun i hi => pk_un (by omega))) ?_ ?_))⟩)⟩
    · by_cases e : x' = x
      · subst e
        have := w2 a b ha hb xa yb hc
        omega
      · exact hU.2 x' q1 (by omega) q3 q4 q5 a b ha hb xa yb hc
    · unfold tb_JL
      rw [pk_us, sum2]
      refine ⟨by omega, by omega, Or.inr (Or.inr ?_)⟩
      rcases w3 with w | ⟨a, b, v1, v2, v3, v4, v5, v6⟩
      · omega
      · refine ⟨x, a, b, hx1, by omega, q, v1, v2, v3, v4, v5, ?_⟩
        rw [pk_un (by omega), pk_un (by omega), v6]
    · have hne : ¬ ∃ v, s = 2 ^ v := by
        intro e
        have := hU.1 e
        omega
      refine ⟨fun e => absurd e hne, fun x' q1 q2 q3 q4 q5 a b ha hb xa yb hc => ?_⟩
      rw [pk_us, sum2, pk_un (by omega), pk_un (by omega)]
      by_cases e : x' = x
      · subst e
        have := w2 a b ha hb xa yb hc
        omega
      · have := hU.2 x' q1 (by omega) q3 q4 q5 a b ha hb xa yb hc
        omega
theorem tb_y11 {post : Int32 → SY → Prop} (h2 : 2 ≤ n) (hn : n ≤ 7) (hp : tb_Pok pr) (hm : tb_Mok n mk) (hsy : tb_Sym pr) (hco : ∀ a b, a < n → b < n → a ≠ b → co (7 * a + b) = pr (7 * a + b)) {r : Int32} (hr : tb_SpX n (tb_pc pr mk) r) (h : ∀ jo' : Nat → Int32, post r ((nI n), gl, gc, gt, gf, gp, co, mk, le, ro, us, jo')) :
    ∀ d s, s + d = 2 ^ n → 1 ≤ s → ∀ jo : Nat → Int32, tb_JA n (tb_pc pr mk) jo s → wY_span_11 post (nI (2 ^ n - 1)) (nI n) gl gc gt gf gp (d + 1) (nI s) co mk le ro us jo := by
  have h7 := tb_p7 hn
  intro d
  induction d with
  | zero =>
    intro s hs hs1 jo hA
    have q : s = 2 ^ n := by omega
    subst q
    have hclf : (nI (2 ^ n - 1)).toNatClampNeg = 2 ^ n - 1 := nI_clamp (by omega)
    have inf : vp_in (nI (2 ^ n - 1)) 128 := pk_in (2 ^ n - 1) 128 (by omega)
    have pos : ∀ a b, 0 ≤ tb_pc pr mk a b := fun a b => by
      rcases tb_pc_bd (mk := mk) hp a b with q | q <;> omega
    have sym : ∀ a b, tb_pc pr mk a b = tb_pc pr mk b a := tb_c_sym hsy hm
    have fin := tb_J_fin h2 hn sym pos hA hr
    refine br_t (nI_lt (by omega) (by omega)) ⟨inf, tb_lt (jo (2 ^ n - 1)).toInt 9999 (by rw [hclf]) (by decide) (fun z => ⟨inf, ?_⟩) (fun z => ?_)⟩
    · rcases fin with q | q
      · rw [hclf, q.2]; exact h jo
      · omega
    · rcases fin with q | q
      · omega
      · rw [q.2]; exact h jo
  | succ d ih =>
    intro s hs hs1 jo hA
    have hcls : (nI s).toNatClampNeg = s := nI_clamp (by omega)
    have ins : vp_in (nI s) 128 := pk_in s 128 (by omega)
    have e1 : nI s &&& (nI s - 1) = nI (s &&& (s - 1)) := by rw [tb_nI_sub1 hs1, tb_andN]
    have le1 : s &&& (s - 1) ≤ s := Nat.and_le_left
    refine br_f (nI_nlt (by omega) (by omega)) (pk_eq (s &&& (s - 1)) 0 (fun q => ⟨ins, nm_r (e' := upd jo s 0) (by rw [hcls]) ⟨s - 1 + 1, tb_y39 hn hp hm hco hs1 (by omega) (fun jo' g => ih (s + 1) (by omega) (by omega) jo' g) (s - 1) 1 (by omega) (by omega) _ (tb_JA_k hA (fun i hi => pk_un (by omega))) ?_ ?_⟩⟩) (fun q => ⟨ins, nm_r (e' := upd jo s 9999) (by rw [hcls]) ⟨s - 1 + 1, tb_y39 hn hp hm hco hs1 (by omega) (fun jo' g => ih (s + 1) (by omega) (by omega) jo' g) (s - 1) 1 (by omega) (by omega) _ (tb_JA_k hA (fun i hi => pk_un (by omega))) ?_ ?_⟩⟩) e1)
    · obtain ⟨v, hv, e⟩ := tb_pw hn (by omega) hs1 q
      unfold tb_JL
      rw [pk_us]
      exact ⟨by decide, by decide, Or.inr (Or.inl ⟨by decide, v, hv, e⟩)⟩
    · refine ⟨fun _ => by rw [pk_us]; decide, fun x' q1 q2 => absurd q2 (by omega)⟩
    · unfold tb_JL
      rw [pk_us]
      exact ⟨by decide, by decide, Or.inl (by decide)⟩
    · refine ⟨fun e => ?_, fun x' q1 q2 => absurd q2 (by omega)⟩
      obtain ⟨v, hv⟩ := e
      have v7 : v < 7 := by
        apply Classical.byContradiction
        intro z
        have : 2 ^ 7 ≤ 2 ^ v := Nat.pow_le_pow_right (by decide) (by omega)
        omega
      rw [hv] at q
      exact absurd (tb_pw1 v v7) q
theorem tb_ySp {post : Int32 → SY → Prop} (h2 : 2 ≤ n) (hn : n ≤ 7) (hp : tb_Pok pr) (hm : tb_Mok n mk) (hsy : tb_Sym pr) (hco : ∀ a b, a < n → b < n → a ≠ b → co (7 * a + b) = pr (7 * a + b)) {r : Int32} (hr : tb_SpX n (tb_pc pr mk) r) (h : ∀ jo' : Nat → Int32, post r ((nI n), gl, gc, gt, gf, gp, co, mk, le, ro, us, jo')) : wpY_span post ((nI n), gl, gc, gt, gf, gp, co, mk, le, ro, us, jo) := by
  have p2 : 2 ^ 2 ≤ 2 ^ n := Nat.pow_le_pow_right (by decide) h2
  refine nm_r (e' := nI (2 ^ n - 1)) (by rw [tb_sl n (by omega)]; exact tb_nI_sub1 (by omega)) ⟨2 ^ n - 1 + 1, ?_⟩
  exact tb_y11 h2 hn hp hm hsy hco hr h (2 ^ n - 1) 1 (by omega) (by omega) jo (fun s' q1 q2 => absurd q2 (by omega))
end
end
section
def tb_s2 (f : Nat → Int32) (a b : Nat) (v : Int32) : Nat → Int32 := upd (upd f (7 * a + b) v) (7 * b + a) v
theorem tb_s2_y {f : Nat → Int32} {a b : Nat} {v : Int32} : tb_s2 f a b v (7 * a + b) = v ∧ tb_s2 f a b v (7 * b + a) = v := by
  refine ⟨?_, pk_us⟩
  unfold tb_s2
  by_cases z : 7 * a + b = 7 * b + a
  · rw [z, pk_us]
  · rw [pk_un z, pk_us]
theorem tb_s2_n {f : Nat → Int32} {a b x y : Nat} {v : Int32} (ha : a < 7) (hb : b < 7) (hx : x < 7) (hy : y < 7) (h1 : ¬ (x = a ∧ y = b)) (h2 : ¬ (x = b ∧ y = a)) : tb_s2 f a b v (7 * x + y) = f (7 * x + y) := by
  unfold tb_s2
  rw [pk_un (by omega), pk_un (by omega)]
def tb_PS (pr : Nat → Int32) : Prop := tb_Pok pr ∧ tb_Sym pr ∧ ∀ a, a < 7 → pr (7 * a + a) = 0
theorem tb_PS_s2 {pr : Nat → Int32} {a b : Nat} {v : Int32} (h : tb_PS pr) (ha : a < 7) (hb : b < 7) (hab : a ≠ b) (v0 : 0 ≤ v.toInt) (v1 : v.toInt ≤ 40) : tb_PS (tb_s2 pr a b v) := by
  refine ⟨fun k hk => ?_, fun x y hx hy => ?_, fun x hx => ?_⟩
  · have e := tb_7 k
    by_cases z1 : k / 7 = a ∧ k % 7 = b
    · rw [← e, z1.1, z1.2, tb_s2_y.1]; exact ⟨v0, v1⟩
    · by_cases z2 : k / 7 = b ∧ k % 7 = a
      · rw [← e, z2.1, z2.2, tb_s2_y.2]; exact ⟨v0, v1⟩
      · have q := tb_s2_n (f := pr) (v := v) ha hb (x := k / 7) (y := k % 7) (by omega) (by omega) z1 z2
        rw [e] at q
        rw [q]
        exact h.1 k hk
  · by_cases z1 : x = a ∧ y = b
    · rw [z1.1, z1.2, tb_s2_y.1, tb_s2_y.2]
    · by_cases z2 : x = b ∧ y = a
      · rw [z2.1, z2.2, tb_s2_y.1, tb_s2_y.2]
      · rw [tb_s2_n ha hb hx hy z1 z2, tb_s2_n ha hb hy hx (fun q => z2 ⟨q.2, q.1⟩) (fun q => z1 ⟨q.2, q.1⟩)]
        exact h.2.1 x y hx hy
  · rw [tb_s2_n ha hb hx hx (fun q => hab (by omega)) (fun q => hab (by omega))]
    exact h.2.2 x hx
theorem tb_Mok_s2 {n : Nat} {mk : Nat → Int32} {a b : Nat} {v : Int32} (hn : n ≤ 7) (h : tb_Mok n mk) (ha : a < n) (hb : b < n) (hab : a ≠ b) (hv : v = 0 ∨ v = 1 ∨ v = 2) : tb_Mok n (tb_s2 mk a b v) := by
  refine ⟨fun k hk => ?_, fun x y hx hy => ?_, fun x y hx hy => ?_⟩
  · have e := tb_7 k
    by_cases z1 : k / 7 = a ∧ k % 7 = b
    · rw [← e, z1.1, z1.2, tb_s2_y.1]; exact hv
    · by_cases z2 : k / 7 = b ∧ k % 7 = a
      · rw [← e, z2.1, z2.2, tb_s2_y.2]; exact hv
      · have q := tb_s2_n (f := mk) (a := a) (b := b) (v := v) (by omega) (by omega) (x := k / 7) (y := k % 7) (by omega) (by omega) z1 z2
        rw [e] at q
        rw [q]
        exact h.1 k hk
  · by_cases z1 : x = a ∧ y = b
    · rw [z1.1, z1.2, tb_s2_y.1, tb_s2_y.2]
    · by_cases z2 : x = b ∧ y = a
      · rw [z2.1, z2.2, tb_s2_y.1, tb_s2_y.2]
      · rw [tb_s2_n (by omega) (by omega) hx hy z1 z2, tb_s2_n (by omega) (by omega) hy hx (fun q => z2 ⟨q.2, q.1⟩) (fun q => z1 ⟨q.2, q.1⟩)]
        exact h.2.1 x y hx hy
  · by_cases z1 : x = a ∧ y = b
    · intro _; omega
    · by_cases z2 : x = b ∧ y = a
      · intro _; omega
      · rw [tb_s2_n (by omega) (by omega) hx hy z1 z2]
        exact h.2.2 x y hx hy
theorem tb_co_s2 {n : Nat} {pr co : Nat → Int32} {a b : Nat} {v : Int32} (hn : n ≤ 7) (ha : a < n) (hb : b < n) (h : ∀ a b, a < n → b < n → a ≠ b → co (7 * a + b) = pr (7 * a + b)) : ∀ x y, x < n → y < n → x ≠ y → tb_s2 co a b v (7 * x + y) = tb_s2 pr a b v (7 * x + y) := by
  intro x y hx hy hxy
  by_cases z1 : x = a ∧ y = b
  · rw [z1.1, z1.2, tb_s2_y.1, tb_s2_y.1]
  · by_cases z2 : x = b ∧ y = a
    · rw [z2.1, z2.2, tb_s2_y.2, tb_s2_y.2]
    · rw [tb_s2_n (by omega) (by omega) (by omega) (by omega) z1 z2, tb_s2_n (by omega) (by omega) (by omega) (by omega) z1 z2]
      exact h x y hx hy hxy
def tb_Rel (n : Nat) (pr mk co : Nat → Int32) : Prop := 2 ≤ n ∧ n ≤ 7 ∧ tb_PS pr ∧ tb_Mok n mk ∧ ∀ a b, a < n → b < n → a ≠ b → co (7 * a + b) = pr (7 * a + b)
theorem tb_m41 {k : Nat} (hk : k < 2 ^ 31) : nI k - nI k / 41 * 41 = nI (k % 41) := pk_rem (d := 41) hk (by omega) (by omega)
def tb_lv (sd st a b : Nat) : Nat := if (sd + a * st) % 41 ≤ (sd + b * st) % 41 then (sd + b * st) % 41 - (sd + a * st) % 41 else (sd + a * st) % 41 - (sd + b * st) % 41
theorem tb_lv_le (sd st a b : Nat) : tb_lv sd st a b ≤ 40 := by
  have h1 := Nat.mod_lt (sd + a * st) (show 41 > 0 by decide)
  have h2 := Nat.mod_lt (sd + b * st) (show 41 > 0 by decide)
  unfold tb_lv
  split <;> omega
theorem tb_lv_sym (sd st a b : Nat) : tb_lv sd st a b = tb_lv sd st b a := by
  unfold tb_lv
  split <;> split <;> omega
def tb_sv (sd bd a b : Nat) : Nat := (sd + 13 * a + 17 * b + a * b * bd) % 41
theorem tb_sv_le (sd bd a b : Nat) : tb_sv sd bd a b ≤ 40 := by
  have h1 := Nat.mod_lt (sd + 13 * a + 17 * b + a * b * bd) (show 41 > 0 by decide)
  unfold tb_sv
  omega
theorem tb_lin {sd st a : Nat} (ha : a < 7) (hst : st ≤ 40) (hsd : sd ≤ 40) : sd + a * st ≤ 320 := by
  have : a * st ≤ 7 * 40 := Nat.mul_le_mul (by omega) hst
  omega
theorem tb_linT {sd st a : Nat} : nI sd + nI a * nI st = nI (sd + a * st) := by rw [pk_mul, nI_add]
theorem tb_sowT {sd bd a b : Nat} : ((nI sd + 13 * nI a) + 17 * nI b) + (nI a * nI b) * nI bd = nI (sd + 13 * a + 17 * b + a * b * bd) := by
  rw [show (13 : Int32) = nI 13 from rfl, show (17 : Int32) = nI 17 from rfl, pk_mul, pk_mul, pk_mul, pk_mul, nI_add, nI_add, nI_add]
theorem tb_sow_bd {sd bd a b : Nat} (ha : a < 7) (hb : b < 7) (hbd : bd ≤ 40) (hsd : sd ≤ 40) : sd + 13 * a + 17 * b + a * b * bd < 2 ^ 31 := by
  have h1 : a * b ≤ 7 * 7 := Nat.mul_le_mul (by omega) (by omega)
  have h2 : a * b * bd ≤ 7 * 7 * 40 := Nat.mul_le_mul h1 hbd
  omega
def tb_Dn (n : Nat) (f : Nat → Nat → Nat) (pr : Nat → Int32) (a b : Nat) : Prop := ∀ x y, x < y → y < n → (x < a ∨ (x = a ∧ y < b)) → pr (7 * x + y) = nI (f x y) ∧ pr (7 * y + x) = nI (f x y)
theorem tb_Dn_s {n : Nat} {f : Nat → Nat → Nat} {pr : Nat → Int32} {a b : Nat} (hn : n ≤ 7) (hab : a < b) (hb : b < n) (h : tb_Dn n f pr a b) : tb_Dn n f (tb_s2 pr a b (nI (f a b))) a (b + 1) := by
  intro x y hxy hy hq
  by_cases z : x = a ∧ y = b
  · rw [z.1, z.2]; exact tb_s2_y
  · rw [tb_s2_n (by omega) (by omega) (by omega) (by omega) z (by omega), tb_s2_n (by omega) (by omega) (by omega) (by omega) (by omega) (by omega)]
    exact h x y hxy hy (by omega)
section
variable {pr mk cs ls wy aa lf sp tn nr od : Nat → Int32} {rq : Int32} {n : Nat}
theorem tb_xSP {post : SX → Prop} {a b : Nat} {v : Int32} (ha : a < 7) (hb : b < 7) (h : post ((nI n), rq, (tb_s2 pr a b v), mk, cs, ls, wy, aa, lf, sp, tn, nr, od)) : wpX_setPrice post ((nI n), rq, pr, mk, cs, ls, wy, aa, lf, sp, tn, nr, od) (nI a) (nI b) v :=
  ⟨pk_in (7 * a + b) 49 (by omega) (tb_ix a b), nm_r (e' := upd pr (7 * a + b) v) (by rw [tb_ix, nI_clamp (by omega)]) ⟨pk_in (7 * b + a) 49 (by omega) (tb_ix b a), nm_r (e' := tb_s2 pr a b v) (by rw [tb_ix, nI_clamp (by omega)]; rfl) h⟩⟩
theorem tb_xSM {post : SX → Prop} {a b : Nat} {v : Int32} (ha : a < 7) (hb : b < 7) (h : post ((nI n), rq, pr, (tb_s2 mk a b v), cs, ls, wy, aa, lf, sp, tn, nr, od)) : wpX_setMark post ((nI n), rq, pr, mk, cs, ls, wy, aa, lf, sp, tn, nr, od) (nI a) (nI b) v :=
  ⟨pk_in (7 * a + b) 49 (by omega) (tb_ix a b), nm_r (e' := upd mk (7 * a + b) v) (by rw [tb_ix, nI_clamp (by omega)]) ⟨pk_in (7 * b + a) 49 (by omega) (tb_ix b a), nm_r (e' := tb_s2 mk a b v) (by rw [tb_ix, nI_clamp (by omega)]; rfl) h⟩⟩
theorem tb_xLi40 {post : Int32 → SX → Prop} {J27 : Int32 → Int32 → Int32 → (Nat → Int32) → (Nat → Int32) → (Nat → Int32) → (Nat → Int32) → (Nat → Int32) → (Nat → Int32) → (Nat → Int32) → (Nat → Int32) → (Nat → Int32) → (Nat → Int32) → (Nat → Int32) → Prop} {sd st a : Nat} (hn : n ≤ 7) (hsd : sd ≤ 40) (hst : st ≤ 40) (ha : a < n)
    (h : ∀ pr' : Nat → Int32, tb_PS pr' → tb_Dn n (tb_lv sd st) pr' a n → J27 (nI (a + 1)) (nI n) rq pr' mk cs ls wy aa lf sp tn nr od) :
    ∀ d b, b + d = n → a < b → ∀ pr : Nat → Int32, tb_PS pr → tb_Dn n (tb_lv sd st) pr a b → wX_line_40 post J27 (nI sd) (nI st) (nI a) (d + 1) (nI b) (nI n) rq pr mk cs ls wy aa lf sp tn nr od := by
  intro d
  induction d with
  | zero =>
    intro b hb hab pr g1 g2
    have q : b = n := by omega
    subst q
    exact br_t (nI_le (Nat.le_refl _) (by omega)) (nm_r (nI_1 a) (h pr g1 g2))
  | succ d ih =>
    intro b hb hab pr g1 g2
    have z41 : ¬ (41 : Int32) = 0 := by decide
    have l1 := tb_lin (sd := sd) (st := st) (a := a) (by omega) hst hsd
    have l2 := tb_lin (sd := sd) (st := st) (a := b) (by omega) hst hsd
    have m1 : (nI sd + nI a * nI st) - (nI sd + nI a * nI st) / 41 * 41 = nI ((sd + a * st) % 41) := by rw [tb_linT, tb_m41 (by omega)]
    have m2 : (nI sd + nI b * nI st) - (nI sd + nI b * nI st) / 41 * 41 = nI ((sd + b * st) % 41) := by rw [tb_linT, tb_m41 (by omega)]
    have vb := tb_lv_le sd st a b
    have fin : wpX_setPrice (fun u => match u with | (f0, f1, p0, p1, p2, p3, p4, p5, p6, p7, p8, p9, p10) => ∀ x4_27 : Int32, x4_27 = nI b + 1 → wX_line_40 post J27 (nI sd) (nI st) (nI a) (d + 1) x4_27 f0 f1 p0 p1 p2 p3 p4 p5 p6 p7 p8 p9 p10) ((nI n), rq, pr, mk, cs, ls, wy, aa, lf, sp, tn, nr, od) (nI a) (nI b) (nI (tb_lv sd st a b)) := by
      refine tb_xSP (by omega) (by omega) (nm_r (nI_1 b) (ih (b + 1) (by omega) (by omega) _ (tb_PS_s2 g1 (by omega) (by omega) (by omega) ?_ ?_) (tb_Dn_s hn hab (by omega) g2)))
      · rw [nI_toInt (by omega)]; omega
      · rw [nI_toInt (by omega)]; omega
    have hA := Nat.mod_lt (sd + a * st) (show 41 > 0 by decide)
    have hB := Nat.mod_lt (sd + b * st) (show 41 > 0 by decide)
    refine br_f (nI_ge (by omega) (by omega)) ⟨z41, z41, nm_r (e' := nI ((sd + b * st) % 41) - nI ((sd + a * st) % 41)) (by rw [m1, m2]) ?_⟩
    by_cases z : (sd + a * st) % 41 ≤ (sd + b * st) % 41
    · have e : nI ((sd + b * st) % 41) - nI ((sd + a * st) % 41) = nI (tb_lv sd st a b) := by
        rw [pk_sub z]; unfold tb_lv; rw [if_pos z]
      rw [e]
      exact br_t (nI_pos' (by omega)) fin
    · have e : -(nI ((sd + b * st) % 41) - nI ((sd + a * st) % 41)) = nI (tb_lv sd st a b) := by
        rw [Int32.neg_sub, pk_sub (by omega)]; unfold tb_lv; rw [if_neg z]
      refine br_f (Int32.not_le.mpr (pk_sneg (by omega) (by omega))) ?_
      rw [e]
      exact fin
theorem tb_Dn_0 {f : Nat → Nat → Nat} {a : Nat} (h : tb_Dn n f pr a n) : tb_Dn n f pr (a + 1) (a + 2) := by
  intro x y h1 h2 h3
  exact h x y h1 h2 (by omega)
theorem tb_Dn_1 {f : Nat → Nat → Nat} {a : Nat} (h : tb_Dn n f pr a (a + 1)) : tb_Dn n f pr a (a + 1) := h
theorem tb_xLi27 {post : Int32 → SX → Prop} {sd st : Nat} (hn : n ≤ 7) (hsd : sd ≤ 40) (hst : st ≤ 40)
    (h : ∀ pr' : Nat → Int32, tb_PS pr' → tb_Dn n (tb_lv sd st) pr' n (n + 1) → post 0 ((nI n), rq, pr', mk, cs, ls, wy, aa, lf, sp, tn, nr, od)) :
    ∀ d a, a + d = n → ∀ pr : Nat → Int32, tb_PS pr → tb_Dn n (tb_lv sd st) pr a (a + 1) → wX_line_27 post (nI sd) (nI st) (d + 1) (nI a) (nI n) rq pr mk cs ls wy aa lf sp tn nr od := by
  intro d
  induction d with
  | zero =>
    intro a ha pr g1 g2
    have q : a = n := by omega
    subst q
    exact br_t (nI_le (Nat.le_refl _) (by omega)) (h pr g1 g2)
  | succ d ih =>
    intro a ha pr g1 g2
    refine br_f (nI_ge (by omega) (by omega)) (nm_r (nI_1 a) ⟨n - (a + 1) + 1, tb_xLi40 hn hsd hst (by omega) (fun pr' q1 q2 => ih (a + 1) (by omega) pr' q1 (tb_Dn_0 q2)) (n - (a + 1)) (a + 1) (by omega) (by omega) pr g1 g2⟩)
theorem tb_xSo40 {post : Int32 → SX → Prop} {J27 : Int32 → Int32 → Int32 → (Nat → Int32) → (Nat → Int32) → (Nat → Int32) → (Nat → Int32) → (Nat → Int32) → (Nat → Int32) → (Nat → Int32) → (Nat → Int32) → (Nat → Int32) → (Nat → Int32) → (Nat → Int32) → Prop} {sd st a : Nat} (hn : n ≤ 7) (hsd : sd ≤ 40) (hst : st ≤ 40) (ha : a < n)
    (h : ∀ pr' : Nat → Int32, tb_PS pr' → tb_Dn n (tb_sv sd st) pr' a n → J27 (nI (a + 1)) (nI n) rq pr' mk cs ls wy aa lf sp tn nr od) :
    ∀ d b, b + d = n → a < b → ∀ pr : Nat → Int32, tb_PS pr → tb_Dn n (tb_sv sd st) pr a b → wX_sow_40 post J27 (nI sd) (nI st) (nI a) (d + 1) (nI b) (nI n) rq pr mk cs ls wy aa lf sp tn nr od := by
  intro d
  induction d with
  | zero =>
    intro b hb hab pr g1 g2
    have q : b = n := by omega
    subst q
    exact br_t (nI_le (Nat.le_refl _) (by omega)) (nm_r (nI_1 a) (h pr g1 g2))
  | succ d ih =>
    intro b hb hab pr g1 g2
    have z41 : ¬ (41 : Int32) = 0 := by decide
    have l1 := tb_sow_bd (sd := sd) (bd := st) (a := a) (b := b) (by omega) (by omega) hst hsd
    have m1 : (((nI sd + 13 * nI a) + 17 * nI b) + (nI a * nI b) * nI st) - (((nI sd + 13 * nI a) + 17 * nI b) + (nI a * nI b) * nI st) / 41 * 41 = nI (tb_sv sd st a b) := by rw [tb_sowT, tb_m41 l1]; rfl
    have vb := tb_sv_le sd st a b
    refine br_f (nI_ge (by omega) (by omega)) ⟨z41, ?_⟩
    rw [m1]
    refine tb_xSP (by omega) (by omega) (nm_r (nI_1 b) (ih (b + 1) (by omega) (by omega) _ (tb_PS_s2 g1 (by omega) (by omega) (by omega) ?_ ?_) (tb_Dn_s hn hab (by omega) g2)))
    · rw [nI_toInt (by omega)]; omega
    · rw [nI_toInt (by omega)]; omega
theorem tb_xSo27 {post : Int32 → SX → Prop} {sd st : Nat} (hn : n ≤ 7) (hsd : sd ≤ 40) (hst : st ≤ 40)
    (h : ∀ pr' : Nat → Int32, tb_PS pr' → tb_Dn n (tb_sv sd st) pr' n (n + 1) → post 0 ((nI n), rq, pr', mk, cs, ls, wy, aa, lf, sp, tn, nr, od)) :
    ∀ d a, a + d = n → ∀ pr : Nat → Int32, tb_PS pr → tb_Dn n (tb_sv sd st) pr a (a + 1) → wX_sow_27 post (nI sd) (nI st) (d + 1) (nI a) (nI n) rq pr mk cs ls wy aa lf sp tn nr od := by
  intro d
  induction d with
  | zero =>
    intro a ha pr g1 g2
    have q : a = n := by omega
    subst q
    exact br_t (nI_le (Nat.le_refl _) (by omega)) (h pr g1 g2)
  | succ d ih =>
    intro a ha pr g1 g2
    refine br_f (nI_ge (by omega) (by omega)) (nm_r (nI_1 a) ⟨n - (a + 1) + 1, tb_xSo40 hn hsd hst (by omega) (fun pr' q1 q2 => ih (a + 1) (by omega) pr' q1 (tb_Dn_0 q2)) (n - (a + 1)) (a + 1) (by omega) (by omega) pr g1 g2⟩)
theorem tb_xI125 {post : SX → Prop} (h : ∀ pr' : Nat → Int32, (∀ k, k < 49 → pr' k = if k / 7 = k % 7 then 0 else 10) → post ((nI n), rq, pr', mk, cs, ls, wy, aa, lf, sp, tn, nr, od)) :
    ∀ d k, k + d = 49 → ∀ pr : Nat → Int32, (∀ j, j < k → pr j = if j / 7 = j % 7 then 0 else 10) → wX_init_125 post (nI n) rq (d + 1) (nI k) pr mk cs ls wy aa lf sp tn nr od := by
  intro d
  induction d with
  | zero =>
    intro k hk pr g
    have q : k = 49 := by omega
    subst q
    exact br_t (by decide) (h pr g)
  | succ d ih =>
    intro k hk pr g
    have z7 : ¬ (7 : Int32) = 0 := by decide
    have hin : vp_in (nI k) 49 := pk_in k 49 (by omega)
    have hcl : (nI k).toNatClampNeg = k := nI_clamp (by omega)
    refine br_f (nI_ge (a := k) (b := 49) (by omega) (by decide)) ⟨z7, z7, pk_eq (k / 7) (k % 7) (fun q => ⟨hin, nm_r (e' := upd pr k 0) (by rw [hcl]) (nm_r (nI_1 k) (ih (k + 1) (by omega) _ (fun j hj => ?_)))⟩) (fun q => ⟨hin, nm_r (e' := upd pr k 10) (by rw [hcl]) (nm_r (nI_1 k) (ih (k + 1) (by omega) _ (fun j hj => ?_)))⟩) (tb_dv (by omega)) (tb_md (by omega))⟩
    · by_cases z : j = k
      · rw [z, pk_us, if_pos q]
      · rw [pk_un z]; exact g j (by omega)
    · by_cases z : j = k
      · rw [z, pk_us, if_neg q]
      · rw [pk_un z]; exact g j (by omega)
end
end
section
section
variable {co mk le ro us jo : Nat → Int32} {gl gc gt gf gp : Int32} {n : Nat}
theorem tb_yCh {post : SY → Prop} {a b : Nat} {v : Int32} (ha : a < 7) (hb : b < 7) (h : post ((nI n), gl, gc, gt, gf, gp, (tb_s2 co a b v), mk, le, ro, us, jo)) : wpY_charge post ((nI n), gl, gc, gt, gf, gp, co, mk, le, ro, us, jo) (nI a) (nI b) v :=
  ⟨pk_in (7 * a + b) 49 (by omega) (tb_iy a b), nm_r (e' := upd co (7 * a + b) v) (by rw [tb_iy, nI_clamp (by omega)]) ⟨pk_in (7 * b + a) 49 (by omega) (tb_iy b a), nm_r (e' := tb_s2 co a b v) (by rw [tb_iy, nI_clamp (by omega)]; rfl) h⟩⟩
theorem tb_yLi {post : Int32 → SY → Prop} {sd st : Nat} (hsd : sd ≤ 40) (hst : st ≤ 40) (h : ∀ co' : Nat → Int32, (∀ k, k < 49 → co' k = nI (tb_lv sd st (k / 7) (k % 7))) → post 0 ((nI n), gl, gc, gt, gf, gp, co', mk, le, ro, us, jo)) :
    ∀ d k, k + d = 49 → ∀ co : Nat → Int32, (∀ j, j < k → co j = nI (tb_lv sd st (j / 7) (j % 7))) → wY_line_27 post (nI sd) (nI st) (nI n) gl gc gt gf gp (d + 1) (nI k) co mk le ro us jo := by
  intro d
  induction d with
  | zero =>
    intro k hk co g
    have q : k = 49 := by omega
    subst q
    exact br_t (by decide) (h co g)
  | succ d ih =>
    intro k hk co g
    have z7 : ¬ (7 : Int32) = 0 := by decide
    have z41 : ¬ (41 : Int32) = 0 := by decide
    have hcl : (nI k).toNatClampNeg = k := nI_clamp (by omega)
    have hin : vp_in (nI k) 49 := pk_in k 49 (by omega)
    have l1 := tb_lin (sd := sd) (st := st) (a := k / 7) (by omega) hst hsd
    have l2 := tb_lin (sd := sd) (st := st) (a := k % 7) (by omega) hst hsd
    have hA := Nat.mod_lt (sd + k / 7 * st) (show 41 > 0 by decide)
    have hB := Nat.mod_lt (sd + k % 7 * st) (show 41 > 0 by decide)
    have IH := ih (k + 1) (by omega)
    have put : ∀ v, v = nI (tb_lv sd st (k / 7) (k % 7)) → wY_line_27 post (nI sd) (nI st) (nI n) gl gc gt gf gp (d + 1) (nI (k + 1)) (upd co k v) mk le ro us jo := by
      intro v hv
      refine IH _ (fun j hj => ?_)
      by_cases z : j = k
      · rw [z, pk_us]; exact hv
      · rw [pk_un z]; exact g j (by omega)
    refine br_f (nI_ge (a := k) (b := 49) (by omega) (by decide)) ⟨z7, nm_r (tb_dv (by omega)) ⟨z7, nm_r (tb_md (by omega)) ⟨z41, nm_r (e' := nI ((sd + k / 7 * st) % 41)) (by rw [tb_linT, tb_m41 (by omega)]) ⟨z41, nm_r (e' := nI ((sd + k % 7 * st) % 41)) (by rw [tb_linT, tb_m41 (by omega)]) (pk_le _ _ (fun z => ⟨hin, nm_r (e' := upd co k (nI ((sd + k % 7 * st) % 41 - (sd + k / 7 * st) % 41))) (by rw [hcl, pk_sub z]) (nm_r (nI_1 k) (put _ ?_))⟩) (fun z => ⟨hin, nm_r (e' := upd co k (nI ((sd + k / 7 * st) % 41 - (sd + k % 7 * st) % 41))) (by rw [hcl, pk_sub (by omega)]) (nm_r (nI_1 k) (put _ ?_))⟩) rfl rfl (by omega) (by omega))⟩⟩⟩⟩
    · unfold tb_lv; rw [if_pos z]
    · unfold tb_lv; rw [if_neg (by omega)]
theorem tb_ySo {post : Int32 → SY → Prop} {sd st : Nat} (hsd : sd ≤ 40) (hst : st ≤ 40) (h : ∀ co' : Nat → Int32, (∀ x y, x < y → y < 7 → co' (7 * x + y) = nI (tb_sv sd st x y) ∧ co' (7 * y + x) = nI (tb_sv sd st x y)) → post 0 ((nI n), gl, gc, gt, gf, gp, co', mk, le, ro, us, jo)) :
    ∀ d k, k + d = 49 → ∀ co : Nat → Int32, (∀ x y, x < y → y < 7 → 7 * x + y < k → co (7 * x + y) = nI (tb_sv sd st x y) ∧ co (7 * y + x) = nI (tb_sv sd st x y)) → wY_sow_27 post (nI sd) (nI st) (d + 1) (nI k) (nI n) gl gc gt gf gp co mk le ro us jo := by
  intro d
  induction d with
  | zero =>
    intro k hk co g
    have q : k = 49 := by omega
    subst q
    exact br_t (by decide) (h co (fun x y h1 h2 => g x y h1 h2 (by omega)))
  | succ d ih =>
    intro k hk co g
    have z7 : ¬ (7 : Int32) = 0 := by decide
    have z41 : ¬ (41 : Int32) = 0 := by decide
    have l1 := tb_sow_bd (sd := sd) (bd := st) (a := k / 7) (b := k % 7) (by omega) (by omega) hst hsd
    have IH := ih (k + 1) (by omega)
    refine br_f (nI_ge (a := k) (b := 49) (by omega) (by decide)) ⟨z7, nm_r (tb_dv (by omega)) ⟨z7, nm_r (tb_md (by omega)) ⟨z41, nm_r (e' := nI (tb_sv sd st (k / 7) (k % 7))) (by rw [tb_sowT, tb_m41 l1]; rfl) (pk_le (k % 7) (k / 7) (fun z => nm_r (nI_1 k) (IH co (fun x y h1 h2 h3 => g x y h1 h2 ?_))) (fun z => tb_yCh (by omega) (by omega) (nm_r (nI_1 k) (IH _ (fun x y h1 h2 h3 => ?_)))))⟩⟩⟩
    · by_cases q : 7 * x + y = k
      · omega
      · omega
    · by_cases q : x = k / 7 ∧ y = k % 7
      · rw [q.1, q.2]; exact tb_s2_y
      · rw [tb_s2_n (by omega) (by omega) (by omega) (by omega) q (by omega), tb_s2_n (by omega) (by omega) (by omega) (by omega) (by omega) (by omega)]
        exact g x y h1 h2 (by omega)
theorem tb_yI80 {post : SY → Prop} (h : ∀ co' : Nat → Int32, (∀ k, k < 49 → co' k = 10) → post ((nI n), gl, gc, gt, gf, gp, co', mk, le, ro, us, jo)) :
    ∀ d k, k + d = 49 → ∀ co : Nat → Int32, (∀ j, j < k → co j = 10) → wY_init_80 post (nI n) gl gc gt gf gp (d + 1) (nI k) co mk le ro us jo := by
  intro d
  induction d with
  | zero =>
    intro k hk co g
    have q : k = 49 := by omega
    subst q
    exact br_t (by decide) (h co g)
  | succ d ih =>
    intro k hk co g
    refine br_f (nI_ge (a := k) (b := 49) (by omega) (by decide)) ⟨pk_in k 49 (by omega), nm_r (e' := upd co k 10) (by rw [nI_clamp (by omega)]) (nm_r (nI_1 k) (ih (k + 1) (by omega) _ (fun j hj => ?_)))⟩
    by_cases z : j = k
    · rw [z, pk_us]
    · rw [pk_un z]; exact g j (by omega)
theorem tb_yMk {post : Int32 → SY → Prop} {a b : Nat} {v : Int32} (hn : n ≤ 7) (ha : a < n) (hb : b < n) (hab : a ≠ b) (v0 : ¬ v < 0) (v2 : v ≤ 2) (h : post (mk (7 * a + b)) ((nI n), gl, gc, gt, gf, gp, co, (tb_s2 mk a b v), le, ro, us, jo)) : wpY_mark post ((nI n), gl, gc, gt, gf, gp, co, mk, le, ro, us, jo) (nI a) (nI b) v := by
  unfold wpY_mark
  dsimp only
  refine tb_yB0 hn ha ?_
  refine br_t rfl ?_
  refine tb_yB0 hn hb ?_
  refine br_t rfl (pk_eq a b (fun q => absurd q hab) (fun _ => ?_))
  refine br_f v0 (br_t v2 ⟨pk_in (7 * a + b) 49 (by omega) (tb_iy a b), nm_r (e' := mk (7 * a + b)) (by rw [tb_iy, nI_clamp (by omega)]) ⟨pk_in (7 * a + b) 49 (by omega) (tb_iy a b), nm_r (e' := upd mk (7 * a + b) v) (by rw [tb_iy, nI_clamp (by omega)]) ⟨pk_in (7 * b + a) 49 (by omega) (tb_iy b a), nm_r (e' := tb_s2 mk a b v) (by rw [tb_iy, nI_clamp (by omega)]; rfl) h⟩⟩⟩)
end
end
section
def i_Rel (_ : Nat) (u : SX) (v : SY) : Prop := ∃ n, u.1 = nI n ∧ v.1 = nI n ∧ v.2.2.2.2.2.2.2.1 = u.2.2.2.1 ∧ tb_Rel n u.2.2.1 u.2.2.2.1 v.2.2.2.2.2.2.1
theorem i_up {k : Nat} {u : SX} {v : SY} (h : i_Rel k u v) : i_Rel (k + 4) u v := h
theorem tb_el {P : SX → SY → Prop} {k : Nat} {u : SX} {v : SY} (I : i_Rel k u v) (h : ∀ (n : Nat) (rq : Int32) (pr mk cs ls wy aa lf sp tn nr od : Nat → Int32) (gl gc gt gf gp : Int32) (co le ro us jo : Nat → Int32), tb_Rel n pr mk co → P ((nI n), rq, pr, mk, cs, ls, wy, aa, lf, sp, tn, nr, od) ((nI n), gl, gc, gt, gf, gp, co, mk, le, ro, us, jo)) : P u v := by
  obtain ⟨fn, rq, pr, mk, cs, ls, wy, aa, lf, sp, tn, nr, od⟩ := u
  obtain ⟨gn, gl, gc, gt, gf, gp, co, hw, le, ro, us, jo⟩ := v
  obtain ⟨n, e1, e2, e3, R⟩ := I
  dsimp only at e1 e2 e3 R
  subst e1
  subst e2
  subst e3
  exact h n rq pr _ cs ls wy aa lf sp tn nr od gl gc gt gf gp co le ro us jo R
theorem tb_mkR {k n : Nat} {rq : Int32} {pr mk cs ls wy aa lf sp tn nr od : Nat → Int32} {gl gc gt gf gp : Int32} {co le ro us jo : Nat → Int32} (R : tb_Rel n pr mk co) : i_Rel k ((nI n), rq, pr, mk, cs, ls, wy, aa, lf, sp, tn, nr, od) ((nI n), gl, gc, gt, gf, gp, co, mk, le, ro, us, jo) := ⟨n, rfl, rfl, rfl, R⟩
theorem tb_R0 (n : Nat) (h2 : 2 ≤ n) (hn : n ≤ 7) {pr co : Nat → Int32} (hp : ∀ k, k < 49 → pr k = if k / 7 = k % 7 then 0 else 10) (hc : ∀ k, k < 49 → co k = 10) : tb_Rel n pr (fun _ => 0) co := by
  refine ⟨h2, hn, ⟨fun k hk => ?_, fun a b ha hb => ?_, fun a ha => ?_⟩, ⟨fun _ _ => Or.inl rfl, fun _ _ _ _ => rfl, fun a b ha hb q => absurd rfl q⟩, fun a b ha hb hab => ?_⟩
  · rw [hp k hk]
    split <;> decide
  · rw [hp _ (by omega), hp _ (by omega), show (7 * a + b) / 7 = a from by omega, show (7 * a + b) % 7 = b from by omega, show (7 * b + a) / 7 = b from by omega, show (7 * b + a) % 7 = a from by omega]
    by_cases z : a = b
    · rw [if_pos z, if_pos z.symm]
    · rw [if_neg z, if_neg (Ne.symm z)]
  · rw [hp _ (by omega), if_pos (by omega)]
  · rw [hc _ (by omega), hp _ (by omega), if_neg (by omega)]
theorem tb_ini (n : Nat) (h2 : 2 ≤ n) (hn : n ≤ 7) {Y : (SY → Prop) → Prop} (hY : ∀ post : SY → Prop, (∀ co : Nat → Int32, (∀ k, k < 49 → co k = 10) → post (nI n, 0, 0, 0, 0, 0, co, fun _ => 0, fun _ => 0, fun _ => 0, fun _ => 0, fun _ => 0)) → Y post) : ∃ m, wX_init_125 (fun u => Y (fun v => i_Rel 1 u v)) (nI n) 0 m 0 (fun _ => 0) (fun _ => 0) (fun _ => 0) (fun _ => 0) (fun _ => 0) (fun _ => 0) (fun _ => 0) (fun _ => 0) (fun _ => 0) (fun _ => 0) (fun _ => 0) :=
  ⟨50, tb_xI125 (fun pr' g => hY _ (fun co g2 => tb_mkR (tb_R0 n h2 hn g g2))) 49 0 rfl _ (fun j hj => absurd hj (by omega))⟩
theorem tb_iniY (n : Nat) (post : SY → Prop) (h : ∀ co : Nat → Int32, (∀ k, k < 49 → co k = 10) → post (nI n, 0, 0, 0, 0, 0, co, fun _ => 0, fun _ => 0, fun _ => 0, fun _ => 0, fun _ => 0)) : ∃ m, wY_init_80 post (nI n) 0 0 0 0 0 m 0 (fun _ => 0) (fun _ => 0) (fun _ => 0) (fun _ => 0) (fun _ => 0) (fun _ => 0) :=
  ⟨50, tb_yI80 h 49 0 rfl _ (fun j hj => absurd hj (by omega))⟩
theorem i_vc0 (k0 : Int32) : wpX_init (fun u => wpY_init (fun v => i_Rel 1 u v) k0) k0 := by
  by_cases c2 : 2 ≤ k0
  · by_cases c7 : k0 ≤ 7
    · obtain ⟨j, hj, e⟩ := nI_of2 (n := 7) (by decide) (fun z => absurd (Int32.lt_of_lt_of_le z (Int32.le_trans (show (0 : Int32) ≤ 2 by decide) c2)) Int32.lt_irrefl) c7
      subst e
      have j2 : 2 ≤ j := (nI_leI (a := 2) (by omega) (by omega)).mp c2
      exact br_t c2 (br_t c7 (tb_ini j j2 hj (Y := fun post => wpY_init post (nI j)) (fun post h => br_t c2 (br_t c7 (tb_iniY j post h)))))
    · exact br_t c2 (br_f c7 (tb_ini 7 (by omega) (by omega) (Y := fun post => wpY_init post k0) (fun post h => br_t c2 (br_f c7 (tb_iniY 7 post h)))))
  · exact br_f c2 (br_t (by decide) (tb_ini 2 (by omega) (by omega) (Y := fun post => wpY_init post k0) (fun post h => br_f c2 (tb_iniY 2 post h))))
theorem tb_fin_B {n : Nat} {pr mk : Nat → Int32} (h2 : 2 ≤ n) (h7 : n ≤ 7) (hp : tb_Pok pr) (hm : tb_Mok n mk) {least code : Int32} {ties : Nat} (h : tb_LK (tb_A mk) (tb_q pr) (tb_P (2 ^ n - 2)) least code ties) : tb_Bst n pr mk least := by
  rcases tb_fin h2 h7 hp hm h with q | q
  · exact Or.inl ⟨q.1, q.2.2.2⟩
  · exact Or.inr ⟨q.1, q.2.1, q.2.2.1⟩
end
section
theorem i_vc_towns {k : Nat} {u : SX} {v : SY} (I : i_Rel k u v) (hk : k + 4 ≤ 2049) : wpX_towns (fun r => wpY_towns (fun r' => r' = r ∧ i_Rel (k + 4) u v) v) u := by
  refine tb_el (P := fun u v => wpX_towns (fun r => wpY_towns (fun r' => r' = r ∧ i_Rel (k + 4) u v) v) u) I ?_
  intro n rq pr mk cs ls wy aa lf sp tn nr od gl gc gt gf gp co le ro us jo R
  have R0 := R
  obtain ⟨h2, hn, hP, hm, hco⟩ := R0
  exact ⟨rfl, tb_mkR R⟩
theorem i_vc_price {k : Nat} {u : SX} {v : SY} (I : i_Rel k u v) (hk : k + 4 ≤ 2049) (v1 : Int32) (v2 : Int32) (v3 : Int32) : wpX_price (fun r u' => wpY_price (fun r' v' => r' = r ∧ i_Rel (k + 4) u' v') v v1 v2 v3) u v1 v2 v3 := by
  refine tb_el (P := fun u v => wpX_price (fun r u' => wpY_price (fun r' v' => r' = r ∧ i_Rel (k + 4) u' v') v v1 v2 v3) u v1 v2 v3) I ?_
  intro n rq pr mk cs ls wy aa lf sp tn nr od gl gc gt gf gp co le ro us jo R
  have R0 := R
  obtain ⟨h2, hn, hP, hm, hco⟩ := R0
  rcases pk_ix v1 (n := n) (by omega) with hA | hA | ⟨a, ha, e⟩
  · unfold wpX_price
    dsimp only
    refine tb_xT0 (Or.inl hA) ?_
    refine br_t rfl ?_
    unfold wpY_price
    dsimp only
    refine tb_yB1 (Or.inl hA) ?_
    exact br_f (by decide) ⟨rfl, tb_mkR R⟩
  · unfold wpX_price
    dsimp only
    refine tb_xT0 (Or.inr hA) ?_
    refine br_t rfl ?_
    unfold wpY_price
    dsimp only
    refine tb_yB1 (Or.inr hA) ?_
    exact br_f (by decide) ⟨rfl, tb_mkR R⟩
  subst e
  rcases pk_ix v2 (n := n) (by omega) with hA | hA | ⟨b, hb, e⟩
  · unfold wpX_price
    dsimp only
    refine tb_xT1 hn ha ?_
    refine br_f (by decide) ?_
    refine tb_xT0 (Or.inl hA) ?_
    refine br_t rfl ?_
    unfold wpY_price
    dsimp only
    refine tb_yB0 hn ha ?_
    refine br_t rfl ?_
    refine tb_yB1 (Or.inl hA) ?_
    exact br_f (by decide) ⟨rfl, tb_mkR R⟩
  · unfold wpX_price
    dsimp only
    refine tb_xT1 hn ha ?_
    refine br_f (by decide) ?_
    refine tb_xT0 (Or.inr hA) ?_
    refine br_t rfl ?_
    unfold wpY_price
    dsimp only
    refine tb_yB0 hn ha ?_
    refine br_t rfl ?_
    refine tb_yB1 (Or.inr hA) ?_
    exact br_f (by decide) ⟨rfl, tb_mkR R⟩
  subst e
  by_cases hab : a = b
  · subst hab
    unfold wpX_price
    dsimp only
    refine tb_xT1 hn ha ?_
    refine br_f (by decide) ?_
    refine tb_xT1 hn ha ?_
    refine br_f (by decide) ?_
    refine br_t rfl ?_
    unfold wpY_price
    dsimp only
    refine tb_yB0 hn ha ?_
    refine br_t rfl ?_
    refine tb_yB0 hn ha ?_
    refine br_t rfl ?_
    exact br_t rfl ⟨rfl, tb_mkR R⟩
  have nab : ¬ nI a = nI b := by rw [nI_eq (by omega) (by omega)]; exact hab
  unfold wpX_price
  dsimp only
  refine tb_xT1 hn ha ?_
  refine br_f (by decide) ?_
  refine tb_xT1 hn hb ?_
  refine br_f (by decide) ?_
  refine br_f nab ?_
  by_cases c0 : v3 < 0
  · refine br_t c0 ?_
    unfold wpY_price
    dsimp only
    refine tb_yB0 hn ha ?_
    refine br_t rfl ?_
    refine tb_yB0 hn hb ?_
    refine br_t rfl ?_
    exact br_f nab (br_t c0 ⟨rfl, tb_mkR R⟩)
  refine br_f c0 ?_
  by_cases c4 : v3 ≤ 40
  · refine br_t c4 ⟨pk_in (7 * a + b) 49 (by omega) (tb_ix a b), nm_r (e' := pr (7 * a + b)) (by rw [tb_ix, nI_clamp (by omega)]) ?_⟩
    refine tb_xSP (by omega) (by omega) ?_
    dsimp only
    unfold wpY_price
    dsimp only
    refine tb_yB0 hn ha ?_
    refine br_t rfl ?_
    refine tb_yB0 hn hb ?_
    refine br_t rfl ?_
    refine br_f nab (br_f c0 (br_t c4 ⟨pk_in (7 * a + b) 49 (by omega) (tb_iy a b), nm_r (e' := pr (7 * a + b)) (by rw [tb_iy, nI_clamp (by omega)]; exact hco a b ha hb hab) ?_⟩))
    refine tb_yCh (by omega) (by omega) ⟨rfl, tb_mkR ⟨h2, hn, tb_PS_s2 hP (by omega) (by omega) hab ?_ ?_, hm, tb_co_s2 hn ha hb hco⟩⟩
    · rw [Int32.lt_iff_toInt_lt, tb_Z] at c0; omega
    · rw [Int32.le_iff_toInt_le, show (40 : Int32).toInt = 40 from by decide] at c4; exact c4
  · refine br_f c4 ?_
    unfold wpY_price
    dsimp only
    refine tb_yB0 hn ha ?_
    refine br_t rfl ?_
    refine tb_yB0 hn hb ?_
    refine br_t rfl ?_
    exact br_f nab (br_f c0 (br_f c4 ⟨rfl, tb_mkR R⟩))
theorem i_vc_line {k : Nat} {u : SX} {v : SY} (I : i_Rel k u v) (hk : k + 4 ≤ 2049) (v1 : Int32) (v2 : Int32) : wpX_line (fun r u' => wpY_line (fun r' v' => r' = r ∧ i_Rel (k + 4) u' v') v v1 v2) u v1 v2 := by
  refine tb_el (P := fun u v => wpX_line (fun r u' => wpY_line (fun r' v' => r' = r ∧ i_Rel (k + 4) u' v') v v1 v2) u v1 v2) I ?_
  intro n rq pr mk cs ls wy aa lf sp tn nr od gl gc gt gf gp co le ro us jo R
  have R0 := R
  obtain ⟨h2, hn, hP, hm, hco⟩ := R0
  by_cases c1 : v1 < 0
  · exact br_t c1 (br_t c1 ⟨rfl, tb_mkR R⟩)
  by_cases c2 : v1 ≤ 40
  case neg => exact br_f c1 (br_f c2 (br_f c1 (br_f c2 ⟨rfl, tb_mkR R⟩)))
  by_cases c3 : v2 < 0
  · exact br_f c1 (br_t c2 (br_t c3 (br_f c1 (br_t c2 (br_t c3 ⟨rfl, tb_mkR R⟩)))))
  by_cases c4 : v2 ≤ 40
  case neg => exact br_f c1 (br_t c2 (br_f c3 (br_f c4 (br_f c1 (br_t c2 (br_f c3 (br_f c4 ⟨rfl, tb_mkR R⟩)))))))
  obtain ⟨sd, hsd, e⟩ := nI_of2 (n := 40) (by decide) c1 c2
  subst e
  obtain ⟨sp', hst, e⟩ := nI_of2 (n := 40) (by decide) c3 c4
  subst e
  refine br_f c1 (br_t c2 (br_f c3 (br_t c4 ⟨n + 1, tb_xLi27 hn hsd hst (fun pr' g1 g2 => ?_) n 0 (by omega) pr hP (fun x y q1 q2 q3 => by omega)⟩)))
  refine br_f c1 (br_t c2 (br_f c3 (br_t c4 ⟨50, tb_yLi hsd hst (fun co' g3 => ⟨rfl, tb_mkR ⟨h2, hn, g1, hm, fun a b ha hb hab => ?_⟩⟩) 49 0 rfl co (fun j hj => absurd hj (by omega))⟩)))
  have c := g3 (7 * a + b) (by omega)
  rw [show (7 * a + b) / 7 = a from by omega, show (7 * a + b) % 7 = b from by omega] at c
  rw [c]
  by_cases z : a < b
  · exact ((g2 a b z hb (by omega)).1).symm
  · rw [tb_lv_sym]
    exact ((g2 b a (by omega) ha (by omega)).2).symm
theorem i_vc_sow {k : Nat} {u : SX} {v : SY} (I : i_Rel k u v) (hk : k + 4 ≤ 2049) (v1 : Int32) (v2 : Int32) : wpX_sow (fun r u' => wpY_sow (fun r' v' => r' = r ∧ i_Rel (k + 4) u' v') v v1 v2) u v1 v2 := by
  refine tb_el (P := fun u v => wpX_sow (fun r u' => wpY_sow (fun r' v' => r' = r ∧ i_Rel (k + 4) u' v') v v1 v2) u v1 v2) I ?_
  intro n rq pr mk cs ls wy aa lf sp tn nr od gl gc gt gf gp co le ro us jo R
  have R0 := R
  obtain ⟨h2, hn, hP, hm, hco⟩ := R0
  by_cases c1 : v1 < 0
  · exact br_t c1 (br_t c1 ⟨rfl, tb_mkR R⟩)
  by_cases c2 : v1 ≤ 40
  case neg => exact br_f c1 (br_f c2 (br_f c1 (br_f c2 ⟨rfl, tb_mkR R⟩)))
  by_cases c3 : v2 < 0
  · exact br_f c1 (br_t c2 (br_t c3 (br_f c1 (br_t c2 (br_t c3 ⟨rfl, tb_mkR R⟩)))))
  by_cases c4 : v2 ≤ 40
  case neg => exact br_f c1 (br_t c2 (br_f c3 (br_f c4 (br_f c1 (br_t c2 (br_f c3 (br_f c4 ⟨rfl, tb_mkR R⟩)))))))
  obtain ⟨sd, hsd, e⟩ := nI_of2 (n := 40) (by decide) c1 c2
  subst e
  obtain ⟨sp', hst, e⟩ := nI_of2 (n := 40) (by decide) c3 c4
  subst e
  refine br_f c1 (br_t c2 (br_f c3 (br_t c4 ⟨n + 1, tb_xSo27 hn hsd hst (fun pr' g1 g2 => ?_) n 0 (by omega) pr hP (fun x y q1 q2 q3 => by omega)⟩)))
  refine br_f c1 (br_t c2 (br_f c3 (br_t c4 ⟨50, tb_ySo hsd hst (fun co' g3 => ⟨rfl, tb_mkR ⟨h2, hn, g1, hm, fun a b ha hb hab => ?_⟩⟩) 49 0 rfl co (fun x y q1 q2 q3 => absurd q3 (by omega))⟩)))
  by_cases z : a < b
  · rw [(g3 a b z (by omega)).1]
    exact ((g2 a b z hb (by omega)).1).symm
  · rw [(g3 b a (by omega) (by omega)).2]
    exact ((g2 b a (by omega) ha (by omega)).2).symm
theorem i_vc_mark {k : Nat} {u : SX} {v : SY} (I : i_Rel k u v) (hk : k + 4 ≤ 2049) (v1 : Int32) (v2 : Int32) (v3 : Int32) : wpX_mark (fun r u' => wpY_mark (fun r' v' => r' = r ∧ i_Rel (k + 4) u' v') v v1 v2 v3) u v1 v2 v3 := by
  refine tb_el (P := fun u v => wpX_mark (fun r u' => wpY_mark (fun r' v' => r' = r ∧ i_Rel (k + 4) u' v') v v1 v2 v3) u v1 v2 v3) I ?_
  intro n rq pr mk cs ls wy aa lf sp tn nr od gl gc gt gf gp co le ro us jo R
  have R0 := R
  obtain ⟨h2, hn, hP, hm, hco⟩ := R0
  rcases pk_ix v1 (n := n) (by omega) with hA | hA | ⟨a, ha, e⟩
  · unfold wpX_mark
    dsimp only
    refine tb_xT0 (Or.inl hA) ?_
    refine br_t rfl ?_
    unfold wpY_mark
    dsimp only
    refine tb_yB1 (Or.inl hA) ?_
    exact br_f (by decide) ⟨rfl, tb_mkR R⟩
  · unfold wpX_mark
    dsimp only
    refine tb_xT0 (Or.inr hA) ?_
    refine br_t rfl ?_
    unfold wpY_mark
    dsimp only
    refine tb_yB1 (Or.inr hA) ?_
    exact br_f (by decide) ⟨rfl, tb_mkR R⟩
  subst e
  rcases pk_ix v2 (n := n) (by omega) with hA | hA | ⟨b, hb, e⟩
  · unfold wpX_mark
    dsimp only
    refine tb_xT1 hn ha ?_
    refine br_f (by decide) ?_
    refine tb_xT0 (Or.inl hA) ?_
    refine br_t rfl ?_
    unfold wpY_mark
    dsimp only
    refine tb_yB0 hn ha ?_
    refine br_t rfl ?_
    refine tb_yB1 (Or.inl hA) ?_
    exact br_f (by decide) ⟨rfl, tb_mkR R⟩
  · unfold wpX_mark
    dsimp only
    refine tb_xT1 hn ha ?_
    refine br_f (by decide) ?_
    refine tb_xT0 (Or.inr hA) ?_
    refine br_t rfl ?_
    unfold wpY_mark
    dsimp only
    refine tb_yB0 hn ha ?_
    refine br_t rfl ?_
    refine tb_yB1 (Or.inr hA) ?_
    exact br_f (by decide) ⟨rfl, tb_mkR R⟩
  subst e
  by_cases hab : a = b
  · subst hab
    unfold wpX_mark
    dsimp only
    refine tb_xT1 hn ha ?_
    refine br_f (by decide) ?_
    refine tb_xT1 hn ha ?_
    refine br_f (by decide) ?_
    refine br_t rfl ?_
    unfold wpY_mark
    dsimp only
    refine tb_yB0 hn ha ?_
    refine br_t rfl ?_
    refine tb_yB0 hn ha ?_
    refine br_t rfl ?_
    exact br_t rfl ⟨rfl, tb_mkR R⟩
  have nab : ¬ nI a = nI b := by rw [nI_eq (by omega) (by omega)]; exact hab
  unfold wpX_mark
  dsimp only
  refine tb_xT1 hn ha ?_
  refine br_f (by decide) ?_
  refine tb_xT1 hn hb ?_
  refine br_f (by decide) ?_
  refine br_f nab ?_
  by_cases c0 : v3 < 0
  · refine br_t c0 ?_
    unfold wpY_mark
    dsimp only
    refine tb_yB0 hn ha ?_
    refine br_t rfl ?_
    refine tb_yB0 hn hb ?_
    refine br_t rfl ?_
    exact br_f nab (br_t c0 ⟨rfl, tb_mkR R⟩)
  refine br_f c0 ?_
  by_cases c4 : v3 ≤ 2
  · refine br_t c4 ⟨pk_in (7 * a + b) 49 (by omega) (tb_ix a b), nm_r (e' := mk (7 * a + b)) (by rw [tb_ix, nI_clamp (by omega)]) ?_⟩
    refine tb_xSM (by omega) (by omega) ?_
    dsimp only
    obtain ⟨m, hm2, e⟩ := nI_of2 (n := 2) (by decide) c0 c4
    have hv : v3 = 0 ∨ v3 = 1 ∨ v3 = 2 := by
      have q : m = 0 ∨ m = 1 ∨ m = 2 := by omega
      rcases q with q | q | q
      · rw [e, q]; exact Or.inl rfl
      · rw [e, q]; exact Or.inr (Or.inl rfl)
      · rw [e, q]; exact Or.inr (Or.inr rfl)
    exact tb_yMk hn ha hb hab c0 c4 ⟨rfl, tb_mkR ⟨h2, hn, hP, tb_Mok_s2 hn hm ha hb hab hv, hco⟩⟩
  · refine br_f c4 ?_
    unfold wpY_mark
    dsimp only
    refine tb_yB0 hn ha ?_
    refine br_t rfl ?_
    refine tb_yB0 hn hb ?_
    refine br_t rfl ?_
    exact br_f nab (br_f c0 (br_f c4 ⟨rfl, tb_mkR R⟩))
theorem i_vc_priceOf {k : Nat} {u : SX} {v : SY} (I : i_Rel k u v) (hk : k + 4 ≤ 2049) (v1 : Int32) (v2 : Int32) : wpX_priceOf (fun r => wpY_priceOf (fun r' => r' = r ∧ i_Rel (k + 4) u v) v v1 v2) u v1 v2 := by
  refine tb_el (P := fun u v => wpX_priceOf (fun r => wpY_priceOf (fun r' => r' = r ∧ i_Rel (k + 4) u v) v v1 v2) u v1 v2) I ?_
  intro n rq pr mk cs ls wy aa lf sp tn nr od gl gc gt gf gp co le ro us jo R
  have R0 := R
  obtain ⟨h2, hn, hP, hm, hco⟩ := R0
  rcases pk_ix v1 (n := n) (by omega) with hA | hA | ⟨a, ha, e⟩
  · unfold wpX_priceOf
    dsimp only
    refine tb_xT0 (Or.inl hA) ?_
    refine br_t rfl ?_
    unfold wpY_priceOf
    dsimp only
    refine tb_yB1 (Or.inl hA) ?_
    exact br_f (by decide) ⟨rfl, tb_mkR R⟩
  · unfold wpX_priceOf
    dsimp only
    refine tb_xT0 (Or.inr hA) ?_
    refine br_t rfl ?_
    unfold wpY_priceOf
    dsimp only
    refine tb_yB1 (Or.inr hA) ?_
    exact br_f (by decide) ⟨rfl, tb_mkR R⟩
  subst e
  rcases pk_ix v2 (n := n) (by omega) with hA | hA | ⟨b, hb, e⟩
  · unfold wpX_priceOf
    dsimp only
    refine tb_xT1 hn ha ?_
    refine br_f (by decide) ?_
    refine tb_xT0 (Or.inl hA) ?_
    refine br_t rfl ?_
    unfold wpY_priceOf
    dsimp only
    refine tb_yB0 hn ha ?_
    refine br_t rfl ?_
    refine tb_yB1 (Or.inl hA) ?_
    exact br_f (by decide) ⟨rfl, tb_mkR R⟩
  · unfold wpX_priceOf
    dsimp only
    refine tb_xT1 hn ha ?_
    refine br_f (by decide) ?_
    refine tb_xT0 (Or.inr hA) ?_
    refine br_t rfl ?_
    unfold wpY_priceOf
    dsimp only
    refine tb_yB0 hn ha ?_
    refine br_t rfl ?_
    refine tb_yB1 (Or.inr hA) ?_
    exact br_f (by decide) ⟨rfl, tb_mkR R⟩
  subst e
  unfold wpX_priceOf
  dsimp only
  refine tb_xT1 hn ha ?_
  refine br_f (by decide) ?_
  refine tb_xT1 hn hb ?_
  refine br_f (by decide) ?_
  refine ⟨pk_in (7 * a + b) 49 (by omega) (tb_ix a b), ?_⟩
  have e1 : pr (7 * nI a + nI b).toNatClampNeg = pr (7 * a + b) := by rw [tb_ix, nI_clamp (by omega)]
  rw [e1]
  unfold wpY_priceOf
  dsimp only
  refine tb_yB0 hn ha ?_
  refine br_t rfl ?_
  refine tb_yB0 hn hb ?_
  refine br_t rfl ?_
  by_cases hab : a = b
  · subst hab
    exact br_t rfl ⟨(hP.2.2 a (by omega)).symm, tb_mkR R⟩
  · have nab : ¬ nI a = nI b := by rw [nI_eq (by omega) (by omega)]; exact hab
    refine br_f nab ⟨pk_in (7 * a + b) 49 (by omega) (tb_iy a b), ?_, tb_mkR R⟩
    rw [tb_iy, nI_clamp (by omega)]
    exact hco a b ha hb hab
theorem i_vc_best {k : Nat} {u : SX} {v : SY} (I : i_Rel k u v) (hk : k + 4 ≤ 2049) : wpX_best (fun r u' => wpY_best (fun r' v' => r' = r ∧ i_Rel (k + 4) u' v') v) u := by
  refine tb_el (P := fun u v => wpX_best (fun r u' => wpY_best (fun r' v' => r' = r ∧ i_Rel (k + 4) u' v') v) u) I ?_
  intro n rq pr mk cs ls wy aa lf sp tn nr od gl gc gt gf gp co le ro us jo R
  have R0 := R
  obtain ⟨h2, hn, hP, hm, hco⟩ := R0
  refine tb_xBest h2 hn hP.1 hm (fun r rq' cs' ls' wy' hr => ?_)
  unfold wpY_best
  dsimp only
  refine tb_yL h2 hn hP.1 hm hco (fun gl gc ti le ro us g => ⟨?_, tb_mkR R⟩)
  exact tb_Bst_u (tb_fin_B h2 hn hP.1 hm g) hr
theorem i_vc_bestCode {k : Nat} {u : SX} {v : SY} (I : i_Rel k u v) (hk : k + 4 ≤ 2049) : wpX_bestCode (fun r u' => wpY_bestCode (fun r' v' => r' = r ∧ i_Rel (k + 4) u' v') v) u := by
  refine tb_el (P := fun u v => wpX_bestCode (fun r u' => wpY_bestCode (fun r' v' => r' = r ∧ i_Rel (k + 4) u' v') v) u) I ?_
  intro n rq pr mk cs ls wy aa lf sp tn nr od gl gc gt gf gp co le ro us jo R
  have R0 := R
  obtain ⟨h2, hn, hP, hm, hco⟩ := R0
  refine tb_xBC h2 hn hP.1 hm (fun r rq' cs' ls' wy' v1 hr hv => ?_)
  unfold wpY_bestCode
  dsimp only
  refine tb_yL h2 hn hP.1 hm hco (fun gl gc ti le ro us g => ⟨?_, tb_mkR R⟩)
  have e := tb_Bst_u (tb_fin_B h2 hn hP.1 hm g) hr
  subst e
  rcases tb_fin h2 hn hP.1 hm g with q | ⟨q1, q2, q3, q4, l0, q5, q6⟩
  · rcases hv with p | p
    · rw [q.1] at p; exact absurd p.1 (by decide)
    · rw [q.2.1, p.2]
  · rcases hv with ⟨p1, l1, p2, p3⟩ | p
    · rw [q5] at p2
      rw [p3, q6, Option.some.inj p2]
    · omega
theorem i_vc_bestTours {k : Nat} {u : SX} {v : SY} (I : i_Rel k u v) (hk : k + 4 ≤ 2049) : wpX_bestTours (fun r u' => wpY_bestTours (fun r' v' => r' = r ∧ i_Rel (k + 4) u' v') v) u := by
  refine tb_el (P := fun u v => wpX_bestTours (fun r u' => wpY_bestTours (fun r' v' => r' = r ∧ i_Rel (k + 4) u' v') v) u) I ?_
  intro n rq pr mk cs ls wy aa lf sp tn nr od gl gc gt gf gp co le ro us jo R
  have R0 := R
  obtain ⟨h2, hn, hP, hm, hco⟩ := R0
  refine tb_xBT h2 hn hP.1 hm (fun r rq' cs' ls' wy' hr => ?_)
  unfold wpY_bestTours
  dsimp only
  refine tb_yL h2 hn hP.1 hm hco (fun gl gc ti le ro us g => ⟨?_, tb_mkR R⟩)
  have e := tb_Bst_u (tb_fin_B h2 hn hP.1 hm g) hr
  subst e
  rcases tb_fin h2 hn hP.1 hm g with q | q
  · rw [q.1, if_neg (by decide), q.2.2.1]; rfl
  · rw [if_pos q.1, q.2.2.2.1]
theorem i_vc_allowed {k : Nat} {u : SX} {v : SY} (I : i_Rel k u v) (hk : k + 4 ≤ 2049) : wpX_allowed (fun r u' => wpY_allowed (fun r' v' => r' = r ∧ i_Rel (k + 4) u' v') v) u := by
  refine tb_el (P := fun u v => wpX_allowed (fun r u' => wpY_allowed (fun r' v' => r' = r ∧ i_Rel (k + 4) u' v') v) u) I ?_
  intro n rq pr mk cs ls wy aa lf sp tn nr od gl gc gt gf gp co le ro us jo R
  have R0 := R
  obtain ⟨h2, hn, hP, hm, hco⟩ := R0
  unfold wpX_allowed
  dsimp only
  refine tb_xW h2 hn hP.1 hm (fun rq' cs' ls' wy' aa' lf' sp' tn' => ?_)
  unfold wpY_allowed
  dsimp only
  refine tb_yL h2 hn hP.1 hm hco (fun gl gc ti le ro us g => ⟨?_, tb_mkR R⟩)
  apply congrArg nI
  apply List.countP_congr
  intro l hl
  rw [Bool.and_eq_true, decide_eq_true_eq, tb_FAR]
  constructor
  · intro q
    rcases tb_brW h2 hn hP.1 hm hl with p | p
    · exact ⟨q, by omega⟩
    · rw [q] at p; exact absurd p.1 (by decide)
  · intro q; exact q.1
theorem i_vc_priceOfTour {k : Nat} {u : SX} {v : SY} (I : i_Rel k u v) (hk : k + 4 ≤ 2049) (v1 : Int32) : wpX_priceOfTour (fun r u' => wpY_priceOfTour (fun r' v' => r' = r ∧ i_Rel (k + 4) u' v') v v1) u v1 := by
  refine tb_el (P := fun u v => wpX_priceOfTour (fun r u' => wpY_priceOfTour (fun r' v' => r' = r ∧ i_Rel (k + 4) u' v') v v1) u v1) I ?_
  intro n rq pr mk cs ls wy aa lf sp tn nr od gl gc gt gf gp co le ro us jo R
  have R0 := R
  obtain ⟨h2, hn, hP, hm, hco⟩ := R0
  have un : ∀ {c c' : Nat}, v1 = nI c → c < 2 ^ 31 → v1 = nI c' → c' < 2 ^ 31 → c = c' := fun e1 h1 e2 h2 => (nI_eq h1 h2).mp (e1.symm.trans e2)
  refine tb_xPT h2 hn hP.1 (fun c od' r e hc v hr => ?_) (fun od' bad => ?_)
  · refine tb_yPT h2 hn hP.1 hco (fun c' ro' r' e' hc' v' hr' => ⟨?_, tb_mkR R⟩) (fun ro' bad => ?_)
    · have q := un e hc e' hc'
      subst q
      exact Int32.toInt_inj.mp (hr'.trans hr.symm)
    · exfalso
      rcases bad with q | ⟨c', e', hc', nv⟩
      · rw [e] at q; exact nI_pos hc q
      · have q := un e hc e' hc'
        subst q
        exact nv v
  · refine tb_yPT h2 hn hP.1 hco (fun c' ro' r' e' hc' v' hr' => ?_) (fun ro' bad => ⟨rfl, tb_mkR R⟩)
    exfalso
    rcases bad with q | ⟨c, e, hc, nv⟩
    · rw [e'] at q; exact nI_pos hc' q
    · have q := un e hc e' hc'
      subst q
      exact nv v'
theorem i_vc_isAllowed {k : Nat} {u : SX} {v : SY} (I : i_Rel k u v) (hk : k + 4 ≤ 2049) (v1 : Int32) : wpX_isAllowed (fun r u' => wpY_isAllowed (fun r' v' => r' = r ∧ i_Rel (k + 4) u' v') v v1) u v1 := by
  refine tb_el (P := fun u v => wpX_isAllowed (fun r u' => wpY_isAllowed (fun r' v' => r' = r ∧ i_Rel (k + 4) u' v') v v1) u v1) I ?_
  intro n rq pr mk cs ls wy aa lf sp tn nr od gl gc gt gf gp co le ro us jo R
  have R0 := R
  obtain ⟨h2, hn, hP, hm, hco⟩ := R0
  have un : ∀ {c c' : Nat}, v1 = nI c → c < 2 ^ 31 → v1 = nI c' → c' < 2 ^ 31 → c = c' := fun e1 h1 e2 h2 => (nI_eq h1 h2).mp (e1.symm.trans e2)
  refine tb_xIA h2 hn hP.1 hm (fun c rq' cs' od' e hc v => ?_) (fun od' bad => ?_)
  · refine tb_yIA h2 hn (fun c' ro' us' e' hc' v' => ⟨?_, tb_mkR R⟩) (fun ro' bad => ?_)
    · have q := un e hc e' hc'
      subst q
      rfl
    · exfalso
      rcases bad with q | ⟨c', e', hc', nv⟩
      · rw [e] at q; exact nI_pos hc q
      · have q := un e hc e' hc'
        subst q
        exact nv v
  · refine tb_yIA h2 hn (fun c' ro' us' e' hc' v' => ?_) (fun ro' bad => ⟨rfl, tb_mkR R⟩)
    exfalso
    rcases bad with q | ⟨c, e, hc, nv⟩
    · rw [e'] at q; exact nI_pos hc' q
    · have q := un e hc e' hc'
      subst q
      exact nv v'
theorem i_vc_within {k : Nat} {u : SX} {v : SY} (I : i_Rel k u v) (hk : k + 4 ≤ 2049) (v1 : Int32) : wpX_within (fun r u' => wpY_within (fun r' v' => r' = r ∧ i_Rel (k + 4) u' v') v v1) u v1 := by
  refine tb_el (P := fun u v => wpX_within (fun r u' => wpY_within (fun r' v' => r' = r ∧ i_Rel (k + 4) u' v') v v1) u v1) I ?_
  intro n rq pr mk cs ls wy aa lf sp tn nr od gl gc gt gf gp co le ro us jo R
  have R0 := R
  obtain ⟨h2, hn, hP, hm, hco⟩ := R0
  refine tb_xW h2 hn hP.1 hm (fun rq' cs' ls' wy' aa' lf' sp' tn' => ?_)
  unfold wpY_within
  dsimp only
  refine tb_yL h2 hn hP.1 hm hco (fun gl gc ti le ro us g => ⟨?_, tb_mkR R⟩)
  rfl
theorem i_vc_path {k : Nat} {u : SX} {v : SY} (I : i_Rel k u v) (hk : k + 4 ≤ 2049) (v1 : Int32) (v2 : Int32) : wpX_path (fun r u' => wpY_path (fun r' v' => r' = r ∧ i_Rel (k + 4) u' v') v v1 v2) u v1 v2 := by
  refine tb_el (P := fun u v => wpX_path (fun r u' => wpY_path (fun r' v' => r' = r ∧ i_Rel (k + 4) u' v') v v1 v2) u v1 v2) I ?_
  intro n rq pr mk cs ls wy aa lf sp tn nr od gl gc gt gf gp co le ro us jo R
  have R0 := R
  obtain ⟨h2, hn, hP, hm, hco⟩ := R0
  rcases pk_ix v1 (n := n) (by omega) with hA | hA | ⟨a, ha, e⟩
  · unfold wpX_path
    dsimp only
    refine tb_xT0 (Or.inl hA) ?_
    refine br_t rfl ?_
    unfold wpY_path
    dsimp only
    refine tb_yB1 (Or.inl hA) ?_
    exact br_f (by decide) ⟨rfl, tb_mkR R⟩
  · unfold wpX_path
    dsimp only
    refine tb_xT0 (Or.inr hA) ?_
    refine br_t rfl ?_
    unfold wpY_path
    dsimp only
    refine tb_yB1 (Or.inr hA) ?_
    exact br_f (by decide) ⟨rfl, tb_mkR R⟩
  subst e
  rcases pk_ix v2 (n := n) (by omega) with hA | hA | ⟨b, hb, e⟩
  · unfold wpX_path
    dsimp only
    refine tb_xT1 hn ha ?_
    refine br_f (by decide) ?_
    refine tb_xT0 (Or.inl hA) ?_
    refine br_t rfl ?_
    unfold wpY_path
    dsimp only
    refine tb_yB0 hn ha ?_
    refine br_t rfl ?_
    refine tb_yB1 (Or.inl hA) ?_
    exact br_f (by decide) ⟨rfl, tb_mkR R⟩
  · unfold wpX_path
    dsimp only
    refine tb_xT1 hn ha ?_
    refine br_f (by decide) ?_
    refine tb_xT0 (Or.inr hA) ?_
    refine br_t rfl ?_
    unfold wpY_path
    dsimp only
    refine tb_yB0 hn ha ?_
    refine br_t rfl ?_
    refine tb_yB1 (Or.inr hA) ?_
    exact br_f (by decide) ⟨rfl, tb_mkR R⟩
  subst e
  by_cases hab : a = b
  · subst hab
    unfold wpX_path
    dsimp only
    refine tb_xT1 hn ha ?_
    refine br_f (by decide) ?_
    refine tb_xT1 hn ha ?_
    refine br_f (by decide) ?_
    refine br_t rfl ?_
    unfold wpY_path
    dsimp only
    refine tb_yB0 hn ha ?_
    refine br_t rfl ?_
    refine tb_yB0 hn ha ?_
    refine br_t rfl ?_
    exact br_t rfl ⟨rfl, tb_mkR R⟩
  have nab : ¬ nI a = nI b := by rw [nI_eq (by omega) (by omega)]; exact hab
  unfold wpX_path
  dsimp only
  refine tb_xT1 hn ha ?_
  refine br_f (by decide) ?_
  refine tb_xT1 hn hb ?_
  refine br_f (by decide) ?_
  refine br_f nab ?_
  refine tb_xPP hn hP.1 hm ha hb (fun rq' cs' ls' wy' => ?_)
  dsimp only
  exact tb_yPa h2 hn hP.1 hco ha hb hab (fun le' ro' => ⟨rfl, tb_mkR R⟩)
theorem i_vc_bestPath {k : Nat} {u : SX} {v : SY} (I : i_Rel k u v) (hk : k + 4 ≤ 2049) : wpX_bestPath (fun r u' => wpY_bestPath (fun r' v' => r' = r ∧ i_Rel (k + 4) u' v') v) u := by
  refine tb_el (P := fun u v => wpX_bestPath (fun r u' => wpY_bestPath (fun r' v' => r' = r ∧ i_Rel (k + 4) u' v') v) u) I ?_
  intro n rq pr mk cs ls wy aa lf sp tn nr od gl gc gt gf gp co le ro us jo R
  have R0 := R
  obtain ⟨h2, hn, hP, hm, hco⟩ := R0
  refine tb_xBP hn hP.1 hm (fun rq' cs' ls' wy' => ?_)
  exact tb_yBP h2 hn hP.1 hco (fun le' ro' => ⟨rfl, tb_mkR R⟩)
theorem i_vc_span {k : Nat} {u : SX} {v : SY} (I : i_Rel k u v) (hk : k + 4 ≤ 2049) : wpX_span (fun r u' => wpY_span (fun r' v' => r' = r ∧ i_Rel (k + 4) u' v') v) u := by
  refine tb_el (P := fun u v => wpX_span (fun r u' => wpY_span (fun r' v' => r' = r ∧ i_Rel (k + 4) u' v') v) u) I ?_
  intro n rq pr mk cs ls wy aa lf sp tn nr od gl gc gt gf gp co le ro us jo R
  have R0 := R
  obtain ⟨h2, hn, hP, hm, hco⟩ := R0
  refine tb_xSp h2 hn hP.1 hm hP.2.1 (fun r rq' cs' nr' hr => ?_)
  exact tb_ySp h2 hn hP.1 hm hP.2.1 hco hr (fun jo' => ⟨rfl, tb_mkR R⟩)
theorem i_vc_worth {k : Nat} {u : SX} {v : SY} (I : i_Rel k u v) (hk : k + 4 ≤ 2049) (v1 : Int32) (v2 : Int32) : wpX_worth (fun r u' => wpY_worth (fun r' v' => r' = r ∧ i_Rel (k + 4) u' v') v v1 v2) u v1 v2 := by
  refine tb_el (P := fun u v => wpX_worth (fun r u' => wpY_worth (fun r' v' => r' = r ∧ i_Rel (k + 4) u' v') v v1 v2) u v1 v2) I ?_
  intro n rq pr mk cs ls wy aa lf sp tn nr od gl gc gt gf gp co le ro us jo R
  have R0 := R
  obtain ⟨h2, hn, hP, hm, hco⟩ := R0
  rcases pk_ix v1 (n := n) (by omega) with hA | hA | ⟨a, ha, e⟩
  · unfold wpX_worth
    dsimp only
    refine tb_xT0 (Or.inl hA) ?_
    refine br_t rfl ?_
    unfold wpY_worth
    dsimp only
    refine tb_yB1 (Or.inl hA) ?_
    exact br_f (by decide) ⟨rfl, tb_mkR R⟩
  · unfold wpX_worth
    dsimp only
    refine tb_xT0 (Or.inr hA) ?_
    refine br_t rfl ?_
    unfold wpY_worth
    dsimp only
    refine tb_yB1 (Or.inr hA) ?_
    exact br_f (by decide) ⟨rfl, tb_mkR R⟩
  subst e
  rcases pk_ix v2 (n := n) (by omega) with hA | hA | ⟨b, hb, e⟩
  · unfold wpX_worth
    dsimp only
    refine tb_xT1 hn ha ?_
    refine br_f (by decide) ?_
    refine tb_xT0 (Or.inl hA) ?_
    refine br_t rfl ?_
    unfold wpY_worth
    dsimp only
    refine tb_yB0 hn ha ?_
    refine br_t rfl ?_
    refine tb_yB1 (Or.inl hA) ?_
    exact br_f (by decide) ⟨rfl, tb_mkR R⟩
  · unfold wpX_worth
    dsimp only
    refine tb_xT1 hn ha ?_
    refine br_f (by decide) ?_
    refine tb_xT0 (Or.inr hA) ?_
    refine br_t rfl ?_
    unfold wpY_worth
    dsimp only
    refine tb_yB0 hn ha ?_
    refine br_t rfl ?_
    refine tb_yB1 (Or.inr hA) ?_
    exact br_f (by decide) ⟨rfl, tb_mkR R⟩
  subst e
  by_cases hab : a = b
  · subst hab
    unfold wpX_worth
    dsimp only
    refine tb_xT1 hn ha ?_
    refine br_f (by decide) ?_
    refine tb_xT1 hn ha ?_
    refine br_f (by decide) ?_
    refine br_t rfl ?_
    unfold wpY_worth
    dsimp only
    refine tb_yB0 hn ha ?_
    refine br_t rfl ?_
    refine tb_yB0 hn ha ?_
    refine br_t rfl ?_
    exact br_t rfl ⟨rfl, tb_mkR R⟩
  have nab : ¬ nI a = nI b := by rw [nI_eq (by omega) (by omega)]; exact hab
  have mv := hm.1 (7 * a + b) (by omega)
  have m0 : ¬ mk (7 * a + b) < 0 := by rcases mv with q | q | q <;> rw [q] <;> decide
  have m2 : mk (7 * a + b) ≤ 2 := by rcases mv with q | q | q <;> rw [q] <;> decide
  have hm' : tb_Mok n (tb_s2 mk a b 2) := tb_Mok_s2 hn hm ha hb hab (Or.inr (Or.inr rfl))
  have hm2 : tb_Mok n (tb_s2 (tb_s2 mk a b 2) a b (mk (7 * a + b))) := tb_Mok_s2 hn hm' ha hb hab mv
  have R2 : tb_Rel n pr (tb_s2 (tb_s2 mk a b 2) a b (mk (7 * a + b))) co := ⟨h2, hn, hP, hm2, hco⟩
  unfold wpX_worth
  dsimp only
  refine tb_xT1 hn ha ?_
  refine br_f (by decide) ?_
  refine tb_xT1 hn hb ?_
  refine br_f (by decide) ?_
  refine br_f nab ?_
  refine tb_xF (rq := rq) hn hP.1 hm (fun cs1 ls1 wy1 c1 t1 => ?_)
  dsimp only
  refine tb_xN h2 hn hP.1 hm t1 (fun r1 hr1 => ?_)
  refine tb_le 0 _ tb_Z rfl (fun z1 => ⟨pk_in (7 * a + b) 49 (by omega) (tb_ix a b), nm_r (e' := mk (7 * a + b)) (by rw [tb_ix, nI_clamp (by omega)]) (br_c (fun m1 => ?_) (fun m1 => ?_))⟩) (fun z1 => ?_)
  · unfold wpY_worth
    dsimp only
    refine tb_yB0 hn ha ?_
    refine br_t rfl ?_
    refine tb_yB0 hn hb ?_
    refine br_t rfl ?_
    refine br_f nab ?_
    refine tb_yL h2 hn hP.1 hm hco (fun gl gc ti le ro us g => ?_)
    dsimp only
    have e := tb_Bst_u (tb_fin_B h2 hn hP.1 hm g) hr1
    subst e
    exact tb_le 0 _ tb_Z rfl (fun _ => ⟨pk_in (7 * a + b) 49 (by omega) (tb_iy a b), nm_r (e' := mk (7 * a + b)) (by rw [tb_iy, nI_clamp (by omega)]) (br_t m1 ⟨rfl, tb_mkR R⟩)⟩) (fun y => absurd y (by omega))
  · refine tb_xSM (by omega) (by omega) ?_
    dsimp only
    refine tb_xF (rq := nI (tb_R n mk)) hn hP.1 hm' (fun cs2 ls2 wy2 c2 t2 => ?_)
    dsimp only
    refine tb_xN h2 hn hP.1 hm' t2 (fun r2 hr2 => ?_)
    refine tb_xSM (by omega) (by omega) ?_
    dsimp only
    have fin : ∀ (ans : Int32) (u' : SX), (∀ (gl gc gt gf gp : Int32) (le ro us : Nat → Int32), i_Rel (k + 4) u' ((nI n), gl, gc, gt, gf, gp, co, (tb_s2 (tb_s2 mk a b 2) a b (mk (7 * a + b))), le, ro, us, jo)) → ((0 ≤ r2.toInt ∧ ans = r2 - r1) ∨ (r2.toInt < 0 ∧ ans = -4)) → wpY_worth (fun r' v' => r' = ans ∧ i_Rel (k + 4) u' v') ((nI n), gl, gc, gt, gf, gp, co, mk, le, ro, us, jo) (nI a) (nI b) := by
      intro ans u' hu hans
      unfold wpY_worth
      dsimp only
      refine tb_yB0 hn ha ?_
      refine br_t rfl ?_
      refine tb_yB0 hn hb ?_
      refine br_t rfl ?_
      refine br_f nab ?_
      refine tb_yL h2 hn hP.1 hm hco (fun gl gc ti le ro us g => ?_)
      dsimp only
      have e := tb_Bst_u (tb_fin_B h2 hn hP.1 hm g) hr1
      subst e
      refine tb_le 0 _ tb_Z rfl (fun _ => ⟨pk_in (7 * a + b) 49 (by omega) (tb_iy a b), nm_r (e' := mk (7 * a + b)) (by rw [tb_iy, nI_clamp (by omega)]) (br_f m1 ?_)⟩) (fun y => absurd y (by omega))
      refine tb_yMk hn ha hb hab (by decide) (by decide) ?_
      dsimp only
      refine tb_yL h2 hn hP.1 hm' hco (fun gl2 gc2 ti2 le2 ro2 us2 g2 => ?_)
      dsimp only
      have e2 := tb_Bst_u (tb_fin_B h2 hn hP.1 hm' g2) hr2
      subst e2
      refine tb_yMk hn ha hb hab m0 m2 ?_
      dsimp only
      refine tb_le 0 _ tb_Z rfl (fun y => ⟨?_, hu _ _ _ _ _ _ _ _⟩) (fun y => ⟨?_, hu _ _ _ _ _ _ _ _⟩)
      · rcases hans with q | q
        · exact q.2.symm
        · omega
      · rcases hans with q | q
        · omega
        · exact q.2.symm
    refine tb_le 0 _ tb_Z rfl (fun z2 => ?_) (fun z2 => ?_)
    · exact fin _ _ (fun _ _ _ _ _ _ _ _ => tb_mkR R2) (Or.inl ⟨z2, rfl⟩)
    · exact fin _ _ (fun _ _ _ _ _ _ _ _ => tb_mkR R2) (Or.inr ⟨z2, rfl⟩)
  · unfold wpY_worth
    dsimp only
    refine tb_yB0 hn ha ?_
    refine br_t rfl ?_
    refine tb_yB0 hn hb ?_
    refine br_t rfl ?_
    refine br_f nab ?_
    refine tb_yL h2 hn hP.1 hm hco (fun gl gc ti le ro us g => ?_)
    dsimp only
    have e := tb_Bst_u (tb_fin_B h2 hn hP.1 hm g) hr1
    subst e
    exact tb_le 0 _ tb_Z rfl (fun y => absurd y (by omega)) (fun _ => ⟨rfl, tb_mkR R⟩)
end
