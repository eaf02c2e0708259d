section
/-! pure rows to paste: stores, nI and lN arithmetic, masks, shifts, narrowing, branches by naturals (pk_le, pk_lt, pk_eq), loops (lp1 .. lp16: the measure of the state; rp1 ..: recursion), negatives. Take what you need -/
theorem pk_us {f : Nat → Int32} {k : Nat} {x : Int32} : upd f k x k = x := if_pos rfl
theorem pk_un {f : Nat → Int32} {k j : Nat} {x : Int32} (h : j ≠ k) : upd f k x j = f j := if_neg h
theorem pk_uLs {f : Nat → Int64} {k : Nat} {x : Int64} : vp_updL f k x k = x := if_pos rfl
theorem pk_uLn {f : Nat → Int64} {k j : Nat} {x : Int64} (h : j ≠ k) : vp_updL f k x j = f j := if_neg h
theorem pk_sub {a b : Nat} (h : b ≤ a) : nI a - nI b = nI (a - b) := by
  obtain ⟨c, rfl⟩ : ∃ c, a = c + b := ⟨a - b, by omega⟩
  rw [← nI_add, Int32.add_sub_cancel, Nat.add_sub_cancel]
theorem pk_m1 (n : Nat) : nI (n + 1) + (-1) = nI n := by
  rw [← nI_1, Int32.add_assoc, show (1 : Int32) + (-1) = 0 from rfl, Int32.add_zero]
theorem pk_mul (a b : Nat) : nI a * nI b = nI (a * b) := (Int32.ofNat_mul a b).symm
theorem pk_div {a d : Nat} (ha : a < 2 ^ 31) (h0 : 0 < d) (hd : d < 2 ^ 31) : nI a / nI d = nI (a / d) := by
  apply Int32.toInt_inj.mp
  rw [lg_idiv_nonneg (by rw [nI_toInt ha]; omega) (by rw [nI_toInt hd]; omega), nI_toInt ha, nI_toInt hd, nI_toInt (Nat.lt_of_le_of_lt (Nat.div_le_self a d) ha)]
  first | rfl | exact (Int.natCast_ediv _ _).symm
theorem pk_rem {a d : Nat} (ha : a < 2 ^ 31) (h0 : 0 < d) (hd : d < 2 ^ 31) : nI a - nI a / nI d * nI d = nI (a % d) := by
  rw [pk_div ha h0 hd, pk_mul, pk_sub (Nat.div_mul_le_self a d)]
  exact congrArg nI (by have := Nat.div_add_mod' a d; omega)
theorem pk_sub_toInt {a b : Nat} (ha : a < 2 ^ 30) (hb : b < 2 ^ 30) : (nI a - nI b).toInt = (a : Int) - b := by
  rw [Int32.toInt_sub, nI_toInt (by omega), nI_toInt (by omega)]
  exact Int.bmod_eq_of_le (by omega) (by omega)
theorem pk_sneg {a b : Nat} (hb : b < 2 ^ 30) (h : a < b) : nI a - nI b < 0 := by
  rw [Int32.lt_iff_toInt_lt, pk_sub_toInt (by omega) hb, show (0 : Int32).toInt = 0 from by decide]
  omega
theorem pk_ix (x : Int32) {n : Nat} (hn : n < 2 ^ 31) : x < 0 ∨ nI n ≤ x ∨ ∃ j : Nat, j < n ∧ x = nI j := by
  by_cases h : x < 0
  · exact Or.inl h
  · obtain ⟨j, hj, rfl⟩ := nI_of h
    by_cases h2 : j < n
    · exact Or.inr (Or.inr ⟨j, h2, rfl⟩)
    · exact Or.inr (Or.inl (nI_le (by omega) hj))
theorem pk_le {x y : Int32} {A B : Prop} (a b : Nat) (f : a ≤ b → A) (g : b < a → B) (hx : x = nI a := by rfl) (hy : y = nI b := by rfl) (ha : a < 2 ^ 31 := by omega) (hb : b < 2 ^ 31 := by omega) : (x ≤ y → A) ∧ (¬ x ≤ y → B) := by
  subst hx hy
  rw [nI_leI ha hb]
  exact ⟨f, fun z => g (by omega)⟩
theorem pk_lt {x y : Int32} {A B : Prop} (a b : Nat) (f : a < b → A) (g : b ≤ a → B) (hx : x = nI a := by rfl) (hy : y = nI b := by rfl) (ha : a < 2 ^ 31 := by omega) (hb : b < 2 ^ 31 := by omega) : (x < y → A) ∧ (¬ x < y → B) := by
  subst hx hy
  rw [nI_ltI ha hb]
  exact ⟨f, fun z => g (by omega)⟩
theorem pk_eq {x y : Int32} {A B : Prop} (a b : Nat) (f : a = b → A) (g : a ≠ b → B) (hx : x = nI a := by rfl) (hy : y = nI b := by rfl) (ha : a < 2 ^ 31 := by omega) (hb : b < 2 ^ 31 := by omega) : (x = y → A) ∧ (¬ x = y → B) := by
  subst hx hy
  rw [nI_eq ha hb]
  exact ⟨f, g⟩
theorem pk_in {x : Int32} (n N : Nat) (h : n < N) (hx : x = nI n := by rfl) (hN : N < 2 ^ 31 := by omega) : vp_in x N := by
  subst hx
  exact vp_in_nI h hN
theorem pk_cl {x : Int32} (n : Nat) (hx : x = nI n := by rfl) (h : n < 2 ^ 31 := by omega) : x.toNatClampNeg = n := by
  subst hx
  exact nI_clamp h
theorem pk_tn {n : Nat} (h : n < 2 ^ 32) : (nI n).toBitVec.toNat = n := Nat.mod_eq_of_lt h
theorem pk_and (x : Int32) {m : Int32} (k : Nat) (hm : m.toBitVec.toNat = 2 ^ k - 1) : x &&& m = nI (x.toBitVec.toNat % 2 ^ k) := by
  apply Int32.toBitVec_inj.mp
  apply BitVec.eq_of_toNat_eq
  rw [Int32.toBitVec_and, BitVec.toNat_and, hm, Nat.and_two_pow_sub_one_eq_mod]
  show _ = (BitVec.ofNat 32 _).toNat
  rw [BitVec.toNat_ofNat]
  exact (Nat.mod_eq_of_lt (Nat.lt_of_le_of_lt (Nat.mod_le _ _) x.toBitVec.isLt)).symm
theorem pk_andN {n : Nat} (h : n < 2 ^ 32) {m : Int32} (k : Nat) (hm : m.toBitVec.toNat = 2 ^ k - 1) : nI n &&& m = nI (n % 2 ^ k) := by
  rw [pk_and _ k hm, pk_tn h]
theorem pk_andE (x : Int32) {m : Int32} (k : Nat) (hm : m.toBitVec.toNat = 2 ^ k - 1) : ∃ j : Nat, j < 2 ^ k ∧ x &&& m = nI j := ⟨_, Nat.mod_lt _ (Nat.two_pow_pos k), pk_and x k hm⟩
theorem pk_andIn (x : Int32) {m : Int32} (k : Nat) (hm : m.toBitVec.toNat = 2 ^ k - 1) (hk : k ≤ 30) : vp_in (x &&& m) (2 ^ k) := by
  obtain ⟨j, hj, e⟩ := pk_andE x k hm
  rw [e]
  exact vp_in_nI hj (Nat.lt_of_le_of_lt (Nat.pow_le_pow_right (by decide) hk) (by decide))
theorem pk_shl (a s : Int32) (k : Nat) (hs : (s.toBitVec.smod 32).toNat = k) : (a <<< s).toBitVec.toNat = a.toBitVec.toNat * 2 ^ k % 2 ^ 32 := by
  show (a.toBitVec <<< (s.toBitVec.smod 32).toNat).toNat = _
  rw [hs, BitVec.toNat_shiftLeft, Nat.shiftLeft_eq]
theorem pk_shlN {n : Nat} (s : Int32) (k : Nat) (hs : (s.toBitVec.smod 32).toNat = k) (h : n * 2 ^ k < 2 ^ 32) : nI n <<< s = nI (n * 2 ^ k) := by
  apply Int32.toBitVec_inj.mp
  apply BitVec.eq_of_toNat_eq
  have hn : n < 2 ^ 32 := Nat.lt_of_le_of_lt (Nat.le_mul_of_pos_right n (Nat.two_pow_pos k)) h
  rw [pk_shl _ _ k hs, pk_tn hn, pk_tn h, Nat.mod_eq_of_lt h]
theorem pk_shr (a s : Int32) (k : Nat) (hs : (s.toBitVec.smod 32).toNat = k) : (a >>> s).toInt = a.toInt >>> k := by
  show (a.toBitVec.sshiftRight (s.toBitVec.smod 32).toNat).toInt = _
  rw [hs, BitVec.toInt_sshiftRight]
  rfl
theorem pk_shrN {n : Nat} (h : n < 2 ^ 31) (s : Int32) (k : Nat) (hs : (s.toBitVec.smod 32).toNat = k) : nI n >>> s = nI (n / 2 ^ k) := by
  apply Int32.toInt_inj.mp
  have h2 : n / 2 ^ k ≤ n := Nat.div_le_self _ _
  rw [pk_shr _ _ k hs, nI_toInt h, nI_toInt (by omega), Int.shiftRight_eq_div_pow]
  rfl
theorem pk_ushr (x s : Int32) (k : Nat) (hs : ((s.toUInt32 &&& Int32.toUInt32 31).toBitVec % 32).toNat = k) : (x.toUInt32 >>> (s.toUInt32 &&& Int32.toUInt32 31)).toInt32.toBitVec.toNat = x.toBitVec.toNat / 2 ^ k := by
  have e : (x.toUInt32 >>> (s.toUInt32 &&& Int32.toUInt32 31)).toInt32.toBitVec = x.toBitVec >>> k := by
    rw [← hs]
    exact UInt32.toBitVec_shiftRight _ _
  rw [e, BitVec.toNat_ushiftRight, Nat.shiftRight_eq_div_pow]
theorem pk_ushrN {n : Nat} (hn : n < 2 ^ 32) (s : Int32) (k : Nat) (hs : ((s.toUInt32 &&& Int32.toUInt32 31).toBitVec % 32).toNat = k) : ((nI n).toUInt32 >>> (s.toUInt32 &&& Int32.toUInt32 31)).toInt32 = nI (n / 2 ^ k) := by
  apply Int32.toBitVec_inj.mp
  apply BitVec.eq_of_toNat_eq
  rw [pk_ushr _ s k hs, pk_tn hn, pk_tn (Nat.lt_of_le_of_lt (Nat.div_le_self _ _) hn)]
theorem pk_nb (z : Int32) : narrow .byte (.int z.toInt8.toInt32) = .int z.toInt8.toInt32 := congrArg Value.int (by simp)
theorem pk_ns (z : Int32) : narrow .short (.int z.toInt16.toInt32) = .int z.toInt16.toInt32 := congrArg Value.int (by simp)
theorem pk_fb (r : Int32) : fits .byte (.int r.toInt8.toInt32) = true := by
  have ⟨a, b⟩ := lg_i2b_range r
  have h1 : (-128 : Int32).toInt = -128 := by decide
  have h2 : (127 : Int32).toInt = 127 := by decide
  simp only [fits, Bool.and_eq_true, decide_eq_true_eq, Int32.le_iff_toInt_le, h1, h2]
  omega
theorem pk_fs (r : Int32) : fits .short (.int r.toInt16.toInt32) = true := by
  have ⟨a, b⟩ := lg_i2s_range r
  have h1 : (-32768 : Int32).toInt = -32768 := by decide
  have h2 : (32767 : Int32).toInt = 32767 := by decide
  simp only [fits, Bool.and_eq_true, decide_eq_true_eq, Int32.le_iff_toInt_le, h1, h2]
  omega
theorem pk_charN {q : Nat} (hq : q < 65536) : narrow .char (.int (nI q)) = .int (nI q) ∧ fits .char (.int (nI q)) = true := by
  constructor
  · have e : (nI q).toUInt32.toUInt16.toUInt32.toInt32 = nI q := by
      apply Int32.toBitVec_inj.mp
      apply BitVec.eq_of_toNat_eq
      show (nI q).toUInt32.toUInt16.toUInt32.toNat = q % 2 ^ 32
      rw [UInt16.toNat_toUInt32, UInt32.toNat_toUInt16, show (nI q).toUInt32.toNat = q % 2 ^ 32 from rfl]
      omega
    exact congrArg Value.int e
  · have a : (0 : Int32) ≤ nI q := nI_pos' (by omega)
    have b : nI q ≤ 65535 := nI_le (b := 65535) (by omega) (by decide)
    show (decide ((0 : Int32) ≤ nI q) && decide (nI q ≤ 65535)) = true
    rw [decide_eq_true a, decide_eq_true b]
    rfl
theorem pk_char (x : Int32) : (x.toUInt32 % 65536).toInt32 = nI (x.toBitVec.toNat % 65536) := by
  apply Int32.toBitVec_inj.mp
  apply BitVec.eq_of_toNat_eq
  rw [pk_tn (by omega)]
  show (x.toUInt32 % 65536).toNat = _
  rw [UInt32.toNat_mod]
  rfl
theorem pk_nc (x : Int32) : narrow .char (.int (x.toUInt32 % 65536).toInt32) = .int (x.toUInt32 % 65536).toInt32 := by
  rw [pk_char]
  exact (pk_charN (Nat.mod_lt _ (by decide))).1
theorem pk_fc (x : Int32) : fits .char (.int (x.toUInt32 % 65536).toInt32) = true := by
  rw [pk_char]
  exact (pk_charN (Nat.mod_lt _ (by decide))).2
theorem pk_vb (z : Int32) : vp_nar .byte z.toInt8.toInt32 = z.toInt8.toInt32 := by rw [vp_nar_byte]; simp
theorem pk_vs (z : Int32) : vp_nar .short z.toInt16.toInt32 = z.toInt16.toInt32 := by rw [vp_nar_short]; simp
theorem pk_vc (z : Int32) : vp_nar .char (z.toUInt32 % 65536).toInt32 = (z.toUInt32 % 65536).toInt32 := Value.int.inj (pk_nc z)
theorem pk_lT {n : Nat} (h : n < 2 ^ 63) : (lN n).toInt = (n : Int) := lg_ofNat_toInt h
theorem pk_lLT {a b : Nat} (ha : a < 2 ^ 63) (hb : b < 2 ^ 63) : lN a < lN b ↔ a < b := by
  rw [Int64.lt_iff_toInt_lt, pk_lT ha, pk_lT hb]; omega
theorem pk_lLE {a b : Nat} (ha : a < 2 ^ 63) (hb : b < 2 ^ 63) : lN a ≤ lN b ↔ a ≤ b := by
  rw [Int64.le_iff_toInt_le, pk_lT ha, pk_lT hb]; omega
theorem pk_lEQ {a b : Nat} (ha : a < 2 ^ 63) (hb : b < 2 ^ 63) : lN a = lN b ↔ a = b := by
  rw [← Int64.toInt_inj, pk_lT ha, pk_lT hb]; omega
theorem pk_lOf {x : Int64} (h : ¬ x < 0) : ∃ k : Nat, k < 2 ^ 63 ∧ x = lN k := by
  rw [Int64.lt_iff_toInt_lt] at h
  have h0 : (0 : Int64).toInt = 0 := by decide
  have hx := Int64.toInt_lt x
  refine ⟨x.toInt.toNat, by omega, Int64.toInt_inj.mp ?_⟩
  rw [pk_lT (by omega)]
  omega
theorem pk_lDiv {a b : Nat} (ha : a < 2 ^ 63) (h0 : 0 < b) (hb : b < 2 ^ 63) : lN a / lN b = lN (a / b) := by
  apply Int64.toInt_inj.mp
  rw [lg_ldiv_nonneg (by rw [pk_lT ha]; omega) (by rw [pk_lT hb]; omega), pk_lT ha, pk_lT hb, pk_lT (Nat.lt_of_le_of_lt (Nat.div_le_self a b) ha)]
  rfl
theorem pk_lRem {a b : Nat} (ha : a < 2 ^ 63) (h0 : 0 < b) (hb : b < 2 ^ 63) : lN a - lN a / lN b * lN b = lN (a % b) := by
  rw [pk_lDiv ha h0 hb, lN_mul, lN_sub (Nat.div_mul_le_self a b)]
  exact congrArg lN (by have := Nat.div_add_mod' a b; omega)
theorem pk_loop {σ : Type} (W : Nat → Nat → σ → Prop) (I : Nat → σ → Prop) (e i0 : Nat) (s : σ) (hi : i0 ≤ e) (h0 : I i0 s) (hx : ∀ n s, I e s → W (n + 1) e s)
    (hs : ∀ n i s, i < e → I i s → (∀ s', I (i + 1) s' → W n (i + 1) s') → W (n + 1) i s) : ∃ n, W n i0 s :=
  ⟨e + 1, loop_i W I e hx hs (e + 1) i0 s hi (by omega) h0⟩
theorem pk_loopD {σ : Type} (W : Nat → Nat → σ → Prop) (I : Nat → σ → Prop) (hx : ∀ n s, I 0 s → W (n + 1) 0 s)
    (hs : ∀ n i s, I (i + 1) s → (∀ s', I i s' → W n i s') → W (n + 1) (i + 1) s) : ∀ (e : Nat) (s : σ), I e s → W (e + 1) e s := by
  intro e
  induction e with
  | zero => exact fun s h => hx 0 s h
  | succ e ih => exact fun s h => hs (e + 1) e s h (fun s' h' => ih s' h')
theorem lp1 {A1 : Type} (W : Nat → A1 → Prop) (I : A1 → Prop) (μ : A1 → Nat) (hs : ∀ (n : Nat) (a1 : A1), I a1 → (∀ (b1 : A1), I b1 → μ b1 < μ a1 → W n b1) → W (n + 1) a1) (a1 : A1) (h : I a1) : ∃ n, W n a1 :=
  loop_m (σ := A1) (fun n s => W n s) (fun s => I s) (fun s => μ s) (fun n s hI hk => hs n s hI (fun b1 h9 hm => hk b1 h9 hm)) a1 h
theorem lp2 {A1 A2 : Type} (W : Nat → A1 → A2 → Prop) (I : A1 → A2 → Prop) (μ : A1 → A2 → Nat) (hs : ∀ (n : Nat) (a1 : A1) (a2 : A2), I a1 a2 → (∀ (b1 : A1) (b2 : A2), I b1 b2 → μ b1 b2 < μ a1 a2 → W n b1 b2) → W (n + 1) a1 a2) (a1 : A1) (a2 : A2) (h : I a1 a2) : ∃ n, W n a1 a2 :=
  loop_m (σ := A1 × A2) (fun n s => W n s.1 s.2) (fun s => I s.1 s.2) (fun s => μ s.1 s.2) (fun n s hI hk => hs n s.1 s.2 hI (fun b1 b2 h9 hm => hk (b1, b2) h9 hm)) (a1, a2) h
theorem lp3 {A1 A2 A3 : Type} (W : Nat → A1 → A2 → A3 → Prop) (I : A1 → A2 → A3 → Prop) (μ : A1 → A2 → A3 → Nat) (hs : ∀ (n : Nat) (a1 : A1) (a2 : A2) (a3 : A3), I a1 a2 a3 → (∀ (b1 : A1) (b2 : A2) (b3 : A3), I b1 b2 b3 → μ b1 b2 b3 < μ a1 a2 a3 → W n b1 b2 b3) → W (n + 1) a1 a2 a3) (a1 : A1) (a2 : A2) (a3 : A3) (h : I a1 a2 a3) : ∃ n, W n a1 a2 a3 :=
  loop_m (σ := A1 × A2 × A3) (fun n s => W n s.1 s.2.1 s.2.2) (fun s => I s.1 s.2.1 s.2.2) (fun s => μ s.1 s.2.1 s.2.2) (fun n s hI hk => hs n s.1 s.2.1 s.2.2 hI (fun b1 b2 b3 h9 hm => hk (b1, b2, b3) h9 hm)) (a1, a2, a3) h
theorem lp4 {A1 A2 A3 A4 : Type} (W : Nat → A1 → A2 → A3 → A4 → Prop) (I : A1 → A2 → A3 → A4 → Prop) (μ : A1 → A2 → A3 → A4 → Nat) (hs : ∀ (n : Nat) (a1 : A1) (a2 : A2) (a3 : A3) (a4 : A4), I a1 a2 a3 a4 → (∀ (b1 : A1) (b2 : A2) (b3 : A3) (b4 : A4), I b1 b2 b3 b4 → μ b1 b2 b3 b4 < μ a1 a2 a3 a4 → W n b1 b2 b3 b4) → W (n + 1) a1 a2 a3 a4) (a1 : A1) (a2 : A2) (a3 : A3) (a4 : A4) (h : I a1 a2 a3 a4) : ∃ n, W n a1 a2 a3 a4 :=
  loop_m (σ := A1 × A2 × A3 × A4) (fun n s => W n s.1 s.2.1 s.2.2.1 s.2.2.2) (fun s => I s.1 s.2.1 s.2.2.1 s.2.2.2) (fun s => μ s.1 s.2.1 s.2.2.1 s.2.2.2) (fun n s hI hk => hs n s.1 s.2.1 s.2.2.1 s.2.2.2 hI (fun b1 b2 b3 b4 h9 hm => hk (b1, b2, b3, b4) h9 hm)) (a1, a2, a3, a4) h
theorem lp5 {A1 A2 A3 A4 A5 : Type} (W : Nat → A1 → A2 → A3 → A4 → A5 → Prop) (I : A1 → A2 → A3 → A4 → A5 → Prop) (μ : A1 → A2 → A3 → A4 → A5 → Nat) (hs : ∀ (n : Nat) (a1 : A1) (a2 : A2) (a3 : A3) (a4 : A4) (a5 : A5), I a1 a2 a3 a4 a5 → (∀ (b1 : A1) (b2 : A2) (b3 : A3) (b4 : A4) (b5 : A5), I b1 b2 b3 b4 b5 → μ b1 b2 b3 b4 b5 < μ a1 a2 a3 a4 a5 → W n b1 b2 b3 b4 b5) → W (n + 1) a1 a2 a3 a4 a5) (a1 : A1) (a2 : A2) (a3 : A3) (a4 : A4) (a5 : A5) (h : I a1 a2 a3 a4 a5) : ∃ n, W n a1 a2 a3 a4 a5 :=
  loop_m (σ := A1 × A2 × A3 × A4 × A5) (fun n s => W n s.1 s.2.1 s.2.2.1 s.2.2.2.1 s.2.2.2.2) (fun s => I s.1 s.2.1 s.2.2.1 s.2.2.2.1 s.2.2.2.2) (fun s => μ s.1 s.2.1 s.2.2.1 s.2.2.2.1 s.2.2.2.2) (fun n s hI hk => hs n s.1 s.2.1 s.2.2.1 s.2.2.2.1 s.2.2.2.2 hI (fun b1 b2 b3 b4 b5 h9 hm => hk (b1, b2, b3, b4, b5) h9 hm)) (a1, a2, a3, a4, a5) h
theorem lp6 {A1 A2 A3 A4 A5 A6 : Type} (W : Nat → A1 → A2 → A3 → A4 → A5 → A6 → Prop) (I : A1 → A2 → A3 → A4 → A5 → A6 → Prop) (μ : A1 → A2 → A3 → A4 → A5 → A6 → Nat) (hs : ∀ (n : Nat) (a1 : A1) (a2 : A2) (a3 : A3) (a4 : A4) (a5 : A5) (a6 : A6), I a1 a2 a3 a4 a5 a6 → (∀ (b1 : A1) (b2 : A2) (b3 : A3) (b4 : A4) (b5 : A5) (b6 : A6), I b1 b2 b3 b4 b5 b6 → μ b1 b2 b3 b4 b5 b6 < μ a1 a2 a3 a4 a5 a6 → W n b1 b2 b3 b4 b5 b6) → W (n + 1) a1 a2 a3 a4 a5 a6) (a1 : A1) (a2 : A2) (a3 : A3) (a4 : A4) (a5 : A5) (a6 : A6) (h : I a1 a2 a3 a4 a5 a6) : ∃ n, W n a1 a2 a3 a4 a5 a6 :=
  loop_m (σ := A1 × A2 × A3 × A4 × A5 × A6) (fun n s => W n s.1 s.2.1 s.2.2.1 s.2.2.2.1 s.2.2.2.2.1 s.2.2.2.2.2) (fun s => I s.1 s.2.1 s.2.2.1 s.2.2.2.1 s.2.2.2.2.1 s.2.2.2.2.2) (fun s => μ s.1 s.2.1 s.2.2.1 s.2.2.2.1 s.2.2.2.2.1 s.2.2.2.2.2) (fun n s hI hk => hs n s.1 s.2.1 s.2.2.1 s.2.2.2.1 s.2.2.2.2.1 s.2.2.2.2.2 hI (fun b1 b2 b3 b4 b5 b6 h9 hm => hk (b1, b2, b3, b4, b5, b6) h9 hm)) (a1, a2, a3, a4, a5, a6) h
theorem lp7 {A1 A2 A3 A4 A5 A6 A7 : Type} (W : Nat → A1 → A2 → A3 → A4 → A5 → A6 → A7 → Prop) (I : A1 → A2 → A3 → A4 → A5 → A6 → A7 → Prop) (μ : A1 → A2 → A3 → A4 → A5 → A6 → A7 → Nat) (hs : ∀ (n : Nat) (a1 : A1) (a2 : A2) (a3 : A3) (a4 : A4) (a5 : A5) (a6 : A6) (a7 : A7), I a1 a2 a3 a4 a5 a6 a7 → (∀ (b1 : A1) (b2 : A2) (b3 : A3) (b4 : A4) (b5 : A5) (b6 : A6) (b7 : A7), I b1 b2 b3 b4 b5 b6 b7 → μ b1 b2 b3 b4 b5 b6 b7 < μ a1 a2 a3 a4 a5 a6 a7 → W n b1 b2 b3 b4 b5 b6 b7) → W (n + 1) a1 a2 a3 a4 a5 a6 a7) (a1 : A1) (a2 : A2) (a3 : A3) (a4 : A4) (a5 : A5) (a6 : A6) (a7 : A7) (h : I a1 a2 a3 a4 a5 a6 a7) : ∃ n, W n a1 a2 a3 a4 a5 a6 a7 :=
  loop_m (σ := A1 × A2 × A3 × A4 × A5 × A6 × A7) (fun n s => W n s.1 s.2.1 s.2.2.1 s.2.2.2.1 s.2.2.2.2.1 s.2.2.2.2.2.1 s.2.2.2.2.2.2) (fun s => I s.1 s.2.1 s.2.2.1 s.2.2.2.1 s.2.2.2.2.1 s.2.2.2.2.2.1 s.2.2.2.2.2.2) (fun s => μ s.1 s.2.1 s.2.2.1 s.2.2.2.1 s.2.2.2.2.1 s.2.2.2.2.2.1 s.2.2.2.2.2.2) (fun n s hI hk => hs n s.1 s.2.1 s.2.2.1 s.2.2.2.1 s.2.2.2.2.1 s.2.2.2.2.2.1 s.2.2.2.2.2.2 hI (fun b1 b2 b3 b4 b5 b6 b7 h9 hm => hk (b1, b2, b3, b4, b5, b6, b7) h9 hm)) (a1, a2, a3, a4, a5, a6, a7) h
theorem lp8 {A1 A2 A3 A4 A5 A6 A7 A8 : Type} (W : Nat → A1 → A2 → A3 → A4 → A5 → A6 → A7 → A8 → Prop) (I : A1 → A2 → A3 → A4 → A5 → A6 → A7 → A8 → Prop) (μ : A1 → A2 → A3 → A4 → A5 → A6 → A7 → A8 → Nat) (hs : ∀ (n : Nat) (a1 : A1) (a2 : A2) (a3 : A3) (a4 : A4) (a5 : A5) (a6 : A6) (a7 : A7) (a8 : A8), I a1 a2 a3 a4 a5 a6 a7 a8 → (∀ (b1 : A1) (b2 : A2) (b3 : A3) (b4 : A4) (b5 : A5) (b6 : A6) (b7 : A7) (b8 : A8), I b1 b2 b3 b4 b5 b6 b7 b8 → μ b1 b2 b3 b4 b5 b6 b7 b8 < μ a1 a2 a3 a4 a5 a6 a7 a8 → W n b1 b2 b3 b4 b5 b6 b7 b8) → W (n + 1) a1 a2 a3 a4 a5 a6 a7 a8) (a1 : A1) (a2 : A2) (a3 : A3) (a4 : A4) (a5 : A5) (a6 : A6) (a7 : A7) (a8 : A8) (h : I a1 a2 a3 a4 a5 a6 a7 a8) : ∃ n, W n a1 a2 a3 a4 a5 a6 a7 a8 :=
  loop_m (σ := A1 × A2 × A3 × A4 × A5 × A6 × A7 × A8) (fun n s => W n s.1 s.2.1 s.2.2.1 s.2.2.2.1 s.2.2.2.2.1 s.2.2.2.2.2.1 s.2.2.2.2.2.2.1 s.2.2.2.2.2.2.2) (fun s => I s.1 s.2.1 s.2.2.1 s.2.2.2.1 s.2.2.2.2.1 s.2.2.2.2.2.1 s.2.2.2.2.2.2.1 s.2.2.2.2.2.2.2) (fun s => μ s.1 s.2.1 s.2.2.1 s.2.2.2.1 s.2.2.2.2.1 s.2.2.2.2.2.1 s.2.2.2.2.2.2.1 s.2.2.2.2.2.2.2) (fun n s hI hk => hs n s.1 s.2.1 s.2.2.1 s.2.2.2.1 s.2.2.2.2.1 s.2.2.2.2.2.1 s.2.2.2.2.2.2.1 s.2.2.2.2.2.2.2 hI (fun b1 b2 b3 b4 b5 b6 b7 b8 h9 hm => hk (b1, b2, b3, b4, b5, b6, b7, b8) h9 hm)) (a1, a2, a3, a4, a5, a6, a7, a8) h
theorem lp9 {A1 A2 A3 A4 A5 A6 A7 A8 A9 : Type} (W : Nat → A1 → A2 → A3 → A4 → A5 → A6 → A7 → A8 → A9 → Prop) (I : A1 → A2 → A3 → A4 → A5 → A6 → A7 → A8 → A9 → Prop) (μ : A1 → A2 → A3 → A4 → A5 → A6 → A7 → A8 → A9 → Nat) (hs : ∀ (n : Nat) (a1 : A1) (a2 : A2) (a3 : A3) (a4 : A4) (a5 : A5) (a6 : A6) (a7 : A7) (a8 : A8) (a9 : A9), I a1 a2 a3 a4 a5 a6 a7 a8 a9 → (∀ (b1 : A1) (b2 : A2) (b3 : A3) (b4 : A4) (b5 : A5) (b6 : A6) (b7 : A7) (b8 : A8) (b9 : A9), I b1 b2 b3 b4 b5 b6 b7 b8 b9 → μ b1 b2 b3 b4 b5 b6 b7 b8 b9 < μ a1 a2 a3 a4 a5 a6 a7 a8 a9 → W n b1 b2 b3 b4 b5 b6 b7 b8 b9) → W (n + 1) a1 a2 a3 a4 a5 a6 a7 a8 a9) (a1 : A1) (a2 : A2) (a3 : A3) (a4 : A4) (a5 : A5) (a6 : A6) (a7 : A7) (a8 : A8) (a9 : A9) (h : I a1 a2 a3 a4 a5 a6 a7 a8 a9) : ∃ n, W n a1 a2 a3 a4 a5 a6 a7 a8 a9 :=
  loop_m (σ := A1 × A2 × A3 × A4 × A5 × A6 × A7 × A8 × A9) (fun n s => W n s.1 s.2.1 s.2.2.1 s.2.2.2.1 s.2.2.2.2.1 s.2.2.2.2.2.1 s.2.2.2.2.2.2.1 s.2.2.2.2.2.2.2.1 s.2.2.2.2.2.2.2.2) (fun s => I s.1 s.2.1 s.2.2.1 s.2.2.2.1 s.2.2.2.2.1 s.2.2.2.2.2.1 s.2.2.2.2.2.2.1 s.2.2.2.2.2.2.2.1 s.2.2.2.2.2.2.2.2) (fun s => μ s.1 s.2.1 s.2.2.1 s.2.2.2.1 s.2.2.2.2.1 s.2.2.2.2.2.1 s.2.2.2.2.2.2.1 s.2.2.2.2.2.2.2.1 s.2.2.2.2.2.2.2.2) (fun n s hI hk => hs n s.1 s.2.1 s.2.2.1 s.2.2.2.1 s.2.2.2.2.1 s.2.2.2.2.2.1 s.2.2.2.2.2.2.1 s.2.2.2.2.2.2.2.1 s.2.2.2.2.2.2.2.2 hI (fun b1 b2 b3 b4 b5 b6 b7 b8 b9 h9 hm => hk (b1, b2, b3, b4, b5, b6, b7, b8, b9) h9 hm)) (a1, a2, a3, a4, a5, a6, a7, a8, a9) h
theorem lp10 {A1 A2 A3 A4 A5 A6 A7 A8 A9 A10 : Type} (W : Nat → A1 → A2 → A3 → A4 → A5 → A6 → A7 → A8 → A9 → A10 → Prop) (I : A1 → A2 → A3 → A4 → A5 → A6 → A7 → A8 → A9 → A10 → Prop) (μ : A1 → A2 → A3 → A4 → A5 → A6 → A7 → A8 → A9 → A10 → Nat) (hs : ∀ (n : Nat) (a1 : A1) (a2 : A2) (a3 : A3) (a4 : A4) (a5 : A5) (a6 : A6) (a7 : A7) (a8 : A8) (a9 : A9) (a10 : A10), I a1 a2 a3 a4 a5 a6 a7 a8 a9 a10 → (∀ (b1 : A1) (b2 : A2) (b3 : A3) (b4 : A4) (b5 : A5) (b6 : A6) (b7 : A7) (b8 : A8) (b9 : A9) (b10 : A10), I b1 b2 b3 b4 b5 b6 b7 b8 b9 b10 → μ b1 b2 b3 b4 b5 b6 b7 b8 b9 b10 < μ a1 a2 a3 a4 a5 a6 a7 a8 a9 a10 → W n b1 b2 b3 b4 b5 b6 b7 b8 b9 b10) → W (n + 1) a1 a2 a3 a4 a5 a6 a7 a8 a9 a10) (a1 : A1) (a2 : A2) (a3 : A3) (a4 : A4) (a5 : A5) (a6 : A6) (a7 : A7) (a8 : A8) (a9 : A9) (a10 : A10) (h : I a1 a2 a3 a4 a5 a6 a7 a8 a9 a10) : ∃ n, W n a1 a2 a3 a4 a5 a6 a7 a8 a9 a10 :=
  loop_m (σ := A1 × A2 × A3 × A4 × A5 × A6 × A7 × A8 × A9 × A10) (fun n s => W n s.1 s.2.1 s.2.2.1 s.2.2.2.1 s.2.2.2.2.1 s.2.2.2.2.2.1 s.2.2.2.2.2.2.1 s.2.2.2.2.2.2.2.1 s.2.2.2.2.2.2.2.2.1 s.2.2.2.2.2.2.2.2.2) (fun s => I s.1 s.2.1 s.2.2.1 s.2.2.2.1 s.2.2.2.2.1 s.2.2.2.2.2.1 s.2.2.2.2.2.2.1 s.2.2.2.2.2.2.2.1 s.2.2.2.2.2.2.2.2.1 s.2.2.2.2.2.2.2.2.2) (fun s => μ s.1 s.2.1 s.2.2.1 s.2.2.2.1 s.2.2.2.2.1 s.2.2.2.2.2.1 s.2.2.2.2.2.2.1 s.2.2.2.2.2.2.2.1 s.2.2.2.2.2.2.2.2.1 s.2.2.2.2.2.2.2.2.2) (fun n s hI hk => hs n s.1 s.2.1 s.2.2.1 s.2.2.2.1 s.2.2.2.2.1 s.2.2.2.2.2.1 s.2.2.2.2.2.2.1 s.2.2.2.2.2.2.2.1 s.2.2.2.2.2.2.2.2.1 s.2.2.2.2.2.2.2.2.2 hI (fun b1 b2 b3 b4 b5 b6 b7 b8 b9 b10 h9 hm => hk (b1, b2, b3, b4, b5, b6, b7, b8, b9, b10) h9 hm)) (a1, a2, a3, a4, a5, a6, a7, a8, a9, a10) h
theorem lp11 {A1 A2 A3 A4 A5 A6 A7 A8 A9 A10 A11 : Type} (W : Nat → A1 → A2 → A3 → A4 → A5 → A6 → A7 → A8 → A9 → A10 → A11 → Prop) (I : A1 → A2 → A3 → A4 → A5 → A6 → A7 → A8 → A9 → A10 → A11 → Prop) (μ : A1 → A2 → A3 → A4 → A5 → A6 → A7 → A8 → A9 → A10 → A11 → Nat) (hs : ∀ (n : Nat) (a1 : A1) (a2 : A2) (a3 : A3) (a4 : A4) (a5 : A5) (a6 : A6) (a7 : A7) (a8 : A8) (a9 : A9) (a10 : A10) (a11 : A11), I a1 a2 a3 a4 a5 a6 a7 a8 a9 a10 a11 → (∀ (b1 : A1) (b2 : A2) (b3 : A3) (b4 : A4) (b5 : A5) (b6 : A6) (b7 : A7) (b8 : A8) (b9 : A9) (b10 : A10) (b11 : A11), I b1 b2 b3 b4 b5 b6 b7 b8 b9 b10 b11 → μ b1 b2 b3 b4 b5 b6 b7 b8 b9 b10 b11 < μ a1 a2 a3 a4 a5 a6 a7 a8 a9 a10 a11 → W n b1 b2 b3 b4 b5 b6 b7 b8 b9 b10 b11) → W (n + 1) a1 a2 a3 a4 a5 a6 a7 a8 a9 a10 a11) (a1 : A1) (a2 : A2) (a3 : A3) (a4 : A4) (a5 : A5) (a6 : A6) (a7 : A7) (a8 : A8) (a9 : A9) (a10 : A10) (a11 : A11) (h : I a1 a2 a3 a4 a5 a6 a7 a8 a9 a10 a11) : ∃ n, W n a1 a2 a3 a4 a5 a6 a7 a8 a9 a10 a11 :=
  loop_m (σ := A1 × A2 × A3 × A4 × A5 × A6 × A7 × A8 × A9 × A10 × A11) (fun n s => W n s.1 s.2.1 s.2.2.1 s.2.2.2.1 s.2.2.2.2.1 s.2.2.2.2.2.1 s.2.2.2.2.2.2.1 s.2.2.2.2.2.2.2.1 s.2.2.2.2.2.2.2.2.1 s.2.2.2.2.2.2.2.2.2.1 s.2.2.2.2.2.2.2.2.2.2) (fun s => I s.1 s.2.1 s.2.2.1 s.2.2.2.1 s.2.2.2.2.1 s.2.2.2.2.2.1 s.2.2.2.2.2.2.1 s.2.2.2.2.2.2.2.1 s.2.2.2.2.2.2.2.2.1 s.2.2.2.2.2.2.2.2.2.1 s.2.2.2.2.2.2.2.2.2.2) (fun s => μ s.1 s.2.1 s.2.2.1 s.2.2.2.1 s.2.2.2.2.1 s.2.2.2.2.2.1 s.2.2.2.2.2.2.1 s.2.2.2.2.2.2.2.1 s.2.2.2.2.2.2.2.2.1 s.2.2.2.2.2.2.2.2.2.1 s.2.2.2.2.2.2.2.2.2.2) (fun n s hI hk => hs n s.1 s.2.1 s.2.2.1 s.2.2.2.1 s.2.2.2.2.1 s.2.2.2.2.2.1 s.2.2.2.2.2.2.1 s.2.2.2.2.2.2.2.1 s.2.2.2.2.2.2.2.2.1 s.2.2.2.2.2.2.2.2.2.1 s.2.2.2.2.2.2.2.2.2.2 hI (fun b1 b2 b3 b4 b5 b6 b7 b8 b9 b10 b11 h9 hm => hk (b1, b2, b3, b4, b5, b6, b7, b8, b9, b10, b11) h9 hm)) (a1, a2, a3, a4, a5, a6, a7, a8, a9, a10, a11) h
theorem lp12 {A1 A2 A3 A4 A5 A6 A7 A8 A9 A10 A11 A12 : Type} (W : Nat → A1 → A2 → A3 → A4 → A5 → A6 → A7 → A8 → A9 → A10 → A11 → A12 → Prop) (I : A1 → A2 → A3 → A4 → A5 → A6 → A7 → A8 → A9 → A10 → A11 → A12 → Prop) (μ : A1 → A2 → A3 → A4 → A5 → A6 → A7 → A8 → A9 → A10 → A11 → A12 → Nat) (hs : ∀ (n : Nat) (a1 : A1) (a2 : A2) (a3 : A3) (a4 : A4) (a5 : A5) (a6 : A6) (a7 : A7) (a8 : A8) (a9 : A9) (a10 : A10) (a11 : A11) (a12 : A12), I a1 a2 a3 a4 a5 a6 a7 a8 a9 a10 a11 a12 → (∀ (b1 : A1) (b2 : A2) (b3 : A3) (b4 : A4) (b5 : A5) (b6 : A6) (b7 : A7) (b8 : A8) (b9 : A9) (b10 : A10) (b11 : A11) (b12 : A12), I b1 b2 b3 b4 b5 b6 b7 b8 b9 b10 b11 b12 → μ b1 b2 b3 b4 b5 b6 b7 b8 b9 b10 b11 b12 < μ a1 a2 a3 a4 a5 a6 a7 a8 a9 a10 a11 a12 → W n b1 b2 b3 b4 b5 b6 b7 b8 b9 b10 b11 b12) → W (n + 1) a1 a2 a3 a4 a5 a6 a7 a8 a9 a10 a11 a12) (a1 : A1) (a2 : A2) (a3 : A3) (a4 : A4) (a5 : A5) (a6 : A6) (a7 : A7) (a8 : A8) (a9 : A9) (a10 : A10) (a11 : A11) (a12 : A12) (h : I a1 a2 a3 a4 a5 a6 a7 a8 a9 a10 a11 a12) : ∃ n, W n a1 a2 a3 a4 a5 a6 a7 a8 a9 a10 a11 a12 :=
  loop_m (σ := A1 × A2 × A3 × A4 × A5 × A6 × A7 × A8 × A9 × A10 × A11 × A12) (fun n s => W n s.1 s.2.1 s.2.2.1 s.2.2.2.1 s.2.2.2.2.1 s.2.2.2.2.2.1 s.2.2.2.2.2.2.1 s.2.2.2.2.2.2.2.1 s.2.2.2.2.2.2.2.2.1 s.2.2.2.2.2.2.2.2.2.1 s.2.2.2.2.2.2.2.2.2.2.1 s.2.2.2.2.2.2.2.2.2.2.2) (fun s => I s.1 s.2.1 s.2.2.1 s.2.2.2.1 s.2.2.2.2.1 s.2.2.2.2.2.1 s.2.2.2.2.2.2.1 s.2.2.2.2.2.2.2.1 s.2.2.2.2.2.2.2.2.1 s.2.2.2.2.2.2.2.2.2.1 s.2.2.2.2.2.2.2.2.2.2.1 s.2.2.2.2.2.2.2.2.2.2.2) (fun s => μ s.1 s.2.1 s.2.2.1 s.2.2.2.1 s.2.2.2.2.1 s.2.2.2.2.2.1 s.2.2.2.2.2.2.1 s.2.2.2.2.2.2.2.1 s.2.2.2.2.2.2.2.2.1 s.2.2.2.2.2.2.2.2.2.1 s.2.2.2.2.2.2.2.2.2.2.1 s.2.2.2.2.2.2.2.2.2.2.2) (fun n s hI hk => hs n s.1 s.2.1 s.2.2.1 s.2.2.2.1 s.2.2.2.2.1 s.2.2.2.2.2.1 s.2.2.2.2.2.2.1 s.2.2.2.2.2.2.2.1 s.2.2.2.2.2.2.2.2.1 s.2.2.2.2.2.2.2.2.2.1 s.2.2.2.2.2.2.2.2.2.2.1 s.2.2.2.2.2.2.2.2.2.2.2 hI (fun b1 b2 b3 b4 b5 b6 b7 b8 b9 b10 b11 b12 h9 hm => hk (b1, b2, b3, b4, b5, b6, b7, b8, b9, b10, b11, b12) h9 hm)) (a1, a2, a3, a4, a5, a6, a7, a8, a9, a10, a11, a12) h
theorem lp13 {A1 A2 A3 A4 A5 A6 A7 A8 A9 A10 A11 A12 A13 : Type} (W : Nat → A1 → A2 → A3 → A4 → A5 → A6 → A7 → A8 → A9 → A10 → A11 → A12 → A13 → Prop) (I : A1 → A2 → A3 → A4 → A5 → A6 → A7 → A8 → A9 → A10 → A11 → A12 → A13 → Prop) (μ : A1 → A2 → A3 → A4 → A5 → A6 → A7 → A8 → A9 → A10 → A11 → A12 → A13 → Nat) (hs : ∀ (n : Nat) (a1 : A1) (a2 : A2) (a3 : A3) (a4 : A4) (a5 : A5) (a6 : A6) (a7 : A7) (a8 : A8) (a9 : A9) (a10 : A10) (a11 : A11) (a12 : A12) (a13 : A13), I a1 a2 a3 a4 a5 a6 a7 a8 a9 a10 a11 a12 a13 → (∀ (b1 : A1) (b2 : A2) (b3 : A3) (b4 : A4) (b5 : A5) (b6 : A6) (b7 : A7) (b8 : A8) (b9 : A9) (b10 : A10) (b11 : A11) (b12 : A12) (b13 : A13), I b1 b2 b3 b4 b5 b6 b7 b8 b9 b10 b11 b12 b13 → μ b1 b2 b3 b4 b5 b6 b7 b8 b9 b10 b11 b12 b13 < μ a1 a2 a3 a4 a5 a6 a7 a8 a9 a10 a11 a12 a13 → W n b1 b2 b3 b4 b5 b6 b7 b8 b9 b10 b11 b12 b13) → W (n + 1) a1 a2 a3 a4 a5 a6 a7 a8 a9 a10 a11 a12 a13) (a1 : A1) (a2 : A2) (a3 : A3) (a4 : A4) (a5 : A5) (a6 : A6) (a7 : A7) (a8 : A8) (a9 : A9) (a10 : A10) (a11 : A11) (a12 : A12) (a13 : A13) (h : I a1 a2 a3 a4 a5 a6 a7 a8 a9 a10 a11 a12 a13) : ∃ n, W n a1 a2 a3 a4 a5 a6 a7 a8 a9 a10 a11 a12 a13 :=
  loop_m (σ := A1 × A2 × A3 × A4 × A5 × A6 × A7 × A8 × A9 × A10 × A11 × A12 × A13) (fun n s => W n s.1 s.2.1 s.2.2.1 s.2.2.2.1 s.2.2.2.2.1 s.2.2.2.2.2.1 s.2.2.2.2.2.2.1 s.2.2.2.2.2.2.2.1 s.2.2.2.2.2.2.2.2.1 s.2.2.2.2.2.2.2.2.2.1 s.2.2.2.2.2.2.2.2.2.2.1 s.2.2.2.2.2.2.2.2.2.2.2.1 s.2.2.2.2.2.2.2.2.2.2.2.2) (fun s => I s.1 s.2.1 s.2.2.1 s.2.2.2.1 s.2.2.2.2.1 s.2.2.2.2.2.1 s.2.2.2.2.2.2.1 s.2.2.2.2.2.2.2.1 s.2.2.2.2.2.2.2.2.1 s.2.2.2.2.2.2.2.2.2.1 s.2.2.2.2.2.2.2.2.2.2.1 s.2.2.2.2.2.2.2.2.2.2.2.1 s.2.2.2.2.2.2.2.2.2.2.2.2) (fun s => μ s.1 s.2.1 s.2.2.1 s.2.2.2.1 s.2.2.2.2.1 s.2.2.2.2.2.1 s.2.2.2.2.2.2.1 s.2.2.2.2.2.2.2.1 s.2.2.2.2.2.2.2.2.1 s.2.2.2.2.2.2.2.2.2.1 s.2.2.2.2.2.2.2.2.2.2.1 s.2.2.2.2.2.2.2.2.2.2.2.1 s.2.2.2.2.2.2.2.2.2.2.2.2) (fun n s hI hk => hs n s.1 s.2.1 s.2.2.1 s.2.2.2.1 s.2.2.2.2.1 s.2.2.2.2.2.1 s.2.2.2.2.2.2.1 s.2.2.2.2.2.2.2.1 s.2.2.2.2.2.2.2.2.1 s.2.2.2.2.2.2.2.2.2.1 s.2.2.2.2.2.2.2.2.2.2.1 s.2.2.2.2.2.2.2.2.2.2.2.1 s.2.2.2.2.2.2.2.2.2.2.2.2 hI (fun b1 b2 b3 b4 b5 b6 b7 b8 b9 b10 b11 b12 b13 h9 hm => hk (b1, b2, b3, b4, b5, b6, b7, b8, b9, b10, b11, b12, b13) h9 hm)) (a1, a2, a3, a4, a5, a6, a7, a8, a9, a10, a11, a12, a13) h
theorem lp14 {A1 A2 A3 A4 A5 A6 A7 A8 A9 A10 A11 A12 A13 A14 : Type} (W : Nat → A1 → A2 → A3 → A4 → A5 → A6 → A7 → A8 → A9 → A10 → A11 → A12 → A13 → A14 → Prop) (I : A1 → A2 → A3 → A4 → A5 → A6 → A7 → A8 → A9 → A10 → A11 → A12 → A13 → A14 → Prop) (μ : A1 → A2 → A3 → A4 → A5 → A6 → A7 → A8 → A9 → A10 → A11 → A12 → A13 → A14 → Nat) (hs : ∀ (n : Nat) (a1 : A1) (a2 : A2) (a3 : A3) (a4 : A4) (a5 : A5) (a6 : A6) (a7 : A7) (a8 : A8) (a9 : A9) (a10 : A10) (a11 : A11) (a12 : A12) (a13 : A13) (a14 : A14), I a1 a2 a3 a4 a5 a6 a7 a8 a9 a10 a11 a12 a13 a14 → (∀ (b1 : A1) (b2 : A2) (b3 : A3) (b4 : A4) (b5 : A5) (b6 : A6) (b7 : A7) (b8 : A8) (b9 : A9) (b10 : A10) (b11 : A11) (b12 : A12) (b13 : A13) (b14 : A14), I b1 b2 b3 b4 b5 b6 b7 b8 b9 b10 b11 b12 b13 b14 → μ b1 b2 b3 b4 b5 b6 b7 b8 b9 b10 b11 b12 b13 b14 < μ a1 a2 a3 a4 a5 a6 a7 a8 a9 a10 a11 a12 a13 a14 → W n b1 b2 b3 b4 b5 b6 b7 b8 b9 b10 b11 b12 b13 b14) → W (n + 1) a1 a2 a3 a4 a5 a6 a7 a8 a9 a10 a11 a12 a13 a14) (a1 : A1) (a2 : A2) (a3 : A3) (a4 : A4) (a5 : A5) (a6 : A6) (a7 : A7) (a8 : A8) (a9 : A9) (a10 : A10) (a11 : A11) (a12 : A12) (a13 : A13) (a14 : A14) (h : I a1 a2 a3 a4 a5 a6 a7 a8 a9 a10 a11 a12 a13 a14) : ∃ n, W n a1 a2 a3 a4 a5 a6 a7 a8 a9 a10 a11 a12 a13 a14 :=
  loop_m (σ := A1 × A2 × A3 × A4 × A5 × A6 × A7 × A8 × A9 × A10 × A11 × A12 × A13 × A14) (fun n s => W n s.1 s.2.1 s.2.2.1 s.2.2.2.1 s.2.2.2.2.1 s.2.2.2.2.2.1 s.2.2.2.2.2.2.1 s.2.2.2.2.2.2.2.1 s.2.2.2.2.2.2.2.2.1 s.2.2.2.2.2.2.2.2.2.1 s.2.2.2.2.2.2.2.2.2.2.1 s.2.2.2.2.2.2.2.2.2.2.2.1 s.2.2.2.2.2.2.2.2.2.2.2.2.1 s.2.2.2.2.2.2.2.2.2.2.2.2.2) (fun s => I s.1 s.2.1 s.2.2.1 s.2.2.2.1 s.2.2.2.2.1 s.2.2.2.2.2.1 s.2.2.2.2.2.2.1 s.2.2.2.2.2.2.2.1 s.2.2.2.2.2.2.2.2.1 s.2.2.2.2.2.2.2.2.2.1 s.2.2.2.2.2.2.2.2.2.2.1 s.2.2.2.2.2.2.2.2.2.2.2.1 s.2.2.2.2.2.2.2.2.2.2.2.2.1 s.2.2.2.2.2.2.2.2.2.2.2.2.2) (fun s => μ s.1 s.2.1 s.2.2.1 s.2.2.2.1 s.2.2.2.2.1 s.2.2.2.2.2.1 s.2.2.2.2.2.2.1 s.2.2.2.2.2.2.2.1 s.2.2.2.2.2.2.2.2.1 s.2.2.2.2.2.2.2.2.2.1 s.2.2.2.2.2.2.2.2.2.2.1 s.2.2.2.2.2.2.2.2.2.2.2.1 s.2.2.2.2.2.2.2.2.2.2.2.2.1 s.2.2.2.2.2.2.2.2.2.2.2.2.2) (fun n s hI hk => hs n s.1 s.2.1 s.2.2.1 s.2.2.2.1 s.2.2.2.2.1 s.2.2.2.2.2.1 s.2.2.2.2.2.2.1 s.2.2.2.2.2.2.2.1 s.2.2.2.2.2.2.2.2.1 s.2.2.2.2.2.2.2.2.2.1 s.2.2.2.2.2.2.2.2.2.2.1 s.2.2.2.2.2.2.2.2.2.2.2.1 s.2.2.2.2.2.2.2.2.2.2.2.2.1 s.2.2.2.2.2.2.2.2.2.2.2.2.2 hI (fun b1 b2 b3 b4 b5 b6 b7 b8 b9 b10 b11 b12 b13 b14 h9 hm => hk (b1, b2, b3, b4, b5, b6, b7, b8, b9, b10, b11, b12, b13, b14) h9 hm)) (a1, a2, a3, a4, a5, a6, a7, a8, a9, a10, a11, a12, a13, a14) h
theorem lp15 {A1 A2 A3 A4 A5 A6 A7 A8 A9 A10 A11 A12 A13 A14 A15 : Type} (W : Nat → A1 → A2 → A3 → A4 → A5 → A6 → A7 → A8 → A9 → A10 → A11 → A12 → A13 → A14 → A15 → Prop) (I : A1 → A2 → A3 → A4 → A5 → A6 → A7 → A8 → A9 → A10 → A11 → A12 → A13 → A14 → A15 → Prop) (μ : A1 → A2 → A3 → A4 → A5 → A6 → A7 → A8 → A9 → A10 → A11 → A12 → A13 → A14 → A15 → Nat) (hs : ∀ (n : Nat) (a1 : A1) (a2 : A2) (a3 : A3) (a4 : A4) (a5 : A5) (a6 : A6) (a7 : A7) (a8 : A8) (a9 : A9) (a10 : A10) (a11 : A11) (a12 : A12) (a13 : A13) (a14 : A14) (a15 : A15), I a1 a2 a3 a4 a5 a6 a7 a8 a9 a10 a11 a12 a13 a14 a15 → (∀ (b1 : A1) (b2 : A2) (b3 : A3) (b4 : A4) (b5 : A5) (b6 : A6) (b7 : A7) (b8 : A8) (b9 : A9) (b10 : A10) (b11 : A11) (b12 : A12) (b13 : A13) (b14 : A14) (b15 : A15), I b1 b2 b3 b4 b5 b6 b7 b8 b9 b10 b11 b12 b13 b14 b15 → μ b1 b2 b3 b4 b5 b6 b7 b8 b9 b10 b11 b12 b13 b14 b15 < μ a1 a2 a3 a4 a5 a6 a7 a8 a9 a10 a11 a12 a13 a14 a15 → W n b1 b2 b3 b4 b5 b6 b7 b8 b9 b10 b11 b12 b13 b14 b15) → W (n + 1) a1 a2 a3 a4 a5 a6 a7 a8 a9 a10 a11 a12 a13 a14 a15) (a1 : A1) (a2 : A2) (a3 : A3) (a4 : A4) (a5 : A5) (a6 : A6) (a7 : A7) (a8 : A8) (a9 : A9) (a10 : A10) (a11 : A11) (a12 : A12) (a13 : A13) (a14 : A14) (a15 : A15) (h : I a1 a2 a3 a4 a5 a6 a7 a8 a9 a10 a11 a12 a13 a14 a15) : ∃ n, W n a1 a2 a3 a4 a5 a6 a7 a8 a9 a10 a11 a12 a13 a14 a15 :=
  loop_m (σ := A1 × A2 × A3 × A4 × A5 × A6 × A7 × A8 × A9 × A10 × A11 × A12 × A13 × A14 × A15) (fun n s => W n s.1 s.2.1 s.2.2.1 s.2.2.2.1 s.2.2.2.2.1 s.2.2.2.2.2.1 s.2.2.2.2.2.2.1 s.2.2.2.2.2.2.2.1 s.2.2.2.2.2.2.2.2.1 s.2.2.2.2.2.2.2.2.2.1 s.2.2.2.2.2.2.2.2.2.2.1 s.2.2.2.2.2.2.2.2.2.2.2.1 s.2.2.2.2.2.2.2.2.2.2.2.2.1 s.2.2.2.2.2.2.2.2.2.2.2.2.2.1 s.2.2.2.2.2.2.2.2.2.2.2.2.2.2) (fun s => I s.1 s.2.1 s.2.2.1 s.2.2.2.1 s.2.2.2.2.1 s.2.2.2.2.2.1 s.2.2.2.2.2.2.1 s.2.2.2.2.2.2.2.1 s.2.2.2.2.2.2.2.2.1 s.2.2.2.2.2.2.2.2.2.1 s.2.2.2.2.2.2.2.2.2.2.1 s.2.2.2.2.2.2.2.2.2.2.2.1 s.2.2.2.2.2.2.2.2.2.2.2.2.1 s.2.2.2.2.2.2.2.2.2.2.2.2.2.1 s.2.2.2.2.2.2.2.2.2.2.2.2.2.2) (fun s => μ s.1 s.2.1 s.2.2.1 s.2.2.2.1 s.2.2.2.2.1 s.2.2.2.2.2.1 s.2.2.2.2.2.2.1 s.2.2.2.2.2.2.2.1 s.2.2.2.2.2.2.2.2.1 s.2.2.2.2.2.2.2.2.2.1 s.2.2.2.2.2.2.2.2.2.2.1 s.2.2.2.2.2.2.2.2.2.2.2.1 s.2.2.2.2.2.2.2.2.2.2.2.2.1 s.2.2.2.2.2.2.2.2.2.2.2.2.2.1 s.2.2.2.2.2.2.2.2.2.2.2.2.2.2) (fun n s hI hk => hs n s.1 s.2.1 s.2.2.1 s.2.2.2.1 s.2.2.2.2.1 s.2.2.2.2.2.1 s.2.2.2.2.2.2.1 s.2.2.2.2.2.2.2.1 s.2.2.2.2.2.2.2.2.1 s.2.2.2.2.2.2.2.2.2.1 s.2.2.2.2.2.2.2.2.2.2.1 s.2.2.2.2.2.2.2.2.2.2.2.1 s.2.2.2.2.2.2.2.2.2.2.2.2.1 s.2.2.2.2.2.2.2.2.2.2.2.2.2.1 s.2.2.2.2.2.2.2.2.2.2.2.2.2.2 hI (fun b1 b2 b3 b4 b5 b6 b7 b8 b9 b10 b11 b12 b13 b14 b15 h9 hm => hk (b1, b2, b3, b4, b5, b6, b7, b8, b9, b10, b11, b12, b13, b14, b15) h9 hm)) (a1, a2, a3, a4, a5, a6, a7, a8, a9, a10, a11, a12, a13, a14, a15) h
theorem lp16 {A1 A2 A3 A4 A5 A6 A7 A8 A9 A10 A11 A12 A13 A14 A15 A16 : Type} (W : Nat → A1 → A2 → A3 → A4 → A5 → A6 → A7 → A8 → A9 → A10 → A11 → A12 → A13 → A14 → A15 → A16 → Prop) (I : A1 → A2 → A3 → A4 → A5 → A6 → A7 → A8 → A9 → A10 → A11 → A12 → A13 → A14 → A15 → A16 → Prop) (μ : A1 → A2 → A3 → A4 → A5 → A6 → A7 → A8 → A9 → A10 → A11 → A12 → A13 → A14 → A15 → A16 → Nat) (hs : ∀ (n : Nat) (a1 : A1) (a2 : A2) (a3 : A3) (a4 : A4) (a5 : A5) (a6 : A6) (a7 : A7) (a8 : A8) (a9 : A9) (a10 : A10) (a11 : A11) (a12 : A12) (a13 : A13) (a14 : A14) (a15 : A15) (a16 : A16), I a1 a2 a3 a4 a5 a6 a7 a8 a9 a10 a11 a12 a13 a14 a15 a16 → (∀ (b1 : A1) (b2 : A2) (b3 : A3) (b4 : A4) (b5 : A5) (b6 : A6) (b7 : A7) (b8 : A8) (b9 : A9) (b10 : A10) (b11 : A11) (b12 : A12) (b13 : A13) (b14 : A14) (b15 : A15) (b16 : A16), I b1 b2 b3 b4 b5 b6 b7 b8 b9 b10 b11 b12 b13 b14 b15 b16 → μ b1 b2 b3 b4 b5 b6 b7 b8 b9 b10 b11 b12 b13 b14 b15 b16 < μ a1 a2 a3 a4 a5 a6 a7 a8 a9 a10 a11 a12 a13 a14 a15 a16 → W n b1 b2 b3 b4 b5 b6 b7 b8 b9 b10 b11 b12 b13 b14 b15 b16) → W (n + 1) a1 a2 a3 a4 a5 a6 a7 a8 a9 a10 a11 a12 a13 a14 a15 a16) (a1 : A1) (a2 : A2) (a3 : A3) (a4 : A4) (a5 : A5) (a6 : A6) (a7 : A7) (a8 : A8) (a9 : A9) (a10 : A10) (a11 : A11) (a12 : A12) (a13 : A13) (a14 : A14) (a15 : A15) (a16 : A16) (h : I a1 a2 a3 a4 a5 a6 a7 a8 a9 a10 a11 a12 a13 a14 a15 a16) : ∃ n, W n a1 a2 a3 a4 a5 a6 a7 a8 a9 a10 a11 a12 a13 a14 a15 a16 :=
  loop_m (σ := A1 × A2 × A3 × A4 × A5 × A6 × A7 × A8 × A9 × A10 × A11 × A12 × A13 × A14 × A15 × A16) (fun n s => W n s.1 s.2.1 s.2.2.1 s.2.2.2.1 s.2.2.2.2.1 s.2.2.2.2.2.1 s.2.2.2.2.2.2.1 s.2.2.2.2.2.2.2.1 s.2.2.2.2.2.2.2.2.1 s.2.2.2.2.2.2.2.2.2.1 s.2.2.2.2.2.2.2.2.2.2.1 s.2.2.2.2.2.2.2.2.2.2.2.1 s.2.2.2.2.2.2.2.2.2.2.2.2.1 s.2.2.2.2.2.2.2.2.2.2.2.2.2.1 s.2.2.2.2.2.2.2.2.2.2.2.2.2.2.1 s.2.2.2.2.2.2.2.2.2.2.2.2.2.2.2) (fun s => I s.1 s.2.1 s.2.2.1 s.2.2.2.1 s.2.2.2.2.1 s.2.2.2.2.2.1 s.2.2.2.2.2.2.1 s.2.2.2.2.2.2.2.1 s.2.2.2.2.2.2.2.2.1 s.2.2.2.2.2.2.2.2.2.1 s.2.2.2.2.2.2.2.2.2.2.1 s.2.2.2.2.2.2.2.2.2.2.2.1 s.2.2.2.2.2.2.2.2.2.2.2.2.1 s.2.2.2.2.2.2.2.2.2.2.2.2.2.1 s.2.2.2.2.2.2.2.2.2.2.2.2.2.2.1 s.2.2.2.2.2.2.2.2.2.2.2.2.2.2.2) (fun s => μ s.1 s.2.1 s.2.2.1 s.2.2.2.1 s.2.2.2.2.1 s.2.2.2.2.2.1 s.2.2.2.2.2.2.1 s.2.2.2.2.2.2.2.1 s.2.2.2.2.2.2.2.2.1 s.2.2.2.2.2.2.2.2.2.1 s.2.2.2.2.2.2.2.2.2.2.1 s.2.2.2.2.2.2.2.2.2.2.2.1 s.2.2.2.2.2.2.2.2.2.2.2.2.1 s.2.2.2.2.2.2.2.2.2.2.2.2.2.1 s.2.2.2.2.2.2.2.2.2.2.2.2.2.2.1 s.2.2.2.2.2.2.2.2.2.2.2.2.2.2.2) (fun n s hI hk => hs n s.1 s.2.1 s.2.2.1 s.2.2.2.1 s.2.2.2.2.1 s.2.2.2.2.2.1 s.2.2.2.2.2.2.1 s.2.2.2.2.2.2.2.1 s.2.2.2.2.2.2.2.2.1 s.2.2.2.2.2.2.2.2.2.1 s.2.2.2.2.2.2.2.2.2.2.1 s.2.2.2.2.2.2.2.2.2.2.2.1 s.2.2.2.2.2.2.2.2.2.2.2.2.1 s.2.2.2.2.2.2.2.2.2.2.2.2.2.1 s.2.2.2.2.2.2.2.2.2.2.2.2.2.2.1 s.2.2.2.2.2.2.2.2.2.2.2.2.2.2.2 hI (fun b1 b2 b3 b4 b5 b6 b7 b8 b9 b10 b11 b12 b13 b14 b15 b16 h9 hm => hk (b1, b2, b3, b4, b5, b6, b7, b8, b9, b10, b11, b12, b13, b14, b15, b16) h9 hm)) (a1, a2, a3, a4, a5, a6, a7, a8, a9, a10, a11, a12, a13, a14, a15, a16) h
theorem pk_least (P : Nat → Prop) (h : ∃ k, P k) : ∃ k, P k ∧ ∀ j, j < k → ¬ P j := by
  obtain ⟨k, hk⟩ := h
  induction k using Nat.strongRecOn with
  | ind k ih =>
    by_cases e : ∃ j, j < k ∧ P j
    · obtain ⟨j, hj, pj⟩ := e
      exact ih j hj pj
    · exact ⟨k, hk, fun j hj pj => e ⟨j, hj, pj⟩⟩
theorem rp1 {ρ A1 : Type} (W : Nat → (ρ → Prop) → A1 → Prop) (ok : A1 → Prop) (μ : A1 → Nat) (val : A1 → ρ)
    (hs : ∀ (d : Nat) (post : ρ → Prop) (a1 : A1), ok a1 → post (val a1) → (∀ (post' : ρ → Prop) (b1 : A1), ok b1 → μ b1 < μ a1 → post' (val b1) → W d post' b1) → W (d + 1) post a1) :
    ∀ (d : Nat) (post : ρ → Prop) (a1 : A1), ok a1 → μ a1 < d → post (val a1) → W d post a1 := by
  intro d
  induction d with
  | zero => intro post a1 _ h; omega
  | succ d ih =>
    intro post a1 ho hm hp
    exact hs d post a1 ho hp (fun post' b1 ho' hm' hp' => ih post' b1 ho' (by omega) hp')
theorem rp2 {ρ A1 A2 : Type} (W : Nat → (ρ → Prop) → A1 → A2 → Prop) (ok : A1 → A2 → Prop) (μ : A1 → A2 → Nat) (val : A1 → A2 → ρ)
    (hs : ∀ (d : Nat) (post : ρ → Prop) (a1 : A1) (a2 : A2), ok a1 a2 → post (val a1 a2) → (∀ (post' : ρ → Prop) (b1 : A1) (b2 : A2), ok b1 b2 → μ b1 b2 < μ a1 a2 → post' (val b1 b2) → W d post' b1 b2) → W (d + 1) post a1 a2) :
    ∀ (d : Nat) (post : ρ → Prop) (a1 : A1) (a2 : A2), ok a1 a2 → μ a1 a2 < d → post (val a1 a2) → W d post a1 a2 := by
  intro d
  induction d with
  | zero => intro post a1 a2 _ h; omega
  | succ d ih =>
    intro post a1 a2 ho hm hp
    exact hs d post a1 a2 ho hp (fun post' b1 b2 ho' hm' hp' => ih post' b1 b2 ho' (by omega) hp')
theorem rp3 {ρ A1 A2 A3 : Type} (W : Nat → (ρ → Prop) → A1 → A2 → A3 → Prop) (ok : A1 → A2 → A3 → Prop) (μ : A1 → A2 → A3 → Nat) (val : A1 → A2 → A3 → ρ)
    (hs : ∀ (d : Nat) (post : ρ → Prop) (a1 : A1) (a2 : A2) (a3 : A3), ok a1 a2 a3 → post (val a1 a2 a3) → (∀ (post' : ρ → Prop) (b1 : A1) (b2 : A2) (b3 : A3), ok b1 b2 b3 → μ b1 b2 b3 < μ a1 a2 a3 → post' (val b1 b2 b3) → W d post' b1 b2 b3) → W (d + 1) post a1 a2 a3) :
    ∀ (d : Nat) (post : ρ → Prop) (a1 : A1) (a2 : A2) (a3 : A3), ok a1 a2 a3 → μ a1 a2 a3 < d → post (val a1 a2 a3) → W d post a1 a2 a3 := by
  intro d
  induction d with
  | zero => intro post a1 a2 a3 _ h; omega
  | succ d ih =>
    intro post a1 a2 a3 ho hm hp
    exact hs d post a1 a2 a3 ho hp (fun post' b1 b2 b3 ho' hm' hp' => ih post' b1 b2 b3 ho' (by omega) hp')
theorem rp4 {ρ A1 A2 A3 A4 : Type} (W : Nat → (ρ → Prop) → A1 → A2 → A3 → A4 → Prop) (ok : A1 → A2 → A3 → A4 → Prop) (μ : A1 → A2 → A3 → A4 → Nat) (val : A1 → A2 → A3 → A4 → ρ)
    (hs : ∀ (d : Nat) (post : ρ → Prop) (a1 : A1) (a2 : A2) (a3 : A3) (a4 : A4), ok a1 a2 a3 a4 → post (val a1 a2 a3 a4) → (∀ (post' : ρ → Prop) (b1 : A1) (b2 : A2) (b3 : A3) (b4 : A4), ok b1 b2 b3 b4 → μ b1 b2 b3 b4 < μ a1 a2 a3 a4 → post' (val b1 b2 b3 b4) → W d post' b1 b2 b3 b4) → W (d + 1) post a1 a2 a3 a4) :
    ∀ (d : Nat) (post : ρ → Prop) (a1 : A1) (a2 : A2) (a3 : A3) (a4 : A4), ok a1 a2 a3 a4 → μ a1 a2 a3 a4 < d → post (val a1 a2 a3 a4) → W d post a1 a2 a3 a4 := by
  intro d
  induction d with
  | zero => intro post a1 a2 a3 a4 _ h; omega
  | succ d ih =>
    intro post a1 a2 a3 a4 ho hm hp
    exact hs d post a1 a2 a3 a4 ho hp (fun post' b1 b2 b3 b4 ho' hm' hp' => ih post' b1 b2 b3 b4 ho' (by omega) hp')
theorem rp5 {ρ A1 A2 A3 A4 A5 : Type} (W : Nat → (ρ → Prop) → A1 → A2 → A3 → A4 → A5 → Prop) (ok : A1 → A2 → A3 → A4 → A5 → Prop) (μ : A1 → A2 → A3 → A4 → A5 → Nat) (val : A1 → A2 → A3 → A4 → A5 → ρ)
    (hs : ∀ (d : Nat) (post : ρ → Prop) (a1 : A1) (a2 : A2) (a3 : A3) (a4 : A4) (a5 : A5), ok a1 a2 a3 a4 a5 → post (val a1 a2 a3 a4 a5) → (∀ (post' : ρ → Prop) (b1 : A1) (b2 : A2) (b3 : A3) (b4 : A4) (b5 : A5), ok b1 b2 b3 b4 b5 → μ b1 b2 b3 b4 b5 < μ a1 a2 a3 a4 a5 → post' (val b1 b2 b3 b4 b5) → W d post' b1 b2 b3 b4 b5) → W (d + 1) post a1 a2 a3 a4 a5) :
    ∀ (d : Nat) (post : ρ → Prop) (a1 : A1) (a2 : A2) (a3 : A3) (a4 : A4) (a5 : A5), ok a1 a2 a3 a4 a5 → μ a1 a2 a3 a4 a5 < d → post (val a1 a2 a3 a4 a5) → W d post a1 a2 a3 a4 a5 := by
  intro d
  induction d with
  | zero => intro post a1 a2 a3 a4 a5 _ h; omega
  | succ d ih =>
    intro post a1 a2 a3 a4 a5 ho hm hp
    exact hs d post a1 a2 a3 a4 a5 ho hp (fun post' b1 b2 b3 b4 b5 ho' hm' hp' => ih post' b1 b2 b3 b4 b5 ho' (by omega) hp')
theorem rp6 {ρ A1 A2 A3 A4 A5 A6 : Type} (W : Nat → (ρ → Prop) → A1 → A2 → A3 → A4 → A5 → A6 → Prop) (ok : A1 → A2 → A3 → A4 → A5 → A6 → Prop) (μ : A1 → A2 → A3 → A4 → A5 → A6 → Nat) (val : A1 → A2 → A3 → A4 → A5 → A6 → ρ)
    (hs : ∀ (d : Nat) (post : ρ → Prop) (a1 : A1) (a2 : A2) (a3 : A3) (a4 : A4) (a5 : A5) (a6 : A6), ok a1 a2 a3 a4 a5 a6 → post (val a1 a2 a3 a4 a5 a6) → (∀ (post' : ρ → Prop) (b1 : A1) (b2 : A2) (b3 : A3) (b4 : A4) (b5 : A5) (b6 : A6), ok b1 b2 b3 b4 b5 b6 → μ b1 b2 b3 b4 b5 b6 < μ a1 a2 a3 a4 a5 a6 → post' (val b1 b2 b3 b4 b5 b6) → W d post' b1 b2 b3 b4 b5 b6) → W (d + 1) post a1 a2 a3 a4 a5 a6) :
    ∀ (d : Nat) (post : ρ → Prop) (a1 : A1) (a2 : A2) (a3 : A3) (a4 : A4) (a5 : A5) (a6 : A6), ok a1 a2 a3 a4 a5 a6 → μ a1 a2 a3 a4 a5 a6 < d → post (val a1 a2 a3 a4 a5 a6) → W d post a1 a2 a3 a4 a5 a6 := by
  intro d
  induction d with
  | zero => intro post a1 a2 a3 a4 a5 a6 _ h; omega
  | succ d ih =>
    intro post a1 a2 a3 a4 a5 a6 ho hm hp
    exact hs d post a1 a2 a3 a4 a5 a6 ho hp (fun post' b1 b2 b3 b4 b5 b6 ho' hm' hp' => ih post' b1 b2 b3 b4 b5 b6 ho' (by omega) hp')
theorem rec_p {σ ρ : Type} (W : Nat → (ρ → Prop) → σ → Prop) (ok : σ → Prop) (μ : σ → Nat) (val : σ → ρ)
    (hs : ∀ d s post, ok s → post (val s) → (∀ s' post', ok s' → μ s' < μ s → post' (val s') → W d post' s') → W (d + 1) post s) :
    ∀ d s post, ok s → μ s < d → post (val s) → W d post s := by
  intro d
  induction d with
  | zero => intro s post _ h; omega
  | succ d ih =>
    intro s post ho hm hp
    exact hs d s post ho hp (fun s' post' ho' hm' hp' => ih s' post' ho' (by omega) hp')
theorem rec_q {σ ρ : Type} (W : Nat → (ρ → Prop) → σ → Prop) (ok : σ → Prop) (μ : σ → Nat) (Q : σ → ρ → Prop)
    (hs : ∀ d s post, ok s → (∀ r, Q s r → post r) → (∀ s' post', ok s' → μ s' < μ s → (∀ r, Q s' r → post' r) → W d post' s') → W (d + 1) post s) :
    ∀ d s post, ok s → μ s < d → (∀ r, Q s r → post r) → W d post s := by
  intro d
  induction d with
  | zero => intro s post _ h; omega
  | succ d ih =>
    intro s post ho hm hp
    exact hs d s post ho hp (fun s' post' ho' hm' hp' => ih s' post' ho' (by omega) hp')
def bx_sum (f : Nat → Int32) : Nat → Int32
  | 0 => 0
  | n + 1 => bx_sum f n + f n
theorem ek_u {A : Prop} {B : Nat → Prop} {k N : Nat} (hk : k < N) (h : B k) : (some k = none → A) ∧ (∀ y : Nat, some k = some y → (y < N ∧ B y)) :=
  ⟨fun z => absurd z (Option.some_ne_none k), fun _ e => (by cases e; exact ⟨hk, h⟩)⟩
theorem ek_nu {A : Prop} {B : Nat → Prop} (h : A) : ((none : Option Nat) = none → A) ∧ (∀ y : Nat, (none : Option Nat) = some y → B y) :=
  ⟨fun _ => h, fun _ e => (by cases e)⟩
theorem ek_if {c d A B : Prop} (e : c ↔ d) (f : d → A) (g : ¬ d → B) : (c → A) ∧ (¬ c → B) :=
  ⟨fun z => f (e.mp z), fun z => g (fun y => z (e.mpr y))⟩
theorem ek_v {α : Sort _} {P : α → Prop} {a b : α} (e : a = b) (h : P b) : P a := e ▸ h
theorem co_some {x : Option Nat} {A : Prop} {B : Nat → Prop} (i : Nat) (h : B i) (hx : x = some i := by rfl) : (x = none → A) ∧ (∀ y : Nat, x = some y → B y) := by
  subst hx
  exact ⟨fun e => (nomatch e), fun y e => Option.some.inj e ▸ h⟩
theorem co_none {x : Option Nat} {A : Prop} {B : Nat → Prop} (h : A) (hx : x = none := by rfl) : (x = none → A) ∧ (∀ y : Nat, x = some y → B y) := by
  subst hx
  exact ⟨fun _ => h, fun y e => (nomatch e)⟩
theorem co_any {x : Option Nat} {A : Prop} {B : Nat → Prop} (hn : x = none → A) (hs : ∀ i : Nat, x = some i → B i) : (x = none → A) ∧ (∀ y : Nat, x = some y → B y) := ⟨hn, hs⟩
theorem co_2 {P : Nat → Prop} (h0 : P 0) (h1 : P 1) {i : Nat} (hi : i < 2) : P i :=
  match i, hi with
  | 0, _ => h0
  | 1, _ => h1
theorem co_3 {P : Nat → Prop} (h0 : P 0) (h1 : P 1) (h2 : P 2) {i : Nat} (hi : i < 3) : P i :=
  match i, hi with
  | 0, _ => h0
  | 1, _ => h1
  | 2, _ => h2
theorem co_4 {P : Nat → Prop} (h0 : P 0) (h1 : P 1) (h2 : P 2) (h3 : P 3) {i : Nat} (hi : i < 4) : P i :=
  match i, hi with
  | 0, _ => h0
  | 1, _ => h1
  | 2, _ => h2
  | 3, _ => h3
theorem co_dec {N : Nat} {P : Nat → Prop} [DecidablePred P] (h : (List.range N).all (fun i => decide (P i)) = true) {i : Nat} (hi : i < N) : P i := by
  have := List.all_eq_true.mp h i (List.mem_range.mpr hi)
  exact of_decide_eq_true this
theorem co_tab {α : Type} {l : List α} {d : α} {P : α → Prop} (h : ∀ a, a ∈ l → P a) {i : Nat} (hi : i < l.length) : P (l.getD i d) := by
  rw [List.getD_eq_getElem?_getD, List.getElem?_eq_getElem hi]
  exact h _ (List.getElem_mem hi)
theorem pk_mu {x : Int32} {L : Nat} (h0 : ¬ x < 0) (h : ¬ nI L ≤ x) (hL : L < 2 ^ 31) : ∃ j : Nat, j < L ∧ x = nI j ∧ x + 1 = nI (j + 1) ∧ x.toNatClampNeg = j ∧ L - (x + 1).toNatClampNeg < L - x.toNatClampNeg := by
  obtain ⟨j, hj, rfl⟩ := nI_of h0
  have hl : j < L := Nat.not_le.mp fun q => h (nI_le q hj)
  refine ⟨j, hl, rfl, nI_1 j, nI_clamp hj, ?_⟩
  rw [nI_1, nI_clamp (by omega), nI_clamp hj]
  omega
theorem op_s {α : Type} {r : Option α} {A : Prop} {B : α → Prop} {y : α} (h : r = some y) (b : B y) : (r = none → A) ∧ ∀ z, r = some z → B z :=
  ⟨fun e => (by rw [h] at e; cases e), fun z e => (by rw [h] at e; cases e; exact b)⟩
def l_holds {α : Type} (a : Nat → Option Nat) (LP : List Nat) (p : Nat → α) (c : Nat) (b : Nat → α) : Prop :=
  ∀ j, j < c → ∃ y, a j = some y ∧ y ∈ LP ∧ p y = b j
theorem l_holds_0 {α : Type} {a : Nat → Option Nat} {LP : List Nat} {p b : Nat → α} : l_holds a LP p 0 b := fun j h => absurd h (Nat.not_lt_zero j)
theorem l_in_new (LP : List Nat) (q : Nat) : q ∈ LP ++ [q] := List.mem_append.mpr (Or.inr (List.mem_singleton.mpr rfl))
def l_sum (b : Nat → Int32) : Nat → Int32
  | 0 => 0
  | k + 1 => l_sum b k + b k
theorem sb_shr0 (x : Int32) : x >>> ((0 : Int32) &&& 31) = x := by
  rw [show ((0 : Int32) &&& 31) = 0 by decide]
  simp
theorem sb_shl0 (x : Int32) : x <<< ((0 : Int32) &&& 31) = x := by
  rw [show ((0 : Int32) &&& 31) = 0 by decide]
  simp
theorem sb_cl0 : (0 : Int32).toNatClampNeg = 0 := by decide
theorem sb_m1 {p : Nat} (h : 0 < p) : nI p + (-1) = nI (p - 1) := by
  obtain ⟨q, rfl⟩ : ∃ q, p = q + 1 := ⟨p - 1, by omega⟩
  exact pk_m1 q
def sb_b (c : Nat) : Int32 := (nI c).toInt8.toInt32
theorem sb_byte : ∀ c, c < 256 → sb_b c &&& 255 = nI c ∧ ((nI c).toUInt32 % 65536).toInt32 = nI c ∧ nI c ≤ 255 := by decide +kernel
def sb_Fit (a : Nat → Int32) : Prop := ∀ j, fits .byte (.int (a j)) = true
def sb_Lat (t : Nat → Nat) (n : Nat) (a : Nat → Int32) : Prop := ∀ j, j < n → t j < 256 ∧ a j = sb_b (t j)
theorem sb_fitB (c : Nat) : fits .byte (.int (sb_b c)) = true := pk_fb _
theorem sb_fit0 : sb_Fit (fun _ => 0) := fun _ => by
  show fits .byte (.int 0) = true
  decide
theorem sb_fitU {a : Nat → Int32} {k : Nat} {x : Int32} (h : sb_Fit a) (hx : fits .byte (.int x) = true) : sb_Fit (upd a k x) := by
  intro j
  by_cases e : j = k
  · subst e
    rw [pk_us]
    exact hx
  · rw [pk_un e]
    exact h j
def sb_cat (t : Nat → Nat) (n : Nat) (s : Nat → Nat) : Nat → Nat := fun j => if j < n then t j else s (j - n)
theorem sb_cat_lo {t s : Nat → Nat} {n j : Nat} (h : j < n) : sb_cat t n s j = t j := if_pos h
theorem sb_cat_hi {t s : Nat → Nat} {n j : Nat} : sb_cat t n s (n + j) = s j := by
  show (if n + j < n then t (n + j) else s (n + j - n)) = s j
  rw [if_neg (by omega), Nat.add_sub_cancel_left]
theorem sb_latPut {t s : Nat → Nat} {n w : Nat} {a a' : Nat → Int32} (h : sb_Lat t n a) (hk : ∀ j, j < n → a' j = a j) (hs : ∀ i, i < w → s i < 256 ∧ a' (n + i) = sb_b (s i)) : sb_Lat (sb_cat t n s) (n + w) a' := by
  intro j hj
  by_cases e : j < n
  · rw [sb_cat_lo e, hk j e]
    exact h j e
  · obtain ⟨i, rfl⟩ : ∃ i, j = n + i := ⟨j - n, by omega⟩
    rw [sb_cat_hi]
    exact hs i (by omega)
theorem sb_latKeep {t : Nat → Nat} {n : Nat} {a a' : Nat → Int32} (h : sb_Lat t n a) (hk : ∀ j, j < n → a' j = a j) : sb_Lat t n a' := fun j hj => by
  rw [hk j hj]
  exact h j hj
def sb_cap (q m : Nat) : Nat := if q ≤ m then m else if 2 * m + 2 < q then q else 2 * m + 2
def sb_Room (q m mc ms : Nat) : Prop := q ≤ m ∨ (1 ≤ mc ∧ sb_cap q m ≤ ms ∧ sb_cap q m ≤ 65536)
theorem sb_cap_ge (q m : Nat) : q ≤ sb_cap q m := by
  unfold sb_cap
  split
  · omega
  · split <;> omega
theorem sb_cap_gem (q m : Nat) : m ≤ sb_cap q m := by
  unfold sb_cap
  split
  · omega
  · split <;> omega
theorem sb_cap_le {q m mc ms : Nat} (hm : m ≤ 65536) (hr : sb_Room q m mc ms) : sb_cap q m ≤ 65536 := by
  rcases hr with h | h
  · rw [sb_cap, if_pos h]
    exact hm
  · exact h.2.2
theorem sb_at {P : Int32 → Prop} {x y : Int32} (e : x = y) (h : P y) : P x := e ▸ h
def sb_dg (w : Nat) : Nat := if w < 10 then 1 else if w < 100 then 2 else if w < 1000 then 3 else if w < 10000 then 4 else if w < 100000 then 5 else if w < 1000000 then 6 else if w < 10000000 then 7 else if w < 100000000 then 8 else if w < 1000000000 then 9 else 10
def sb_dec (v : Nat) : Nat → Nat := fun i => 48 + v / 10 ^ (sb_dg v - 1 - i) % 10
theorem sb_dg_in (w : Nat) : 1 ≤ sb_dg w ∧ sb_dg w ≤ 10 := by
  unfold sb_dg
  constructor <;> (repeat' split) <;> omega
theorem sb_dg100 {w : Nat} (h : 100 ≤ w) (hw : w < 2 ^ 31) : sb_dg w = sb_dg (w / 100) + 2 := by
  rw [sb_dg, sb_dg, if_neg (show ¬ w < 10 by omega), if_neg (show ¬ w < 100 by omega)]
  by_cases h3 : w < 1000
  · rw [if_pos h3, if_pos (show w / 100 < 10 by omega)]
  rw [if_neg h3, if_neg (show ¬ w / 100 < 10 by omega)]
  by_cases h4 : w < 10000
  · rw [if_pos h4, if_pos (show w / 100 < 100 by omega)]
  rw [if_neg h4, if_neg (show ¬ w / 100 < 100 by omega)]
  by_cases h5 : w < 100000
  · rw [if_pos h5, if_pos (show w / 100 < 1000 by omega)]
  rw [if_neg h5, if_neg (show ¬ w / 100 < 1000 by omega)]
  by_cases h6 : w < 1000000
  · rw [if_pos h6, if_pos (show w / 100 < 10000 by omega)]
  rw [if_neg h6, if_neg (show ¬ w / 100 < 10000 by omega)]
  by_cases h7 : w < 10000000
  · rw [if_pos h7, if_pos (show w / 100 < 100000 by omega)]
  rw [if_neg h7, if_neg (show ¬ w / 100 < 100000 by omega)]
  by_cases h8 : w < 100000000
  · rw [if_pos h8, if_pos (show w / 100 < 1000000 by omega)]
  rw [if_neg h8, if_neg (show ¬ w / 100 < 1000000 by omega)]
  by_cases h9 : w < 1000000000
  · rw [if_pos h9, if_pos (show w / 100 < 10000000 by omega)]
  rw [if_neg h9, if_neg (show ¬ w / 100 < 10000000 by omega)]
  rw [if_pos (show w / 100 < 100000000 by omega)]
theorem sb_negT {w : Nat} (h : w < 2 ^ 31) : (-nI w).toInt = -(w : Int) := by
  rw [Int32.toInt_neg, nI_toInt h]
  exact Int.bmod_eq_of_le (by omega) (by omega)
theorem sb_nle {a b : Nat} (ha : a < 2 ^ 31) (hb : b < 2 ^ 31) : -nI a ≤ -nI b ↔ b ≤ a := by
  rw [Int32.le_iff_toInt_le, sb_negT ha, sb_negT hb]
  omega
theorem sb_nlt {a b : Nat} (ha : a < 2 ^ 31) (hb : b < 2 ^ 31) : -nI a < -nI b ↔ b < a := by
  rw [Int32.lt_iff_toInt_lt, sb_negT ha, sb_negT hb]
  omega
theorem sb_cmp {A B : Prop} {x : Int32} (v c : Nat) (f : c ≤ v → A) (g : v < c → B) (hv : v < 2 ^ 31) (hx : x = -nI c := by rfl) (hc : c < 2 ^ 31 := by omega) : (-nI v ≤ x → A) ∧ (¬ -nI v ≤ x → B) := by
  subst hx
  rw [sb_nle hv hc]
  exact ⟨f, fun z => g (by omega)⟩
theorem sb_ndiv {w : Nat} (hw : w < 2 ^ 31) : (-nI w) / 100 = -nI (w / 100) := by
  apply Int32.toInt_inj.mp
  have h100 : (100 : Int32).toInt = 100 := by decide
  rw [Int32.toInt_div, sb_negT hw, h100, sb_negT (by omega), Int.neg_tdiv, Int.tdiv_eq_ediv_of_nonneg (by omega), Int.bmod_eq_of_le (by omega) (by omega)]
  omega
theorem sb_nrem {w : Nat} (hw : w < 2 ^ 31) : (-nI (w / 100)) * 100 - (-nI w) = nI (w % 100) := by
  have h := pk_rem (a := w) (d := 100) hw (by decide) (by decide)
  rw [pk_div hw (by decide) (by decide)] at h
  rw [← h]
  show (-nI (w / 100)) * nI 100 - (-nI w) = nI w - nI (w / 100) * nI 100
  rw [Int32.neg_mul, Int32.sub_neg, Int32.add_comm, ← Int32.sub_eq_add_neg]
end
section
/-! lists linked both ways: the first and last one, the next and previous of each -/
def dl_hd : List Nat → Int32
  | [] => -1
  | a :: _ => nI a
theorem dl_hd_neg {l : List Nat} (h : ∀ x, x ∈ l → x < 12) : dl_hd l < 0 ↔ l = [] := by
  cases l with
  | nil => exact ⟨fun _ => rfl, fun _ => by decide⟩
  | cons a t =>
    refine ⟨fun hn => ?_, fun hn => by cases hn⟩
    have h1 := h a (by simp)
    exact absurd hn (nI_pos (by omega))
theorem dl_hd_app (l m : List Nat) : dl_hd (l ++ m) = if l = [] then dl_hd m else dl_hd l := by
  cases l with
  | nil => simp
  | cons a t => simp [dl_hd]
theorem dl_hd_ne {l m : List Nat} (h : l ≠ []) : dl_hd (l ++ m) = dl_hd l := by
  rw [dl_hd_app, if_neg h]
theorem dl_lastE {l : List Nat} (h : l ≠ []) : ∃ l0 z, l = l0 ++ [z] :=
  ⟨l.dropLast, l.getLast h, (List.dropLast_concat_getLast h).symm⟩
theorem dl_lastC {s2 b s0 : List Nat} {x z : Nat} (e : s2 ++ x :: b = s0 ++ [z]) : (b = [] ∧ x = z) ∨ (b ≠ [] ∧ z ∈ b) := by
  by_cases hb : b = []
  · subst hb
    have := (List.append_inj' e rfl).2
    exact Or.inl ⟨rfl, by simpa using this⟩
  · obtain ⟨b0, q, rfl⟩ := dl_lastE hb
    have e2 : (s2 ++ x :: b0) ++ [q] = s0 ++ [z] := by rw [← e]; simp
    have h3 := (List.append_inj' e2 rfl).2
    have h4 : q = z := by simpa using h3
    subst h4
    exact Or.inr ⟨hb, by simp⟩
def dl_ok (l : List Nat) (f b : Int32) (nx pv : Nat → Int32) : Prop :=
  f = dl_hd l ∧ b = dl_hd l.reverse ∧ ∀ (s : List Nat) (a : Nat) (t : List Nat), l = s ++ a :: t → nx a = dl_hd t ∧ pv a = dl_hd s.reverse
theorem dl_nil (nx pv : Nat → Int32) : dl_ok [] (-1) (-1) nx pv :=
  ⟨rfl, rfl, fun s a t h => by simp at h⟩
theorem dl_fr {l : List Nat} {f b : Int32} {nx pv nx' pv' : Nat → Int32} (h : dl_ok l f b nx pv) (h1 : ∀ x, x ∈ l → nx' x = nx x) (h2 : ∀ x, x ∈ l → pv' x = pv x) : dl_ok l f b nx' pv' := by
  refine ⟨h.1, h.2.1, fun s a t e => ?_⟩
  have m : a ∈ l := by rw [e]; simp
  rw [h1 a m, h2 a m]
  exact h.2.2 s a t e
theorem dl_one {a : Nat} {nx pv : Nat → Int32} (h1 : nx a = -1) (h2 : pv a = -1) : dl_ok [a] (nI a) (nI a) nx pv := by
  refine ⟨rfl, rfl, fun s x t e => ?_⟩
  cases s with
  | nil =>
    simp at e
    obtain ⟨rfl, rfl⟩ := e
    exact ⟨h1, h2⟩
  | cons y s' =>
    simp at e
theorem dl_app0 {l : List Nat} {f b : Int32} {nx pv : Nat → Int32} {a : Nat} (h : dl_ok l f b nx pv) (hb : b < 0) (hl : ∀ x, x ∈ l → x < 12) : l = [] ∧ b = -1 := by
  have h2 := h.2.1
  rw [h2] at hb
  have h3 : l.reverse = [] := (dl_hd_neg (fun x hx => hl x (by simpa using hx))).mp hb
  have h4 : l = [] := by simpa using h3
  subst h4
  exact ⟨rfl, h2⟩
theorem dl_app1 {l : List Nat} {f b : Int32} {nx pv : Nat → Int32} {a : Nat} (h : dl_ok l f b nx pv) (hb : ¬ b < 0) (ha : a ∉ l) (hl : ∀ x, x ∈ l → x < 12) (hn : l.Nodup) : ∃ z, z ∈ l ∧ b = nI z ∧ dl_ok (l ++ [a]) f (nI a) (upd (upd nx a (-1)) z (nI a)) (upd pv a b) := by
  have hne : l ≠ [] := by
    intro h0
    subst h0
    exact hb (by rw [h.2.1]; decide)
  obtain ⟨l0, z, e0⟩ := dl_lastE hne
  have hz : z ∈ l := by rw [e0]; simp
  have hbz : b = nI z := by rw [h.2.1, e0]; simp [dl_hd]
  refine ⟨z, hz, hbz, ?_, ?_, fun s x t e => ?_⟩
  · rw [h.1, dl_hd_app, if_neg hne]
  · simp [dl_hd]
  · have A : x = a → t = [] → s = l → upd (upd nx a (-1)) z (nI a) x = dl_hd t ∧ upd pv a b x = dl_hd s.reverse := by
      intro e1 e2 e3
      subst e1 e2 e3
      have hxz : x ≠ z := fun hh => ha (hh ▸ hz)
      rw [pk_un hxz, pk_us, pk_us]
      exact ⟨rfl, h.2.1⟩
    rcases List.append_eq_append_iff.mp e with ⟨as, e1, e2⟩ | ⟨bs, e1, e2⟩
    · cases as with
      | nil =>
        simp at e1 e2
        exact A e2.1.symm e2.2 e1
      | cons w as' => simp at e2
    · cases bs with
      | nil =>
        simp at e1 e2
        exact A e2.1 e2.2 e1.symm
      | cons w bs' =>
        simp at e2
        obtain ⟨rfl, rfl⟩ := e2
        have o := h.2.2 s x bs' e1
        have hx : x ∈ l := by rw [e1]; simp
        have hxa : x ≠ a := fun hh => ha (hh ▸ hx)
        rw [pk_un hxa]
        refine ⟨?_, o.2⟩
        rcases dl_lastC (e1.symm.trans e0) with ⟨h1, h2⟩ | ⟨h1, h2⟩
        · subst h1 h2
          rw [pk_us]
          rfl
        · have hxz : x ≠ z := by
            intro hh
            subst hh
            rw [e1] at hn
            have := (List.nodup_append.mp hn).2.1
            exact (List.nodup_cons.mp this).1 h2
          rw [pk_un hxz, pk_un hxa, o.1, dl_hd_app, if_neg h1]
theorem dl_un {s t : List Nat} {a : Nat} {f b f' b' : Int32} {nx pv nx' pv' : Nat → Int32} (h : dl_ok (s ++ a :: t) f b nx pv) (hn : (s ++ a :: t).Nodup)
    (h1 : (s = [] ∧ f' = nx a ∧ nx' = nx) ∨ (∃ s0 z, s = s0 ++ [z] ∧ f' = f ∧ nx' = upd nx z (nx a)))
    (h2 : (t = [] ∧ b' = pv a ∧ pv' = pv) ∨ (∃ y t0, t = y :: t0 ∧ b' = b ∧ pv' = upd pv y (pv a))) : dl_ok (s ++ t) f' b' nx' pv' := by
  have na := h.2.2 s a t rfl
  have hn1 := List.nodup_append.mp hn
  have hn2 := List.nodup_cons.mp hn1.2.1
  have dst : ∀ x, x ∈ s → x ∈ t → False := fun x hx hy => hn1.2.2 x hx x (List.mem_cons_of_mem _ hy) rfl
  have A : ∀ (as : List Nat) (x : Nat) (t2 : List Nat), t = as ++ x :: t2 → nx' x = dl_hd t2 ∧ pv' x = dl_hd (s ++ as).reverse := by
    intro as x t2 e2
    have o := h.2.2 (s ++ a :: as) x t2 (by rw [e2]; simp)
    have hx : x ∈ t := by rw [e2]; simp
    constructor
    · rcases h1 with ⟨_, _, e⟩ | ⟨s0, z, hs, _, e⟩
      · rw [e]; exact o.1
      · have hxz : x ≠ z := fun hh => dst z (by rw [hs]; simp) (hh ▸ hx)
        rw [e, pk_un hxz]; exact o.1
    · rcases h2 with ⟨ht, _, _⟩ | ⟨y, t0, ht, _, e⟩
      · rw [ht] at hx; simp at hx
      · cases as with
        | nil =>
          rw [ht] at e2
          simp at e2
          rw [e, ← e2.1, pk_us, na.2]; simp
        | cons w as' =>
          have hw : y = w := by rw [ht] at e2; simp at e2; exact e2.1
          have hxy : x ≠ y := by
            intro hh
            have q := hn2.2
            rw [e2, ← hw, ← hh] at q
            have q2 := (List.nodup_cons.mp q).1
            exact q2 (by simp)
          rw [e, pk_un hxy, o.2]
          simp only [List.reverse_append, List.reverse_cons, List.append_assoc]
          by_cases hr : as'.reverse = []
          · rw [hr]
            rfl
          · rw [dl_hd_ne hr, dl_hd_ne hr]
  refine ⟨?_, ?_, fun s2 x t2 e => ?_⟩
  · rcases h1 with ⟨hs, e, _⟩ | ⟨s0, z, hs, e, _⟩
    · subst hs
      rw [e, na.1]; rfl
    · have hne : s ≠ [] := by rw [hs]; simp
      rw [e, h.1, dl_hd_app, dl_hd_app, if_neg hne, if_neg hne]
  · rcases h2 with ⟨ht, e, _⟩ | ⟨y, t0, ht, e, _⟩
    · subst ht
      rw [e, na.2]; simp
    · have hne : t.reverse ≠ [] := by rw [ht]; simp
      rw [e, h.2.1]
      simp only [List.reverse_append, List.reverse_cons, List.append_assoc]
      rw [dl_hd_ne hne, dl_hd_ne hne]
  · rcases List.append_eq_append_iff.mp e with ⟨as, e1, e2⟩ | ⟨bs, e1, e2⟩
    · rw [e1]; exact A as x t2 e2
    · cases bs with
      | nil =>
        have r := A [] x t2 (by simpa using e2.symm)
        have e3 : s = s2 := by simpa using e1
        rw [e3] at r
        simpa using r
      | cons w bs' =>
        simp at e2
        obtain ⟨rfl, rfl⟩ := e2
        have o := h.2.2 s2 x (bs' ++ a :: t) (by rw [e1]; simp)
        have hx : x ∈ s := by rw [e1]; simp
        constructor
        · rcases h1 with ⟨hs, _, _⟩ | ⟨s0, z, hs, _, e⟩
          · rw [hs] at hx; simp at hx
          · rcases dl_lastC (e1.symm.trans hs) with ⟨q1, q2⟩ | ⟨q1, q2⟩
            · rw [e, q2, pk_us, q1, na.1]; rfl
            · have hxz : x ≠ z := by
                intro hh
                have q := hn1.1
                rw [e1] at q
                have q3 := (List.nodup_cons.mp (List.nodup_append.mp q).2.1).1
                exact q3 (hh ▸ q2)
              rw [e, pk_un hxz, o.1, dl_hd_app, dl_hd_app, if_neg q1, if_neg q1]
        · rcases h2 with ⟨_, _, e⟩ | ⟨y, t0, ht, _, e⟩
          · rw [e]; exact o.2
          · have hxy : x ≠ y := fun hh => dst x hx (by rw [ht, hh]; simp)
            rw [e, pk_un hxy]; exact o.2
/-! counting -/
def cn_c (P : Nat → Bool) : Nat → Nat → Nat
  | _, 0 => 0
  | i, d + 1 => (if P i = true then 1 else 0) + cn_c P (i + 1) d
theorem cn_le (P : Nat → Bool) : ∀ d i, cn_c P i d ≤ d := by
  intro d
  induction d with
  | zero => intro i; exact Nat.le_refl 0
  | succ d ih =>
    intro i
    have h := ih (i + 1)
    unfold cn_c
    split <;> omega
theorem cn_len {P : Nat → Bool} : ∀ (d i : Nat) (l : List Nat), l.Nodup → (∀ j, j ∈ l ↔ i ≤ j ∧ j < i + d ∧ P j = true) → l.length = cn_c P i d := by
  intro d
  induction d with
  | zero =>
    intro i l _ hm
    have h0 : l = [] := by
      rw [List.eq_nil_iff_forall_not_mem]
      intro a ha
      have := (hm a).mp ha
      omega
    subst h0
    rfl
  | succ d ih =>
    intro i l hn hm
    unfold cn_c
    by_cases hp : P i = true
    · rw [if_pos hp]
      have hi : i ∈ l := (hm i).mpr ⟨Nat.le_refl i, by omega, hp⟩
      have h := ih (i + 1) (l.erase i) (hn.erase i) (fun j => by
        rw [hn.mem_erase_iff, hm j]
        constructor
        · rintro ⟨h1, h2, h3, h4⟩
          exact ⟨by omega, by omega, h4⟩
        · rintro ⟨h2, h3, h4⟩
          exact ⟨by omega, by omega, by omega, h4⟩)
      rw [List.length_erase_of_mem hi] at h
      have hpos := List.length_pos_of_mem hi
      omega
    · rw [if_neg hp]
      have h := ih (i + 1) l hn (fun j => by
        rw [hm j]
        constructor
        · rintro ⟨h2, h3, h4⟩
          have : j ≠ i := fun hh => hp (hh ▸ h4)
          exact ⟨by omega, by omega, h4⟩
        · rintro ⟨h2, h3, h4⟩
          exact ⟨by omega, by omega, h4⟩)
      omega
def so_ok (key : Nat → Nat) (l : List Nat) : Prop := l.Pairwise (fun a b => key a < key b)
theorem so_nd {key : Nat → Nat} {l : List Nat} (h : so_ok key l) : l.Nodup :=
  List.Pairwise.imp (fun hab e => by subst e; exact Nat.lt_irrefl _ hab) h
theorem so_rank {key : Nat → Nat} {l s t : List Nat} {x i d : Nat} {P : Nat → Bool} (h : so_ok key l) (hm : ∀ j, j ∈ l ↔ i ≤ j ∧ j < i + d ∧ P j = true) (e : l = s ++ x :: t) : cn_c (fun j => P j && decide (key j < key x)) i d = s.length := by
  have hn := so_nd h
  rw [e] at hn
  unfold so_ok at h
  rw [e] at h
  have h2 := List.pairwise_append.mp h
  have h3 := List.pairwise_cons.mp h2.2.1
  refine (cn_len d i s (List.nodup_append.mp hn).1 (fun j => ?_)).symm
  constructor
  · intro hj
    have q := (hm j).mp (by rw [e]; simp [hj])
    have q2 := h2.2.2 j hj x (by simp)
    exact ⟨q.1, q.2.1, by simp [q.2.2, q2]⟩
  · rintro ⟨h4, h5, h6⟩
    simp at h6
    have q := (hm j).mpr ⟨h4, h5, h6.1⟩
    rw [e] at q
    simp at q
    rcases q with q | q | q
    · exact q
    · subst q; omega
    · have := h3.1 j q; omega
theorem so_uniq {l s t s' t' : List Nat} {x x' : Nat} (e : l = s ++ x :: t) (e' : l = s' ++ x' :: t') (hl : s.length = s'.length) : x = x' := by
  have := (List.append_inj (e.symm.trans e') hl).2
  simpa using (List.cons.inj this).1
theorem so_app {key : Nat → Nat} {l : List Nat} {a s : Nat} (h : so_ok key l) (hs : ∀ x, key x ≤ s) (ha : a ∉ l) : so_ok (fun x => if x = a then s + 1 else key x) (l ++ [a]) := by
  unfold so_ok at h ⊢
  rw [List.pairwise_append]
  refine ⟨?_, by simp, ?_⟩
  · refine List.Pairwise.imp_of_mem (fun {x y} hx hy hxy => ?_) h
    have h1 : x ≠ a := fun hh => ha (hh ▸ hx)
    have h2 : y ≠ a := fun hh => ha (hh ▸ hy)
    show (if x = a then s + 1 else key x) < (if y = a then s + 1 else key y)
    rw [if_neg h1, if_neg h2]
    exact hxy
  · intro x hx y hy
    have hy' : y = a := by simpa using hy
    have h1 : x ≠ a := fun hh => ha (hh ▸ hx)
    show (if x = a then s + 1 else key x) < (if y = a then s + 1 else key y)
    rw [if_neg h1, if_pos hy']
    have := hs x
    omega
theorem so_fr {key key' : Nat → Nat} {l : List Nat} (h : so_ok key l) (he : ∀ x, x ∈ l → key' x = key x) : so_ok key' l := by
  unfold so_ok at h ⊢
  refine List.Pairwise.imp_of_mem (fun {x y} hx hy hxy => ?_) h
  rw [he x hx, he y hy]
  exact hxy
theorem so_fil {key : Nat → Nat} {l : List Nat} (p : Nat → Bool) (h : so_ok key l) : so_ok key (l.filter p) :=
  List.Pairwise.filter p h
theorem so_min {key : Nat → Nat} {a y : Nat} {l : List Nat} (h : so_ok key (a :: l)) (hy : y ∈ a :: l) (hk : key y ≤ key a) : y = a := by
  rcases List.mem_cons.mp hy with h1 | h1
  · exact h1
  · have := (List.pairwise_cons.mp h).1 y h1
    omega
end
section
/-! the abstract state of both sides -/
abbrev AC : Type := Int32 × Int32 × Nat × Nat × Nat × Nat × Int32 × Int32 × Nat × Nat × Nat × (Nat → Int32) × (Nat → Int32) × (Nat → Int32) × (Nat → Int32) × (Nat → Int32) × (Nat → Int32) × (Nat → Int32) × (Nat → Int32) × (Nat → Int32) × (Nat → Int32) × (Nat → List Nat) × (Nat → List (Int32 × Int32 × Int32)) × (Nat → List Nat) × (List Nat)
def ac_lim (c : AC) : Int32 := c.1
def ac_win (c : AC) : Int32 := c.2.1
def ac_lost (c : AC) : Nat := c.2.2.1
def ac_fai (c : AC) : Nat := c.2.2.2.1
def ac_ane (c : AC) : Nat := c.2.2.2.2.1
def ac_mel (c : AC) : Nat := c.2.2.2.2.2.1
def ac_hv (c : AC) : Int32 := c.2.2.2.2.2.2.1
def ac_hs (c : AC) : Int32 := c.2.2.2.2.2.2.2.1
def ac_puts (c : AC) : Nat := c.2.2.2.2.2.2.2.2.1
def ac_steps (c : AC) : Nat := c.2.2.2.2.2.2.2.2.2.1
def ac_wk (c : AC) : Nat := c.2.2.2.2.2.2.2.2.2.2.1
def ac_op (c : AC) : Nat → Int32 := c.2.2.2.2.2.2.2.2.2.2.2.1
def ac_as (c : AC) : Nat → Int32 := c.2.2.2.2.2.2.2.2.2.2.2.2.1
def ac_bs (c : AC) : Nat → Int32 := c.2.2.2.2.2.2.2.2.2.2.2.2.2.1
def ac_th (c : AC) : Nat → Int32 := c.2.2.2.2.2.2.2.2.2.2.2.2.2.2.1
def ac_pa (c : AC) : Nat → Int32 := c.2.2.2.2.2.2.2.2.2.2.2.2.2.2.2.1
def ac_be (c : AC) : Nat → Int32 := c.2.2.2.2.2.2.2.2.2.2.2.2.2.2.2.2.1
def ac_bo (c : AC) : Nat → Int32 := c.2.2.2.2.2.2.2.2.2.2.2.2.2.2.2.2.2.1
def ac_sg (c : AC) : Nat → Int32 := c.2.2.2.2.2.2.2.2.2.2.2.2.2.2.2.2.2.2.1
def ac_st (c : AC) : Nat → Int32 := c.2.2.2.2.2.2.2.2.2.2.2.2.2.2.2.2.2.2.2.1
def ac_ou (c : AC) : Nat → Int32 := c.2.2.2.2.2.2.2.2.2.2.2.2.2.2.2.2.2.2.2.2.1
def ac_ch (c : AC) : (Nat → List Nat) := c.2.2.2.2.2.2.2.2.2.2.2.2.2.2.2.2.2.2.2.2.2.1
def ac_ml (c : AC) : (Nat → List (Int32 × Int32 × Int32)) := c.2.2.2.2.2.2.2.2.2.2.2.2.2.2.2.2.2.2.2.2.2.2.1
def ac_fl (c : AC) : (Nat → List Nat) := c.2.2.2.2.2.2.2.2.2.2.2.2.2.2.2.2.2.2.2.2.2.2.2.1
def ac_row (c : AC) : (List Nat) := c.2.2.2.2.2.2.2.2.2.2.2.2.2.2.2.2.2.2.2.2.2.2.2.2

noncomputable def bb_ (p : Prop) : Bool := @decide p (Classical.propDecidable p)
theorem bb_iff {p : Prop} : bb_ p = true ↔ p := @decide_eq_true_iff p (Classical.propDecidable p)
theorem bb_no {p : Prop} : bb_ p = false ↔ ¬ p := @decide_eq_false_iff_not p (Classical.propDecidable p)
theorem bb_eq {p q : Prop} (h : p ↔ q) : bb_ p = bb_ q := by
  have : p = q := propext h
  rw [this]
def fu_ {α : Type} (f : Nat → α) (k : Nat) (v : α) : Nat → α := fun j => if j = k then v else f j
theorem fu_s {α : Type} {f : Nat → α} {k : Nat} {v : α} : fu_ f k v k = v := if_pos rfl
theorem fu_n {α : Type} {f : Nat → α} {k j : Nat} {v : α} (h : j ≠ k) : fu_ f k v j = f j := if_neg h
/-! ancestors -/
def up_n (pa : Nat → Int32) : Nat → Nat → Nat
  | 0, x => x
  | n + 1, x => up_n pa n (pa x).toNatClampNeg
def up_in (pa : Nat → Int32) (a x : Nat) : Prop := ∃ n, up_n pa n x = a
theorem up_self {pa : Nat → Int32} {a : Nat} : up_in pa a a := ⟨0, rfl⟩
theorem up_par {pa : Nat → Int32} {a x p : Nat} (h : pa x = nI p) (hp : p < 12) : up_in pa a x ↔ x = a ∨ up_in pa a p := by
  have e : (pa x).toNatClampNeg = p := by rw [h]; exact nI_clamp (by omega)
  constructor
  · rintro ⟨n, hn⟩
    cases n with
    | zero => exact Or.inl hn
    | succ n =>
      right
      refine ⟨n, ?_⟩
      rw [← e]
      exact hn
  · rintro (h1 | ⟨n, hn⟩)
    · exact ⟨0, h1⟩
    · refine ⟨n + 1, ?_⟩
      show up_n pa n (pa x).toNatClampNeg = a
      rw [e]
      exact hn
theorem up_n0 {pa : Nat → Int32} (h : pa 0 = 0) : ∀ n, up_n pa n 0 = 0 := by
  intro n
  induction n with
  | zero => rfl
  | succ n ih =>
    show up_n pa n (pa 0).toNatClampNeg = 0
    rw [h]
    exact ih
theorem up_zero {pa : Nat → Int32} {a : Nat} (h : pa 0 = 0) : up_in pa a 0 ↔ a = 0 := by
  constructor
  · rintro ⟨n, hn⟩
    rw [up_n0 h] at hn
    exact hn.symm
  · intro e
    exact ⟨0, e.symm⟩
/-! the invariant -/
def ci_C (th pa : Nat → Int32) (ch : Nat → List Nat) : Prop :=
  (∀ p x, x ∈ ch p ↔ p < 12 ∧ 0 < x ∧ x < 12 ∧ th x ≠ 0 ∧ pa x = nI p) ∧ ∀ p, (ch p).Nodup
def ci_K (th pa : Nat → Int32) (rk : Nat → Nat) (M : Nat) : Prop :=
  (∀ x, x < 12 → rk x ≤ M) ∧ ∀ x p, 0 < x → x < 12 → th x ≠ 0 → pa x = nI p → p < 12 → rk p < rk x
def ci_P (th pa : Nat → Int32) : Prop := ∀ x, 0 < x → x < 12 → th x ≠ 0 → ∃ p, p < 12 ∧ pa x = nI p ∧ th p ≠ 0
def ci_T (th pa : Nat → Int32) (ch : Nat → List Nat) : Prop :=
  th 0 ≠ 0 ∧ pa 0 = 0 ∧ ci_P th pa ∧ ci_C th pa ch ∧ ∃ rk M, ci_K th pa rk M
def ci_V (th be bo sg : Nat → Int32) : Prop :=
  ∀ x, x < 12 → th x ≠ 0 → (∃ b, b ≤ 3 ∧ be x = nI b) ∧ (∃ b, b ≤ 3 ∧ bo x = nI b) ∧ (∃ g, g ≤ 2 ∧ sg x = nI g)
def ci_M (th : Nat → Int32) (ml : Nat → List (Int32 × Int32 × Int32)) : Prop :=
  ∀ x, (x < 12 → (ml x).length ≤ 6) ∧ (0 < x → x < 12 → th x = 0 → ml x = []) ∧
    ∀ k v f, (k, v, f) ∈ ml x → (∃ q, q ≤ 3 ∧ k = nI q) ∧ (∃ q, q < 12 ∧ f = nI q)
def ci_Q (th : Nat → Int32) (ml : Nat → List (Int32 × Int32 × Int32)) (row : List Nat) (wk : Nat) : Prop :=
  row.Nodup ∧ (∀ x, x ∈ row → 0 < x ∧ x < 12 ∧ th x ≠ 0 ∧ ml x ≠ []) ∧ wk ∉ row ∧ wk < 12
def ci_F (fl : Nat → List Nat) (steps : Nat) : Prop :=
  ∀ p, (fl p).length ≤ 4 ∧ (∀ t, t ∈ fl p → t ≤ steps) ∧ (fl p).Pairwise (fun a b => b ≤ a)
def ci_R (op as bs : Nat → Int32) : Prop :=
  ∀ k, k < 48 → (op k = 3 → (∃ a, a ≤ 5 ∧ as k = nI a) ∧ ∃ b, b ≤ 3 ∧ bs k = nI b) ∧
    (op k = 5 → (∃ a, a ≤ 3 ∧ as k = nI a) ∧ ∃ b, b ≤ 2 ∧ bs k = nI b) ∧ (op k = 7 → ∃ a, a ≤ 3 ∧ as k = nI a)
def ci_B (B : Nat) (lim win hs : Int32) (steps puts : Nat) : Prop :=
  (∃ l, l ≤ 3 ∧ lim = nI l) ∧ (∃ w, 1 ≤ w ∧ w ≤ 100 ∧ win = nI w) ∧ (∃ q, q < 12 ∧ hs = nI q) ∧ steps ≤ B ∧ puts ≤ B
def ci_A (B : Nat) (c : AC) : Prop :=
  ci_T (ac_th c) (ac_pa c) (ac_ch c) ∧ ci_V (ac_th c) (ac_be c) (ac_bo c) (ac_sg c) ∧ ci_M (ac_th c) (ac_ml c) ∧
  ci_Q (ac_th c) (ac_ml c) (ac_row c) (ac_wk c) ∧ ci_F (ac_fl c) (ac_steps c) ∧ ci_R (ac_op c) (ac_as c) (ac_bs c) ∧
  ci_B B (ac_lim c) (ac_win c) (ac_hs c) (ac_steps c) (ac_puts c)
theorem ci_up {B B' : Nat} {c : AC} (h : ci_A B c) (hb : B ≤ B') : ci_A B' c := by
  obtain ⟨h1, h2, h3, h4, h5, h6, h7, h8, h9, h10, h11⟩ := h
  exact ⟨h1, h2, h3, h4, h5, h6, h7, h8, h9, by omega, by omega⟩
theorem up_rk {th pa : Nat → Int32} {rk : Nat → Nat} {M a : Nat} (h0 : pa 0 = 0) (hP : ci_P th pa) (hK : ci_K th pa rk M) : ∀ n y, y < 12 → th y ≠ 0 → up_n pa n y = a → rk a ≤ rk y := by
  intro n
  induction n with
  | zero =>
    intro y _ _ h
    have h' : y = a := h
    rw [h']
    exact Nat.le_refl _
  | succ n ih =>
    intro y hy ht h
    by_cases hz : y = 0
    · subst hz
      rw [up_n0 h0] at h
      rw [h]
      exact Nat.le_refl _
    · obtain ⟨p, hp, he, hq⟩ := hP y (by omega) hy ht
      have h2 : up_n pa n (pa y).toNatClampNeg = a := h
      rw [he, nI_clamp (by omega)] at h2
      have h3 := ih p hp hq h2
      have h4 := hK.2 y p (by omega) hy ht he hp
      omega
theorem up_chd {th pa : Nat → Int32} {ch : Nat → List Nat} {a : Nat} (h0 : pa 0 = 0) (hP : ci_P th pa) (hC : ci_C th pa ch) (ha : a < 12) : ∀ n y, y < 12 → th y ≠ 0 → up_n pa n y = a → y ≠ a → ch a ≠ [] := by
  intro n
  induction n with
  | zero =>
    intro y _ _ h hn
    exact absurd h hn
  | succ n ih =>
    intro y hy ht h hn
    by_cases hz : y = 0
    · subst hz
      rw [up_n0 h0] at h
      exact absurd h hn
    · obtain ⟨p, hp, he, hq⟩ := hP y (by omega) hy ht
      have h2 : up_n pa n (pa y).toNatClampNeg = a := h
      rw [he, nI_clamp (by omega)] at h2
      by_cases hpa : p = a
      · subst hpa
        have hm : y ∈ ch p := (hC.1 p y).mpr ⟨hp, by omega, hy, ht, he⟩
        intro h5
        rw [h5] at hm
        simp at hm
      · exact ih p hp hq h2 hpa
theorem ci_chlt {th pa : Nat → Int32} {ch : Nat → List Nat} (hC : ci_C th pa ch) {p x : Nat} (h : x ∈ ch p) : x < 12 := ((hC.1 p x).mp h).2.2.1
/-! actors that go -/
def rm_g (D : Nat → Bool) (x : Nat) : Bool := decide (0 < x) && decide (x < 12) && D x
theorem rm_gi {D : Nat → Bool} {x : Nat} (h0 : 0 < x) (h1 : x < 12) : rm_g D x = D x := by simp [rm_g, h0, h1]
theorem rm_g0 {D : Nat → Bool} {x : Nat} (h : ¬ (0 < x ∧ x < 12)) : rm_g D x = false := by
  unfold rm_g
  by_cases h0 : 0 < x
  · have h1 : ¬ x < 12 := fun q => h ⟨h0, q⟩
    simp [h1]
  · simp [h0]
theorem rm_gor {D E : Nat → Bool} (x : Nat) : rm_g (fun y => D y || E y) x = (rm_g D x || rm_g E x) := by
  show (decide (0 < x) && decide (x < 12) && (D x || E x)) = ((decide (0 < x) && decide (x < 12) && D x) || (decide (0 < x) && decide (x < 12) && E x))
  cases D x <;> cases E x <;> simp
def cs_s (f : Nat → Nat) : Nat → Nat → Nat
  | _, 0 => 0
  | i, d + 1 => f i + cs_s f (i + 1) d
theorem cs_add {f g h : Nat → Nat} (e : ∀ x, f x + g x = h x) : ∀ d i, cs_s f i d + cs_s g i d = cs_s h i d := by
  intro d
  induction d with
  | zero => intro i; rfl
  | succ d ih =>
    intro i
    have h1 := ih (i + 1)
    have h2 := e i
    unfold cs_s
    omega
theorem cs_con {f g : Nat → Nat} (e : ∀ x, f x = g x) : ∀ d i, cs_s f i d = cs_s g i d := by
  have : f = g := funext e
  intro d i
  rw [this]
theorem cs_zero : ∀ d i, cs_s (fun _ => 0) i d = 0 := by
  intro d
  induction d with
  | zero => intro i; rfl
  | succ d ih =>
    intro i
    unfold cs_s
    rw [ih]
theorem cs_one {n x : Nat} : ∀ d i, i ≤ x → x < i + d → cs_s (fun y => if y = x then n else 0) i d = n := by
  intro d
  induction d with
  | zero => intro i h1 h2; omega
  | succ d ih =>
    intro i h1 h2
    unfold cs_s
    by_cases h : i = x
    · subst h
      rw [if_pos rfl]
      have : ∀ e j, i < j → cs_s (fun y => if y = i then n else 0) j e = 0 := by
        intro e
        induction e with
        | zero => intro j _; rfl
        | succ e ihe =>
          intro j hj
          unfold cs_s
          rw [if_neg (by omega), ihe (j + 1) (by omega)]
      rw [this d (i + 1) (by omega)]
      omega
    · rw [if_neg h, ih (i + 1) (by omega) (by omega)]
      omega
def rm_k (c : AC) (l : Nat) (t : Nat → Int32) (h : Nat → List Nat) (m : Nat → List (Int32 × Int32 × Int32)) (r : List Nat) : AC := (ac_lim c, ac_win c, l, ac_fai c, ac_ane c, ac_mel c, ac_hv c, ac_hs c, ac_puts c, ac_steps c, ac_wk c, ac_op c, ac_as c, ac_bs c, t, ac_pa c, ac_be c, ac_bo c, ac_sg c, ac_st c, ac_ou c, h, m, ac_fl c, r)
theorem rm_kc {c : AC} {l l' : Nat} {t t' : Nat → Int32} {h h' : Nat → List Nat} {m m' : Nat → List (Int32 × Int32 × Int32)} {r r' : List Nat} (e1 : l = l') (e2 : t = t') (e3 : h = h') (e4 : m = m') (e5 : r = r') : rm_k c l t h m r = rm_k c l' t' h' m' r' := by
  subst e1 e2 e3 e4 e5
  rfl
def rm_ (D : Nat → Bool) (c : AC) : AC :=
  rm_k c (ac_lost c + cs_s (fun x => if rm_g D x = true then (ac_ml c x).length else 0) 1 11) (fun x => if rm_g D x = true then 0 else ac_th c x)
    (fun p => (ac_ch c p).filter (fun x => !rm_g D x)) (fun x => if rm_g D x = true then [] else ac_ml c x) ((ac_row c).filter (fun x => !rm_g D x))
theorem rm_rm (D E : Nat → Bool) (c : AC) : rm_ E (rm_ D c) = rm_ (fun x => D x || E x) c := by
  refine rm_kc (c := c) ?_ ?_ ?_ ?_ ?_
  · refine (Nat.add_assoc (ac_lost c) _ _).trans ?_
    refine congrArg (fun n => ac_lost c + n) (cs_add (fun x => ?_) 11 1)
    show (if rm_g D x = true then (ac_ml c x).length else 0) + (if rm_g E x = true then (if rm_g D x = true then [] else ac_ml c x).length else 0) = _
    rw [rm_gor]
    cases rm_g D x <;> cases rm_g E x <;> simp
  · funext x
    show (if rm_g E x = true then 0 else (if rm_g D x = true then 0 else ac_th c x)) = _
    rw [rm_gor]
    cases rm_g D x <;> cases rm_g E x <;> simp
  · funext p
    show ((ac_ch c p).filter (fun x => !rm_g D x)).filter (fun x => !rm_g E x) = _
    rw [List.filter_filter]
    refine List.filter_congr (fun x _ => ?_)
    rw [rm_gor]
    cases rm_g D x <;> cases rm_g E x <;> rfl
  · funext x
    show (if rm_g E x = true then [] else (if rm_g D x = true then [] else ac_ml c x)) = _
    rw [rm_gor]
    cases rm_g D x <;> cases rm_g E x <;> simp
  · show ((ac_row c).filter (fun x => !rm_g D x)).filter (fun x => !rm_g E x) = _
    rw [List.filter_filter]
    refine List.filter_congr (fun x _ => ?_)
    rw [rm_gor]
    cases rm_g D x <;> cases rm_g E x <;> rfl
theorem rm_con {D E : Nat → Bool} {c : AC} (hM : ∀ x, 0 < x → x < 12 → ac_th c x = 0 → ac_ml c x = []) (hR : ∀ x, x ∈ ac_row c → ac_th c x ≠ 0) (hC : ∀ p x, x ∈ ac_ch c p → ac_th c x ≠ 0) (hD : ∀ x, 0 < x → x < 12 → ac_th c x ≠ 0 → D x = E x) : rm_ D c = rm_ E c := by
  have key : ∀ x, ac_th c x ≠ 0 → rm_g D x = rm_g E x := by
    intro x hx
    by_cases h : 0 < x ∧ x < 12
    · rw [rm_gi h.1 h.2, rm_gi h.1 h.2, hD x h.1 h.2 hx]
    · rw [rm_g0 h, rm_g0 h]
  have kml : ∀ x, (if rm_g D x = true then [] else ac_ml c x) = (if rm_g E x = true then [] else ac_ml c x) := by
    intro x
    by_cases hx : ac_th c x = 0
    · by_cases h : 0 < x ∧ x < 12
      · rw [hM x h.1 h.2 hx]
        split <;> split <;> rfl
      · rw [rm_g0 h, rm_g0 h]
    · rw [key x hx]
  refine rm_kc (c := c) ?_ ?_ ?_ ?_ ?_
  · refine congrArg (fun n => ac_lost c + n) (cs_con (fun x => ?_) 11 1)
    show (if rm_g D x = true then (ac_ml c x).length else 0) = (if rm_g E x = true then (ac_ml c x).length else 0)
    by_cases hx : ac_th c x = 0
    · by_cases h : 0 < x ∧ x < 12
      · rw [hM x h.1 h.2 hx]
        split <;> split <;> rfl
      · rw [rm_g0 h, rm_g0 h]
    · rw [key x hx]
  · funext x
    show (if rm_g D x = true then 0 else ac_th c x) = (if rm_g E x = true then 0 else ac_th c x)
    by_cases hx : ac_th c x = 0
    · rw [hx]
      split <;> split <;> rfl
    · rw [key x hx]
  · funext p
    exact List.filter_congr (fun x hx => by rw [key x (hC p x hx)])
  · funext x
    exact kml x
  · exact List.filter_congr (fun x hx => by rw [key x (hR x hx)])
theorem rm_non {c : AC} : rm_ (fun _ => false) c = c := by
  have hg : ∀ x, rm_g (fun _ => false) x = false := fun x => by simp [rm_g]
  have : rm_ (fun _ => false) c = rm_k c (ac_lost c) (ac_th c) (ac_ch c) (ac_ml c) (ac_row c) := by
    refine rm_kc (c := c) ?_ ?_ ?_ ?_ ?_
    · rw [cs_con (g := fun _ => 0) (fun x => by rw [hg]; rfl), cs_zero, Nat.add_zero]
    · funext x
      rw [hg]
      rfl
    · funext p
      rw [List.filter_eq_self]
      intro x _
      rw [hg]
      rfl
    · funext x
      rw [hg]
      rfl
    · rw [List.filter_eq_self]
      intro x _
      rw [hg]
      rfl
  rw [this]
  rfl
theorem rm_tn {D : Nat → Bool} {t : Nat → Int32} {x : Nat} : (if rm_g D x = true then (0 : Int32) else t x) ≠ 0 ↔ rm_g D x = false ∧ t x ≠ 0 := by
  cases rm_g D x <;> simp
theorem rm_ci {B : Nat} {D : Nat → Bool} {c : AC} (h : ci_A B c) (hd : ∀ x p, 0 < x → x < 12 → ac_th c x ≠ 0 → rm_g D x = false → ac_pa c x = nI p → p < 12 → rm_g D p = false) : ci_A B (rm_ D c) := by
  obtain ⟨⟨t0, t1, tP, tC, rk, M, tK⟩, hV, hM, hQ, hF, hR, hB⟩ := h
  refine ⟨⟨?_, t1, ?_, ?_, rk, M, ?_⟩, ?_, ?_, ?_, hF, hR, hB⟩
  · exact (rm_tn (D := D)).mpr ⟨rm_g0 (by omega), t0⟩
  · intro x h0 h1 hx
    have hx' := rm_tn.mp hx
    obtain ⟨p, hp, he, hq⟩ := tP x h0 h1 hx'.2
    exact ⟨p, hp, he, rm_tn.mpr ⟨hd x p h0 h1 hx'.2 hx'.1 he hp, hq⟩⟩
  · refine ⟨fun p x => ?_, fun p => List.Pairwise.filter _ (tC.2 p)⟩
    show x ∈ (ac_ch c p).filter (fun x => !rm_g D x) ↔ p < 12 ∧ 0 < x ∧ x < 12 ∧ (if rm_g D x = true then (0 : Int32) else ac_th c x) ≠ 0 ∧ ac_pa c x = nI p
    rw [List.mem_filter, tC.1 p x, rm_tn]
    constructor
    · rintro ⟨⟨a1, a2, a3, a4, a5⟩, a6⟩
      exact ⟨a1, a2, a3, ⟨by simpa using a6, a4⟩, a5⟩
    · rintro ⟨a1, a2, a3, ⟨a6, a4⟩, a5⟩
      exact ⟨⟨a1, a2, a3, a4, a5⟩, by simpa using a6⟩
  · exact ⟨tK.1, fun x p h0 h1 hx he hp => tK.2 x p h0 h1 (rm_tn.mp hx).2 he hp⟩
  · exact fun x h1 hx => hV x h1 (rm_tn.mp hx).2
  · intro x
    show (x < 12 → (if rm_g D x = true then [] else ac_ml c x).length ≤ 6) ∧ (0 < x → x < 12 → (if rm_g D x = true then (0 : Int32) else ac_th c x) = 0 → (if rm_g D x = true then [] else ac_ml c x) = []) ∧ ∀ k v f, (k, v, f) ∈ (if rm_g D x = true then [] else ac_ml c x) → (∃ q, q ≤ 3 ∧ k = nI q) ∧ (∃ q, q < 12 ∧ f = nI q)
    cases hg : rm_g D x
    · simpa using hM x
    · simp
  · obtain ⟨q1, q2, q3, q4⟩ := hQ
    refine ⟨List.Pairwise.filter _ q1, fun x hx => ?_, fun hx => q3 (List.mem_filter.mp hx).1, q4⟩
    have hx' := List.mem_filter.mp hx
    have hg : rm_g D x = false := by simpa using hx'.2
    obtain ⟨a1, a2, a3, a4⟩ := q2 x hx'.1
    refine ⟨a1, a2, rm_tn.mpr ⟨hg, a3⟩, ?_⟩
    show (if rm_g D x = true then [] else ac_ml c x) ≠ []
    rw [hg]
    exact a4
end
section
/-! whom an end takes along -/
noncomputable def rm_S (pa : Nat → Int32) (a : Nat) : Nat → Bool := fun x => bb_ (up_in pa a x)
noncomputable def rm_B (pa : Nat → Int32) (a : Nat) : Nat → Bool := fun x => bb_ (up_in pa a x ∧ x ≠ a)
def rm_1 (x : Nat) : Nat → Bool := fun y => decide (y = x)
theorem ci_con {B : Nat} {c : AC} {D E : Nat → Bool} (h : ci_A B c) (hD : ∀ x, 0 < x → x < 12 → ac_th c x ≠ 0 → D x = E x) : rm_ D c = rm_ E c := by
  obtain ⟨⟨t0, t1, tP, tC, rk, M, tK⟩, hV, hM, hQ, hF, hR, hB⟩ := h
  exact rm_con (fun x a b e => (hM x).2.1 a b e) (fun x hx => (hQ.2.1 x hx).2.2.1) (fun p x hx => ((tC.1 p x).mp hx).2.2.2.1) hD
theorem rm_Sci {B a : Nat} {c : AC} (h : ci_A B c) : ci_A B (rm_ (rm_S (ac_pa c) a) c) := by
  refine rm_ci h (fun x p h0 h1 hx hg he hp => ?_)
  rw [rm_gi h0 h1] at hg
  have hn : ¬ up_in (ac_pa c) a x := bb_no.mp hg
  rw [up_par he hp] at hn
  by_cases hz : 0 < p ∧ p < 12
  · rw [rm_gi hz.1 hz.2]
    exact bb_no.mpr (fun q => hn (Or.inr q))
  · exact rm_g0 hz
theorem rm_Bci {B a : Nat} {c : AC} (h : ci_A B c) : ci_A B (rm_ (rm_B (ac_pa c) a) c) := by
  refine rm_ci h (fun x p h0 h1 hx hg he hp => ?_)
  obtain ⟨⟨t0, t1, tP, tC, rk, M, tK⟩, _⟩ := h
  rw [rm_gi h0 h1] at hg
  have hn : ¬ (up_in (ac_pa c) a x ∧ x ≠ a) := bb_no.mp hg
  by_cases hz : 0 < p ∧ p < 12
  · rw [rm_gi hz.1 hz.2]
    refine bb_no.mpr (fun q => ?_)
    have hux : up_in (ac_pa c) a x := (up_par he hp).mpr (Or.inr q.1)
    have hxa : x = a := Classical.byContradiction (fun hh => hn ⟨hux, hh⟩)
    subst hxa
    obtain ⟨p', hp', he', hq'⟩ := tP x h0 h1 hx
    have hpp : p = p' := (nI_eq (by omega) (by omega)).mp (he.symm.trans he')
    subst hpp
    obtain ⟨n, hn2⟩ := q.1
    have r1 := up_rk t1 tP tK n p hp hq' hn2
    have r2 := tK.2 x p h0 h1 hx he hp
    omega
  · exact rm_g0 hz
theorem rm_1ci {B x : Nat} {c : AC} (h : ci_A B c) (hl : ac_ch c x = []) : ci_A B (rm_ (rm_1 x) c) := by
  refine rm_ci h (fun y p h0 h1 hy hg he hp => ?_)
  obtain ⟨⟨t0, t1, tP, tC, rk, M, tK⟩, _⟩ := h
  by_cases hz : 0 < p ∧ p < 12
  · rw [rm_gi hz.1 hz.2]
    refine decide_eq_false (fun hpx => ?_)
    have hm := (tC.1 p y).mpr ⟨hp, h0, h1, hy, he⟩
    rw [hpx, hl] at hm
    simp at hm
  · exact rm_g0 hz
theorem rm_S1 {a x : Nat} {c : AC} (hu : up_in (ac_pa c) a x) : rm_ (rm_S (ac_pa c) a) (rm_ (rm_1 x) c) = rm_ (rm_S (ac_pa c) a) c := by
  rw [rm_rm]
  refine congrArg (fun D => rm_ D c) (funext (fun y => ?_))
  show (decide (y = x) || bb_ (up_in (ac_pa c) a y)) = bb_ (up_in (ac_pa c) a y)
  by_cases h : y = x
  · subst h
    rw [bb_iff.mpr hu]
    simp
  · simp [h]
theorem rm_Slf {B a : Nat} {c : AC} (h : ci_A B c) (ha : a < 12) (hl : ac_ch c a = []) : rm_ (rm_1 a) c = rm_ (rm_S (ac_pa c) a) c := by
  refine ci_con h (fun y h0 h1 hy => ?_)
  obtain ⟨⟨t0, t1, tP, tC, rk, M, tK⟩, _⟩ := h
  show decide (y = a) = bb_ (up_in (ac_pa c) a y)
  by_cases hya : y = a
  · subst hya
    rw [bb_iff.mpr up_self]
    simp
  · rw [bb_no.mpr (fun ⟨n, hn⟩ => up_chd t1 tP tC ha n y h1 hy hn hya hl)]
    simp [hya]
theorem rm_BS {B a e : Nat} {c : AC} (h : ci_A B c) (ha : a < 12) (hta : ac_th c a ≠ 0) (he : e ∈ ac_ch c a) : rm_ (rm_B (ac_pa c) a) (rm_ (rm_S (ac_pa c) e) c) = rm_ (rm_B (ac_pa c) a) c := by
  obtain ⟨⟨t0, t1, tP, tC, rk, M, tK⟩, _⟩ := h
  obtain ⟨_, e0, e1, e2, e3⟩ := (tC.1 a e).mp he
  rw [rm_rm]
  refine congrArg (fun D => rm_ D c) (funext (fun y => ?_))
  show (bb_ (up_in (ac_pa c) e y) || bb_ (up_in (ac_pa c) a y ∧ y ≠ a)) = bb_ (up_in (ac_pa c) a y ∧ y ≠ a)
  by_cases hu : up_in (ac_pa c) e y
  · have h1 : up_in (ac_pa c) a y := by
      obtain ⟨n, hn⟩ := hu
      have : ∀ n y, up_n (ac_pa c) n y = e → up_in (ac_pa c) a y := by
        intro n
        induction n with
        | zero =>
          intro y hy
          have hy' : y = e := hy
          subst hy'
          exact (up_par e3 ha).mpr (Or.inr up_self)
        | succ n ih =>
          intro y hy
          obtain ⟨m, hm⟩ := ih _ hy
          exact ⟨m + 1, hm⟩
      exact this n y hn
    have h2 : y ≠ a := by
      intro hya
      subst hya
      obtain ⟨n, hn⟩ := hu
      have r1 := up_rk t1 tP tK n y ha hta hn
      have r2 := tK.2 e y e0 e1 e2 e3 ha
      omega
    rw [bb_iff.mpr (⟨h1, h2⟩ : up_in (ac_pa c) a y ∧ y ≠ a)]
    simp
  · rw [bb_no.mpr hu]
    simp
theorem rm_Blf {B a : Nat} {c : AC} (h : ci_A B c) (ha : a < 12) (hl : ac_ch c a = []) : rm_ (rm_B (ac_pa c) a) c = c := by
  have e : rm_ (rm_B (ac_pa c) a) c = rm_ (fun _ => false) c := by
    refine ci_con h (fun y h0 h1 hy => ?_)
    obtain ⟨⟨t0, t1, tP, tC, rk, M, tK⟩, _⟩ := h
    exact bb_no.mpr (fun ⟨⟨n, hn⟩, hya⟩ => up_chd t1 tP tC ha n y h1 hy hn hya hl)
  rw [e, rm_non]
/-! single operations -/
def ac_app (c : AC) (a : Nat) : AC := (ac_lim c, ac_win c, ac_lost c, ac_fai c, ac_ane c, ac_mel c, ac_hv c, ac_hs c, ac_puts c, ac_steps c, ac_wk c, ac_op c, ac_as c, ac_bs c, ac_th c, ac_pa c, ac_be c, ac_bo c, ac_sg c, ac_st c, ac_ou c, ac_ch c, ac_ml c, ac_fl c, ac_row c ++ [a])
def ac_los (c : AC) : AC := (ac_lim c, ac_win c, ac_lost c + 1, ac_fai c, ac_ane c, ac_mel c, ac_hv c, ac_hs c, ac_puts c, ac_steps c, ac_wk c, ac_op c, ac_as c, ac_bs c, ac_th c, ac_pa c, ac_be c, ac_bo c, ac_sg c, ac_st c, ac_ou c, ac_ch c, ac_ml c, ac_fl c, ac_row c)
def ac_put (c : AC) (to : Nat) (k v f : Int32) : AC := (ac_lim c, ac_win c, ac_lost c, ac_fai c, ac_ane c, ac_mel c, ac_hv c, ac_hs c, ac_puts c, ac_steps c, ac_wk c, ac_op c, ac_as c, ac_bs c, ac_th c, ac_pa c, ac_be c, ac_bo c, ac_sg c, ac_st c, ac_ou c, ac_ch c, fu_ (ac_ml c) to (ac_ml c to ++ [(k, v, f)]), ac_fl c, ac_row c)
def ac_post (c : AC) (to : Nat) (k v f : Int32) : AC :=
  if (ac_ml c to).length = 6 then ac_los c
  else if to ∈ ac_row c ∨ to = ac_wk c then ac_put c to k v f else ac_app (ac_put c to k v f) to
def ac_show (c : AC) (v : Int32) : AC := (ac_lim c, ac_win c, ac_lost c, ac_fai c, ac_ane c, ac_mel c, ac_hv c, ac_hs c, ac_puts c + 1, ac_steps c, ac_wk c, ac_op c, ac_as c, ac_bs c, ac_th c, ac_pa c, ac_be c, ac_bo c, ac_sg c, ac_st c, (fun k => if k = 0 then v else if k < 16 then ac_ou c (k - 1) else ac_ou c k), ac_ch c, ac_ml c, ac_fl c, ac_row c)
def ac_brt (c : AC) (a p : Nat) (b s : Int32) : AC := (ac_lim c, ac_win c, ac_lost c, ac_fai c, ac_ane c, ac_mel c, ac_hv c, ac_hs c, ac_puts c, ac_steps c, ac_wk c, ac_op c, ac_as c, ac_bs c, upd (ac_th c) a 1, upd (ac_pa c) a (nI p), upd (ac_be c) a b, upd (ac_bo c) a b, upd (ac_sg c) a s, upd (ac_st c) a 0, ac_ou c, fu_ (ac_ch c) p (ac_ch c p ++ [a]), ac_ml c, fu_ (ac_fl c) a [], ac_row c)
def ac_note (c : AC) (p : Nat) : AC := (ac_lim c, ac_win c, ac_lost c, ac_fai c, ac_ane c, ac_mel c, ac_hv c, ac_hs c, ac_puts c, ac_steps c, ac_wk c, ac_op c, ac_as c, ac_bs c, ac_th c, ac_pa c, ac_be c, ac_bo c, ac_sg c, ac_st c, ac_ou c, ac_ch c, ac_ml c, fu_ (ac_fl c) p ((ac_steps c :: ac_fl c p).take 4), ac_row c)
def ac_fi (c : AC) : AC := (ac_lim c, ac_win c, ac_lost c, ac_fai c + 1, ac_ane c, ac_mel c, ac_hv c, ac_hs c, ac_puts c, ac_steps c, ac_wk c, ac_op c, ac_as c, ac_bs c, ac_th c, ac_pa c, ac_be c, ac_bo c, ac_sg c, ac_st c, ac_ou c, ac_ch c, ac_ml c, ac_fl c, ac_row c)
def ac_mlt (c : AC) : AC := (ac_lim c, ac_win c, ac_lost c, ac_fai c, ac_ane c, ac_mel c + 1, ac_hv c, ac_hs c, ac_puts c, ac_steps c, ac_wk c, ac_op c, ac_as c, ac_bs c, ac_th c, ac_pa c, ac_be c, ac_bo c, ac_sg c, ac_st c, ac_ou c, ac_ch c, ac_ml c, ac_fl c, ac_row c)
def ac_cl (c : AC) (p : Nat) : AC := (ac_lim c, ac_win c, ac_lost c, ac_fai c, ac_ane c, ac_mel c, ac_hv c, ac_hs c, ac_puts c, ac_steps c, ac_wk c, ac_op c, ac_as c, ac_bs c, ac_th c, ac_pa c, ac_be c, ac_bo c, ac_sg c, ac_st c, ac_ou c, ac_ch c, ac_ml c, fu_ (ac_fl c) p [], ac_row c)
def ac_rst (c : AC) (x : Nat) : AC := (ac_lim c, ac_win c, ac_lost c, ac_fai c, ac_ane c + 1, ac_mel c, ac_hv c, ac_hs c, ac_puts c, ac_steps c, ac_wk c, ac_op c, ac_as c, ac_bs c, ac_th c, ac_pa c, upd (ac_be c) x (ac_bo c x), ac_bo c, ac_sg c, upd (ac_st c) x 0, ac_ou c, ac_ch c, ac_ml c, fu_ (ac_fl c) x [], ac_row c)
def ac_beg (c : AC) (x : Nat) (v f : Int32) : AC := (ac_lim c, ac_win c, ac_lost c, ac_fai c, ac_ane c, ac_mel c, v, f, ac_puts c, ac_steps c + 1, x, ac_op c, ac_as c, ac_bs c, ac_th c, ac_pa c, ac_be c, ac_bo c, ac_sg c, ac_st c, ac_ou c, ac_ch c, fu_ (ac_ml c) x (ac_ml c x).tail, ac_fl c, (ac_row c).filter (fun y => !decide (y = x)))
def ac_idle (c : AC) : AC := (ac_lim c, ac_win c, ac_lost c, ac_fai c, ac_ane c, ac_mel c, ac_hv c, ac_hs c, ac_puts c, ac_steps c, 0, ac_op c, ac_as c, ac_bs c, ac_th c, ac_pa c, ac_be c, ac_bo c, ac_sg c, ac_st c, ac_ou c, ac_ch c, ac_ml c, ac_fl c, ac_row c)
def ac_rule (c : AC) (k : Nat) (o a b : Int32) : AC := (ac_lim c, ac_win c, ac_lost c, ac_fai c, ac_ane c, ac_mel c, ac_hv c, ac_hs c, ac_puts c, ac_steps c, ac_wk c, upd (ac_op c) k o, upd (ac_as c) k a, upd (ac_bs c) k b, ac_th c, ac_pa c, ac_be c, ac_bo c, ac_sg c, ac_st c, ac_ou c, ac_ch c, ac_ml c, ac_fl c, ac_row c)
def ac_sgx (c : AC) (x : Nat) (g : Int32) : AC := (ac_lim c, ac_win c, ac_lost c, ac_fai c, ac_ane c, ac_mel c, ac_hv c, ac_hs c, ac_puts c, ac_steps c, ac_wk c, ac_op c, ac_as c, ac_bs c, ac_th c, ac_pa c, ac_be c, ac_bo c, upd (ac_sg c) x g, ac_st c, ac_ou c, ac_ch c, ac_ml c, ac_fl c, ac_row c)
def ac_lmx (c : AC) (l w : Int32) : AC := (l, w, ac_lost c, ac_fai c, ac_ane c, ac_mel c, ac_hv c, ac_hs c, ac_puts c, ac_steps c, ac_wk c, ac_op c, ac_as c, ac_bs c, ac_th c, ac_pa c, ac_be c, ac_bo c, ac_sg c, ac_st c, ac_ou c, ac_ch c, ac_ml c, ac_fl c, ac_row c)
def ac_stx (c : AC) (x : Nat) (v : Int32) : AC := (ac_lim c, ac_win c, ac_lost c, ac_fai c, ac_ane c, ac_mel c, ac_hv c, ac_hs c, ac_puts c, ac_steps c, ac_wk c, ac_op c, ac_as c, ac_bs c, ac_th c, ac_pa c, ac_be c, ac_bo c, ac_sg c, upd (ac_st c) x v, ac_ou c, ac_ch c, ac_ml c, ac_fl c, ac_row c)
def ac_bex (c : AC) (x : Nat) (v : Int32) : AC := (ac_lim c, ac_win c, ac_lost c, ac_fai c, ac_ane c, ac_mel c, ac_hv c, ac_hs c, ac_puts c, ac_steps c, ac_wk c, ac_op c, ac_as c, ac_bs c, ac_th c, ac_pa c, upd (ac_be c) x v, ac_bo c, ac_sg c, ac_st c, ac_ou c, ac_ch c, ac_ml c, ac_fl c, ac_row c)
theorem ac_los_ci {B : Nat} {c : AC} (h : ci_A B c) : ci_A B (ac_los c) := h
theorem ac_fi_ci {B : Nat} {c : AC} (h : ci_A B c) : ci_A B (ac_fi c) := h
theorem ac_mlt_ci {B : Nat} {c : AC} (h : ci_A B c) : ci_A B (ac_mlt c) := h
theorem ac_stx_ci {B x : Nat} {v : Int32} {c : AC} (h : ci_A B c) : ci_A B (ac_stx c x v) := h
theorem ac_put_ci {B to k f : Nat} {v : Int32} {c : AC} (h : ci_A B c) (h1 : to < 12) (ht : ac_th c to ≠ 0) (hk : k ≤ 3) (hf : f < 12) (hl : (ac_ml c to).length ≠ 6) : ci_A B (ac_put c to (nI k) v (nI f)) := by
  obtain ⟨hT, hV, hM, hQ, hF, hR, hB⟩ := h
  refine ⟨hT, hV, ?_, ?_, hF, hR, hB⟩
  · intro x
    by_cases hx : x = to
    · subst hx
      obtain ⟨m1, m2, m3⟩ := hM x
      show (x < 12 → (fu_ (ac_ml c) x (ac_ml c x ++ [(nI k, v, nI f)]) x).length ≤ 6) ∧ (0 < x → x < 12 → ac_th c x = 0 → fu_ (ac_ml c) x (ac_ml c x ++ [(nI k, v, nI f)]) x = []) ∧ ∀ k' v' f', (k', v', f') ∈ fu_ (ac_ml c) x (ac_ml c x ++ [(nI k, v, nI f)]) x → (∃ q, q ≤ 3 ∧ k' = nI q) ∧ (∃ q, q < 12 ∧ f' = nI q)
      rw [fu_s]
      refine ⟨fun hx => ?_, fun _ _ hz => absurd hz ht, fun k' v' f' hm => ?_⟩
      · have := m1 hx
        rw [List.length_append]
        simp
        omega
      · rw [List.mem_append] at hm
        rcases hm with hm | hm
        · exact m3 k' v' f' hm
        · simp at hm
          exact ⟨⟨k, hk, hm.1⟩, ⟨f, hf, hm.2.2⟩⟩
    · show (x < 12 → (fu_ (ac_ml c) to (ac_ml c to ++ [(nI k, v, nI f)]) x).length ≤ 6) ∧ (0 < x → x < 12 → ac_th c x = 0 → fu_ (ac_ml c) to (ac_ml c to ++ [(nI k, v, nI f)]) x = []) ∧ ∀ k' v' f', (k', v', f') ∈ fu_ (ac_ml c) to (ac_ml c to ++ [(nI k, v, nI f)]) x → (∃ q, q ≤ 3 ∧ k' = nI q) ∧ (∃ q, q < 12 ∧ f' = nI q)
      rw [fu_n hx]
      exact hM x
  · obtain ⟨q1, q2, q3, q4⟩ := hQ
    refine ⟨q1, fun x hx => ?_, q3, q4⟩
    obtain ⟨a1, a2, a3, a4⟩ := q2 x hx
    refine ⟨a1, a2, a3, ?_⟩
    show fu_ (ac_ml c) to (ac_ml c to ++ [(nI k, v, nI f)]) x ≠ []
    by_cases hxt : x = to
    · subst hxt
      rw [fu_s]
      simp
    · rw [fu_n hxt]
      exact a4
theorem ac_app_ci {B a : Nat} {c : AC} (h : ci_A B c) (h0 : 0 < a) (h1 : a < 12) (ht : ac_th c a ≠ 0) (hm : ac_ml c a ≠ []) (hr : a ∉ ac_row c) (hw : a ≠ ac_wk c) : ci_A B (ac_app c a) := by
  obtain ⟨hT, hV, hM, ⟨q1, q2, q3, q4⟩, hF, hR, hB⟩ := h
  refine ⟨hT, hV, hM, ⟨?_, fun x hx => ?_, fun hx => ?_, q4⟩, hF, hR, hB⟩
  · show (ac_row c ++ [a]).Nodup
    rw [List.nodup_append]
    refine ⟨q1, by simp, fun x hx y hy => ?_⟩
    have : y = a := by simpa using hy
    subst this
    exact fun hh => hr (hh ▸ hx)
  · have hx' : x ∈ ac_row c ++ [a] := hx
    rw [List.mem_append] at hx'
    rcases hx' with hx' | hx'
    · exact q2 x hx'
    · have : x = a := by simpa using hx'
      subst this
      exact ⟨h0, h1, ht, hm⟩
  · have hx' : ac_wk c ∈ ac_row c ++ [a] := hx
    rw [List.mem_append] at hx'
    rcases hx' with hx' | hx'
    · exact q3 hx'
    · have : ac_wk c = a := by simpa using hx'
      exact hw this.symm
theorem ac_post_ci {B to k f : Nat} {v : Int32} {c : AC} (h : ci_A B c) (h0 : 0 < to) (h1 : to < 12) (ht : ac_th c to ≠ 0) (hk : k ≤ 3) (hf : f < 12) : ci_A B (ac_post c to (nI k) v (nI f)) := by
  unfold ac_post
  by_cases hl : (ac_ml c to).length = 6
  · rw [if_pos hl]
    exact h
  · rw [if_neg hl]
    have hp := ac_put_ci (v := v) h h1 ht hk hf hl
    by_cases hr : to ∈ ac_row c ∨ to = ac_wk c
    · rw [if_pos hr]
      exact hp
    · rw [if_neg hr]
      refine ac_app_ci hp h0 h1 ht ?_ (fun q => hr (Or.inl q)) (fun q => hr (Or.inr q))
      show fu_ (ac_ml c) to (ac_ml c to ++ [(nI k, v, nI f)]) to ≠ []
      rw [fu_s]
      simp
theorem ac_post_fr {to : Nat} {k v f : Int32} {c : AC} : ac_th (ac_post c to k v f) = ac_th c ∧ ac_pa (ac_post c to k v f) = ac_pa c ∧ ac_ch (ac_post c to k v f) = ac_ch c ∧ ac_st (ac_post c to k v f) = ac_st c ∧ ac_wk (ac_post c to k v f) = ac_wk c ∧ ac_hv (ac_post c to k v f) = ac_hv c ∧ ac_hs (ac_post c to k v f) = ac_hs c := by
  unfold ac_post
  split
  · exact ⟨rfl, rfl, rfl, rfl, rfl, rfl, rfl⟩
  · split
    · exact ⟨rfl, rfl, rfl, rfl, rfl, rfl, rfl⟩
    · exact ⟨rfl, rfl, rfl, rfl, rfl, rfl, rfl⟩
theorem ac_show_ci {B : Nat} {v : Int32} {c : AC} (h : ci_A B c) : ci_A (B + 1) (ac_show c v) := by
  obtain ⟨hT, hV, hM, hQ, hF, hR, hB1, hB2, hB3, hB4, hB5⟩ := h
  refine ⟨hT, hV, hM, hQ, hF, hR, hB1, hB2, hB3, ?_, ?_⟩
  · exact Nat.le_succ_of_le hB4
  · exact Nat.succ_le_succ hB5
theorem ac_note_ci {B p : Nat} {c : AC} (h : ci_A B c) : ci_A B (ac_note c p) := by
  obtain ⟨hT, hV, hM, hQ, hF, hR, hB⟩ := h
  refine ⟨hT, hV, hM, hQ, fun q => ?_, hR, hB⟩
  show (fu_ (ac_fl c) p ((ac_steps c :: ac_fl c p).take 4) q).length ≤ 4 ∧ (∀ t, t ∈ fu_ (ac_fl c) p ((ac_steps c :: ac_fl c p).take 4) q → t ≤ ac_steps c) ∧ (fu_ (ac_fl c) p ((ac_steps c :: ac_fl c p).take 4) q).Pairwise (fun a b => b ≤ a)
  by_cases hq : q = p
  · subst hq
    rw [fu_s]
    obtain ⟨f1, f2, f3⟩ := hF q
    refine ⟨?_, fun t ht => ?_, ?_⟩
    · rw [List.length_take]
      omega
    · have ht' := List.mem_of_mem_take ht
      rcases List.mem_cons.mp ht' with h1 | h1
      · omega
      · exact f2 t h1
    · refine List.Pairwise.sublist (List.take_sublist _ _) ?_
      rw [List.pairwise_cons]
      exact ⟨f2, f3⟩
  · rw [fu_n hq]
    exact hF q
theorem ac_cl_ci {B p : Nat} {c : AC} (h : ci_A B c) : ci_A B (ac_cl c p) := by
  obtain ⟨hT, hV, hM, hQ, hF, hR, hB⟩ := h
  refine ⟨hT, hV, hM, hQ, fun q => ?_, hR, hB⟩
  show (fu_ (ac_fl c) p [] q).length ≤ 4 ∧ (∀ t, t ∈ fu_ (ac_fl c) p [] q → t ≤ ac_steps c) ∧ (fu_ (ac_fl c) p [] q).Pairwise (fun a b => b ≤ a)
  by_cases hq : q = p
  · subst hq
    rw [fu_s]
    simp
  · rw [fu_n hq]
    exact hF q
theorem ac_bex_ci {B x b : Nat} {c : AC} (h : ci_A B c) (hb : b ≤ 3) : ci_A B (ac_bex c x (nI b)) := by
  obtain ⟨hT, hV, hM, hQ, hF, hR, hB⟩ := h
  refine ⟨hT, fun y h1 hy => ?_, hM, hQ, hF, hR, hB⟩
  obtain ⟨v1, v2, v3⟩ := hV y h1 hy
  refine ⟨?_, v2, v3⟩
  show ∃ b', b' ≤ 3 ∧ upd (ac_be c) x (nI b) y = nI b'
  by_cases hyx : y = x
  · subst hyx
    exact ⟨b, hb, pk_us⟩
  · rw [pk_un hyx]
    exact v1
theorem ac_sgx_ci {B x g : Nat} {c : AC} (h : ci_A B c) (hg : g ≤ 2) : ci_A B (ac_sgx c x (nI g)) := by
  obtain ⟨hT, hV, hM, hQ, hF, hR, hB⟩ := h
  refine ⟨hT, fun y h1 hy => ?_, hM, hQ, hF, hR, hB⟩
  obtain ⟨v1, v2, v3⟩ := hV y h1 hy
  refine ⟨v1, v2, ?_⟩
  show ∃ b', b' ≤ 2 ∧ upd (ac_sg c) x (nI g) y = nI b'
  by_cases hyx : y = x
  · subst hyx
    exact ⟨g, hg, pk_us⟩
  · rw [pk_un hyx]
    exact v3
theorem ac_rst_ci {B x : Nat} {c : AC} (h : ci_A B c) : ci_A B (ac_rst c x) := by
  obtain ⟨hT, hV, hM, hQ, hF, hR, hB⟩ := h
  refine ⟨hT, fun y h1 hy => ?_, hM, hQ, fun q => ?_, hR, hB⟩
  · obtain ⟨v1, v2, v3⟩ := hV y h1 hy
    refine ⟨?_, v2, v3⟩
    show ∃ b', b' ≤ 3 ∧ upd (ac_be c) x (ac_bo c x) y = nI b'
    by_cases hyx : y = x
    · subst hyx
      rw [pk_us]
      exact v2
    · rw [pk_un hyx]
      exact v1
  · show (fu_ (ac_fl c) x [] q).length ≤ 4 ∧ (∀ t, t ∈ fu_ (ac_fl c) x [] q → t ≤ ac_steps c) ∧ (fu_ (ac_fl c) x [] q).Pairwise (fun a b => b ≤ a)
    by_cases hq : q = x
    · subst hq
      rw [fu_s]
      simp
    · rw [fu_n hq]
      exact hF q
theorem ac_lmx_ci {B l w : Nat} {c : AC} (h : ci_A B c) (hl : l ≤ 3) (h1 : 1 ≤ w) (h2 : w ≤ 100) : ci_A B (ac_lmx c (nI l) (nI w)) := by
  obtain ⟨hT, hV, hM, hQ, hF, hR, hB1, hB2, hB3⟩ := h
  exact ⟨hT, hV, hM, hQ, hF, hR, ⟨l, hl, rfl⟩, ⟨w, h1, h2, rfl⟩, hB3⟩
theorem ac_brt_ci {B a p b g : Nat} {c : AC} (h : ci_A B c) (a0 : 0 < a) (a1 : a < 12) (hta : ac_th c a = 0) (hp : p < 12) (htp : ac_th c p ≠ 0) (hb : b ≤ 3) (hg : g ≤ 2) : ci_A B (ac_brt c a p (nI b) (nI g)) := by
  obtain ⟨⟨t0, t1, tP, tC, rk, M, tK⟩, hV, hM, hQ, hF, hR, hB⟩ := h
  have hpa : p ≠ a := fun hh => htp (hh ▸ hta)
  have th1 : ∀ x, ac_th c x ≠ 0 → upd (ac_th c) a 1 x ≠ 0 := by
    intro x hx
    by_cases e : x = a
    · subst e
      exact absurd hta hx
    · rw [pk_un e]
      exact hx
  have th2 : ∀ x, x ≠ a → upd (ac_th c) a 1 x ≠ 0 → ac_th c x ≠ 0 := by
    intro x e hx
    rw [pk_un e] at hx
    exact hx
  refine ⟨⟨th1 0 t0, ?_, ?_, ⟨fun q x => ?_, fun q => ?_⟩, fun x => if x = a then rk p + 1 else rk x, M + 1, fun x hx => ?_, fun x q x0 x1 hx hpx hq => ?_⟩, fun x x1 hx => ?_, fun x => ?_, ?_, fun q => ?_, hR, hB⟩
  · show upd (ac_pa c) a (nI p) 0 = 0
    rw [pk_un (by omega)]
    exact t1
  · intro x x0 x1 hx
    show ∃ q, q < 12 ∧ upd (ac_pa c) a (nI p) x = nI q ∧ upd (ac_th c) a 1 q ≠ 0
    by_cases e : x = a
    · subst e
      exact ⟨p, hp, pk_us, th1 p htp⟩
    · obtain ⟨q, hq, he, hh⟩ := tP x x0 x1 (th2 x e hx)
      exact ⟨q, hq, by rw [pk_un e]; exact he, th1 q hh⟩
  · show x ∈ fu_ (ac_ch c) p (ac_ch c p ++ [a]) q ↔ q < 12 ∧ 0 < x ∧ x < 12 ∧ upd (ac_th c) a 1 x ≠ 0 ∧ upd (ac_pa c) a (nI p) x = nI q
    by_cases e : x = a
    · subst e
      rw [pk_us, pk_us]
      by_cases hqp : q = p
      · subst hqp
        rw [fu_s]
        simp
        exact ⟨hp, a0, a1⟩
      · rw [fu_n hqp]
        constructor
        · intro hm
          exact absurd hta ((tC.1 q x).mp hm).2.2.2.1
        · rintro ⟨hq, _, _, _, hh⟩
          exact absurd ((nI_eq (by omega) (by omega)).mp hh).symm hqp
    · rw [pk_un e, pk_un e, ← tC.1 q x]
      by_cases hqp : q = p
      · subst hqp
        rw [fu_s]
        simp [e]
      · rw [fu_n hqp]
  · show (fu_ (ac_ch c) p (ac_ch c p ++ [a]) q).Nodup
    by_cases hqp : q = p
    · subst hqp
      rw [fu_s, List.nodup_append]
      refine ⟨tC.2 q, by simp, fun x hx y hy => ?_⟩
      have : y = a := by simpa using hy
      subst this
      intro hh
      subst hh
      exact absurd hta ((tC.1 q x).mp hx).2.2.2.1
    · rw [fu_n hqp]
      exact tC.2 q
  · have h1 := tK.1 x hx
    have h2 := tK.1 p hp
    show (if x = a then rk p + 1 else rk x) ≤ M + 1
    split <;> omega
  · have hpx' : upd (ac_pa c) a (nI p) x = nI q := hpx
    show (if q = a then rk p + 1 else rk q) < (if x = a then rk p + 1 else rk x)
    by_cases e : x = a
    · subst e
      rw [pk_us] at hpx'
      have : p = q := (nI_eq (by omega) (by omega)).mp hpx'
      subst this
      rw [if_neg hpa, if_pos rfl]
      omega
    · rw [pk_un e] at hpx'
      have hx' := th2 x e hx
      obtain ⟨q', hq', he', hh'⟩ := tP x x0 x1 hx'
      have : q = q' := (nI_eq (by omega) (by omega)).mp (hpx'.symm.trans he')
      subst this
      have hqa : q ≠ a := fun hh => hh' (hh ▸ hta)
      rw [if_neg hqa, if_neg e]
      exact tK.2 x q x0 x1 hx' hpx' hq
  · show (∃ b', b' ≤ 3 ∧ upd (ac_be c) a (nI b) x = nI b') ∧ (∃ b', b' ≤ 3 ∧ upd (ac_bo c) a (nI b) x = nI b') ∧ (∃ g', g' ≤ 2 ∧ upd (ac_sg c) a (nI g) x = nI g')
    by_cases e : x = a
    · subst e
      rw [pk_us, pk_us, pk_us]
      exact ⟨⟨b, hb, rfl⟩, ⟨b, hb, rfl⟩, ⟨g, hg, rfl⟩⟩
    · rw [pk_un e, pk_un e, pk_un e]
      exact hV x x1 (th2 x e hx)
  · refine ⟨(hM x).1, fun x0 x1 hx => ?_, (hM x).2.2⟩
    have hx' : upd (ac_th c) a 1 x = 0 := hx
    by_cases e : x = a
    · subst e
      rw [pk_us] at hx'
      exact absurd hx' (by decide)
    · rw [pk_un e] at hx'
      exact (hM x).2.1 x0 x1 hx'
  · obtain ⟨q1, q2, q3, q4⟩ := hQ
    exact ⟨q1, fun x hx => ⟨(q2 x hx).1, (q2 x hx).2.1, th1 x (q2 x hx).2.2.1, (q2 x hx).2.2.2⟩, q3, q4⟩
  · show (fu_ (ac_fl c) a [] q).length ≤ 4 ∧ (∀ t, t ∈ fu_ (ac_fl c) a [] q → t ≤ ac_steps c) ∧ (fu_ (ac_fl c) a [] q).Pairwise (fun a b => b ≤ a)
    by_cases hq : q = a
    · subst hq
      rw [fu_s]
      simp
    · rw [fu_n hq]
      exact hF q
theorem ac_beg_ci {B x k f : Nat} {v : Int32} {c : AC} {ms : List (Int32 × Int32 × Int32)} (h : ci_A B c) (x0 : 0 < x) (x1 : x < 12) (hm : ac_ml c x = (nI k, v, nI f) :: ms) (hf : f < 12) : ci_A (B + 1) (ac_beg c x v (nI f)) := by
  obtain ⟨hT, hV, hM, ⟨q1, q2, q3, q4⟩, hF, hR, hB1, hB2, hB3, hB4, hB5⟩ := h
  refine ⟨hT, hV, fun y => ?_, ⟨List.Pairwise.filter _ q1, fun y hy => ?_, fun hy => ?_, x1⟩, fun q => ?_, hR, hB1, hB2, ⟨f, hf, rfl⟩, Nat.succ_le_succ hB4, Nat.le_succ_of_le hB5⟩
  · show (y < 12 → (fu_ (ac_ml c) x (ac_ml c x).tail y).length ≤ 6) ∧ (0 < y → y < 12 → ac_th c y = 0 → fu_ (ac_ml c) x (ac_ml c x).tail y = []) ∧ ∀ k' v' f', (k', v', f') ∈ fu_ (ac_ml c) x (ac_ml c x).tail y → (∃ q, q ≤ 3 ∧ k' = nI q) ∧ (∃ q, q < 12 ∧ f' = nI q)
    by_cases e : y = x
    · subst e
      obtain ⟨m1, m2, m3⟩ := hM y
      rw [fu_s]
      refine ⟨fun hy => ?_, fun h0 h1 ht => ?_, fun k' v' f' hh => ?_⟩
      · have := m1 hy
        rw [List.length_tail]
        omega
      · rw [m2 h0 h1 ht]
        rfl
      · exact m3 k' v' f' (List.mem_of_mem_tail hh)
    · rw [fu_n e]
      exact hM y
  · have hy' := List.mem_filter.mp hy
    have e : y ≠ x := by simpa using hy'.2
    obtain ⟨a1, a2, a3, a4⟩ := q2 y hy'.1
    refine ⟨a1, a2, a3, ?_⟩
    show fu_ (ac_ml c) x (ac_ml c x).tail y ≠ []
    rw [fu_n e]
    exact a4
  · have hy' := (List.mem_filter.mp hy).2
    simp [ac_beg, ac_wk] at hy'
  · obtain ⟨f1, f2, f3⟩ := hF q
    exact ⟨f1, fun t ht => Nat.le_succ_of_le (f2 t ht), f3⟩
theorem ac_idle_ci {B : Nat} {c : AC} (h : ci_A B c) : ci_A B (ac_idle c) := by
  obtain ⟨hT, hV, hM, ⟨q1, q2, q3, q4⟩, hF, hR, hB⟩ := h
  exact ⟨hT, hV, hM, ⟨q1, q2, fun hh => Nat.lt_irrefl 0 (q2 0 hh).1, by show (0 : Nat) < 12; omega⟩, hF, hR, hB⟩
theorem ac_rule_ci {B k : Nat} {o a b : Int32} {c : AC} (h : ci_A B c) (h3 : o = 3 → (∃ x, x ≤ 5 ∧ a = nI x) ∧ ∃ x, x ≤ 3 ∧ b = nI x) (h5 : o = 5 → (∃ x, x ≤ 3 ∧ a = nI x) ∧ ∃ x, x ≤ 2 ∧ b = nI x) (h7 : o = 7 → ∃ x, x ≤ 3 ∧ a = nI x) : ci_A B (ac_rule c k o a b) := by
  obtain ⟨hT, hV, hM, hQ, hF, hR, hB⟩ := h
  refine ⟨hT, hV, hM, hQ, hF, fun j hj => ?_, hB⟩
  show (upd (ac_op c) k o j = 3 → (∃ x, x ≤ 5 ∧ upd (ac_as c) k a j = nI x) ∧ ∃ x, x ≤ 3 ∧ upd (ac_bs c) k b j = nI x) ∧ (upd (ac_op c) k o j = 5 → (∃ x, x ≤ 3 ∧ upd (ac_as c) k a j = nI x) ∧ ∃ x, x ≤ 2 ∧ upd (ac_bs c) k b j = nI x) ∧ (upd (ac_op c) k o j = 7 → ∃ x, x ≤ 3 ∧ upd (ac_as c) k a j = nI x)
  by_cases e : j = k
  · subst e
    rw [pk_us, pk_us, pk_us]
    exact ⟨h3, h5, h7⟩
  · rw [pk_un e, pk_un e, pk_un e]
    exact hR j hj
end
section
/-! the component's pictures, aspect by aspect -/
def xr_w (w : Nat) : Int32 := if w = 0 then -1 else nI w
def xa_A (op bs se : Nat → Int32) : Prop := ∀ k, k < 48 → (op k = 3 ∨ op k = 5) → se k = bs k
def xa_T (th : Nat → Int32) (ch : Nat → List Nat) (el yo yr od cn : Nat → Int32) : Prop :=
  ∀ p, p < 12 → th p ≠ 0 → dl_ok (ch p) (el p) (yo p) yr od ∧ cn p = nI (ch p).length
def xa_m (l : List (Int32 × Int32 × Int32)) (x h : Nat) (kd va sn : Nat → Int32) : Prop :=
  ∀ i k v f, l[i]? = some (k, v, f) → kd (8 * x + (h + i) % 8) = k ∧ va (8 * x + (h + i) % 8) = v ∧ sn (8 * x + (h + i) % 8) = f
def xa_M (ml : Nat → List (Int32 × Int32 × Int32)) (kd va sn hd ma : Nat → Int32) : Prop :=
  ∀ x, x < 12 → ma x = nI (ml x).length ∧ ∃ h, h < 8 ∧ hd x = nI h ∧ xa_m (ml x) x h kd va sn
def xa_Q (row : List Nat) (fr bk wt : Int32) (nx bf qu : Nat → Int32) : Prop :=
  dl_ok row fr bk nx bf ∧ wt = nI row.length ∧ ∀ x, x < 12 → qu x = if x ∈ row then 1 else 0
def xa_F (fl : Nat → List Nat) (fa fh fc : Nat → Int32) : Prop :=
  ∀ p, p < 12 → fc p = nI (fl p).length ∧ ∃ h, h < 4 ∧ fh p = nI h ∧ ∀ j t, (fl p)[j]? = some t → fa (4 * p + (h + 4 - j) % 4) = nI t
def xa_O (puts : Nat) (ou pu : Nat → Int32) : Prop := ∀ k, k < 16 → k < puts → pu ((puts - 1 - k) % 16) = ou k
def xr_ (c : AC) (w : SX) : Prop := ∃ (f_front f_back f_waiting : Int32) (a_second a_eldest a_youngest a_younger a_older a_children a_kind a_value a_sender a_head a_mails a_next a_before a_queued a_failedAt a_failedHead a_failedCount a_put : Nat → Int32), w = (f_front, f_back, f_waiting, ac_lim c, ac_win c, nI (ac_puts c), nI (ac_steps c), nI (ac_lost c), nI (ac_fai c), nI (ac_ane c), nI (ac_mel c), xr_w (ac_wk c), ac_hv c, ac_hs c, ac_op c, ac_as c, a_second, ac_th c, ac_pa c, ac_be c, ac_bo c, ac_sg c, ac_st c, a_eldest, a_youngest, a_younger, a_older, a_children, a_kind, a_value, a_sender, a_head, a_mails, a_next, a_before, a_queued, a_failedAt, a_failedHead, a_failedCount, a_put) ∧
  xa_A (ac_op c) (ac_bs c) a_second ∧ xa_T (ac_th c) (ac_ch c) a_eldest a_youngest a_younger a_older a_children ∧
  xa_M (ac_ml c) a_kind a_value a_sender a_head a_mails ∧ xa_Q (ac_row c) f_front f_back f_waiting a_next a_before a_queued ∧
  xa_F (ac_fl c) a_failedAt a_failedHead a_failedCount ∧ xa_O (ac_puts c) (ac_ou c) a_put
theorem xr_el {c : AC} {w : SX} {P : SX → Prop} (h : xr_ c w) (k : ∀ (f_front f_back f_waiting : Int32) (a_second a_eldest a_youngest a_younger a_older a_children a_kind a_value a_sender a_head a_mails a_next a_before a_queued a_failedAt a_failedHead a_failedCount a_put : Nat → Int32),
  xa_A (ac_op c) (ac_bs c) a_second → xa_T (ac_th c) (ac_ch c) a_eldest a_youngest a_younger a_older a_children →
  xa_M (ac_ml c) a_kind a_value a_sender a_head a_mails → xa_Q (ac_row c) f_front f_back f_waiting a_next a_before a_queued →
  xa_F (ac_fl c) a_failedAt a_failedHead a_failedCount → xa_O (ac_puts c) (ac_ou c) a_put → P (f_front, f_back, f_waiting, ac_lim c, ac_win c, nI (ac_puts c), nI (ac_steps c), nI (ac_lost c), nI (ac_fai c), nI (ac_ane c), nI (ac_mel c), xr_w (ac_wk c), ac_hv c, ac_hs c, ac_op c, ac_as c, a_second, ac_th c, ac_pa c, ac_be c, ac_bo c, ac_sg c, ac_st c, a_eldest, a_youngest, a_younger, a_older, a_children, a_kind, a_value, a_sender, a_head, a_mails, a_next, a_before, a_queued, a_failedAt, a_failedHead, a_failedCount, a_put)) : P w := by
  obtain ⟨f_front, f_back, f_waiting, a_second, a_eldest, a_youngest, a_younger, a_older, a_children, a_kind, a_value, a_sender, a_head, a_mails, a_next, a_before, a_queued, a_failedAt, a_failedHead, a_failedCount, a_put, e, h1, h2, h3, h4, h5, h6⟩ := h
  rw [e]
  exact k f_front f_back f_waiting a_second a_eldest a_youngest a_younger a_older a_children a_kind a_value a_sender a_head a_mails a_next a_before a_queued a_failedAt a_failedHead a_failedCount a_put h1 h2 h3 h4 h5 h6
theorem xr_in {c : AC} {f_front f_back f_waiting : Int32} {a_second a_eldest a_youngest a_younger a_older a_children a_kind a_value a_sender a_head a_mails a_next a_before a_queued a_failedAt a_failedHead a_failedCount a_put : Nat → Int32}
  (h1 : xa_A (ac_op c) (ac_bs c) a_second) (h2 : xa_T (ac_th c) (ac_ch c) a_eldest a_youngest a_younger a_older a_children)
  (h3 : xa_M (ac_ml c) a_kind a_value a_sender a_head a_mails) (h4 : xa_Q (ac_row c) f_front f_back f_waiting a_next a_before a_queued)
  (h5 : xa_F (ac_fl c) a_failedAt a_failedHead a_failedCount) (h6 : xa_O (ac_puts c) (ac_ou c) a_put) : xr_ c (f_front, f_back, f_waiting, ac_lim c, ac_win c, nI (ac_puts c), nI (ac_steps c), nI (ac_lost c), nI (ac_fai c), nI (ac_ane c), nI (ac_mel c), xr_w (ac_wk c), ac_hv c, ac_hs c, ac_op c, ac_as c, a_second, ac_th c, ac_pa c, ac_be c, ac_bo c, ac_sg c, ac_st c, a_eldest, a_youngest, a_younger, a_older, a_children, a_kind, a_value, a_sender, a_head, a_mails, a_next, a_before, a_queued, a_failedAt, a_failedHead, a_failedCount, a_put) :=
  ⟨f_front, f_back, f_waiting, a_second, a_eldest, a_youngest, a_younger, a_older, a_children, a_kind, a_value, a_sender, a_head, a_mails, a_next, a_before, a_queued, a_failedAt, a_failedHead, a_failedCount, a_put, rfl, h1, h2, h3, h4, h5, h6⟩
theorem xt_el {P : SX → Prop} (h : ∀ (f_front f_back f_waiting f_limit f_window f_puts f_steps f_lost f_failures f_anew f_melted f_working f_heldValue f_heldSender : Int32) (a_op a_first a_second a_there a_parent a_behaviour a_born a_strategy a_state a_eldest a_youngest a_younger a_older a_children a_kind a_value a_sender a_head a_mails a_next a_before a_queued a_failedAt a_failedHead a_failedCount a_put : Nat → Int32), P (f_front, f_back, f_waiting, f_limit, f_window, f_puts, f_steps, f_lost, f_failures, f_anew, f_melted, f_working, f_heldValue, f_heldSender, a_op, a_first, a_second, a_there, a_parent, a_behaviour, a_born, a_strategy, a_state, a_eldest, a_youngest, a_younger, a_older, a_children, a_kind, a_value, a_sender, a_head, a_mails, a_next, a_before, a_queued, a_failedAt, a_failedHead, a_failedCount, a_put)) (w : SX) : P w := by
  obtain ⟨f_front, f_back, f_waiting, f_limit, f_window, f_puts, f_steps, f_lost, f_failures, f_anew, f_melted, f_working, f_heldValue, f_heldSender, a_op, a_first, a_second, a_there, a_parent, a_behaviour, a_born, a_strategy, a_state, a_eldest, a_youngest, a_younger, a_older, a_children, a_kind, a_value, a_sender, a_head, a_mails, a_next, a_before, a_queued, a_failedAt, a_failedHead, a_failedCount, a_put⟩ := w
  exact h f_front f_back f_waiting f_limit f_window f_puts f_steps f_lost f_failures f_anew f_melted f_working f_heldValue f_heldSender a_op a_first a_second a_there a_parent a_behaviour a_born a_strategy a_state a_eldest a_youngest a_younger a_older a_children a_kind a_value a_sender a_head a_mails a_next a_before a_queued a_failedAt a_failedHead a_failedCount a_put
/-! bytes -/
theorem nb_r : ∀ y, y < 128 → (nI y).toInt8.toInt32 = nI y := by decide
theorem nb_1 {y : Nat} (h : y < 128) : vp_nar .byte (nI y).toInt8.toInt32 = nI y := by rw [pk_vb]; exact nb_r y h
theorem nb_2 {y : Nat} (h : y < 128) : vp_nar .byte (nI y) = nI y := by rw [vp_nar_byte]; exact nb_r y h
theorem nb_m : vp_nar .byte (-1) = -1 := by rw [vp_nar_byte]; decide
theorem nb_0 : vp_nar .byte 0 = 0 := by rw [vp_nar_byte]; decide
theorem nb_h {l : List Nat} (h : ∀ x, x ∈ l → x < 12) : vp_nar .byte (dl_hd l) = dl_hd l := by
  cases l with
  | nil => exact nb_m
  | cons a t =>
    have := h a (by simp)
    exact nb_2 (by omega)
theorem nb_h1 {l : List Nat} (h : ∀ x, x ∈ l → x < 12) : vp_nar .byte (dl_hd l).toInt8.toInt32 = dl_hd l := by
  have e : (dl_hd l).toInt8.toInt32 = dl_hd l := by
    have := nb_h h
    rw [vp_nar_byte] at this
    exact this
  rw [e]
  exact nb_h h
theorem nc_ {a : Nat} (h : a < 12) : (nI a).toNatClampNeg = a := nI_clamp (by omega)
theorem ni_ {a : Nat} (h : a < 12) : vp_in (nI a) 12 := vp_in_nI h (by omega)
theorem rl_ {l : List Nat} (h : ∀ x, x ∈ l → x < 12) : ∀ x, x ∈ l.reverse → x < 12 := fun x hx => h x (by simpa using hx)
/-! the row -/
theorem fl_sp {s t : List Nat} {a : Nat} (hn : (s ++ a :: t).Nodup) : (s ++ a :: t).filter (fun y => !decide (y = a)) = s ++ t := by
  have hn1 := List.nodup_append.mp hn
  have hn2 := List.nodup_cons.mp hn1.2.1
  rw [List.filter_append, List.filter_cons]
  have e1 : s.filter (fun y => !decide (y = a)) = s := by
    rw [List.filter_eq_self]
    intro x hx
    have := hn1.2.2 x hx a (by simp)
    simp [this]
  have e2 : t.filter (fun y => !decide (y = a)) = t := by
    rw [List.filter_eq_self]
    intro x hx
    have : x ≠ a := fun hh => hn2.1 (hh ▸ hx)
    simp [this]
  rw [e1, e2]
  simp
theorem fl_no {l : List Nat} {a : Nat} (h : a ∉ l) : l.filter (fun y => !decide (y = a)) = l := by
  rw [List.filter_eq_self]
  intro x hx
  have : x ≠ a := fun hh => h (hh ▸ hx)
  simp [this]
theorem xq_un {s t : List Nat} {a : Nat} {fr bk wt fr' bk' : Int32} {nx bf qu nx' bf' : Nat → Int32} (hQ : xa_Q (s ++ a :: t) fr bk wt nx bf qu) (hn : (s ++ a :: t).Nodup)
    (h1 : (s = [] ∧ fr' = nx a ∧ nx' = nx) ∨ (∃ s0 z, s = s0 ++ [z] ∧ fr' = fr ∧ nx' = upd nx z (nx a)))
    (h2 : (t = [] ∧ bk' = bf a ∧ bf' = bf) ∨ (∃ y t0, t = y :: t0 ∧ bk' = bk ∧ bf' = upd bf y (bf a))) : xa_Q (s ++ t) fr' bk' (wt - 1) nx' bf' (upd qu a 0) := by
  refine ⟨dl_un hQ.1 hn h1 h2, ?_, fun x hx => ?_⟩
  · rw [hQ.2.1]
    have e : (s ++ a :: t).length = (s ++ t).length + 1 := by simp; omega
    rw [e]
    exact nI_pred _
  · have hn1 := List.nodup_append.mp hn
    have hn2 := List.nodup_cons.mp hn1.2.1
    by_cases e : x = a
    · subst e
      rw [pk_us, if_neg]
      intro hm
      rcases List.mem_append.mp hm with hm | hm
      · exact hn1.2.2 x hm x (by simp) rfl
      · exact hn2.1 hm
    · rw [pk_un e, hQ.2.2 x hx]
      have : x ∈ s ++ a :: t ↔ x ∈ s ++ t := by simp [e]
      simp only [this]
theorem xq_app {row : List Nat} {a : Nat} {fr bk wt : Int32} {nx bf qu : Nat → Int32} (hQ : xa_Q row fr bk wt nx bf qu) (ha : a ∉ row) (hl : ∀ x, x ∈ row → x < 12) (hn : row.Nodup) :
    (bk < 0 → xa_Q (row ++ [a]) (nI a) (nI a) (wt + 1) (upd nx a (-1)) (upd bf a bk) (upd qu a 1)) ∧
    (¬ bk < 0 → ∃ z, z < 12 ∧ bk = nI z ∧ xa_Q (row ++ [a]) fr (nI a) (wt + 1) (upd (upd nx a (-1)) z (nI a)) (upd bf a bk) (upd qu a 1)) := by
  have hq : ∀ x, x < 12 → upd qu a 1 x = if x ∈ row ++ [a] then 1 else 0 := by
    intro x hx
    by_cases e : x = a
    · subst e
      rw [pk_us, if_pos (by simp)]
    · rw [pk_un e, hQ.2.2 x hx]
      have : x ∈ row ++ [a] ↔ x ∈ row := by simp [e]
      simp only [this]
  have hw : wt + 1 = nI (row ++ [a]).length := by
    rw [hQ.2.1, nI_1]
    simp
  constructor
  · intro hb
    obtain ⟨e, e2⟩ := dl_app0 (a := a) hQ.1 hb hl
    refine ⟨?_, hw, hq⟩
    rw [e, e2]
    exact dl_one pk_us pk_us
  · intro hb
    obtain ⟨z, hz, e, h⟩ := dl_app1 hQ.1 hb ha hl hn
    exact ⟨z, hl z hz, e, h, hw, hq⟩
/-! the children -/
theorem xt_un {th pa : Nat → Int32} {ch : Nat → List Nat} {el yo yr od cn el' yo' yr' od' : Nat → Int32} {p x : Nat} {s t : List Nat} (hT : xa_T th ch el yo yr od cn) (hC : ci_C th pa ch) (hp : p < 12) (htp : th p ≠ 0) (hs : ch p = s ++ x :: t)
    (h1 : (s = [] ∧ el' = upd el p (yr x) ∧ yr' = yr) ∨ (∃ s0 z, s = s0 ++ [z] ∧ el' = el ∧ yr' = upd yr z (yr x)))
    (h2 : (t = [] ∧ yo' = upd yo p (od x) ∧ od' = od) ∨ (∃ y t0, t = y :: t0 ∧ yo' = yo ∧ od' = upd od y (od x))) :
    xa_T (upd th x 0) (fun q => (ch q).filter (fun y => !decide (y = x))) el' yo' yr' od' (upd cn p (nI ((ch p).length - 1))) := by
  intro q hq htq
  have hqx : q ≠ x := by
    intro e
    subst e
    rw [pk_us] at htq
    exact htq rfl
  rw [pk_un hqx] at htq
  have hT1 := hT q hq htq
  have hnd := hC.2 p
  rw [hs] at hnd
  show dl_ok ((ch q).filter (fun y => !decide (y = x))) (el' q) (yo' q) yr' od' ∧ upd cn p (nI ((ch p).length - 1)) q = nI ((ch q).filter (fun y => !decide (y = x))).length
  by_cases e : q = p
  · subst e
    rw [pk_us, hs, fl_sp hnd]
    rw [hs] at hT1
    refine ⟨dl_un hT1.1 hnd ?_ ?_, ?_⟩
    · rcases h1 with ⟨a1, a2, a3⟩ | ⟨s0, z, a1, a2, a3⟩
      · exact Or.inl ⟨a1, by rw [a2, pk_us], a3⟩
      · exact Or.inr ⟨s0, z, a1, by rw [a2], a3⟩
    · rcases h2 with ⟨a1, a2, a3⟩ | ⟨y, t0, a1, a2, a3⟩
      · exact Or.inl ⟨a1, by rw [a2, pk_us], a3⟩
      · exact Or.inr ⟨y, t0, a1, by rw [a2], a3⟩
    · have e : (s ++ x :: t).length = (s ++ t).length + 1 := by simp; omega
      rw [e]
      rfl
  · have dis : ∀ z, z ∈ ch p → z ∉ ch q := by
      intro z hz hz'
      have a1 := (hC.1 p z).mp hz
      have a2 := (hC.1 q z).mp hz'
      exact e ((nI_eq (by omega) (by omega)).mp (a2.2.2.2.2.symm.trans a1.2.2.2.2))
    have hx : x ∈ ch p := by rw [hs]; simp
    rw [pk_un e, fl_no (dis x hx)]
    refine ⟨?_, hT1.2⟩
    have e1 : el' q = el q := by
      rcases h1 with ⟨a1, a2, a3⟩ | ⟨s0, z, a1, a2, a3⟩
      · rw [a2, pk_un e]
      · rw [a2]
    have e2 : yo' q = yo q := by
      rcases h2 with ⟨a1, a2, a3⟩ | ⟨y, t0, a1, a2, a3⟩
      · rw [a2, pk_un e]
      · rw [a2]
    rw [e1, e2]
    refine dl_fr hT1.1 (fun w hw => ?_) (fun w hw => ?_)
    · rcases h1 with ⟨a1, a2, a3⟩ | ⟨s0, z, a1, a2, a3⟩
      · rw [a3]
      · have hz : z ∈ ch p := by rw [hs, a1]; simp
        have : w ≠ z := fun hh => dis z hz (hh ▸ hw)
        rw [a3, pk_un this]
    · rcases h2 with ⟨a1, a2, a3⟩ | ⟨y, t0, a1, a2, a3⟩
      · rw [a3]
      · have hz : y ∈ ch p := by rw [hs, a1]; simp
        have : w ≠ y := fun hh => dis y hz (hh ▸ hw)
        rw [a3, pk_un this]
theorem xt_brt {th pa : Nat → Int32} {ch : Nat → List Nat} {el yo yr od cn el' yr' : Nat → Int32} {p a : Nat} (hT : xa_T th ch el yo yr od cn) (hC : ci_C th pa ch) (hP : ci_P th pa) (ha : a < 12) (hta : th a = 0) (hp : p < 12) (htp : th p ≠ 0)
    (h1 : (yo p < 0 ∧ el' = upd (upd el a (-1)) p (nI a) ∧ yr' = upd yr a (-1)) ∨ (¬ yo p < 0 ∧ ∃ z, yo p = nI z ∧ z < 12 ∧ el' = upd el a (-1) ∧ yr' = upd (upd yr a (-1)) z (nI a))) :
    xa_T (upd th a 1) (fu_ ch p (ch p ++ [a])) el' (upd (upd yo a (-1)) p (nI a)) yr' (upd od a (yo p)) (upd (upd cn a 0) p (nI ((ch p).length + 1))) := by
  have hpa : p ≠ a := fun hh => htp (hh ▸ hta)
  have nin : ∀ q, a ∉ ch q := fun q hm => ((hC.1 q a).mp hm).2.2.2.1 hta
  have hTp := hT p hp htp
  have hlt : ∀ q x, x ∈ ch q → x < 12 := fun q x hx => ((hC.1 q x).mp hx).2.2.1
  intro q hq htq
  by_cases e : q = p
  · subst e
    rw [fu_s, pk_us, pk_us]
    refine ⟨?_, by simp⟩
    rcases h1 with ⟨b, e1, e2⟩ | ⟨b, z, ez, hz, e1, e2⟩
    · obtain ⟨e3, e4⟩ := dl_app0 (a := a) hTp.1 b (hlt q)
      rw [e1, e2, pk_us, e3, e4]
      exact dl_one pk_us pk_us
    · obtain ⟨z', hz', ez', h⟩ := dl_app1 hTp.1 b (nin q) (hlt q) (hC.2 q)
      have : z = z' := by
        have h12 := hlt q z' hz'
        exact (nI_eq (by omega) (by omega)).mp (ez.symm.trans ez')
      subst this
      rw [e1, e2, pk_un hpa]
      exact h
  · by_cases e2 : q = a
    · subst e2
      rw [fu_n e, pk_un e, pk_un e, pk_us, pk_us]
      have hnil : ch q = [] := by
        rw [List.eq_nil_iff_forall_not_mem]
        intro x hx
        obtain ⟨_, x0, x1, x2, x3⟩ := (hC.1 q x).mp hx
        obtain ⟨p', hp', he', hh'⟩ := hP x x0 x1 x2
        have : q = p' := (nI_eq (by omega) (by omega)).mp (x3.symm.trans he')
        subst this
        exact hh' hta
      rw [hnil]
      refine ⟨?_, rfl⟩
      have : el' q = -1 := by
        rcases h1 with ⟨b, e1, e2⟩ | ⟨b, z, ez, hz, e1, e2⟩
        · rw [e1, pk_un e, pk_us]
        · rw [e1, pk_us]
      rw [this]
      exact dl_nil _ _
    · rw [pk_un e2] at htq
      have hTq := hT q hq htq
      rw [fu_n e, pk_un e, pk_un e2, pk_un e, pk_un e2]
      have he : el' q = el q := by
        rcases h1 with ⟨b, e1, _⟩ | ⟨b, z, ez, hz, e1, _⟩
        · rw [e1, pk_un e, pk_un e2]
        · rw [e1, pk_un e2]
      rw [he]
      refine ⟨dl_fr hTq.1 (fun w hw => ?_) (fun w hw => ?_), hTq.2⟩
      · have hwa : w ≠ a := fun hh => nin q (hh ▸ hw)
        rcases h1 with ⟨b, _, e4⟩ | ⟨b, z, ez, hz, _, e4⟩
        · rw [e4, pk_un hwa]
        · have hwz : w ≠ z := by
            intro hh
            subst hh
            obtain ⟨z', hz', ez', _⟩ := dl_app1 hTp.1 b (nin p) (hlt p) (hC.2 p)
            have h12 := hlt p z' hz'
            have : w = z' := (nI_eq (by omega) (by omega)).mp (ez.symm.trans ez')
            subst this
            have a1 := (hC.1 p w).mp hz'
            have a2 := (hC.1 q w).mp hw
            exact e ((nI_eq (by omega) (by omega)).mp (a2.2.2.2.2.symm.trans a1.2.2.2.2))
          rw [e4, pk_un hwz, pk_un hwa]
      · have hwa : w ≠ a := fun hh => nin q (hh ▸ hw)
        rw [pk_un hwa]
theorem ch_len {th pa : Nat → Int32} {ch : Nat → List Nat} (hC : ci_C th pa ch) (p : Nat) : (ch p).length ≤ 11 := by
  have h : (ch p).length ≤ (List.range' 1 11).length := by
    refine List.Nodup.length_le_of_subset (hC.2 p) (fun x hx => ?_)
    have := (hC.1 p x).mp hx
    rw [List.mem_range'_1]
    omega
  rw [List.length_range'] at h
  exact h
/-! mailboxes -/
theorem xm_put {ml : Nat → List (Int32 × Int32 × Int32)} {kd va sn hd ma : Nat → Int32} {to h : Nat} {k v f : Int32} (hM : xa_M ml kd va sn hd ma) (ht : to < 12) (hh : h < 8) (hhd : hd to = nI h) (hl : (ml to).length < 8) (hlen : ∀ x, x < 12 → (ml x).length ≤ 8) :
    xa_M (fu_ ml to (ml to ++ [(k, v, f)])) (upd kd (8 * to + (h + (ml to).length) % 8) k) (upd va (8 * to + (h + (ml to).length) % 8) v) (upd sn (8 * to + (h + (ml to).length) % 8) f) hd (upd ma to (nI ((ml to).length + 1))) := by
  intro x hx
  obtain ⟨m1, h', m2, m3, m4⟩ := hM x hx
  by_cases e : x = to
  · subst e
    have : h = h' := (nI_eq (by omega) (by omega)).mp (hhd.symm.trans m3)
    subst this
    rw [fu_s, pk_us]
    refine ⟨by simp, h, hh, m3, fun i k' v' f' hi => ?_⟩
    rw [List.getElem?_append] at hi
    by_cases hlt : i < (ml x).length
    · rw [if_pos hlt] at hi
      have hne : 8 * x + (h + i) % 8 ≠ 8 * x + (h + (ml x).length) % 8 := by omega
      rw [pk_un hne, pk_un hne, pk_un hne]
      exact m4 i k' v' f' hi
    · rw [if_neg hlt] at hi
      have hi0 : i = (ml x).length := by
        have h5 : i - (ml x).length < 1 := by
          have := (List.getElem?_eq_some_iff.mp hi).1
          simpa using this
        omega
      subst hi0
      simp at hi
      obtain ⟨r1, r2, r3⟩ := hi
      rw [pk_us, pk_us, pk_us]
      exact ⟨r1, r2, r3⟩
  · rw [fu_n e, pk_un e]
    refine ⟨m1, h', m2, m3, fun i k' v' f' hi => ?_⟩
    have hne : 8 * x + (h' + i) % 8 ≠ 8 * to + (h + (ml to).length) % 8 := by omega
    rw [pk_un hne, pk_un hne, pk_un hne]
    exact m4 i k' v' f' hi
theorem xm_zero {ml : Nat → List (Int32 × Int32 × Int32)} {kd va sn hd ma : Nat → Int32} {to : Nat} (hM : xa_M ml kd va sn hd ma) : xa_M (fu_ ml to []) kd va sn hd (upd ma to 0) := by
  intro x hx
  obtain ⟨m1, h', m2, m3, m4⟩ := hM x hx
  by_cases e : x = to
  · subst e
    rw [fu_s, pk_us]
    exact ⟨rfl, h', m2, m3, fun i k v f hi => by simp at hi⟩
  · rw [fu_n e, pk_un e]
    exact ⟨m1, h', m2, m3, m4⟩
theorem xm_born {ml : Nat → List (Int32 × Int32 × Int32)} {kd va sn hd ma : Nat → Int32} {to : Nat} (hM : xa_M ml kd va sn hd ma) (hz : ml to = []) : xa_M ml kd va sn (upd hd to 0) (upd ma to 0) := by
  intro x hx
  obtain ⟨m1, h', m2, m3, m4⟩ := hM x hx
  by_cases e : x = to
  · subst e
    rw [hz, pk_us, pk_us]
    exact ⟨rfl, 0, by omega, rfl, fun i k v f hi => by simp at hi⟩
  · rw [pk_un e, pk_un e]
    exact ⟨m1, h', m2, m3, m4⟩
theorem xm_pop {ml : Nat → List (Int32 × Int32 × Int32)} {kd va sn hd ma : Nat → Int32} {to h : Nat} (hM : xa_M ml kd va sn hd ma) (ht : to < 12) (hhd : hd to = nI h) (hh : h < 8) : xa_M (fu_ ml to (ml to).tail) kd va sn (upd hd to (nI ((h + 1) % 8))) (upd ma to (nI ((ml to).length - 1))) := by
  intro x hx
  obtain ⟨m1, h', m2, m3, m4⟩ := hM x hx
  by_cases e : x = to
  · subst e
    have : h = h' := (nI_eq (by omega) (by omega)).mp (hhd.symm.trans m3)
    subst this
    rw [fu_s, pk_us, pk_us]
    refine ⟨by rw [List.length_tail], (h + 1) % 8, by omega, rfl, fun i k v f hi => ?_⟩
    have hi2 : (ml x)[i + 1]? = some (k, v, f) := by
      rw [← hi]
      cases ml x <;> simp
    have := m4 (i + 1) k v f hi2
    have e2 : ((h + 1) % 8 + i) % 8 = (h + (i + 1)) % 8 := by omega
    rw [e2]
    exact this
  · rw [fu_n e, pk_un e, pk_un e]
    exact ⟨m1, h', m2, m3, m4⟩
/-! failures -/
def tm_ (L W s : Nat) (l : List Nat) : Int32 := match l[L]? with
  | some t => if s < t + W then 1 else 0
  | none => 0
theorem xf_cl {fl : Nat → List Nat} {fa fh fc : Nat → Int32} {p : Nat} (hF : xa_F fl fa fh fc) : xa_F (fu_ fl p []) fa fh (upd fc p 0) := by
  intro q hq
  obtain ⟨f1, h, f2, f3, f4⟩ := hF q hq
  by_cases e : q = p
  · subst e
    rw [fu_s, pk_us]
    exact ⟨rfl, h, f2, f3, fun j t hj => by simp at hj⟩
  · rw [fu_n e, pk_un e]
    exact ⟨f1, h, f2, f3, f4⟩
theorem xf_note {fl : Nat → List Nat} {fa fh fc fc' : Nat → Int32} {p h s : Nat} (hF : xa_F fl fa fh fc) (hp : p < 12) (hh : h < 4) (hfh : fh p = nI h)
    (hc : ∀ q, fc' q = if q = p then nI ((s :: fl p).take 4).length else fc q) :
    xa_F (fu_ fl p ((s :: fl p).take 4)) (upd fa (4 * p + (h + 1) % 4) (nI s)) (upd fh p (nI ((h + 1) % 4))) fc' := by
  intro q hq
  obtain ⟨f1, h', f2, f3, f4⟩ := hF q hq
  by_cases e : q = p
  · subst e
    have : h = h' := (nI_eq (by omega) (by omega)).mp (hfh.symm.trans f3)
    subst this
    rw [fu_s, hc q, if_pos rfl, pk_us]
    refine ⟨rfl, (h + 1) % 4, by omega, rfl, fun j t hj => ?_⟩
    rw [List.getElem?_take] at hj
    by_cases hj4 : j < 4
    · rw [if_pos hj4] at hj
      cases j with
      | zero =>
        simp at hj
        subst hj
        have e2 : ((h + 1) % 4 + 4 - 0) % 4 = (h + 1) % 4 := by omega
        rw [e2, pk_us]
      | succ j =>
        simp at hj
        have hne : 4 * q + ((h + 1) % 4 + 4 - (j + 1)) % 4 ≠ 4 * q + (h + 1) % 4 := by omega
        rw [pk_un hne]
        have e2 : ((h + 1) % 4 + 4 - (j + 1)) % 4 = (h + 4 - j) % 4 := by omega
        rw [e2]
        exact f4 j t hj
    · rw [if_neg hj4] at hj
      simp at hj
  · rw [fu_n e, pk_un e, hc q, if_neg e]
    refine ⟨f1, h', f2, f3, fun j t hj => ?_⟩
    have hne : 4 * q + (h' + 4 - j) % 4 ≠ 4 * p + (h + 1) % 4 := by omega
    rw [pk_un hne]
    exact f4 j t hj
/-! what was shown -/
theorem xo_show {puts : Nat} {ou pu : Nat → Int32} {v : Int32} (hO : xa_O puts ou pu) : xa_O (puts + 1) (fun k => if k = 0 then v else if k < 16 then ou (k - 1) else ou k) (upd pu (puts % 16) v) := by
  intro k hk hp
  cases k with
  | zero =>
    have e : (puts + 1 - 1 - 0) % 16 = puts % 16 := by omega
    rw [e, pk_us]
    rfl
  | succ k =>
    have hne : (puts + 1 - 1 - (k + 1)) % 16 ≠ puts % 16 := by omega
    rw [pk_un hne]
    have e : (puts + 1 - 1 - (k + 1)) % 16 = (puts - 1 - k) % 16 := by
      have : puts + 1 - 1 - (k + 1) = puts - 1 - k := by omega
      rw [this]
    rw [e, hO k (by omega) (by omega)]
    show ou k = if k + 1 = 0 then v else if k + 1 < 16 then ou (k + 1 - 1) else ou (k + 1)
    rw [if_neg (by omega), if_pos hk]
    rfl
end
section
/-! the component's small methods -/
theorem xo_c {post : Int32 → Prop} {v lo hi : Int32} (f : lo ≤ v → v ≤ hi → post 0) (g : ¬ (lo ≤ v ∧ v ≤ hi) → post 1) : wpX_outside post v lo hi := by
  refine br_c (fun h1 => ?_) (fun h1 => ?_)
  · exact br_c (fun h2 => ⟨narrow_b0, f h1 h2⟩) (fun h2 => ⟨narrow_b1, g (fun q => h2 q.2)⟩)
  · exact br_c (fun h2 => ⟨narrow_b1, g (fun q => h1 q.1)⟩) (fun h2 => ⟨narrow_b1, g (fun q => h1 q.1)⟩)
theorem ir_ {a : Int32} (h0 : ¬ a ≤ 0) (h1 : ¬ 12 ≤ a) : ∃ x, 0 < x ∧ x < 12 ∧ a = nI x := by
  rcases pk_ix a (n := 12) (by omega) with h | h | ⟨j, hj, e⟩
  · exact absurd (Int32.le_of_lt h) h0
  · exact absurd h h1
  · refine ⟨j, ?_, hj, e⟩
    by_cases hz : j = 0
    · subst hz
      subst e
      exact absurd (Int32.le_refl 0) h0
    · omega
theorem xi_t {post : Int32 → Prop} {c : AC} {w : SX} {x : Nat} (h : xr_ c w) (x0 : 0 < x) (x1 : x < 12) (hx : ac_th c x ≠ 0) (K : post 1) : wpX_isActor post w (nI x) := by
  refine xr_el (P := fun w => wpX_isActor post w (nI x)) h ?_
  intro f_front f_back f_waiting a_second a_eldest a_youngest a_younger a_older a_children a_kind a_value a_sender a_head a_mails a_next a_before a_queued a_failedAt a_failedHead a_failedCount a_put aA aT aM aQ aF aO
  refine br_f (nI_nle x0 (by omega)) (br_f (nI_ge (b := 12) x1 (by decide)) ⟨ni_ x1, br_f ?_ K⟩)
  rw [nc_ x1]
  exact hx
theorem xi_f {post : Int32 → Prop} {c : AC} {w : SX} {a : Int32} (h : xr_ c w) (hx : ¬ ∃ x, 0 < x ∧ x < 12 ∧ a = nI x ∧ ac_th c x ≠ 0) (K : post 0) : wpX_isActor post w a := by
  refine xr_el (P := fun w => wpX_isActor post w a) h ?_
  intro f_front f_back f_waiting a_second a_eldest a_youngest a_younger a_older a_children a_kind a_value a_sender a_head a_mails a_next a_before a_queued a_failedAt a_failedHead a_failedCount a_put aA aT aM aQ aF aO
  refine br_c (fun _ => K) (fun h0 => br_c (fun _ => K) (fun h1 => ?_))
  obtain ⟨x, x0, x1, e⟩ := ir_ h0 h1
  subst e
  refine ⟨ni_ x1, br_t ?_ K⟩
  rw [nc_ x1]
  exact Classical.byContradiction (fun q => hx ⟨x, x0, x1, rfl, q⟩)
theorem xu_append {f_front f_back f_waiting f_limit f_window f_puts f_steps f_lost f_failures f_anew f_melted f_working f_heldValue f_heldSender : Int32} {a_op a_first a_second a_there a_parent a_behaviour a_born a_strategy a_state a_eldest a_youngest a_younger a_older a_children a_kind a_value a_sender a_head a_mails a_next a_before a_queued a_failedAt a_failedHead a_failedCount a_put : Nat → Int32} {post : SX → Prop} {row : List Nat} {a : Nat} (hQ : xa_Q row f_front f_back f_waiting a_next a_before a_queued) (ha : a ∉ row) (hl : ∀ x, x ∈ row → x < 12) (hn : row.Nodup) (a1 : a < 12)
    (K : ∀ fr bk wt nx bf qu, xa_Q (row ++ [a]) fr bk wt nx bf qu → post (fr, bk, wt, f_limit, f_window, f_puts, f_steps, f_lost, f_failures, f_anew, f_melted, f_working, f_heldValue, f_heldSender, a_op, a_first, a_second, a_there, a_parent, a_behaviour, a_born, a_strategy, a_state, a_eldest, a_youngest, a_younger, a_older, a_children, a_kind, a_value, a_sender, a_head, a_mails, nx, bf, qu, a_failedAt, a_failedHead, a_failedCount, a_put)) : wpX_append post (f_front, f_back, f_waiting, f_limit, f_window, f_puts, f_steps, f_lost, f_failures, f_anew, f_melted, f_working, f_heldValue, f_heldSender, a_op, a_first, a_second, a_there, a_parent, a_behaviour, a_born, a_strategy, a_state, a_eldest, a_youngest, a_younger, a_older, a_children, a_kind, a_value, a_sender, a_head, a_mails, a_next, a_before, a_queued, a_failedAt, a_failedHead, a_failedCount, a_put) (nI a) := by
  have hi := ni_ a1
  have hc := nc_ a1
  obtain ⟨q1, q2⟩ := xq_app hQ ha hl hn
  have hb : vp_nar .byte f_back.toInt8.toInt32 = f_back := by
    rw [hQ.1.2.1]
    exact nb_h1 (rl_ hl)
  refine And.intro hi (nm_r (e' := upd a_queued a 1) (by rw [hc]; rfl) ⟨hi, nm_r (e' := upd a_next a (-1)) (by rw [hc, nb_m]) ⟨hi, nm_r (e' := upd a_before a f_back) (by rw [hc, hb]) ?_⟩⟩)
  refine br_c (fun hb0 => ?_) (fun hb0 => ?_)
  · exact nm_e (K _ _ _ _ _ _ (q1 hb0))
  · obtain ⟨z, hz, ez, hq⟩ := q2 hb0
    refine ⟨by rw [ez]; exact ni_ hz, nm_r (e' := upd (upd a_next a (-1)) z (nI a)) ?_ (nm_e (K _ _ _ _ _ _ hq))⟩
    rw [ez, nc_ hz, nb_1 (by omega)]
theorem xu_unlink {f_front f_back f_waiting f_limit f_window f_puts f_steps f_lost f_failures f_anew f_melted f_working f_heldValue f_heldSender : Int32} {a_op a_first a_second a_there a_parent a_behaviour a_born a_strategy a_state a_eldest a_youngest a_younger a_older a_children a_kind a_value a_sender a_head a_mails a_next a_before a_queued a_failedAt a_failedHead a_failedCount a_put : Nat → Int32} {post : SX → Prop} {row : List Nat} {a : Nat} (hQ : xa_Q row f_front f_back f_waiting a_next a_before a_queued) (hn : row.Nodup) (hl : ∀ x, x ∈ row → x < 12) (ha : a ∈ row)
    (K : ∀ fr bk wt nx bf qu, xa_Q (row.filter (fun y => !decide (y = a))) fr bk wt nx bf qu → post (fr, bk, wt, f_limit, f_window, f_puts, f_steps, f_lost, f_failures, f_anew, f_melted, f_working, f_heldValue, f_heldSender, a_op, a_first, a_second, a_there, a_parent, a_behaviour, a_born, a_strategy, a_state, a_eldest, a_youngest, a_younger, a_older, a_children, a_kind, a_value, a_sender, a_head, a_mails, nx, bf, qu, a_failedAt, a_failedHead, a_failedCount, a_put)) : wpX_unlink post (f_front, f_back, f_waiting, f_limit, f_window, f_puts, f_steps, f_lost, f_failures, f_anew, f_melted, f_working, f_heldValue, f_heldSender, a_op, a_first, a_second, a_there, a_parent, a_behaviour, a_born, a_strategy, a_state, a_eldest, a_youngest, a_younger, a_older, a_children, a_kind, a_value, a_sender, a_head, a_mails, a_next, a_before, a_queued, a_failedAt, a_failedHead, a_failedCount, a_put) (nI a) := by
  obtain ⟨s, t, rfl⟩ := List.append_of_mem ha
  rw [fl_sp hn] at K
  have a1 := hl a (by simp)
  have hi := ni_ a1
  have hc := nc_ a1
  obtain ⟨na, pa⟩ := hQ.1.2.2 s a t rfl
  have hls : ∀ x, x ∈ s → x < 12 := fun x hx => hl x (by simp [hx])
  have hlt : ∀ x, x ∈ t → x < 12 := fun x hx => hl x (by simp [hx])
  have H : ∀ fr1 nx1, ((s = [] ∧ fr1 = a_next a ∧ nx1 = a_next) ∨ (∃ s0 z, s = s0 ++ [z] ∧ fr1 = f_front ∧ nx1 = upd a_next z (a_next a))) → wX_unlink_46 post (nI a) fr1 f_back f_waiting f_limit f_window f_puts f_steps f_lost f_failures f_anew f_melted f_working f_heldValue f_heldSender a_op a_first a_second a_there a_parent a_behaviour a_born a_strategy a_state a_eldest a_youngest a_younger a_older a_children a_kind a_value a_sender a_head a_mails nx1 a_before (upd a_queued a 0) a_failedAt a_failedHead a_failedCount a_put := by
    intro fr1 nx1 h1
    have e1 : nx1 a = a_next a := by
      rcases h1 with ⟨_, _, e⟩ | ⟨s0, z, hs, _, e⟩
      · rw [e]
      · have haz : a ≠ z := by
          have := (List.nodup_append.mp hn).2.2 z (by rw [hs]; simp) a (by simp)
          exact fun q => this q.symm
        rw [e, pk_un haz]
    refine ⟨hi, br_c (fun hb => ?_) (fun hb => ?_)⟩
    · rw [hc, e1, na, dl_hd_neg hlt] at hb
      exact ⟨hi, nm_r (e' := a_before a) (by rw [hc]) (nm_e (K _ _ _ _ _ _ (xq_un hQ hn h1 (Or.inl ⟨hb, rfl, rfl⟩))))⟩
    · rw [hc, e1, na, dl_hd_neg hlt] at hb
      obtain ⟨y, t0, ht⟩ : ∃ y t0, t = y :: t0 := by
        cases t with
        | nil => exact absurd rfl hb
        | cons y t0 => exact ⟨y, t0, rfl⟩
      have y1 : y < 12 := hlt y (by rw [ht]; simp)
      have ny : nx1 (nI a).toNatClampNeg = nI y := by rw [hc, e1, na, ht]; rfl
      refine ⟨hi, hi, by rw [ny]; exact ni_ y1, nm_r (e' := upd a_before y (a_before a)) ?_ (nm_e (K _ _ _ _ _ _ (xq_un hQ hn h1 (Or.inr ⟨y, t0, ht, rfl, rfl⟩))))⟩
      rw [ny, nc_ y1, hc, pa, nb_h (rl_ hls)]
  refine And.intro hi (nm_r (e' := upd a_queued a 0) (by rw [hc]; rfl) ⟨hi, br_c (fun hb => ?_) (fun hb => ?_)⟩)
  · rw [hc, pa, dl_hd_neg (rl_ hls)] at hb
    have hs : s = [] := by simpa using hb
    exact ⟨hi, nm_r (e' := a_next a) (by rw [hc]) (H _ _ (Or.inl ⟨hs, rfl, rfl⟩))⟩
  · rw [hc, pa, dl_hd_neg (rl_ hls)] at hb
    have hs0 : s ≠ [] := by simpa using hb
    obtain ⟨s0, z, hs⟩ := dl_lastE hs0
    have z1 : z < 12 := hls z (by rw [hs]; simp)
    have pz : a_before (nI a).toNatClampNeg = nI z := by rw [hc, pa, hs]; simp [dl_hd]
    refine ⟨hi, hi, by rw [pz]; exact ni_ z1, nm_r (e' := upd a_next z (a_next a)) ?_ (H _ _ (Or.inr ⟨s0, z, hs, rfl, rfl⟩))⟩
    rw [pz, nc_ z1, hc, na, nb_h hlt]
theorem rm_1g {x y : Nat} (x0 : 0 < x) (x1 : x < 12) : rm_g (rm_1 x) y = decide (y = x) := by
  by_cases e : y = x
  · subst e
    rw [rm_gi x0 x1]
    rfl
  · unfold rm_g rm_1
    simp [e]
theorem rm_1e {x : Nat} {c : AC} (x0 : 0 < x) (x1 : x < 12) : rm_ (rm_1 x) c = rm_k c (ac_lost c + (ac_ml c x).length) (upd (ac_th c) x 0) (fun p => (ac_ch c p).filter (fun y => !decide (y = x))) (fu_ (ac_ml c) x []) ((ac_row c).filter (fun y => !decide (y = x))) := by
  refine rm_kc (c := c) ?_ ?_ ?_ ?_ ?_
  · refine congrArg (fun n => ac_lost c + n) ?_
    rw [cs_con (g := fun y => if y = x then (ac_ml c x).length else 0) (fun y => ?_), cs_one 11 1 (by omega) (by omega)]
    rw [rm_1g x0 x1]
    by_cases e : y = x
    · subst e
      simp
    · simp [e]
  · funext y
    rw [rm_1g x0 x1]
    by_cases e : y = x
    · subst e
      simp [upd]
    · simp [e, upd]
  · funext p
    exact List.filter_congr (fun y _ => by rw [rm_1g x0 x1])
  · funext y
    rw [rm_1g x0 x1]
    by_cases e : y = x
    · subst e
      simp [fu_]
    · simp [e, fu_]
  · exact List.filter_congr (fun y _ => by rw [rm_1g x0 x1])
theorem xl_leave {B : Nat} {c : AC} {w : SX} {post : SX → Prop} {x : Nat} (h : xr_ c w) (hci : ci_A B c) (x0 : 0 < x) (x1 : x < 12) (hx : ac_th c x ≠ 0) (K : ∀ w', xr_ (rm_ (rm_1 x) c) w' → post w') : wpX_leave post w (nI x) := by
  obtain ⟨⟨t0, t1, tP, tC, rk, M, tK⟩, hV, hM, ⟨q1, q2, q3, q4⟩, hF, hR, hB⟩ := hci
  obtain ⟨p, p1, hp, htp⟩ := tP x x0 x1 hx
  have hmem : x ∈ ac_ch c p := (tC.1 p x).mpr ⟨p1, x0, x1, hx, hp⟩
  obtain ⟨s, t, hs⟩ := List.append_of_mem hmem
  rw [rm_1e x0 x1] at K
  refine xr_el (P := fun w => wpX_leave post w (nI x)) h ?_
  intro f_front f_back f_waiting a_second a_eldest a_youngest a_younger a_older a_children a_kind a_value a_sender a_head a_mails a_next a_before a_queued a_failedAt a_failedHead a_failedCount a_put aA aT aM aQ aF aO
  have hi := ni_ x1
  have hc := nc_ x1
  have ip := ni_ p1
  have hTp := aT p p1 htp
  rw [hs] at hTp
  obtain ⟨ny, po⟩ := hTp.1.2.2 s x t rfl
  have hcl : ∀ y, y ∈ s ++ x :: t → y < 12 := by
    intro y hy
    rw [← hs] at hy
    exact ci_chlt tC hy
  have hls : ∀ y, y ∈ s → y < 12 := fun y hy => hcl y (by simp [hy])
  have hlt : ∀ y, y ∈ t → y < 12 := fun y hy => hcl y (by simp [hy])
  have hnd := tC.2 p
  rw [hs] at hnd
  have H89 : ∀ el yo yr od, xa_T (upd (ac_th c) x 0) (fun p => (ac_ch c p).filter (fun y => !decide (y = x))) el yo yr od (upd a_children p (nI ((ac_ch c p).length - 1))) → wX_leave_89 post (nI x) (nI p) f_front f_back f_waiting (ac_lim c) (ac_win c) (nI (ac_puts c)) (nI (ac_steps c)) (nI (ac_lost c)) (nI (ac_fai c)) (nI (ac_ane c)) (nI (ac_mel c)) (xr_w (ac_wk c)) (ac_hv c) (ac_hs c) (ac_op c) (ac_as c) a_second (ac_th c) (ac_pa c) (ac_be c) (ac_bo c) (ac_sg c) (ac_st c) el yo yr od a_children a_kind a_value a_sender a_head a_mails a_next a_before a_queued a_failedAt a_failedHead a_failedCount a_put := by
    intro el yo yr od hT'
    refine And.intro ip ⟨ip, nm_r (e' := upd a_children p (nI ((ac_ch c p).length - 1))) ?_ ⟨hi, nm_r (e' := upd (ac_th c) x 0) (by rw [hc]; rfl) ⟨hi, nm_r (e' := nI (ac_lost c + (ac_ml c x).length)) (by rw [hc, (aM x x1).1, nI_add]) ⟨hi, nm_r (e' := upd a_mails x 0) (by rw [hc, nb_0]) ⟨hi, br_c (fun hq => ?_) (fun hq => ?_)⟩⟩⟩⟩⟩
    · have hl := ch_len tC p
      have e : (ac_ch c p).length = ((ac_ch c p).length - 1) + 1 := by
        have := List.length_pos_of_mem hmem
        omega
      rw [nc_ p1, (aT p p1 htp).2]
      generalize (ac_ch c p).length - 1 = n at *
      rw [e, nI_pred, nb_1 (by omega)]
    · rw [hc, aQ.2.2 x x1] at hq
      have hnr : x ∉ ac_row c := by
        intro hm
        rw [if_pos hm] at hq
        exact absurd hq (by decide)
      refine K _ (xr_in aA hT' (xm_zero aM) ?_ aF aO)
      show xa_Q ((ac_row c).filter (fun y => !decide (y = x))) _ _ _ _ _ _
      rw [fl_no hnr]
      exact aQ
    · rw [hc, aQ.2.2 x x1] at hq
      have hnr : x ∈ ac_row c := by
        refine Classical.byContradiction (fun hm => ?_)
        rw [if_neg hm] at hq
        exact hq rfl
      refine xu_unlink aQ q1 (fun y hy => (q2 y hy).2.1) hnr (fun fr bk wt nx bf qu hq' => ?_)
      exact K _ (xr_in aA hT' (xm_zero aM) hq' aF aO)
  have H48 : ∀ el1 yr1, ((s = [] ∧ el1 = upd a_eldest p (a_younger x) ∧ yr1 = a_younger) ∨ (∃ s0 z, s = s0 ++ [z] ∧ el1 = a_eldest ∧ yr1 = upd a_younger z (a_younger x))) → wX_leave_48 post (nI x) (nI p) f_front f_back f_waiting (ac_lim c) (ac_win c) (nI (ac_puts c)) (nI (ac_steps c)) (nI (ac_lost c)) (nI (ac_fai c)) (nI (ac_ane c)) (nI (ac_mel c)) (xr_w (ac_wk c)) (ac_hv c) (ac_hs c) (ac_op c) (ac_as c) a_second (ac_th c) (ac_pa c) (ac_be c) (ac_bo c) (ac_sg c) (ac_st c) el1 a_youngest yr1 a_older a_children a_kind a_value a_sender a_head a_mails a_next a_before a_queued a_failedAt a_failedHead a_failedCount a_put := by
    intro el1 yr1 h1
    have e1 : yr1 x = a_younger x := by
      rcases h1 with ⟨_, _, e⟩ | ⟨s0, z, hz, _, e⟩
      · rw [e]
      · have hxz : x ≠ z := by
          have := (List.nodup_append.mp hnd).2.2 z (by rw [hz]; simp) x (by simp)
          exact fun q => this q.symm
        rw [e, pk_un hxz]
    refine And.intro hi (br_c (fun hb => ?_) (fun hb => ?_))
    · rw [hc, e1, ny, dl_hd_neg hlt] at hb
      refine ⟨hi, ip, nm_r (e' := upd a_youngest p (a_older x)) ?_ (H89 _ _ _ _ (xt_un aT tC p1 htp hs h1 (Or.inl ⟨hb, rfl, rfl⟩)))⟩
      rw [nc_ p1, hc, po, nb_h (rl_ hls)]
    · rw [hc, e1, ny, dl_hd_neg hlt] at hb
      obtain ⟨y, r0, ht⟩ : ∃ y r0, t = y :: r0 := by
        cases t with
        | nil => exact absurd rfl hb
        | cons y r0 => exact ⟨y, r0, rfl⟩
      have y1 : y < 12 := hlt y (by rw [ht]; simp)
      have nyy : yr1 (nI x).toNatClampNeg = nI y := by rw [hc, e1, ny, ht]; rfl
      refine ⟨hi, hi, by rw [nyy]; exact ni_ y1, nm_r (e' := upd a_older y (a_older x)) ?_ (H89 _ _ _ _ (xt_un aT tC p1 htp hs h1 (Or.inr ⟨y, r0, ht, rfl, rfl⟩)))⟩
      rw [nyy, nc_ y1, hc, po, nb_h (rl_ hls)]
  refine And.intro hi (nm_r (e' := nI p) (by rw [hc]; exact hp) ⟨hi, br_c (fun hb => ?_) (fun hb => ?_)⟩)
  · rw [hc, po, dl_hd_neg (rl_ hls)] at hb
    have hs0 : s = [] := by simpa using hb
    refine ⟨hi, ip, nm_r (e' := upd a_eldest p (a_younger x)) ?_ (H48 _ _ (Or.inl ⟨hs0, rfl, rfl⟩))⟩
    rw [nc_ p1, hc, ny, nb_h hlt]
  · rw [hc, po, dl_hd_neg (rl_ hls)] at hb
    have hs0 : s ≠ [] := by simpa using hb
    obtain ⟨s0, z, hz⟩ := dl_lastE hs0
    have z1 : z < 12 := hls z (by rw [hz]; simp)
    have pz : a_older (nI x).toNatClampNeg = nI z := by rw [hc, po, hz]; simp [dl_hd]
    refine ⟨hi, hi, by rw [pz]; exact ni_ z1, nm_r (e' := upd a_younger z (a_younger x)) ?_ (H48 _ _ (Or.inr ⟨s0, z, hz, rfl, rfl⟩))⟩
    rw [pz, nc_ z1, hc, ny, nb_h hlt]
end
section
theorem xc_cell {x h n : Nat} (hx : x < 12) (hh : h < 8) (hn : n < 100) : (8 : Int32) * nI x + ((nI h + nI n) &&& 7) = nI (8 * x + (h + n) % 8) := by
  rw [nI_add, pk_andN (n := h + n) (by omega) (m := 7) 3 (by decide)]
  show nI 8 * nI x + nI ((h + n) % 2 ^ 3) = _
  rw [pk_mul, nI_add]
theorem xw_eq {x w : Nat} (x0 : 0 < x) (x1 : x < 12) (hw : w < 12) : nI x = xr_w w ↔ x = w := by
  unfold xr_w
  by_cases h : w = 0
  · subst h
    rw [if_pos rfl]
    constructor
    · intro e
      have h1 := nI_pos (n := x) (by omega)
      rw [e] at h1
      exact absurd (by decide) h1
    · intro e
      omega
  · rw [if_neg h, nI_eq (by omega) (by omega)]
theorem xp_post {B : Nat} {c : AC} {w : SX} {post : Int32 → SX → Prop} {to k f : Nat} {v : Int32} (h : xr_ c w) (hci : ci_A B c) (o0 : 0 < to) (o1 : to < 12) (hk : k ≤ 3) (hf : f < 12)
    (K : ∀ w', xr_ (ac_post c to (nI k) v (nI f)) w' → post (if (ac_ml c to).length = 6 then 0 else 1) w') : wpX_post post w (nI to) (nI k) v (nI f) := by
  obtain ⟨hT, hV, hM, ⟨q1, q2, q3, q4⟩, hF, hR, hB⟩ := hci
  refine xr_el (P := fun w => wpX_post post w (nI to) (nI k) v (nI f)) h ?_
  intro f_front f_back f_waiting a_second a_eldest a_youngest a_younger a_older a_children a_kind a_value a_sender a_head a_mails a_next a_before a_queued a_failedAt a_failedHead a_failedCount a_put aA aT aM aQ aF aO
  have hi := ni_ o1
  have hc := nc_ o1
  obtain ⟨m1, hh, m2, m3, m4⟩ := aM to o1
  have hlen := (hM to).1 o1
  refine And.intro hi (br_c (fun h6 => ?_) (fun h6 => ?_))
  · rw [hc, m1] at h6
    have e6 : (ac_ml c to).length = 6 := (nI_eq (b := 6) (by omega) (by omega)).mp h6
    unfold ac_post at K
    rw [if_pos e6, if_pos e6] at K
    exact nm_r (e' := nI (ac_lost c + 1)) (nI_1 _) (K _ (xr_in aA aT aM aQ aF aO))
  · rw [hc, m1] at h6
    have e6 : (ac_ml c to).length ≠ 6 := fun e => h6 (by rw [e]; rfl)
    unfold ac_post at K
    rw [if_neg e6, if_neg e6] at K
    have i5 : vp_in (nI (8 * to + (hh + (ac_ml c to).length) % 8)) 96 := vp_in_nI (by omega) (by omega)
    have c5 : (nI (8 * to + (hh + (ac_ml c to).length) % 8)).toNatClampNeg = 8 * to + (hh + (ac_ml c to).length) % 8 := nI_clamp (by omega)
    have hput := xm_put (k := nI k) (v := v) (f := nI f) aM o1 m2 m3 (by omega) (fun x hx => Nat.le_trans ((hM x).1 hx) (by omega))
    refine ⟨hi, hi, nm_r (e' := nI (8 * to + (hh + (ac_ml c to).length) % 8)) (by rw [hc, m1, m3]; exact xc_cell o1 m2 (by omega)) ⟨i5, nm_r (e' := upd a_kind (8 * to + (hh + (ac_ml c to).length) % 8) (nI k)) (by rw [c5, nb_1 (by omega)]) ⟨i5, nm_r (e' := upd a_value (8 * to + (hh + (ac_ml c to).length) % 8) v) (by rw [c5]) ⟨i5, nm_r (e' := upd a_sender (8 * to + (hh + (ac_ml c to).length) % 8) (nI f)) (by rw [c5, nb_1 (by omega)]) ⟨hi, hi, nm_r (e' := upd a_mails to (nI ((ac_ml c to).length + 1))) (by rw [hc, m1, nI_1, nb_1 (by omega)]) ⟨hi, br_c (fun hq => ?_) (fun hq => ?_)⟩⟩⟩⟩⟩⟩
    · rw [hc, aQ.2.2 to o1] at hq
      have hnr : to ∉ ac_row c := by
        intro hm
        rw [if_pos hm] at hq
        exact absurd hq (by decide)
      refine br_c (fun hw => ?_) (fun hw => ?_)
      · have hw' := (xw_eq o0 o1 q4).mp hw
        rw [if_pos (Or.inr hw')] at K
        exact K _ (xr_in aA aT hput aQ aF aO)
      · have hw' : ¬ to = ac_wk c := fun e => hw ((xw_eq o0 o1 q4).mpr e)
        rw [if_neg (fun q => q.elim hnr hw')] at K
        refine xu_append aQ hnr (fun y hy => (q2 y hy).2.1) q1 o1 (fun fr bk wt nx bf qu hq' => ?_)
        exact K _ (xr_in aA aT hput hq' aF aO)
    · rw [hc, aQ.2.2 to o1] at hq
      have hnr : to ∈ ac_row c := by
        refine Classical.byContradiction (fun hm => ?_)
        rw [if_neg hm] at hq
        exact hq rfl
      rw [if_pos (Or.inl hnr)] at K
      exact K _ (xr_in aA aT hput aQ aF aO)
theorem xs_show {B : Nat} {c : AC} {w : SX} {post : SX → Prop} {v : Int32} (h : xr_ c w) (hci : ci_A B c) (hB : B < 2 ^ 30) (K : ∀ w', xr_ (ac_show c v) w' → post w') : wpX_show post w v := by
  have hp := hci.2.2.2.2.2.2.2.2.2.2
  refine xr_el (P := fun w => wpX_show post w v) h ?_
  intro f_front f_back f_waiting a_second a_eldest a_youngest a_younger a_older a_children a_kind a_value a_sender a_head a_mails a_next a_before a_queued a_failedAt a_failedHead a_failedCount a_put aA aT aM aQ aF aO
  have e15 : nI (ac_puts c) &&& 15 = nI (ac_puts c % 16) := pk_andN (n := ac_puts c) (by omega) (m := 15) 4 (by decide)
  refine nm_r (e' := nI (ac_puts c + 1)) (nI_1 _) (And.intro ?_ (nm_r (e' := upd a_put (ac_puts c % 16) v) ?_ (K _ (xr_in aA aT aM aQ aF (xo_show aO)))))
  · rw [e15]
    exact vp_in_nI (by omega) (by omega)
  · rw [e15, nI_clamp (by omega)]
theorem xb_0 {c : AC} {w : SX} {post : Int32 → SX → Prop} {p b g : Int32} (h : xr_ c w) (hall : ∀ x, 0 < x → x < 12 → ac_th c x ≠ 0) (K : ∀ w', xr_ c w' → post (-1) w') : wpX_birth post w p b g := by
  refine xr_el (P := fun w => wpX_birth post w p b g) h ?_
  intro f_front f_back f_waiting a_second a_eldest a_youngest a_younger a_older a_children a_kind a_value a_sender a_head a_mails a_next a_before a_queued a_failedAt a_failedHead a_failedCount a_put aA aT aM aQ aF aO
  have L : ∀ d i, 0 < i → i + d = 12 → wX_birth_3 post p b g f_front f_back f_waiting (ac_lim c) (ac_win c) (nI (ac_puts c)) (nI (ac_steps c)) (nI (ac_lost c)) (nI (ac_fai c)) (nI (ac_ane c)) (nI (ac_mel c)) (xr_w (ac_wk c)) (ac_hv c) (ac_hs c) (ac_op c) (ac_as c) a_second (ac_th c) (ac_pa c) (ac_be c) (ac_bo c) (ac_sg c) (ac_st c) a_eldest a_youngest a_younger a_older a_children a_kind a_value a_sender a_head a_mails a_next a_before a_queued a_failedAt a_failedHead a_failedCount a_put (d + 1) (nI i) := by
    intro d
    induction d with
    | zero =>
      intro i i0 hi
      have e : i = 12 := by omega
      subst e
      exact br_t (nI_le (a := 12) (b := 12) (by omega) (by omega)) (br_t rfl (K _ (xr_in aA aT aM aQ aF aO)))
    | succ d ih =>
      intro i i0 hi
      refine br_f (nI_ge (b := 12) (by omega) (by omega)) ⟨ni_ (by omega), br_f ?_ (nm_r (e' := nI (i + 1)) (nI_1 _) (ih (i + 1) (by omega) (by omega)))⟩
      rw [nc_ (by omega)]
      exact hall i i0 (by omega)
  exact ⟨12, L 11 1 (by omega) (by omega)⟩
theorem xb_1 {B : Nat} {c : AC} {w : SX} {post : Int32 → SX → Prop} {p b g a : Nat} (h : xr_ c w) (hci : ci_A B c) (a0 : 0 < a) (a1 : a < 12) (hta : ac_th c a = 0) (hall : ∀ x, 0 < x → x < a → ac_th c x ≠ 0) (p1 : p < 12) (htp : ac_th c p ≠ 0) (hb : b ≤ 3) (hg : g ≤ 2)
    (K : ∀ w', xr_ (ac_brt c a p (nI b) (nI g)) w' → post (nI a) w') : wpX_birth post w (nI p) (nI b) (nI g) := by
  obtain ⟨⟨t0, t1, tP, tC, rk, M, tK⟩, hV, hM, ⟨q1, q2, q3, q4⟩, hF, hR, hB⟩ := hci
  refine xr_el (P := fun w => wpX_birth post w (nI p) (nI b) (nI g)) h ?_
  intro f_front f_back f_waiting a_second a_eldest a_youngest a_younger a_older a_children a_kind a_value a_sender a_head a_mails a_next a_before a_queued a_failedAt a_failedHead a_failedCount a_put aA aT aM aQ aF aO
  have hi := ni_ a1
  have hc := nc_ a1
  have ip := ni_ p1
  have cp := nc_ p1
  have hpa : p ≠ a := fun hh => htp (hh ▸ hta)
  have hml : ac_ml c a = [] := (hM a).2.1 a0 a1 hta
  have hl := ch_len tC p
  have hyp : a_youngest p = dl_hd (ac_ch c p).reverse := (aT p p1 htp).1.2.1
  have hlt : ∀ x, x ∈ ac_ch c p → x < 12 := fun x hx => ci_chlt tC hx
  have H191 : ∀ el' yr', xa_T (upd (ac_th c) a 1) (fu_ (ac_ch c) p (ac_ch c p ++ [a])) el' (upd (upd a_youngest a (-1)) p (nI a)) yr' (upd a_older a (a_youngest p)) (upd (upd a_children a 0) p (nI ((ac_ch c p).length + 1))) →
      wX_birth_191 post (nI p) (nI a) f_front f_back f_waiting (ac_lim c) (ac_win c) (nI (ac_puts c)) (nI (ac_steps c)) (nI (ac_lost c)) (nI (ac_fai c)) (nI (ac_ane c)) (nI (ac_mel c)) (xr_w (ac_wk c)) (ac_hv c) (ac_hs c) (ac_op c) (ac_as c) a_second (upd (ac_th c) a 1) (upd (ac_pa c) a (nI p)) (upd (ac_be c) a (nI b)) (upd (ac_bo c) a (nI b)) (upd (ac_sg c) a (nI g)) (upd (ac_st c) a 0) el' (upd a_youngest a (-1)) yr' (upd a_older a (a_youngest p)) (upd a_children a 0) a_kind a_value a_sender (upd a_head a 0) (upd a_mails a 0) a_next a_before a_queued a_failedAt a_failedHead (upd a_failedCount a 0) a_put := by
    intro el' yr' hT'
    refine And.intro ip (nm_r (e' := upd (upd a_youngest a (-1)) p (nI a)) (by rw [cp, nb_1 (by omega)]) ⟨ip, ip, nm_r (e' := upd (upd a_children a 0) p (nI ((ac_ch c p).length + 1))) ?_ (K _ (xr_in aA hT' (xm_born aM hml) aQ (xf_cl aF) aO))⟩)
    rw [cp, pk_un hpa, (aT p p1 htp).2, nI_1, nb_1 (by omega)]
  have H26 : wX_birth_26 post (nI p) (nI b) (nI g) (nI a) f_front f_back f_waiting (ac_lim c) (ac_win c) (nI (ac_puts c)) (nI (ac_steps c)) (nI (ac_lost c)) (nI (ac_fai c)) (nI (ac_ane c)) (nI (ac_mel c)) (xr_w (ac_wk c)) (ac_hv c) (ac_hs c) (ac_op c) (ac_as c) a_second (ac_th c) (ac_pa c) (ac_be c) (ac_bo c) (ac_sg c) (ac_st c) a_eldest a_youngest a_younger a_older a_children a_kind a_value a_sender a_head a_mails a_next a_before a_queued a_failedAt a_failedHead a_failedCount a_put := by
    have n12 : ¬ nI a = 12 := fun e => by
      have := (nI_eq (a := a) (b := 12) (by omega) (by omega)).mp e
      omega
    refine br_f n12 ⟨hi, nm_r (e' := upd (ac_th c) a 1) (by rw [hc]; rfl) ⟨hi, nm_r (e' := upd (ac_pa c) a (nI p)) (by rw [hc, nb_1 (by omega)]) ⟨hi, nm_r (e' := upd (ac_be c) a (nI b)) (by rw [hc, nb_1 (by omega)]) ⟨hi, nm_r (e' := upd (ac_bo c) a (nI b)) (by rw [hc, nb_1 (by omega)]) ⟨hi, nm_r (e' := upd (ac_sg c) a (nI g)) (by rw [hc, nb_1 (by omega)]) ⟨hi, nm_r (e' := upd (ac_st c) a 0) (by rw [hc]) ⟨hi, nm_r (e' := upd a_eldest a (-1)) (by rw [hc, nb_m]) ⟨hi, nm_r (e' := upd a_youngest a (-1)) (by rw [hc, nb_m]) ⟨hi, nm_r (e' := upd a_children a 0) (by rw [hc, nb_0]) ⟨hi, nm_r (e' := upd a_mails a 0) (by rw [hc, nb_0]) ⟨hi, nm_r (e' := upd a_head a 0) (by rw [hc, nb_0]) ⟨hi, nm_r (e' := upd a_failedCount a 0) (by rw [hc, nb_0]) ⟨hi, nm_r (e' := upd a_younger a (-1)) (by rw [hc, nb_m]) ⟨ip, hi, nm_r (e' := upd a_older a (a_youngest p)) (by rw [hc, cp, pk_un hpa, hyp, nb_h (rl_ hlt)]) ⟨ip, br_c (fun hy => ?_) (fun hy => ?_)⟩⟩⟩⟩⟩⟩⟩⟩⟩⟩⟩⟩⟩⟩⟩
    · rw [cp, pk_un hpa] at hy
      refine ⟨ip, nm_r (e' := upd (upd a_eldest a (-1)) p (nI a)) (by rw [cp, nb_1 (by omega)]) (H191 _ _ (xt_brt aT tC tP a1 hta p1 htp (Or.inl ⟨hy, rfl, rfl⟩)))⟩
    · rw [cp, pk_un hpa] at hy
      obtain ⟨z, hz, ez, _⟩ := dl_app1 (aT p p1 htp).1 hy (fun hm => ((tC.1 p a).mp hm).2.2.2.1 hta) hlt (tC.2 p)
      have z1 := hlt z hz
      have ez' : upd a_youngest a (-1) (nI p).toNatClampNeg = nI z := by rw [cp, pk_un hpa, ez]
      refine ⟨ip, by rw [ez']; exact ni_ z1, nm_r (e' := upd (upd a_younger a (-1)) z (nI a)) ?_ (H191 _ _ (xt_brt aT tC tP a1 hta p1 htp (Or.inr ⟨hy, z, ez, z1, rfl, rfl⟩)))⟩
      rw [ez', nc_ z1, nb_1 (by omega)]
  have L : ∀ d i, 0 < i → i + d = a → wX_birth_3 post (nI p) (nI b) (nI g) f_front f_back f_waiting (ac_lim c) (ac_win c) (nI (ac_puts c)) (nI (ac_steps c)) (nI (ac_lost c)) (nI (ac_fai c)) (nI (ac_ane c)) (nI (ac_mel c)) (xr_w (ac_wk c)) (ac_hv c) (ac_hs c) (ac_op c) (ac_as c) a_second (ac_th c) (ac_pa c) (ac_be c) (ac_bo c) (ac_sg c) (ac_st c) a_eldest a_youngest a_younger a_older a_children a_kind a_value a_sender a_head a_mails a_next a_before a_queued a_failedAt a_failedHead a_failedCount a_put (d + 1) (nI i) := by
    intro d
    induction d with
    | zero =>
      intro i i0 hi2
      have e : i = a := by omega
      subst e
      refine br_f (nI_ge (b := 12) (by omega) (by omega)) ⟨hi, br_t ?_ H26⟩
      rw [hc]
      exact hta
    | succ d ih =>
      intro i i0 hi2
      refine br_f (nI_ge (b := 12) (by omega) (by omega)) ⟨ni_ (by omega), br_f ?_ (nm_r (e' := nI (i + 1)) (nI_1 _) (ih (i + 1) (by omega) (by omega)))⟩
      rw [nc_ (by omega)]
      exact hall i i0 (by omega)
  exact ⟨a, by
    have := L (a - 1) 1 (by omega) (by omega)
    rw [show a - 1 + 1 = a by omega] at this
    exact this⟩
theorem xd_cmp {t s W : Nat} (ht : t < 2 ^ 30) (hs : s < 2 ^ 30) (hW : W ≤ 100) : nI t ≤ nI s - nI W ↔ ¬ s < t + W := by
  rw [Int32.le_iff_toInt_le, pk_sub_toInt hs (by omega), nI_toInt (by omega)]
  omega
theorem xf_tooMany {B L W : Nat} {c : AC} {w : SX} {post : Int32 → SX → Prop} {p : Nat} (h : xr_ c w) (hci : ci_A B c) (hB : B < 2 ^ 29) (p1 : p < 12) (hL : ac_lim c = nI L) (hL3 : L ≤ 3) (hW : ac_win c = nI W) (hW1 : W ≤ 100)
    (K : ∀ w', xr_ (ac_note c p) w' → post (tm_ L W (ac_steps c) ((ac_steps c :: ac_fl c p).take 4)) w') : wpX_tooMany post w (nI p) := by
  obtain ⟨hT, hV, hM, hQ, hF, hR, hB1, hB2, hB3, hB4, hB5⟩ := hci
  refine xr_el (P := fun w => wpX_tooMany post w (nI p)) h ?_
  intro f_front f_back f_waiting a_second a_eldest a_youngest a_younger a_older a_children a_kind a_value a_sender a_head a_mails a_next a_before a_queued a_failedAt a_failedHead a_failedCount a_put aA aT aM aQ aF aO
  have ip := ni_ p1
  have cp := nc_ p1
  obtain ⟨f1, hh, f2, f3, f4⟩ := aF p p1
  have hfl := hF p
  have e3 : (nI hh + 1) &&& 3 = nI ((hh + 1) % 4) := by
    rw [nI_1]
    exact pk_andN (n := hh + 1) (by omega) (m := 3) 2 (by decide)
  have e4 : (4 : Int32) * nI p + nI ((hh + 1) % 4) = nI (4 * p + (hh + 1) % 4) := by
    show nI 4 * nI p + _ = _
    rw [pk_mul, nI_add]
  have H57 : ∀ fc', (∀ q, fc' q = if q = p then nI ((ac_steps c :: ac_fl c p).take 4).length else a_failedCount q) → wX_tooMany_57 post (nI p) f_front f_back f_waiting (ac_lim c) (ac_win c) (nI (ac_puts c)) (nI (ac_steps c)) (nI (ac_lost c)) (nI (ac_fai c)) (nI (ac_ane c)) (nI (ac_mel c)) (xr_w (ac_wk c)) (ac_hv c) (ac_hs c) (ac_op c) (ac_as c) a_second (ac_th c) (ac_pa c) (ac_be c) (ac_bo c) (ac_sg c) (ac_st c) a_eldest a_youngest a_younger a_older a_children a_kind a_value a_sender a_head a_mails a_next a_before a_queued (upd a_failedAt (4 * p + (hh + 1) % 4) (nI (ac_steps c))) (upd a_failedHead p (nI ((hh + 1) % 4))) fc' a_put := by
    intro fc' hfc
    have hF' := xf_note (s := ac_steps c) aF p1 f2 f3 hfc
    have KK : ∀ r, r = tm_ L W (ac_steps c) ((ac_steps c :: ac_fl c p).take 4) → post r (f_front, f_back, f_waiting, ac_lim c, ac_win c, nI (ac_puts c), nI (ac_steps c), nI (ac_lost c), nI (ac_fai c), nI (ac_ane c), nI (ac_mel c), xr_w (ac_wk c), ac_hv c, ac_hs c, ac_op c, ac_as c, a_second, ac_th c, ac_pa c, ac_be c, ac_bo c, ac_sg c, ac_st c, a_eldest, a_youngest, a_younger, a_older, a_children, a_kind, a_value, a_sender, a_head, a_mails, a_next, a_before, a_queued, upd a_failedAt (4 * p + (hh + 1) % 4) (nI (ac_steps c)), upd a_failedHead p (nI ((hh + 1) % 4)), fc', a_put) := by
      intro r er
      rw [er]
      exact K _ (xr_in aA aT aM aQ hF' aO)
    have hfp : fc' (nI p).toNatClampNeg = nI ((ac_steps c :: ac_fl c p).take 4).length := by rw [cp, hfc p, if_pos rfl]
    have hlen : ((ac_steps c :: ac_fl c p).take 4).length ≤ 4 := by
      rw [List.length_take]
      omega
    obtain ⟨g1, h', g2, g3, g4⟩ := hF' p p1
    rw [pk_us] at g3
    have hh' : (hh + 1) % 4 = h' := (nI_eq (by omega) (by omega)).mp g3
    subst hh'
    rw [fu_s] at g4
    refine And.intro ip (br_c (fun hlt => ?_) (fun hlt => ?_))
    · rw [hfp, hL] at hlt
      have hlt' : L < ((ac_steps c :: ac_fl c p).take 4).length := (nI_ltI (by omega) (by omega)).mp hlt
      have hg : ((ac_steps c :: ac_fl c p).take 4)[L]? = some (((ac_steps c :: ac_fl c p).take 4)[L]'hlt') := List.getElem?_eq_getElem hlt'
      generalize ((ac_steps c :: ac_fl c p).take 4)[L]'hlt' = t at hg
      have ht : t ≤ ac_steps c := by
        have hm := List.mem_of_getElem? hg
        have hm2 := List.mem_of_mem_take hm
        rcases List.mem_cons.mp hm2 with h1 | h1
        · omega
        · exact hfl.2.1 t h1
      have hv := g4 L t hg
      have e5 : (nI ((hh + 1) % 4) - nI L) &&& 3 = nI (((hh + 1) % 4 + 4 - L) % 4) := by
        have : ∀ a, a < 4 → ∀ b, b < 4 → (nI a - nI b) &&& 3 = nI ((a + 4 - b) % 4) := by decide
        exact this _ (by omega) _ (by omega)
      have e6 : (4 : Int32) * nI p + nI (((hh + 1) % 4 + 4 - L) % 4) = nI (4 * p + ((hh + 1) % 4 + 4 - L) % 4) := by
        show nI 4 * nI p + _ = _
        rw [pk_mul, nI_add]
      refine ⟨ip, ?_, ?_⟩
      · rw [cp, pk_us, hL, e5, e6]
        exact vp_in_nI (by omega) (by omega)
      · refine nm_r (e' := nI t) ?_ (br_c (fun hle => KK _ ?_) (fun hle => KK _ ?_))
        · rw [cp, pk_us, hL, e5, e6, nI_clamp (by omega)]
          exact hv
        · rw [hW, xd_cmp (by omega) (by omega) hW1] at hle
          unfold tm_
          rw [hg]
          exact (if_neg hle).symm
        · rw [hW, xd_cmp (by omega) (by omega) hW1] at hle
          unfold tm_
          rw [hg]
          exact (if_pos (Classical.byContradiction hle)).symm
    · rw [hfp, hL] at hlt
      refine KK _ ?_
      have hge : ¬ L < ((ac_steps c :: ac_fl c p).take 4).length := fun q => hlt ((nI_ltI (by omega) (by omega)).mpr q)
      unfold tm_
      rw [List.getElem?_eq_none (by omega)]
  refine And.intro ip ⟨ip, nm_r (e' := upd a_failedHead p (nI ((hh + 1) % 4))) (by rw [cp, f3, e3, nb_1 (by omega)]) ⟨ip, ?_, ?_⟩⟩
  · rw [cp, pk_us, e4]
    exact vp_in_nI (by omega) (by omega)
  · refine nm_r (e' := upd a_failedAt (4 * p + (hh + 1) % 4) (nI (ac_steps c))) ?_ ⟨ip, br_c (fun h4 => ?_) (fun h4 => ?_)⟩
    · rw [cp, pk_us, e4, nI_clamp (by omega)]
    · rw [cp, f1] at h4
      have h4' : 4 ≤ (ac_fl c p).length := (nI_leI (a := 4) (by omega) (by omega)).mp h4
      refine H57 _ (fun q => ?_)
      by_cases e : q = p
      · subst e
        rw [if_pos rfl, f1, List.length_take, List.length_cons]
        exact congrArg nI (by omega)
      · rw [if_neg e]
    · rw [cp, f1] at h4
      have h4' : ¬ 4 ≤ (ac_fl c p).length := fun q => h4 ((nI_leI (a := 4) (by omega) (by omega)).mpr q)
      refine ⟨ip, ip, nm_r (e' := upd a_failedCount p (nI ((ac_fl c p).length + 1))) (by rw [cp, f1, nI_1, nb_1 (by omega)]) (H57 _ (fun q => ?_))⟩
      by_cases e : q = p
      · subst e
        rw [if_pos rfl, pk_us, List.length_take, List.length_cons]
        exact congrArg nI (by omega)
      · rw [if_neg e, pk_un e]
end
section
/-! the reference's pictures, aspect by aspect -/
def ya_T (ch : Nat → List Nat) (bt : Nat → Nat) (s : Nat) : Prop := (∀ x, bt x ≤ s) ∧ ∀ p, so_ok bt (ch p)
def ya_l (pl : List Nat) (l : List (Int32 × Int32 × Int32)) (x : Nat) (ow : Nat → Int32) (cm : Nat → Nat) (kd va sn : Nat → Int32) : Prop :=
  so_ok cm pl ∧ (∀ m, m ∈ pl ↔ m < 72 ∧ ow m = nI x) ∧ l = pl.map (fun m => (kd m, va m, sn m))
def ya_M (ml : Nat → List (Int32 × Int32 × Int32)) (ow : Nat → Int32) (cm : Nat → Nat) (kd va sn : Nat → Int32) (s : Nat) : Prop :=
  (∀ m, cm m ≤ s) ∧ (∀ m, m < 72 → ∃ j, j < 12 ∧ ow m = nI j) ∧ ∀ x, 0 < x → x < 12 → ∃ pl, ya_l pl (ml x) x ow cm kd va sn
def ya_Q (row : List Nat) (sd : Nat → Nat) (s : Nat) : Prop := (∀ x, sd x ≤ s) ∧ so_ok sd row ∧ ∀ x, 0 < x → x < 12 → (x ∈ row ↔ sd x ≠ 0)
def ya_f (l : List Nat) (j : Nat) : Int32 := match l[j]? with
  | some t => nI t
  | none => -1000
def ya_F (th : Nat → Int32) (fl : Nat → List Nat) (fa : Nat → Int32) : Prop := ∀ p, p < 12 → th p ≠ 0 → ∀ j, j < 4 → fa (4 * p + j) = ya_f (fl p) j
def ya_S (steps lost fai ane mel : Nat) (tt : Nat → Int32) : Prop := tt 0 = nI steps ∧ tt 1 = nI lost ∧ tt 2 = nI fai ∧ tt 3 = nI ane ∧ tt 4 = nI mel
def yg_ (B : Nat) (a_goes : Nat → Int32) (c : AC) (w : SY) : Prop := ∃ (s : Nat) (bt sd cm : Nat → Nat) (a_owner a_kinds a_values a_senders a_failed a_totals : Nat → Int32), w = (lN s, ac_lim c, ac_win c, nI (ac_wk c), nI (ac_puts c), ac_op c, ac_as c, ac_bs c, ac_th c, ac_pa c, (fun j => lN (bt j)), ac_be c, ac_bo c, ac_sg c, ac_st c, (fun j => lN (sd j)), a_owner, (fun j => lN (cm j)), a_kinds, a_values, a_senders, a_failed, ac_ou c, a_totals, a_goes) ∧ s ≤ B ∧
  ya_T (ac_ch c) bt s ∧ ya_M (ac_ml c) a_owner cm a_kinds a_values a_senders s ∧ ya_Q (ac_row c) sd s ∧ ya_F (ac_th c) (ac_fl c) a_failed ∧ ya_S (ac_steps c) (ac_lost c) (ac_fai c) (ac_ane c) (ac_mel c) a_totals
def yr_ (B : Nat) (c : AC) (w : SY) : Prop := ∃ go, yg_ B go c w
theorem yg_el {B : Nat} {a_goes : Nat → Int32} {c : AC} {w : SY} {P : SY → Prop} (h : yg_ B a_goes c w) (k : ∀ (s : Nat) (bt sd cm : Nat → Nat) (a_owner a_kinds a_values a_senders a_failed a_totals : Nat → Int32), s ≤ B →
  ya_T (ac_ch c) bt s → ya_M (ac_ml c) a_owner cm a_kinds a_values a_senders s → ya_Q (ac_row c) sd s → ya_F (ac_th c) (ac_fl c) a_failed → ya_S (ac_steps c) (ac_lost c) (ac_fai c) (ac_ane c) (ac_mel c) a_totals → P (lN s, ac_lim c, ac_win c, nI (ac_wk c), nI (ac_puts c), ac_op c, ac_as c, ac_bs c, ac_th c, ac_pa c, (fun j => lN (bt j)), ac_be c, ac_bo c, ac_sg c, ac_st c, (fun j => lN (sd j)), a_owner, (fun j => lN (cm j)), a_kinds, a_values, a_senders, a_failed, ac_ou c, a_totals, a_goes)) : P w := by
  obtain ⟨s, bt, sd, cm, a_owner, a_kinds, a_values, a_senders, a_failed, a_totals, e, h0, h1, h2, h3, h4, h5⟩ := h
  rw [e]
  exact k s bt sd cm a_owner a_kinds a_values a_senders a_failed a_totals h0 h1 h2 h3 h4 h5
theorem yg_in {B : Nat} {a_goes : Nat → Int32} {c : AC} {s : Nat} {bt sd cm : Nat → Nat} {a_owner a_kinds a_values a_senders a_failed a_totals : Nat → Int32} (h0 : s ≤ B)
  (h1 : ya_T (ac_ch c) bt s) (h2 : ya_M (ac_ml c) a_owner cm a_kinds a_values a_senders s) (h3 : ya_Q (ac_row c) sd s) (h4 : ya_F (ac_th c) (ac_fl c) a_failed) (h5 : ya_S (ac_steps c) (ac_lost c) (ac_fai c) (ac_ane c) (ac_mel c) a_totals) : yg_ B a_goes c (lN s, ac_lim c, ac_win c, nI (ac_wk c), nI (ac_puts c), ac_op c, ac_as c, ac_bs c, ac_th c, ac_pa c, (fun j => lN (bt j)), ac_be c, ac_bo c, ac_sg c, ac_st c, (fun j => lN (sd j)), a_owner, (fun j => lN (cm j)), a_kinds, a_values, a_senders, a_failed, ac_ou c, a_totals, a_goes) :=
  ⟨s, bt, sd, cm, a_owner, a_kinds, a_values, a_senders, a_failed, a_totals, rfl, h0, h1, h2, h3, h4, h5⟩
theorem yg_up {B B' : Nat} {go : Nat → Int32} {c : AC} {w : SY} (h : yg_ B go c w) (hb : B ≤ B') : yg_ B' go c w := by
  obtain ⟨s, bt, sd, cm, a_owner, a_kinds, a_values, a_senders, a_failed, a_totals, e, h0, h1, h2, h3, h4, h5⟩ := h
  exact ⟨s, bt, sd, cm, a_owner, a_kinds, a_values, a_senders, a_failed, a_totals, e, by omega, h1, h2, h3, h4, h5⟩
theorem yt_el {P : SY → Prop} (h : ∀ (f_stamps : Int64) (f_limit f_window f_acting f_outs : Int32) (a_ops a_as a_bs a_there a_parent : Nat → Int32) (a_birth : Nat → Int64) (a_behaviour a_first a_strategy a_state : Nat → Int32) (a_stands : Nat → Int64) (a_owner : Nat → Int32) (a_came : Nat → Int64) (a_kinds a_values a_senders a_failed a_last a_totals a_goes : Nat → Int32), P (f_stamps, f_limit, f_window, f_acting, f_outs, a_ops, a_as, a_bs, a_there, a_parent, a_birth, a_behaviour, a_first, a_strategy, a_state, a_stands, a_owner, a_came, a_kinds, a_values, a_senders, a_failed, a_last, a_totals, a_goes)) (w : SY) : P w := by
  obtain ⟨f_stamps, f_limit, f_window, f_acting, f_outs, a_ops, a_as, a_bs, a_there, a_parent, a_birth, a_behaviour, a_first, a_strategy, a_state, a_stands, a_owner, a_came, a_kinds, a_values, a_senders, a_failed, a_last, a_totals, a_goes⟩ := w
  exact h f_stamps f_limit f_window f_acting f_outs a_ops a_as a_bs a_there a_parent a_birth a_behaviour a_first a_strategy a_state a_stands a_owner a_came a_kinds a_values a_senders a_failed a_last a_totals a_goes
theorem ul_ {g : Nat → Nat} {k v : Nat} : vp_updL (fun j => lN (g j)) k (lN v) = fun j => lN (fu_ g k v j) := by
  funext j
  unfold vp_updL fu_
  split <;> rfl
/-! messages -/
theorem ym_put {ml : Nat → List (Int32 × Int32 × Int32)} {ow : Nat → Int32} {cm : Nat → Nat} {kd va sn : Nat → Int32} {s m to : Nat} {k v f : Int32} (hM : ya_M ml ow cm kd va sn s) (hm : m < 72) (hw : ow m = 0) (o0 : 0 < to) (o1 : to < 12) :
    ya_M (fu_ ml to (ml to ++ [(k, v, f)])) (upd ow m (nI to)) (fu_ cm m (s + 1)) (upd kd m k) (upd va m v) (upd sn m f) (s + 1) := by
  obtain ⟨m1, m2, m3⟩ := hM
  refine ⟨fun j => ?_, fun j hj => ?_, fun x x0 x1 => ?_⟩
  · by_cases e : j = m
    · subst e
      rw [fu_s]
      exact Nat.le_refl _
    · rw [fu_n e]
      exact Nat.le_succ_of_le (m1 j)
  · by_cases e : j = m
    · subst e
      exact ⟨to, o1, pk_us⟩
    · rw [pk_un e]
      exact m2 j hj
  · obtain ⟨pl, p1, p2, p3⟩ := m3 x x0 x1
    have hn : m ∉ pl := by
      intro hh
      have := ((p2 m).mp hh).2
      rw [hw] at this
      exact nI_ne0 x0 (by omega) this.symm
    have emap : pl.map (fun j => (upd kd m k j, upd va m v j, upd sn m f j)) = pl.map (fun j => (kd j, va j, sn j)) := by
      refine List.map_congr_left (fun j hj => ?_)
      have e : j ≠ m := fun hh => hn (hh ▸ hj)
      rw [pk_un e, pk_un e, pk_un e]
    by_cases e : x = to
    · subst e
      refine ⟨pl ++ [m], so_app p1 m1 hn, fun j => ?_, ?_⟩
      · by_cases ej : j = m
        · subst ej
          rw [pk_us]
          simp [hm]
        · rw [pk_un ej, ← p2 j]
          simp [ej]
      · rw [fu_s, List.map_append, emap, p3]
        simp [pk_us]
    · rw [fu_n e]
      refine ⟨pl, so_fr p1 (fun j hj => fu_n (fun hh => hn (hh ▸ hj))), fun j => ?_, ?_⟩
      · by_cases ej : j = m
        · subst ej
          rw [pk_us]
          constructor
          · intro hh
            exact absurd hh hn
          · rintro ⟨_, hh⟩
            exact absurd ((nI_eq (by omega) (by omega)).mp hh).symm e
        · rw [pk_un ej]
          exact p2 j
      · rw [emap]
        exact p3
theorem ym_pop {ml : Nat → List (Int32 × Int32 × Int32)} {ow : Nat → Int32} {cm : Nat → Nat} {kd va sn : Nat → Int32} {s m x : Nat} {pt : List Nat} (hM : ya_M ml ow cm kd va sn s) (x0 : 0 < x) (x1 : x < 12) (hp : ya_l (m :: pt) (ml x) x ow cm kd va sn) :
    ya_M (fu_ ml x (ml x).tail) (upd ow m 0) cm kd va sn s := by
  obtain ⟨m1, m2, m3⟩ := hM
  refine ⟨m1, fun j hj => ?_, fun y y0 y1 => ?_⟩
  · by_cases e : j = m
    · subst e
      exact ⟨0, by omega, pk_us⟩
    · rw [pk_un e]
      exact m2 j hj
  · obtain ⟨hp1, hp2, hp3⟩ := hp
    have hmx := (hp2 m).mp (by simp)
    have hn : m ∉ pt := (List.nodup_cons.mp (so_nd hp1)).1
    by_cases e : y = x
    · subst e
      refine ⟨pt, (List.pairwise_cons.mp hp1).2, fun j => ?_, ?_⟩
      · by_cases ej : j = m
        · subst ej
          rw [pk_us]
          constructor
          · intro hh
            exact absurd hh hn
          · rintro ⟨_, hh⟩
            exact absurd hh.symm (nI_ne0 y0 (by omega))
        · rw [pk_un ej, ← hp2 j]
          simp [ej]
      · rw [fu_s, hp3]
        rfl
    · obtain ⟨pl, p1, p2, p3⟩ := m3 y y0 y1
      rw [fu_n e]
      refine ⟨pl, p1, fun j => ?_, p3⟩
      by_cases ej : j = m
      · subst ej
        rw [pk_us, p2 j]
        constructor
        · rintro ⟨_, hh⟩
          exact absurd ((nI_eq (by omega) (by omega)).mp (hh.symm.trans hmx.2)) e
        · rintro ⟨_, hh⟩
          exact absurd hh.symm (nI_ne0 y0 (by omega))
      · rw [pk_un ej]
        exact p2 j
theorem ym_van {ml : Nat → List (Int32 × Int32 × Int32)} {ow ow' : Nat → Int32} {cm : Nat → Nat} {kd va sn : Nat → Int32} {s x : Nat} (hM : ya_M ml ow cm kd va sn s) (x0 : 0 < x) (x1 : x < 12) (ho : ∀ m, m < 72 → ow' m = if ow m = nI x then 0 else ow m) :
    ya_M (fu_ ml x []) ow' cm kd va sn s := by
  obtain ⟨m1, m2, m3⟩ := hM
  refine ⟨m1, fun j hj => ?_, fun y y0 y1 => ?_⟩
  · rw [ho j hj]
    split
    · exact ⟨0, by omega, rfl⟩
    · exact m2 j hj
  · by_cases e : y = x
    · subst e
      rw [fu_s]
      refine ⟨[], List.Pairwise.nil, fun j => ?_, rfl⟩
      constructor
      · intro hh
        simp at hh
      · rintro ⟨hj, hh⟩
        rw [ho j hj] at hh
        split at hh
        · exact absurd hh.symm (nI_ne0 y0 (by omega))
        · contradiction
    · obtain ⟨pl, p1, p2, p3⟩ := m3 y y0 y1
      rw [fu_n e]
      refine ⟨pl, p1, fun j => ?_, p3⟩
      rw [p2 j]
      constructor
      · rintro ⟨hj, hh⟩
        refine ⟨hj, ?_⟩
        rw [ho j hj, if_neg]
        · exact hh
        · intro h2
          exact e ((nI_eq (by omega) (by omega)).mp (hh.symm.trans h2))
      · rintro ⟨hj, hh⟩
        refine ⟨hj, ?_⟩
        rw [ho j hj] at hh
        split at hh
        · exact absurd hh.symm (nI_ne0 y0 (by omega))
        · exact hh
theorem ym_free {ml : Nat → List (Int32 × Int32 × Int32)} {ow : Nat → Int32} {cm : Nat → Nat} {kd va sn : Nat → Int32} {s : Nat} (hM : ya_M ml ow cm kd va sn s) (hl : ∀ x, x < 12 → (ml x).length ≤ 6) : ∃ m, m < 72 ∧ ow m = 0 ∧ ∀ j, j < m → ow j ≠ 0 := by
  obtain ⟨m1, m2, m3⟩ := hM
  have hex : ∃ m, m < 72 ∧ ow m = 0 := by
    refine Classical.byContradiction (fun hno => ?_)
    have hall : ∀ m, m < 72 → ow m ≠ 0 := fun m hm e => hno ⟨m, hm, e⟩
    have hcov : ∀ n, n ≤ 11 → ∃ L : List Nat, L.length ≤ 6 * n ∧ ∀ m, m < 72 → (∃ j, 0 < j ∧ j ≤ n ∧ ow m = nI j) → m ∈ L := by
      intro n
      induction n with
      | zero =>
        intro _
        exact ⟨[], by simp, fun m _ ⟨j, h1, h2, _⟩ => by omega⟩
      | succ n ih =>
        intro hn
        obtain ⟨L, hL, hc⟩ := ih (by omega)
        obtain ⟨pl, p1, p2, p3⟩ := m3 (n + 1) (by omega) (by omega)
        have hlen : pl.length ≤ 6 := by
          have := hl (n + 1) (by omega)
          rw [p3, List.length_map] at this
          exact this
        refine ⟨L ++ pl, by rw [List.length_append]; omega, fun m hm ⟨j, h1, h2, h3⟩ => ?_⟩
        by_cases e : j = n + 1
        · subst e
          exact List.mem_append.mpr (Or.inr ((p2 m).mpr ⟨hm, h3⟩))
        · exact List.mem_append.mpr (Or.inl (hc m hm ⟨j, h1, by omega, h3⟩))
    obtain ⟨L, hL, hc⟩ := hcov 11 (by omega)
    have hsub : (List.range 72) ⊆ L := by
      intro m hm
      have hm' : m < 72 := List.mem_range.mp hm
      obtain ⟨j, hj, e⟩ := m2 m hm'
      refine hc m hm' ⟨j, ?_, by omega, e⟩
      by_cases hz : j = 0
      · subst hz
        exact absurd e (hall m hm')
      · omega
    have := List.Nodup.length_le_of_subset List.nodup_range hsub
    rw [List.length_range] at this
    omega
  obtain ⟨m, hm, hmin⟩ := pk_least (fun m => m < 72 ∧ ow m = 0) hex
  exact ⟨m, hm.1, hm.2, fun j hj e => hmin j hj ⟨by omega, e⟩⟩
/-! the row -/
theorem yq_app {row : List Nat} {sd : Nat → Nat} {s a : Nat} (hQ : ya_Q row sd s) (ha : a ∉ row) : ya_Q (row ++ [a]) (fu_ sd a (s + 1)) (s + 1) := by
  obtain ⟨q1, q2, q3⟩ := hQ
  refine ⟨fun x => ?_, so_app q2 q1 ha, fun x x0 x1 => ?_⟩
  · by_cases e : x = a
    · subst e
      rw [fu_s]
      exact Nat.le_refl _
    · rw [fu_n e]
      exact Nat.le_succ_of_le (q1 x)
  · by_cases e : x = a
    · subst e
      rw [fu_s]
      simp
    · rw [fu_n e, ← q3 x x0 x1]
      simp [e]
theorem yq_un {row : List Nat} {sd : Nat → Nat} {s a : Nat} (hQ : ya_Q row sd s) : ya_Q (row.filter (fun y => !decide (y = a))) (fu_ sd a 0) s := by
  obtain ⟨q1, q2, q3⟩ := hQ
  refine ⟨fun x => ?_, ?_, fun x x0 x1 => ?_⟩
  · by_cases e : x = a
    · subst e
      rw [fu_s]
      exact Nat.zero_le _
    · rw [fu_n e]
      exact q1 x
  · refine so_fr (so_fil _ q2) (fun x hx => fu_n ?_)
    have := (List.mem_filter.mp hx).2
    simpa using this
  · rw [List.mem_filter]
    by_cases e : x = a
    · subst e
      rw [fu_s]
      simp
    · rw [fu_n e, ← q3 x x0 x1]
      simp [e]
theorem yq_up {row : List Nat} {sd : Nat → Nat} {s s' : Nat} (hQ : ya_Q row sd s) (h : s ≤ s') : ya_Q row sd s' := ⟨fun x => Nat.le_trans (hQ.1 x) h, hQ.2⟩
theorem yt_up {ch : Nat → List Nat} {bt : Nat → Nat} {s s' : Nat} (hT : ya_T ch bt s) (h : s ≤ s') : ya_T ch bt s' := ⟨fun x => Nat.le_trans (hT.1 x) h, hT.2⟩
theorem ym_up {ml : Nat → List (Int32 × Int32 × Int32)} {ow : Nat → Int32} {cm : Nat → Nat} {kd va sn : Nat → Int32} {s s' : Nat} (hM : ya_M ml ow cm kd va sn s) (h : s ≤ s') : ya_M ml ow cm kd va sn s' := ⟨fun x => Nat.le_trans (hM.1 x) h, hM.2⟩
theorem yt_brt {ch : Nat → List Nat} {bt : Nat → Nat} {s a p : Nat} (hT : ya_T ch bt s) (ha : ∀ q, a ∉ ch q) : ya_T (fu_ ch p (ch p ++ [a])) (fu_ bt a (s + 1)) (s + 1) := by
  obtain ⟨t1, t2⟩ := hT
  refine ⟨fun x => ?_, fun q => ?_⟩
  · by_cases e : x = a
    · subst e
      rw [fu_s]
      exact Nat.le_refl _
    · rw [fu_n e]
      exact Nat.le_succ_of_le (t1 x)
  · by_cases e : q = p
    · subst e
      rw [fu_s]
      exact so_app (t2 q) t1 (ha q)
    · rw [fu_n e]
      exact so_fr (t2 q) (fun x hx => fu_n (fun hh => ha q (hh ▸ hx)))
/-! failures counted -/
def yf_Q (W s : Nat) (l : List Nat) (j : Nat) : Bool := match l[j]? with
  | some t => decide (s < t + W)
  | none => false
theorem yf_tm {L W s : Nat} {l : List Nat} (hL : L ≤ 3) (hl : l.length ≤ 4) (hs : l.Pairwise (fun a b => b ≤ a)) : tm_ L W s l = if cn_c (yf_Q W s l) 0 4 ≤ L then 0 else 1 := by
  have hLL : L = 0 ∨ L = 1 ∨ L = 2 ∨ L = 3 := by omega
  rcases l with _ | ⟨a, _ | ⟨b, _ | ⟨d, _ | ⟨e, _ | ⟨f, r⟩⟩⟩⟩⟩
  · simp [tm_, cn_c, yf_Q]
  · simp only [tm_, cn_c, yf_Q]
    rcases hLL with rfl | rfl | rfl | rfl <;> simp <;> (try split) <;> simp_all <;> omega
  · simp only [tm_, cn_c, yf_Q]
    simp at hs
    by_cases h1 : s < a + W <;> by_cases h2 : s < b + W <;> rcases hLL with rfl | rfl | rfl | rfl <;> simp [h1, h2] <;> omega
  · simp only [tm_, cn_c, yf_Q]
    simp at hs
    by_cases h1 : s < a + W <;> by_cases h2 : s < b + W <;> by_cases h3 : s < d + W <;> rcases hLL with rfl | rfl | rfl | rfl <;> simp [h1, h2, h3] <;> omega
  · simp only [tm_, cn_c, yf_Q]
    simp at hs
    by_cases h1 : s < a + W <;> by_cases h2 : s < b + W <;> by_cases h3 : s < d + W <;> by_cases h4 : s < e + W <;> rcases hLL with rfl | rfl | rfl | rfl <;> simp [h1, h2, h3, h4] <;> omega
  · simp at hl
end
section
/-! the reference's small methods -/
theorem yo_c {post : Int32 → Prop} {v lo hi : Int32} (f : lo ≤ v → v ≤ hi → post 1) (g : ¬ (lo ≤ v ∧ v ≤ hi) → post 0) : wpY_within post v lo hi := by
  refine br_c (fun h1 => g (fun q => ?_)) (fun h1 => br_c (fun h2 => g (fun q => ?_)) (fun h2 => f (Int32.not_lt.mp h1) (Int32.not_lt.mp h2)))
  · exact absurd h1 (Int32.not_lt.mpr q.1)
  · exact absurd h2 (Int32.not_lt.mpr q.2)
theorem yi_t {post : Int32 → Prop} {B : Nat} {go : Nat → Int32} {c : AC} {w : SY} {x : Nat} (h : yg_ B go c w) (x0 : 0 < x) (x1 : x < 12) (hx : ac_th c x ≠ 0) (K : post 1) : wpY_isActor post w (nI x) := by
  refine yg_el (P := fun w => wpY_isActor post w (nI x)) h ?_
  intro s bt sd cm a_owner a_kinds a_values a_senders a_failed a_totals hs aT aM aQ aF aS
  show wpY_isActor post _ _
  unfold wpY_isActor
  refine yo_c (fun _ _ => br_f (by decide) ⟨ni_ x1, br_f ?_ K⟩) (fun hn => absurd ⟨nI_le (a := 1) (b := x) (by omega) (by omega), nI_le (a := x) (b := 11) (by omega) (by omega)⟩ hn)
  rw [nc_ x1]
  exact hx
theorem yi_f {post : Int32 → Prop} {B : Nat} {go : Nat → Int32} {c : AC} {w : SY} {a : Int32} (h : yg_ B go c w) (hx : ¬ ∃ x, 0 < x ∧ x < 12 ∧ a = nI x ∧ ac_th c x ≠ 0) (K : post 0) : wpY_isActor post w a := by
  refine yg_el (P := fun w => wpY_isActor post w a) h ?_
  intro s bt sd cm a_owner a_kinds a_values a_senders a_failed a_totals hs aT aM aQ aF aS
  show wpY_isActor post _ _
  unfold wpY_isActor
  refine yo_c (fun h1 h2 => br_f (by decide) ?_) (fun _ => br_t rfl K)
  obtain ⟨x, x0, x1, e⟩ : ∃ x, 0 < x ∧ x < 12 ∧ a = nI x := by
    refine ir_ (fun q => ?_) (fun q => ?_)
    · exact absurd (Int32.le_trans h1 q) (by decide)
    · exact absurd (Int32.le_trans q h2) (by decide)
  subst e
  refine ⟨ni_ x1, br_t ?_ K⟩
  rw [nc_ x1]
  exact Classical.byContradiction (fun q => hx ⟨x, x0, x1, rfl, q⟩)
theorem n4_ (p i : Nat) : (4 : Int32) * nI p + nI i = nI (4 * p + i) := by
  show nI 4 * nI p + _ = _
  rw [pk_mul, nI_add]
theorem n4z_ (p : Nat) : (4 : Int32) * nI p = nI (4 * p + 0) := by
  show nI 4 * nI p = _
  rw [pk_mul]
  rfl
theorem yf_forget {f_stamps : Int64} {f_limit f_window f_acting f_outs : Int32} {a_ops a_as a_bs a_there a_parent a_behaviour a_first a_strategy a_state a_owner a_kinds a_values a_senders a_failed a_last a_totals a_goes : Nat → Int32} {a_birth a_stands a_came : Nat → Int64} {post : SY → Prop} {p : Nat} (p1 : p < 12) (K : ∀ fa : Nat → Int32, (∀ j, j < 4 → fa (4 * p + j) = -1000) → (∀ i, (i < 4 * p ∨ 4 * p + 4 ≤ i) → fa i = a_failed i) → post (f_stamps, f_limit, f_window, f_acting, f_outs, a_ops, a_as, a_bs, a_there, a_parent, a_birth, a_behaviour, a_first, a_strategy, a_state, a_stands, a_owner, a_came, a_kinds, a_values, a_senders, fa, a_last, a_totals, a_goes)) : wpY_forget post (f_stamps, f_limit, f_window, f_acting, f_outs, a_ops, a_as, a_bs, a_there, a_parent, a_birth, a_behaviour, a_first, a_strategy, a_state, a_stands, a_owner, a_came, a_kinds, a_values, a_senders, a_failed, a_last, a_totals, a_goes) (nI p) := by
  have L : ∀ d i (fa : Nat → Int32), i + d = 4 → (∀ j, j < i → fa (4 * p + j) = -1000) → (∀ k, (k < 4 * p ∨ 4 * p + 4 ≤ k) → fa k = a_failed k) → wY_forget_4 post (nI p) f_stamps f_limit f_window f_acting f_outs (d + 1) (nI (4 * p + i)) a_ops a_as a_bs a_there a_parent a_birth a_behaviour a_first a_strategy a_state a_stands a_owner a_came a_kinds a_values a_senders fa a_last a_totals a_goes := by
    intro d
    induction d with
    | zero =>
      intro i fa hi h1 h2
      have e : i = 4 := by omega
      subst e
      refine br_t ?_ (K fa h1 h2)
      show (4 : Int32) * nI p + nI 4 ≤ _
      rw [n4_]
      exact Int32.le_refl _
    | succ d ih =>
      intro i fa hi h1 h2
      refine br_f ?_ ⟨vp_in_nI (by omega) (by omega), nm_r (e' := upd fa (4 * p + i) (-1000)) (by rw [nI_clamp (by omega)]) (nm_r (e' := nI (4 * p + (i + 1))) (nI_1 _) (ih (i + 1) _ (by omega) (fun j hj => ?_) (fun k hk => ?_)))⟩
      · show ¬ (4 : Int32) * nI p + nI 4 ≤ _
        rw [n4_]
        exact nI_ge (by omega) (by omega)
      · by_cases e : j = i
        · subst e
          exact pk_us
        · rw [pk_un (by omega)]
          exact h1 j (by omega)
      · rw [pk_un (by omega)]
        exact h2 k hk
  refine nm_r (e' := nI (4 * p + 0)) (n4z_ p) ⟨5, L 4 0 a_failed (by omega) (fun j hj => by omega) (fun k _ => rfl)⟩
theorem ym_mails {post : Int32 → Prop} {B : Nat} {go : Nat → Int32} {c : AC} {w : SY} {x : Nat} (h : yg_ B go c w) (x0 : 0 < x) (x1 : x < 12) (K : post (nI (ac_ml c x).length)) : wpY_mails post w (nI x) := by
  refine yg_el (P := fun w => wpY_mails post w (nI x)) h ?_
  intro s bt sd cm a_owner a_kinds a_values a_senders a_failed a_totals hs aT aM aQ aF aS
  obtain ⟨pl, p1, p2, p3⟩ := aM.2.2 x x0 x1
  have hc : (ac_ml c x).length = cn_c (fun m => decide (a_owner m = nI x)) 0 72 := by
    rw [p3, List.length_map]
    refine cn_len 72 0 pl (so_nd p1) (fun j => ?_)
    rw [p2 j]
    simp
  rw [hc] at K
  have L : ∀ d i n, i + d = 72 → post (nI (n + cn_c (fun m => decide (a_owner m = nI x)) i d)) → wY_mails_4 post (nI x) (lN s) (ac_lim c) (ac_win c) (nI (ac_wk c)) (nI (ac_puts c)) (ac_op c) (ac_as c) (ac_bs c) (ac_th c) (ac_pa c) (fun j => lN (bt j)) (ac_be c) (ac_bo c) (ac_sg c) (ac_st c) (fun j => lN (sd j)) a_owner (fun j => lN (cm j)) a_kinds a_values a_senders a_failed (ac_ou c) a_totals go (d + 1) (nI n) (nI i) := by
    intro d
    induction d with
    | zero =>
      intro i n hi hp
      have e : i = 72 := by omega
      subst e
      exact br_t (nI_le (a := 72) (b := 72) (by omega) (by omega)) hp
    | succ d ih =>
      intro i n hi hp
      have ci : (nI i).toNatClampNeg = i := nI_clamp (by omega)
      unfold cn_c at hp
      refine br_f (nI_ge (b := 72) (by omega) (by omega)) ⟨vp_in_nI (by omega) (by omega), br_c (fun ho => ?_) (fun ho => ?_)⟩
      · rw [ci] at ho
        rw [if_pos (decide_eq_true ho)] at hp
        refine nm_r (e' := nI (n + 1)) (nI_1 _) (nm_r (e' := nI (i + 1)) (nI_1 _) (ih (i + 1) (n + 1) (by omega) ?_))
        rw [Nat.add_assoc]
        exact hp
      · rw [ci] at ho
        rw [if_neg (by simpa using ho), Nat.zero_add] at hp
        exact nm_r (e' := nI (i + 1)) (nI_1 _) (ih (i + 1) n (by omega) hp)
  exact ⟨73, L 72 0 0 (by omega) (by rw [Nat.zero_add]; exact K)⟩
theorem yp_place {f_stamps : Int64} {f_limit f_window f_acting f_outs : Int32} {a_ops a_as a_bs a_there a_parent a_behaviour a_first a_strategy a_state a_owner a_kinds a_values a_senders a_failed a_last a_totals a_goes : Nat → Int32} {a_birth a_stands a_came : Nat → Int64} {post : Int32 → Prop} {x : Nat} {k : Int32} {pl : List Nat} {cm : Nat → Nat} (hl : so_ok cm pl) (hm : ∀ m, m ∈ pl ↔ m < 72 ∧ a_owner m = nI x) (hb : ∀ m, cm m < 2 ^ 31)
    (K1 : ∀ s m t, pl = s ++ m :: t → k = nI s.length → post (nI m)) (K0 : (∀ s m t, pl = s ++ m :: t → k ≠ nI s.length) → post (-1)) : wpY_place post (f_stamps, f_limit, f_window, f_acting, f_outs, a_ops, a_as, a_bs, a_there, a_parent, a_birth, a_behaviour, a_first, a_strategy, a_state, a_stands, a_owner, (fun j => lN (cm j)), a_kinds, a_values, a_senders, a_failed, a_last, a_totals, a_goes) (nI x) k := by
  have hmm : ∀ j, j ∈ pl ↔ 0 ≤ j ∧ j < 0 + 72 ∧ (decide (a_owner j = nI x)) = true := by
    intro j
    rw [hm j]
    simp
  have L27 : ∀ (J : Int32 → Prop) (m : Nat), m < 72 → ∀ d i n, i + d = 72 → (nI (n + cn_c (fun j => decide (a_owner j = nI x) && decide (cm j < cm m)) i d) = k → post (nI m)) → (¬ nI (n + cn_c (fun j => decide (a_owner j = nI x) && decide (cm j < cm m)) i d) = k → J (nI (m + 1))) →
      wY_place_27 post J (nI x) k (nI m) f_stamps f_limit f_window f_acting f_outs a_ops a_as a_bs a_there a_parent a_birth a_behaviour a_first a_strategy a_state a_stands a_owner (fun j => lN (cm j)) a_kinds a_values a_senders a_failed a_last a_totals a_goes (d + 1) (nI n) (nI i) := by
    intro J m hm72 d
    have cm72 : (nI m).toNatClampNeg = m := nI_clamp (by omega)
    induction d with
    | zero =>
      intro i n hi h1 h2
      have e : i = 72 := by omega
      subst e
      exact br_t (nI_le (a := 72) (b := 72) (by omega) (by omega)) (br_c h1 (fun hn => nm_r (e' := nI (m + 1)) (nI_1 _) (h2 hn)))
    | succ d ih =>
      intro i n hi h1 h2
      have ci : (nI i).toNatClampNeg = i := nI_clamp (by omega)
      have ii : vp_in (nI i) 72 := vp_in_nI (by omega) (by omega)
      unfold cn_c at h1 h2
      refine br_f (nI_ge (b := 72) (by omega) (by omega)) ⟨ii, br_c (fun ho => ⟨ii, vp_in_nI hm72 (by omega), br_c (fun hle => ?_) (fun hle => ?_)⟩) (fun ho => ?_)⟩
      · rw [ci] at ho
        rw [ci, cm72] at hle
        have hle' : cm m ≤ cm i := (lN_le (hb m) (hb i)).mp hle
        rw [if_neg (by simp; intro _; omega), Nat.zero_add] at h1 h2
        exact nm_r (e' := nI (i + 1)) (nI_1 _) (ih (i + 1) n (by omega) h1 h2)
      · rw [ci] at ho
        rw [ci, cm72] at hle
        have hle' : ¬ cm m ≤ cm i := fun q => hle ((lN_le (hb m) (hb i)).mpr q)
        rw [if_pos (by simp [ho]; omega), ← Nat.add_assoc] at h1 h2
        exact nm_r (e' := nI (n + 1)) (nI_1 _) (nm_r (e' := nI (i + 1)) (nI_1 _) (ih (i + 1) (n + 1) (by omega) h1 h2))
      · rw [ci] at ho
        rw [if_neg (by simp [ho]), Nat.zero_add] at h1 h2
        exact nm_r (e' := nI (i + 1)) (nI_1 _) (ih (i + 1) n (by omega) h1 h2)
  have L2 : ∀ d i, i + d = 72 → (∀ s m t, pl = s ++ m :: t → m < i → k ≠ nI s.length) → wY_place_2 post (nI x) k f_stamps f_limit f_window f_acting f_outs a_ops a_as a_bs a_there a_parent a_birth a_behaviour a_first a_strategy a_state a_stands a_owner (fun j => lN (cm j)) a_kinds a_values a_senders a_failed a_last a_totals a_goes (d + 1) (nI i) := by
    intro d
    induction d with
    | zero =>
      intro i hi hinv
      have e : i = 72 := by omega
      subst e
      exact br_t (nI_le (a := 72) (b := 72) (by omega) (by omega)) (K0 (fun s m t e => hinv s m t e ((hm m).mp (by rw [e]; simp)).1))
    | succ d ih =>
      intro i hi hinv
      have ci : (nI i).toNatClampNeg = i := nI_clamp (by omega)
      refine br_f (nI_ge (b := 72) (by omega) (by omega)) ⟨vp_in_nI (by omega) (by omega), br_c (fun ho => ?_) (fun ho => ?_)⟩
      · rw [ci] at ho
        obtain ⟨s, t, e⟩ := List.append_of_mem ((hm i).mpr ⟨by omega, ho⟩)
        have hr := so_rank hl hmm e
        refine ⟨73, L27 _ i (by omega) 72 0 0 (by omega) (fun hk => ?_) (fun hk => ?_)⟩
        · rw [Nat.zero_add, hr] at hk
          exact K1 s i t e hk.symm
        · rw [Nat.zero_add, hr] at hk
          refine ih (i + 1) (by omega) (fun s' m t' e' hm' => ?_)
          by_cases hmi : m = i
          · subst hmi
            have hr' := so_rank hl hmm e'
            rw [hr] at hr'
            rw [← hr']
            exact fun q => hk q.symm
          · exact hinv s' m t' e' (by omega)
      · rw [ci] at ho
        refine nm_r (e' := nI (i + 1)) (nI_1 _) (ih (i + 1) (by omega) (fun s' m t' e' hm' => ?_))
        by_cases hmi : m = i
        · subst hmi
          exact absurd ((hm m).mp (by rw [e']; simp)).2 ho
        · exact hinv s' m t' e' (by omega)
  exact ⟨73, L2 72 0 (by omega) (fun s m t _ hh => by omega)⟩
theorem yk_kid {post : Int32 → Prop} {B B' : Nat} {go : Nat → Int32} {c : AC} {w : SY} {p : Nat} {k : Int32} (h : yg_ B go c w) (hB : B < 2 ^ 31) (hci : ci_A B' c) (p1 : p < 12)
    (K1 : ∀ s x t, ac_ch c p = s ++ x :: t → k = nI s.length → post (nI x)) (K0 : (∀ s x t, ac_ch c p = s ++ x :: t → k ≠ nI s.length) → post 0) : wpY_kid post w (nI p) k := by
  obtain ⟨⟨t0, t1, tP, tC, rk, M, tK⟩, hV, hM, hQ, hF, hR, hB'⟩ := hci
  refine yg_el (P := fun w => wpY_kid post w (nI p) k) h ?_
  intro s bt sd cm a_owner a_kinds a_values a_senders a_failed a_totals hs aT aM aQ aF aS
  have hb : ∀ m, bt m < 2 ^ 31 := fun m => by have := aT.1 m; omega
  have hl := aT.2 p
  have hmm : ∀ j, j ∈ ac_ch c p ↔ 1 ≤ j ∧ j < 1 + 11 ∧ (decide (ac_th c j ≠ 0) && decide (ac_pa c j = nI p)) = true := by
    intro j
    rw [tC.1 p j]
    simp
    constructor
    · rintro ⟨_, a2, a3, a4, a5⟩
      exact ⟨by omega, by omega, a4, a5⟩
    · rintro ⟨a2, a3, a4, a5⟩
      exact ⟨p1, by omega, by omega, a4, a5⟩
  have L36 : ∀ (J : Int32 → Prop) (m : Nat), m < 12 → ∀ d i n, i + d = 12 → (nI (n + cn_c (fun j => (decide (ac_th c j ≠ 0) && decide (ac_pa c j = nI p)) && decide (bt j < bt m)) i d) = k → post (nI m)) → (¬ nI (n + cn_c (fun j => (decide (ac_th c j ≠ 0) && decide (ac_pa c j = nI p)) && decide (bt j < bt m)) i d) = k → J (nI (m + 1))) →
      wY_kid_36 post J (nI p) k (nI m) (lN s) (ac_lim c) (ac_win c) (nI (ac_wk c)) (nI (ac_puts c)) (ac_op c) (ac_as c) (ac_bs c) (ac_th c) (ac_pa c) (fun j => lN (bt j)) (ac_be c) (ac_bo c) (ac_sg c) (ac_st c) (fun j => lN (sd j)) a_owner (fun j => lN (cm j)) a_kinds a_values a_senders a_failed (ac_ou c) a_totals go (d + 1) (nI n) (nI i) := by
    intro J m hm12 d
    have cm12 : (nI m).toNatClampNeg = m := nI_clamp (by omega)
    induction d with
    | zero =>
      intro i n hi h1 h2
      have e : i = 12 := by omega
      subst e
      exact br_t (nI_le (a := 12) (b := 12) (by omega) (by omega)) (br_c h1 (fun hn => nm_r (e' := nI (m + 1)) (nI_1 _) (h2 hn)))
    | succ d ih =>
      intro i n hi h1 h2
      have ci : (nI i).toNatClampNeg = i := nI_clamp (by omega)
      have ii : vp_in (nI i) 12 := vp_in_nI (by omega) (by omega)
      unfold cn_c at h1 h2
      refine br_f (nI_ge (b := 12) (by omega) (by omega)) ⟨ii, br_c (fun ho => ?_) (fun ho => ⟨ii, br_c (fun hp => ⟨ii, vp_in_nI hm12 (by omega), br_c (fun hle => ?_) (fun hle => ?_)⟩) (fun hp => ?_)⟩)⟩
      · rw [ci] at ho
        rw [if_neg (by simp [ho]), Nat.zero_add] at h1 h2
        exact nm_r (e' := nI (i + 1)) (nI_1 _) (ih (i + 1) n (by omega) h1 h2)
      · rw [ci] at ho hp
        rw [ci, cm12] at hle
        have hle' : bt m ≤ bt i := (lN_le (hb m) (hb i)).mp hle
        rw [if_neg (by simp; intro _ _; omega), Nat.zero_add] at h1 h2
        exact nm_r (e' := nI (i + 1)) (nI_1 _) (ih (i + 1) n (by omega) h1 h2)
      · rw [ci] at ho hp
        rw [ci, cm12] at hle
        have hle' : ¬ bt m ≤ bt i := fun q => hle ((lN_le (hb m) (hb i)).mpr q)
        rw [if_pos (by simp [ho, hp]; omega), ← Nat.add_assoc] at h1 h2
        exact nm_r (e' := nI (n + 1)) (nI_1 _) (nm_r (e' := nI (i + 1)) (nI_1 _) (ih (i + 1) (n + 1) (by omega) h1 h2))
      · rw [ci] at hp
        rw [if_neg (by simp [hp]), Nat.zero_add] at h1 h2
        exact nm_r (e' := nI (i + 1)) (nI_1 _) (ih (i + 1) n (by omega) h1 h2)
  have L2 : ∀ d i, 0 < i → i + d = 12 → (∀ s m t, ac_ch c p = s ++ m :: t → m < i → k ≠ nI s.length) → wY_kid_2 post (nI p) k (lN s) (ac_lim c) (ac_win c) (nI (ac_wk c)) (nI (ac_puts c)) (ac_op c) (ac_as c) (ac_bs c) (ac_th c) (ac_pa c) (fun j => lN (bt j)) (ac_be c) (ac_bo c) (ac_sg c) (ac_st c) (fun j => lN (sd j)) a_owner (fun j => lN (cm j)) a_kinds a_values a_senders a_failed (ac_ou c) a_totals go (d + 1) (nI i) := by
    intro d
    induction d with
    | zero =>
      intro i i0 hi hinv
      have e : i = 12 := by omega
      subst e
      exact br_t (nI_le (a := 12) (b := 12) (by omega) (by omega)) (K0 (fun s m t e => hinv s m t e (ci_chlt tC (by rw [e]; simp))))
    | succ d ih =>
      intro i i0 hi hinv
      have ci : (nI i).toNatClampNeg = i := nI_clamp (by omega)
      have ii : vp_in (nI i) 12 := vp_in_nI (by omega) (by omega)
      have skip : i ∉ ac_ch c p → wY_kid_2 post (nI p) k (lN s) (ac_lim c) (ac_win c) (nI (ac_wk c)) (nI (ac_puts c)) (ac_op c) (ac_as c) (ac_bs c) (ac_th c) (ac_pa c) (fun j => lN (bt j)) (ac_be c) (ac_bo c) (ac_sg c) (ac_st c) (fun j => lN (sd j)) a_owner (fun j => lN (cm j)) a_kinds a_values a_senders a_failed (ac_ou c) a_totals go (d + 1) (nI (i + 1)) := by
        intro hni
        refine ih (i + 1) (by omega) (by omega) (fun s' m t' e' hm' => ?_)
        by_cases hmi : m = i
        · subst hmi
          exact absurd (by rw [e']; simp) hni
        · exact hinv s' m t' e' (by omega)
      refine br_f (nI_ge (b := 12) (by omega) (by omega)) ⟨ii, br_c (fun ho => ?_) (fun ho => ⟨ii, br_c (fun hp => ?_) (fun hp => ?_)⟩)⟩
      · rw [ci] at ho
        exact nm_r (e' := nI (i + 1)) (nI_1 _) (skip (fun hh => ((tC.1 p i).mp hh).2.2.2.1 ho))
      · rw [ci] at ho hp
        obtain ⟨s, t, e⟩ := List.append_of_mem ((tC.1 p i).mpr ⟨p1, i0, by omega, ho, hp⟩)
        have hr := so_rank hl hmm e
        refine ⟨12, L36 _ i (by omega) 11 1 0 (by omega) (fun hk => ?_) (fun hk => ?_)⟩
        · rw [Nat.zero_add, hr] at hk
          exact K1 s i t e hk.symm
        · rw [Nat.zero_add, hr] at hk
          refine ih (i + 1) (by omega) (by omega) (fun s' m t' e' hm' => ?_)
          by_cases hmi : m = i
          · subst hmi
            have hr' := so_rank hl hmm e'
            rw [hr] at hr'
            rw [← hr']
            exact fun q => hk q.symm
          · exact hinv s' m t' e' (by omega)
      · rw [ci] at hp
        exact nm_r (e' := nI (i + 1)) (nI_1 _) (skip (fun hh => hp ((tC.1 p i).mp hh).2.2.2.2))
  exact ⟨12, L2 11 1 (by omega) (by omega) (fun s m t e hh => by
    have := ((tC.1 p m).mp (by rw [e]; simp)).2.1
    omega)⟩
end
section
theorem yk_kids {post : Int32 → Prop} {B B' : Nat} {go : Nat → Int32} {c : AC} {w : SY} {p : Nat} (h : yg_ B go c w) (hci : ci_A B' c) (p1 : p < 12) (K : post (nI (ac_ch c p).length)) : wpY_kids post w (nI p) := by
  obtain ⟨⟨t0, t1, tP, tC, rk, M, tK⟩, hV, hM, hQ, hF, hR, hB'⟩ := hci
  refine yg_el (P := fun w => wpY_kids post w (nI p)) h ?_
  intro s bt sd cm a_owner a_kinds a_values a_senders a_failed a_totals hs aT aM aQ aF aS
  have hc : (ac_ch c p).length = cn_c (fun j => decide (ac_th c j ≠ 0) && decide (ac_pa c j = nI p)) 1 11 := by
    refine cn_len 11 1 _ (tC.2 p) (fun j => ?_)
    rw [tC.1 p j]
    simp
    constructor
    · rintro ⟨_, a2, a3, a4, a5⟩
      exact ⟨by omega, by omega, a4, a5⟩
    · rintro ⟨a2, a3, a4, a5⟩
      exact ⟨p1, by omega, by omega, a4, a5⟩
  rw [hc] at K
  have L : ∀ d i n, i + d = 12 → post (nI (n + cn_c (fun j => decide (ac_th c j ≠ 0) && decide (ac_pa c j = nI p)) i d)) → wY_kids_4 post (nI p) (lN s) (ac_lim c) (ac_win c) (nI (ac_wk c)) (nI (ac_puts c)) (ac_op c) (ac_as c) (ac_bs c) (ac_th c) (ac_pa c) (fun j => lN (bt j)) (ac_be c) (ac_bo c) (ac_sg c) (ac_st c) (fun j => lN (sd j)) a_owner (fun j => lN (cm j)) a_kinds a_values a_senders a_failed (ac_ou c) a_totals go (d + 1) (nI n) (nI i) := by
    intro d
    induction d with
    | zero =>
      intro i n hi hp
      have e : i = 12 := by omega
      subst e
      exact br_t (nI_le (a := 12) (b := 12) (by omega) (by omega)) hp
    | succ d ih =>
      intro i n hi hp
      have ci : (nI i).toNatClampNeg = i := nI_clamp (by omega)
      have ii : vp_in (nI i) 12 := vp_in_nI (by omega) (by omega)
      unfold cn_c at hp
      refine br_f (nI_ge (b := 12) (by omega) (by omega)) ⟨ii, br_c (fun ho => ?_) (fun ho => ⟨ii, br_c (fun hq => ?_) (fun hq => ?_)⟩)⟩
      · rw [ci] at ho
        rw [if_neg (by simp [ho]), Nat.zero_add] at hp
        exact nm_r (e' := nI (i + 1)) (nI_1 _) (ih (i + 1) n (by omega) hp)
      · rw [ci] at ho hq
        rw [if_pos (by simp [ho, hq]), ← Nat.add_assoc] at hp
        exact nm_r (e' := nI (n + 1)) (nI_1 _) (nm_r (e' := nI (i + 1)) (nI_1 _) (ih (i + 1) (n + 1) (by omega) hp))
      · rw [ci] at hq
        rw [if_neg (by simp [hq]), Nat.zero_add] at hp
        exact nm_r (e' := nI (i + 1)) (nI_1 _) (ih (i + 1) n (by omega) hp)
  exact ⟨12, L 11 1 0 (by omega) (by rw [Nat.zero_add]; exact K)⟩
theorem yd_deliver {post : Int32 → SY → Prop} {B B' : Nat} {go : Nat → Int32} {c : AC} {w : SY} {to : Nat} {k v f : Int32} (h : yg_ B go c w) (hci : ci_A B' c) (hB : B < 2 ^ 30) (o0 : 0 < to) (o1 : to < 12)
    (K : ∀ w', yg_ (B + 2) go (ac_post c to k v f) w' → post (if (ac_ml c to).length = 6 then 0 else 1) w') : wpY_deliver post w (nI to) k v f := by
  obtain ⟨hT, hV, hM, ⟨q1, q2, q3, q4⟩, hF, hR, hB'⟩ := hci
  have hlen := (hM to).1 o1
  refine yg_el (P := fun w => wpY_deliver post w (nI to) k v f) h ?_
  intro s bt sd cm a_owner a_kinds a_values a_senders a_failed a_totals hs aT aM aQ aF aS
  have hg : yg_ B go c (lN s, ac_lim c, ac_win c, nI (ac_wk c), nI (ac_puts c), ac_op c, ac_as c, ac_bs c, ac_th c, ac_pa c, (fun j => lN (bt j)), ac_be c, ac_bo c, ac_sg c, ac_st c, (fun j => lN (sd j)), a_owner, (fun j => lN (cm j)), a_kinds, a_values, a_senders, a_failed, ac_ou c, a_totals, go) := yg_in hs aT aM aQ aF aS
  show wpY_deliver post _ (nI to) k v f
  unfold wpY_deliver
  refine ym_mails hg o0 o1 (br_c (fun h6 => ?_) (fun h6 => ?_))
  · have e6 : (ac_ml c to).length = 6 := (nI_eq (b := 6) (by omega) (by omega)).mp h6
    unfold ac_post at K
    rw [if_pos e6, if_pos e6] at K
    refine nm_e (K _ (yg_in (by omega) aT aM aQ aF ?_))
    obtain ⟨s0, s1, s2, s3, s4⟩ := aS
    refine ⟨?_, ?_, ?_, ?_, ?_⟩
    · rw [pk_un (by omega)]; exact s0
    · rw [pk_us, s1, nI_1]; rfl
    · rw [pk_un (by omega)]; exact s2
    · rw [pk_un (by omega)]; exact s3
    · rw [pk_un (by omega)]; exact s4
  · have e6 : (ac_ml c to).length ≠ 6 := fun e => h6 (by rw [e]; rfl)
    unfold ac_post at K
    rw [if_neg e6, if_neg e6] at K
    obtain ⟨m, hm, hw, hmin⟩ := ym_free aM (fun x hx => (hM x).1 hx)
    have cm' : (nI m).toNatClampNeg = m := nI_clamp (by omega)
    have im : vp_in (nI m) 72 := vp_in_nI hm (by omega)
    have hput := ym_put (k := k) (v := v) (f := f) aM hm hw o0 o1
    have E : wY_deliver_25 post (nI to) k v f (lN s) (ac_lim c) (ac_win c) (nI (ac_wk c)) (nI (ac_puts c)) (ac_op c) (ac_as c) (ac_bs c) (ac_th c) (ac_pa c) (fun j => lN (bt j)) (ac_be c) (ac_bo c) (ac_sg c) (ac_st c) (fun j => lN (sd j)) a_owner (fun j => lN (cm j)) a_kinds a_values a_senders a_failed (ac_ou c) a_totals go 1 (nI m) := by
      refine And.intro im (br_t (by rw [cm']; exact hw) ⟨im, nm_r (e' := upd a_owner m (nI to)) (by rw [cm']) (nm_r (e' := lN (s + 1)) (lN_1 s) ⟨im, nm_r (e' := fun j => lN (fu_ cm m (s + 1) j)) (by rw [cm', lN_1]; exact ul_) ⟨im, nm_r (e' := upd a_kinds m k) (by rw [cm']) ⟨im, nm_r (e' := upd a_values m v) (by rw [cm']) ⟨im, nm_r (e' := upd a_senders m f) (by rw [cm']) (br_c (fun ha => ?_) (fun ha => ⟨ni_ o1, br_c (fun hst => ?_) (fun hst => ?_)⟩))⟩⟩⟩⟩)⟩)
      · have ha' : to = ac_wk c := (nI_eq (by omega) (by omega)).mp ha
        rw [if_pos (Or.inr ha')] at K
        exact K _ (yg_in (by omega) (yt_up aT (by omega)) hput (yq_up aQ (by omega)) aF aS)
      · have ha' : to ≠ ac_wk c := fun e => ha (by rw [e])
        rw [nc_ o1] at hst
        have hst' : sd to = 0 := (lN_eq (b := 0) (by have := aQ.1 to; omega) (by omega)).mp hst
        have hnr : to ∉ ac_row c := fun hh => (aQ.2.2 to o0 o1).mp hh hst'
        rw [if_neg (fun q => q.elim hnr ha')] at K
        refine nm_r (e' := lN (s + 1 + 1)) (lN_1 _) ⟨ni_ o1, nm_r (e' := fun j => lN (fu_ sd to (s + 1 + 1) j)) (by rw [nc_ o1, lN_1]; exact ul_) (K _ (yg_in (by omega) (yt_up aT (by omega)) (ym_up hput (by omega)) (yq_app (yq_up aQ (by omega)) hnr) aF aS))⟩
      · have ha' : to ≠ ac_wk c := fun e => ha (by rw [e])
        rw [nc_ o1] at hst
        have hst' : sd to ≠ 0 := fun e => hst (by show lN (sd to) = 0; rw [e]; rfl)
        have hnr : to ∈ ac_row c := (aQ.2.2 to o0 o1).mpr hst'
        rw [if_pos (Or.inl hnr)] at K
        exact K _ (yg_in (by omega) (yt_up aT (by omega)) hput (yq_up aQ (by omega)) aF aS)
    have L : ∀ d i, i + d = m → wY_deliver_25 post (nI to) k v f (lN s) (ac_lim c) (ac_win c) (nI (ac_wk c)) (nI (ac_puts c)) (ac_op c) (ac_as c) (ac_bs c) (ac_th c) (ac_pa c) (fun j => lN (bt j)) (ac_be c) (ac_bo c) (ac_sg c) (ac_st c) (fun j => lN (sd j)) a_owner (fun j => lN (cm j)) a_kinds a_values a_senders a_failed (ac_ou c) a_totals go (d + 1) (nI i) := by
      intro d
      induction d with
      | zero =>
        intro i hi
        have e : i = m := by omega
        subst e
        exact E
      | succ d ih =>
        intro i hi
        refine And.intro (vp_in_nI (by omega) (by omega)) (br_f ?_ (nm_r (e' := nI (i + 1)) (nI_1 _) (ih (i + 1) (by omega))))
        rw [nI_clamp (by omega)]
        exact hmin i (by omega)
    exact ⟨m + 1, L m 0 (by omega)⟩
theorem yv_vanish {post : SY → Prop} {B : Nat} {go : Nat → Int32} {c : AC} {w : SY} {x : Nat} (h : yg_ B go c w) (x0 : 0 < x) (x1 : x < 12) (K : ∀ w', yg_ B go (rm_ (rm_1 x) c) w' → post w') : wpY_vanish post w (nI x) := by
  rw [rm_1e x0 x1] at K
  refine yg_el (P := fun w => wpY_vanish post w (nI x)) h ?_
  intro s bt sd cm a_owner a_kinds a_values a_senders a_failed a_totals hs aT aM aQ aF aS
  have hi := ni_ x1
  have hc := nc_ x1
  obtain ⟨pl, p1, p2, p3⟩ := aM.2.2 x x0 x1
  have hcnt : (ac_ml c x).length = cn_c (fun m => decide (a_owner m = nI x)) 0 72 := by
    rw [p3, List.length_map]
    refine cn_len 72 0 pl (so_nd p1) (fun j => ?_)
    rw [p2 j]
    simp
  have L : ∀ d i n (ow tt : Nat → Int32), i + d = 72 → n + cn_c (fun m => decide (a_owner m = nI x)) i d = (ac_ml c x).length → (∀ m, m < i → ow m = if a_owner m = nI x then 0 else a_owner m) → (∀ m, i ≤ m → ow m = a_owner m) →
      tt 0 = a_totals 0 → tt 1 = a_totals 1 + nI n → tt 2 = a_totals 2 → tt 3 = a_totals 3 → tt 4 = a_totals 4 →
      wY_vanish_16 post (nI x) (lN s) (ac_lim c) (ac_win c) (nI (ac_wk c)) (nI (ac_puts c)) (d + 1) (nI i) (ac_op c) (ac_as c) (ac_bs c) (upd (ac_th c) x 0) (ac_pa c) (fun j => lN (bt j)) (ac_be c) (ac_bo c) (ac_sg c) (ac_st c) (fun j => lN ((fu_ sd x 0) j)) ow (fun j => lN (cm j)) a_kinds a_values a_senders a_failed (ac_ou c) tt go := by
    intro d
    induction d with
    | zero =>
      intro i n ow tt hi2 hn h1 h2 e0 e1 e2 e3 e4
      have e : i = 72 := by omega
      subst e
      refine br_t (nI_le (a := 72) (b := 72) (by omega) (by omega)) (K _ (yg_in hs ⟨aT.1, fun p => so_fil _ (aT.2 p)⟩ (ym_van aM x0 x1 h1) (yq_un aQ) (fun p hp htp => ?_) ?_))
      · refine aF p hp ?_
        have htp' : upd (ac_th c) x 0 p ≠ 0 := htp
        by_cases e : p = x
        · subst e
          rw [pk_us] at htp'
          exact absurd rfl htp'
        · rw [pk_un e] at htp'
          exact htp'
      · obtain ⟨s0, s1, s2, s3, s4⟩ := aS
        refine ⟨e0.trans s0, ?_, e2.trans s2, e3.trans s3, e4.trans s4⟩
        show tt 1 = nI (ac_lost c + (ac_ml c x).length)
        rw [e1, s1, nI_add]
        have : n = (ac_ml c x).length := hn
        rw [this]
    | succ d ih =>
      intro i n ow tt hi2 hn h1 h2 e0 e1 e2 e3 e4
      have ci : (nI i).toNatClampNeg = i := nI_clamp (by omega)
      have ii : vp_in (nI i) 72 := vp_in_nI (by omega) (by omega)
      unfold cn_c at hn
      have hoi := h2 i (Nat.le_refl i)
      refine br_f (nI_ge (b := 72) (by omega) (by omega)) ⟨ii, br_c (fun ho => ?_) (fun ho => ?_)⟩
      · rw [ci, hoi] at ho
        rw [if_pos (decide_eq_true ho)] at hn
        refine ⟨ii, nm_r (e' := upd ow i 0) (by rw [ci]) (nm_e (nm_r (e' := nI (i + 1)) (nI_1 _) (ih (i + 1) (n + 1) _ _ (by omega) (by omega) (fun m hm => ?_) (fun m hm => ?_) ?_ ?_ ?_ ?_ ?_)))⟩
        · by_cases e : m = i
          · subst e
            rw [pk_us, if_pos ho]
          · rw [pk_un e]
            exact h1 m (by omega)
        · rw [pk_un (by omega)]
          exact h2 m (by omega)
        · rw [pk_un (by omega)]; exact e0
        · rw [pk_us, e1, Int32.add_assoc, nI_1]
        · rw [pk_un (by omega)]; exact e2
        · rw [pk_un (by omega)]; exact e3
        · rw [pk_un (by omega)]; exact e4
      · rw [ci, hoi] at ho
        rw [if_neg (by simpa using ho), Nat.zero_add] at hn
        refine nm_r (e' := nI (i + 1)) (nI_1 _) (ih (i + 1) n _ _ (by omega) hn (fun m hm => ?_) (fun m hm => h2 m (by omega)) e0 e1 e2 e3 e4)
        by_cases e : m = i
        · subst e
          rw [hoi, if_neg ho]
        · exact h1 m (by omega)
  refine And.intro hi (nm_r (e' := upd (ac_th c) x 0) (by rw [hc]; rfl) ⟨hi, nm_r (e' := fun j => lN (fu_ sd x 0 j)) (by rw [hc]; exact ul_) ⟨73, L 72 0 0 a_owner a_totals (by omega) (by rw [hcnt, Nat.zero_add]) (fun m hm => by omega) (fun m _ => rfl) rfl (by rw [nI_0, Int32.add_zero]) rfl rfl rfl⟩⟩)
theorem yw_put {post : SY → Prop} {B : Nat} {go : Nat → Int32} {c : AC} {w : SY} {v : Int32} (h : yg_ B go c w) (K : ∀ w', yg_ B go (ac_show c v) w' → post w') : wpY_put post w v := by
  refine yg_el (P := fun w => wpY_put post w v) h ?_
  intro s bt sd cm a_owner a_kinds a_values a_senders a_failed a_totals hs aT aM aQ aF aS
  have L : ∀ i (la : Nat → Int32), i ≤ 15 → (∀ k, la k = if i < k ∧ k ≤ 15 then ac_ou c (k - 1) else ac_ou c k) → wY_put_3 post v (lN s) (ac_lim c) (ac_win c) (nI (ac_wk c)) (nI (ac_puts c)) (i + 1) (nI i) (ac_op c) (ac_as c) (ac_bs c) (ac_th c) (ac_pa c) (fun j => lN (bt j)) (ac_be c) (ac_bo c) (ac_sg c) (ac_st c) (fun j => lN (sd j)) a_owner (fun j => lN (cm j)) a_kinds a_values a_senders a_failed la a_totals go := by
    intro i
    induction i with
    | zero =>
      intro la _ hla
      refine br_t (Int32.le_refl 0) (nm_r (e' := fun k => if k = 0 then v else if k < 16 then ac_ou c (k - 1) else ac_ou c k) ?_ (nm_r (e' := nI (ac_puts c + 1)) (nI_1 _) (K _ (yg_in hs aT aM aQ aF aS))))
      funext k
      by_cases e : k = 0
      · subst e
        rw [pk_us, if_pos rfl]
      · rw [pk_un e, hla k, if_neg e]
        by_cases h16 : k < 16
        · rw [if_pos h16, if_pos (by omega)]
        · rw [if_neg h16, if_neg (by omega)]
    | succ i ih =>
      intro la hi hla
      have e1 : nI (i + 1) - 1 = nI i := nI_pred i
      refine br_f (nI_nle (by omega) (by omega)) ⟨by rw [e1]; exact vp_in_nI (by omega) (by omega), vp_in_nI (by omega) (by omega), nm_r (e' := upd la (i + 1) (la i)) (by rw [e1, nI_clamp (by omega), nI_clamp (by omega)]) (nm_r (e' := nI i) (pk_m1 i) (ih _ (by omega) (fun k => ?_)))⟩
      by_cases e : k = i + 1
      · subst e
        rw [pk_us, hla i, if_neg (by omega), if_pos (by omega)]
        rfl
      · rw [pk_un e, hla k]
        by_cases hk : i + 1 < k ∧ k ≤ 15
        · rw [if_pos hk, if_pos (by omega)]
        · rw [if_neg hk, if_neg (by omega)]
  exact ⟨16, L 15 (ac_ou c) (by omega) (fun k => by rw [if_neg (by omega)])⟩
theorem yi_below {post : Int32 → Prop} {B : Nat} {c : AC} {x top : Nat} {f_stamps : Int64} {f_limit f_window f_acting f_outs : Int32} {a_ops a_as a_bs a_there a_parent a_behaviour a_first a_strategy a_state a_owner a_kinds a_values a_senders a_failed a_last a_totals a_goes : Nat → Int32} {a_birth a_stands a_came : Nat → Int64} (hci : ci_A B c) (x1 : x < 12) (hx : ac_th c x ≠ 0) (o1 : top < 12)
    (K : post (if bb_ (up_in (ac_pa c) top x ∧ x ≠ top) = true then 1 else 0)) : wpY_isBelow post (f_stamps, f_limit, f_window, f_acting, f_outs, a_ops, a_as, a_bs, a_there, ac_pa c, a_birth, a_behaviour, a_first, a_strategy, a_state, a_stands, a_owner, a_came, a_kinds, a_values, a_senders, a_failed, a_last, a_totals, a_goes) (nI x) (nI top) := by
  obtain ⟨⟨t0, t1, tP, tC, rk, M, tK⟩, _⟩ := hci
  have E : ∀ y, y < 12 → (up_in (ac_pa c) top x ↔ y = top) → wY_isBelow_21 post (nI x) (nI top) (nI y) f_stamps f_limit f_window f_acting f_outs a_ops a_as a_bs a_there (ac_pa c) a_birth a_behaviour a_first a_strategy a_state a_stands a_owner a_came a_kinds a_values a_senders a_failed a_last a_totals a_goes := by
    intro y hy hu
    refine br_c (fun e => br_c (fun e2 => ?_) (fun e2 => ?_)) (fun e => ?_)
    · have e2' : x = top := (nI_eq (by omega) (by omega)).mp e2
      rw [bb_no.mpr (fun q => q.2 e2')] at K
      exact K
    · have e' : y = top := (nI_eq (by omega) (by omega)).mp e
      rw [bb_iff.mpr ⟨hu.mpr e', fun q => e2 (by rw [q])⟩] at K
      exact K
    · rw [bb_no.mpr (fun q => e (by rw [hu.mp q.1]))] at K
      exact K
  have L : ∀ n y, rk y < n → y < 12 → ac_th c y ≠ 0 → (up_in (ac_pa c) top x ↔ up_in (ac_pa c) top y) → wY_isBelow_2 post (nI x) (nI top) f_stamps f_limit f_window f_acting f_outs a_ops a_as a_bs a_there (ac_pa c) a_birth a_behaviour a_first a_strategy a_state a_stands a_owner a_came a_kinds a_values a_senders a_failed a_last a_totals a_goes n (nI y) := by
    intro n
    induction n with
    | zero => intro y hr; omega
    | succ n ih =>
      intro y hr hy hty hu
      by_cases y0 : y = 0
      · subst y0
        refine br_t (Int32.le_refl 0) (E 0 hy ?_)
        rw [hu, up_zero t1]
        exact ⟨fun q => q.symm, fun q => q.symm⟩
      · refine br_f (nI_nle (by omega) (by omega)) (br_c (fun e => ?_) (fun e => ?_))
        · have e' : y = top := (nI_eq (by omega) (by omega)).mp e
          refine E y hy ?_
          rw [hu]
          exact ⟨fun _ => e', fun _ => by rw [e']; exact up_self⟩
        · have e' : y ≠ top := fun q => e (by rw [q])
          obtain ⟨p, hp, he, hq⟩ := tP y (by omega) hy hty
          refine ⟨ni_ hy, nm_r (e' := nI p) (by rw [nc_ hy]; exact he) (ih p ?_ hp hq ?_)⟩
          · have := tK.2 y p (by omega) hy hty he hp
            omega
          · rw [hu, up_par he hp]
            exact ⟨fun q => q.elim (fun q => absurd q e') id, Or.inr⟩
  exact ⟨rk x + 1, L _ x (by omega) x1 hx Iff.rfl⟩
end
section
theorem yc_cmp {t s W : Nat} (ht : t < 2 ^ 30) (hs : s < 2 ^ 30) (hW : W ≤ 100) : nI t ≤ nI s - nI W ↔ ¬ s < t + W := xd_cmp ht hs hW
theorem yc_old {s W : Nat} (hs : s < 2 ^ 30) (hW : W ≤ 100) : (-1000 : Int32) ≤ nI s - nI W := by
  rw [Int32.le_iff_toInt_le, pk_sub_toInt hs (by omega), show (-1000 : Int32).toInt = -1000 by decide]
  omega
theorem yn_note {post : Int32 → SY → Prop} {B B' L W : Nat} {go : Nat → Int32} {c : AC} {w : SY} {p : Nat} (h : yg_ B go c w) (hci : ci_A B' c) (hB : B' < 2 ^ 29) (p1 : p < 12) (htp : ac_th c p ≠ 0) (hL : ac_lim c = nI L) (hL3 : L ≤ 3) (hW : ac_win c = nI W) (hW1 : W ≤ 100)
    (K : ∀ w', yg_ B go (ac_note c p) w' → post (tm_ L W (ac_steps c) ((ac_steps c :: ac_fl c p).take 4)) w') : wpY_note post w (nI p) := by
  obtain ⟨hT, hV, hM, hQ, hF, hR, hB1, hB2, hB3, hB4, hB5⟩ := hci
  refine yg_el (P := fun w => wpY_note post w (nI p)) h ?_
  intro s bt sd cm a_owner a_kinds a_values a_senders a_failed a_totals hs aT aM aQ aF aS
  obtain ⟨f1, f2, f3⟩ := hF p
  have hst : ac_steps c < 2 ^ 29 := by omega
  have hF' : ∀ fa : Nat → Int32, fa (4 * p) = nI (ac_steps c) → (∀ j, j < 3 → fa (4 * p + (j + 1)) = a_failed (4 * p + j)) → (∀ i, (i < 4 * p ∨ 4 * p + 4 ≤ i) → fa i = a_failed i) → ya_F (ac_th c) (fu_ (ac_fl c) p ((ac_steps c :: ac_fl c p).take 4)) fa := by
    intro fa g0 g1 g2 q hq htq j hj
    by_cases e : q = p
    · subst e
      rw [fu_s]
      cases j with
      | zero =>
        rw [Nat.add_zero, g0]
        rfl
      | succ j =>
        rw [g1 j (by omega), aF q hq htq j (by omega)]
        unfold ya_f
        rw [List.getElem?_take, if_pos (by omega), List.getElem?_cons_succ]
    · rw [fu_n e, g2 _ (by omega)]
      exact aF q hq htq j hj
  have L60 : ∀ fa : Nat → Int32, ya_F (ac_th c) (fu_ (ac_fl c) p ((ac_steps c :: ac_fl c p).take 4)) fa → ∀ d i n, i + d = 4 → n + cn_c (yf_Q W (ac_steps c) ((ac_steps c :: ac_fl c p).take 4)) i d = cn_c (yf_Q W (ac_steps c) ((ac_steps c :: ac_fl c p).take 4)) 0 4 →
      wY_note_60 post (nI p) (nI (ac_steps c)) (lN s) (ac_lim c) (ac_win c) (nI (ac_wk c)) (nI (ac_puts c)) (ac_op c) (ac_as c) (ac_bs c) (ac_th c) (ac_pa c) (fun j => lN (bt j)) (ac_be c) (ac_bo c) (ac_sg c) (ac_st c) (fun j => lN (sd j)) a_owner (fun j => lN (cm j)) a_kinds a_values a_senders fa (ac_ou c) a_totals go (d + 1) (nI n) (nI (4 * p + i)) := by
    intro fa hfa d
    have hsort : ((ac_steps c :: ac_fl c p).take 4).Pairwise (fun a b => b ≤ a) := by
      refine List.Pairwise.sublist (List.take_sublist _ _) ?_
      rw [List.pairwise_cons]
      exact ⟨f2, f3⟩
    have hlen : ((ac_steps c :: ac_fl c p).take 4).length ≤ 4 := by
      rw [List.length_take]
      omega
    have htm := yf_tm (W := W) (s := ac_steps c) hL3 hlen hsort
    have hcle := cn_le (yf_Q W (ac_steps c) ((ac_steps c :: ac_fl c p).take 4)) 4 0
    induction d with
    | zero =>
      intro i n hi hn
      have e : i = 4 := by omega
      subst e
      have hn' : n = cn_c (yf_Q W (ac_steps c) ((ac_steps c :: ac_fl c p).take 4)) 0 4 := hn
      refine br_t ?_ (br_c (fun hle => ?_) (fun hle => ?_))
      · show (4 : Int32) * nI p + nI 4 ≤ _
        rw [n4_]
        exact Int32.le_refl _
      · have hle' : n ≤ L := by
          rw [hL] at hle
          exact (nI_leI (by omega) (by omega)).mp hle
        rw [htm, if_pos (by omega)] at K
        exact K _ (yg_in hs aT aM aQ hfa aS)
      · have hle' : ¬ n ≤ L := by
          rw [hL] at hle
          exact fun q => hle ((nI_leI (by omega) (by omega)).mpr q)
        rw [htm, if_neg (by omega)] at K
        exact K _ (yg_in hs aT aM aQ hfa aS)
    | succ d ih =>
      intro i n hi hn
      have ci : (nI (4 * p + i)).toNatClampNeg = 4 * p + i := nI_clamp (by omega)
      have hv := hfa p p1 htp i (by omega)
      rw [fu_s] at hv
      unfold cn_c at hn
      refine br_f ?_ ⟨vp_in_nI (by omega) (by omega), br_c (fun hle => ?_) (fun hle => ?_)⟩
      · show ¬ (4 : Int32) * nI p + nI 4 ≤ _
        rw [n4_]
        exact nI_ge (by omega) (by omega)
      · rw [ci, hv, hW] at hle
        have hq : yf_Q W (ac_steps c) ((ac_steps c :: ac_fl c p).take 4) i = false := by
          unfold yf_Q
          unfold ya_f at hle
          cases hg : ((ac_steps c :: ac_fl c p).take 4)[i]? with
          | none => rfl
          | some t =>
            rw [hg] at hle
            have ht : t ≤ ac_steps c := by
              have hm2 := List.mem_of_mem_take (List.mem_of_getElem? hg)
              rcases List.mem_cons.mp hm2 with h1 | h1
              · omega
              · exact f2 t h1
            have := (yc_cmp (by omega) (by omega) hW1).mp hle
            exact decide_eq_false this
        rw [hq, if_neg (by decide), Nat.zero_add] at hn
        exact nm_r (e' := nI (4 * p + (i + 1))) (nI_1 _) (ih (i + 1) n (by omega) hn)
      · rw [ci, hv, hW] at hle
        have hq : yf_Q W (ac_steps c) ((ac_steps c :: ac_fl c p).take 4) i = true := by
          unfold yf_Q
          unfold ya_f at hle
          cases hg : ((ac_steps c :: ac_fl c p).take 4)[i]? with
          | none =>
            rw [hg] at hle
            exact absurd (yc_old (by omega) hW1) hle
          | some t =>
            rw [hg] at hle
            have ht : t ≤ ac_steps c := by
              have hm2 := List.mem_of_mem_take (List.mem_of_getElem? hg)
              rcases List.mem_cons.mp hm2 with h1 | h1
              · omega
              · exact f2 t h1
            have : s < t + W ∨ True := Or.inr trivial
            have h3 : ¬ ¬ ac_steps c < t + W := fun q => hle ((yc_cmp (by omega) (by omega) hW1).mpr q)
            exact decide_eq_true (Classical.byContradiction h3)
        rw [hq, if_pos rfl, ← Nat.add_assoc] at hn
        exact nm_r (e' := nI (n + 1)) (nI_1 _) (nm_r (e' := nI (4 * p + (i + 1))) (nI_1 _) (ih (i + 1) (n + 1) (by omega) hn))
  have L16 : ∀ i (fa : Nat → Int32), i ≤ 3 → (∀ j, i ≤ j → j < 3 → fa (4 * p + (j + 1)) = a_failed (4 * p + j)) → (∀ j, j ≤ i → fa (4 * p + j) = a_failed (4 * p + j)) → (∀ k, (k < 4 * p ∨ 4 * p + 4 ≤ k) → fa k = a_failed k) →
      wY_note_16 post (nI p) (nI (ac_steps c)) 0 (lN s) (ac_lim c) (ac_win c) (nI (ac_wk c)) (nI (ac_puts c)) (i + 1) (nI (4 * p + i)) (ac_op c) (ac_as c) (ac_bs c) (ac_th c) (ac_pa c) (fun j => lN (bt j)) (ac_be c) (ac_bo c) (ac_sg c) (ac_st c) (fun j => lN (sd j)) a_owner (fun j => lN (cm j)) a_kinds a_values a_senders fa (ac_ou c) a_totals go := by
    intro i
    induction i with
    | zero =>
      intro fa _ h1 h2 h3
      have e4 : (4 : Int32) * nI p = nI (4 * p + 0) := n4z_ p
      have c4 : ((4 : Int32) * nI p).toNatClampNeg = 4 * p := by rw [e4]; exact nI_clamp (by omega)
      refine br_t (by rw [e4]; exact Int32.le_refl _) ⟨by rw [e4]; exact vp_in_nI (by omega) (by omega), nm_r (e' := upd fa (4 * p) (nI (ac_steps c))) (by rw [c4]) (nm_r (e' := nI (4 * p + 0)) e4 ⟨5, L60 _ (hF' _ pk_us (fun j hj => ?_) (fun k hk => ?_)) 4 0 0 (by omega) (by rw [Nat.zero_add])⟩)⟩
      · rw [pk_un (by omega)]
        exact h1 j (by omega) hj
      · rw [pk_un (by omega)]
        exact h3 k hk
    | succ i ih =>
      intro fa hi h1 h2 h3
      have e1 : nI (4 * p + (i + 1)) - 1 = nI (4 * p + i) := nI_pred _
      refine br_f ?_ ⟨by rw [e1]; exact vp_in_nI (by omega) (by omega), vp_in_nI (by omega) (by omega), nm_r (e' := upd fa (4 * p + (i + 1)) (fa (4 * p + i))) (by rw [e1, nI_clamp (by omega), nI_clamp (by omega)]) (nm_r (e' := nI (4 * p + i)) (pk_m1 _) (ih _ (by omega) (fun j hj hj3 => ?_) (fun j hj => ?_) (fun k hk => ?_)))⟩
      · rw [n4z_]
        refine fun q => ?_
        have := (nI_leI (by omega) (by omega)).mp q
        omega
      · by_cases e : j = i
        · subst e
          rw [pk_us]
          exact h2 j (by omega)
        · rw [pk_un (by omega)]
          exact h1 j (by omega) hj3
      · rw [pk_un (by omega)]
        exact h2 j (by omega)
      · rw [pk_un (by omega)]
        exact h3 k hk
  refine nm_r (e' := nI (ac_steps c)) aS.1 (nm_r (e' := nI (4 * p + 3)) (n4_ p 3) ⟨4, L16 3 a_failed (by omega) (fun j hj hj3 => by omega) (fun j _ => rfl) (fun k _ => rfl)⟩)
theorem yx_next {post : Int32 → Prop} {B B' : Nat} {go : Nat → Int32} {c : AC} {w : SY} (h : yg_ B go c w) (hB : B < 2 ^ 30) (hci : ci_A B' c) (K0 : ac_row c = [] → post 0) (K1 : ∀ a t, ac_row c = a :: t → post (nI a)) : wpY_next post w := by
  obtain ⟨hT, hV, hM, ⟨q1, q2, q3, q4⟩, hF, hR, hB'⟩ := hci
  refine yg_el (P := fun w => wpY_next post w) h ?_
  intro s bt sd cm a_owner a_kinds a_values a_senders a_failed a_totals hs aT aM aQ aF aS
  have hb : ∀ m, sd m < 2 ^ 31 := fun m => by have := aQ.1 m; omega
  have hpos : ∀ m, lN (sd m) ≤ 0 ↔ sd m = 0 := by
    intro m
    have := lN_le (a := sd m) (b := 0) (hb m) (by omega)
    rw [show (0 : Int64) = lN 0 from rfl, this]
    omega
  have L : ∀ d i b, 0 < i → i + d = 12 → ((b = 0 ∧ ∀ y, 0 < y → y < i → sd y = 0) ∨ (0 < b ∧ b < i ∧ sd b ≠ 0 ∧ ∀ y, 0 < y → y < i → sd y ≠ 0 → sd b ≤ sd y)) → wY_next_4 post (lN s) (ac_lim c) (ac_win c) (nI (ac_wk c)) (nI (ac_puts c)) (ac_op c) (ac_as c) (ac_bs c) (ac_th c) (ac_pa c) (fun j => lN (bt j)) (ac_be c) (ac_bo c) (ac_sg c) (ac_st c) (fun j => lN (sd j)) a_owner (fun j => lN (cm j)) a_kinds a_values a_senders a_failed (ac_ou c) a_totals go (d + 1) (nI b) (nI i) := by
    intro d
    induction d with
    | zero =>
      intro i b i0 hi hinv
      have e : i = 12 := by omega
      subst e
      refine br_t (nI_le (a := 12) (b := 12) (by omega) (by omega)) ?_
      rcases hinv with ⟨e, hz⟩ | ⟨b0, b1, b2, b3⟩
      · subst e
        refine K0 ?_
        rw [List.eq_nil_iff_forall_not_mem]
        intro y hy
        obtain ⟨y0, y1, _⟩ := q2 y hy
        exact (aQ.2.2 y y0 y1).mp hy (hz y y0 y1)
      · cases hr : ac_row c with
        | nil =>
          have := (aQ.2.2 b b0 b1).mpr b2
          rw [hr] at this
          simp at this
        | cons a t =>
          have hbm := (aQ.2.2 b b0 b1).mpr b2
          have ha : a ∈ ac_row c := by rw [hr]; simp
          obtain ⟨a0, a1, _⟩ := q2 a ha
          have hle := b3 a a0 a1 ((aQ.2.2 a a0 a1).mp ha)
          have hso := aQ.2.1
          rw [hr] at hso hbm
          have := so_min hso hbm hle
          rw [this]
          exact K1 a t hr
    | succ d ih =>
      intro i b i0 hi hinv
      have ci : (nI i).toNatClampNeg = i := nI_clamp (by omega)
      have ii : vp_in (nI i) 12 := vp_in_nI (by omega) (by omega)
      refine br_f (nI_ge (b := 12) (by omega) (by omega)) ⟨ii, br_c (fun hz => ?_) (fun hz => br_c (fun hb0 => ?_) (fun hb0 => ?_))⟩
      · rw [ci] at hz
        have hz' := (hpos i).mp hz
        refine nm_r (e' := nI (i + 1)) (nI_1 _) (ih (i + 1) b (by omega) (by omega) ?_)
        rcases hinv with ⟨e, hh⟩ | ⟨b0, b1, b2, b3⟩
        · refine Or.inl ⟨e, fun y y0 y1 => ?_⟩
          by_cases ey : y = i
          · subst ey; exact hz'
          · exact hh y y0 (by omega)
        · refine Or.inr ⟨b0, by omega, b2, fun y y0 y1 hy => ?_⟩
          by_cases ey : y = i
          · subst ey; exact absurd hz' hy
          · exact b3 y y0 (by omega) hy
      · rw [ci] at hz
        have hz' : sd i ≠ 0 := fun q => hz ((hpos i).mpr q)
        refine nm_r (e' := nI (i + 1)) (nI_1 _) (ih (i + 1) i (by omega) (by omega) (Or.inr ⟨i0, by omega, hz', fun y y0 y1 hy => ?_⟩))
        by_cases ey : y = i
        · subst ey; exact Nat.le_refl _
        · rcases hinv with ⟨e, hh⟩ | ⟨b0, b1, b2, b3⟩
          · exact absurd (hh y y0 (by omega)) hy
          · exact absurd hb0 (nI_ne0 b0 (by omega))
      · rw [ci] at hz
        have hz' : sd i ≠ 0 := fun q => hz ((hpos i).mpr q)
        rcases hinv with ⟨e, hh⟩ | ⟨b0, b1, b2, b3⟩
        · subst e
          exact absurd rfl hb0
        · have cb : (nI b).toNatClampNeg = b := nI_clamp (by omega)
          refine ⟨ii, vp_in_nI (by omega) (by omega), br_c (fun hle => ?_) (fun hle => ?_)⟩
          · rw [ci, cb] at hle
            have hle' := (lN_le (hb b) (hb i)).mp hle
            refine nm_r (e' := nI (i + 1)) (nI_1 _) (ih (i + 1) b (by omega) (by omega) (Or.inr ⟨b0, by omega, b2, fun y y0 y1 hy => ?_⟩))
            by_cases ey : y = i
            · subst ey; exact hle'
            · exact b3 y y0 (by omega) hy
          · rw [ci, cb] at hle
            have hle' : ¬ sd b ≤ sd i := fun q => hle ((lN_le (hb b) (hb i)).mpr q)
            refine nm_r (e' := nI (i + 1)) (nI_1 _) (ih (i + 1) i (by omega) (by omega) (Or.inr ⟨i0, by omega, hz', fun y y0 y1 hy => ?_⟩))
            by_cases ey : y = i
            · subst ey; exact Nat.le_refl _
            · have := b3 y y0 (by omega) hy
              omega
  exact ⟨12, L 11 1 0 (by omega) (by omega) (Or.inl ⟨rfl, fun y y0 y1 => by omega⟩)⟩
theorem yb_0 {post : Int32 → SY → Prop} {B : Nat} {go : Nat → Int32} {c : AC} {w : SY} {p b g : Int32} (h : yg_ B go c w) (hall : ∀ x, 0 < x → x < 12 → ac_th c x ≠ 0) (K : ∀ w', yg_ B go c w' → post (-1) w') : wpY_born post w p b g := by
  refine yg_el (P := fun w => wpY_born post w p b g) h ?_
  intro s bt sd cm a_owner a_kinds a_values a_senders a_failed a_totals hs aT aM aQ aF aS
  have L : ∀ d i, 0 < i → i + d = 12 → wY_born_3 post p b g (lN s) (ac_lim c) (ac_win c) (nI (ac_wk c)) (nI (ac_puts c)) (ac_op c) (ac_as c) (ac_bs c) (ac_th c) (ac_pa c) (fun j => lN (bt j)) (ac_be c) (ac_bo c) (ac_sg c) (ac_st c) (fun j => lN (sd j)) a_owner (fun j => lN (cm j)) a_kinds a_values a_senders a_failed (ac_ou c) a_totals go (d + 1) (nI i) := by
    intro d
    induction d with
    | zero =>
      intro i i0 hi
      have e : i = 12 := by omega
      subst e
      exact br_t (nI_le (a := 12) (b := 12) (by omega) (by omega)) (br_t rfl (K _ (yg_in hs aT aM aQ aF aS)))
    | succ d ih =>
      intro i i0 hi
      refine br_f (nI_ge (b := 12) (by omega) (by omega)) ⟨ni_ (by omega), br_f ?_ (nm_r (e' := nI (i + 1)) (nI_1 _) (ih (i + 1) (by omega) (by omega)))⟩
      rw [nc_ (by omega)]
      exact hall i i0 (by omega)
  exact ⟨12, L 11 1 (by omega) (by omega)⟩
theorem yb_1 {post : Int32 → SY → Prop} {B B' : Nat} {go : Nat → Int32} {c : AC} {w : SY} {p a : Nat} {b g : Int32} (h : yg_ B go c w) (hci : ci_A B' c) (a0 : 0 < a) (a1 : a < 12) (hta : ac_th c a = 0) (hall : ∀ x, 0 < x → x < a → ac_th c x ≠ 0)
    (K : ∀ w', yg_ (B + 1) go (ac_brt c a p b g) w' → post (nI a) w') : wpY_born post w (nI p) b g := by
  obtain ⟨⟨t0, t1, tP, tC, rk, M, tK⟩, hV, hM, ⟨q1, q2, q3, q4⟩, hF, hR, hB'⟩ := hci
  refine yg_el (P := fun w => wpY_born post w (nI p) b g) h ?_
  intro s bt sd cm a_owner a_kinds a_values a_senders a_failed a_totals hs aT aM aQ aF aS
  have hi := ni_ a1
  have hc := nc_ a1
  have hnr : a ∉ ac_row c := fun hh => (q2 a hh).2.2.1 hta
  have hQ' : ya_Q (ac_row c) (fu_ sd a 0) (s + 1) := by
    have := yq_un (a := a) (yq_up aQ (Nat.le_succ s))
    rw [fl_no hnr] at this
    exact this
  have H26 : wY_born_26 post (nI p) b g (nI a) (lN s) (ac_lim c) (ac_win c) (nI (ac_wk c)) (nI (ac_puts c)) (ac_op c) (ac_as c) (ac_bs c) (ac_th c) (ac_pa c) (fun j => lN (bt j)) (ac_be c) (ac_bo c) (ac_sg c) (ac_st c) (fun j => lN (sd j)) a_owner (fun j => lN (cm j)) a_kinds a_values a_senders a_failed (ac_ou c) a_totals go := by
    have n12 : ¬ nI a = 12 := fun e => by
      have := (nI_eq (a := a) (b := 12) (by omega) (by omega)).mp e
      omega
    refine br_f n12 ⟨hi, nm_r (e' := upd (ac_th c) a 1) (by rw [hc]; rfl) ⟨hi, nm_r (e' := upd (ac_pa c) a (nI p)) (by rw [hc]) (nm_r (e' := lN (s + 1)) (lN_1 s) ⟨hi, nm_r (e' := fun j => lN (fu_ bt a (s + 1) j)) (by rw [hc, lN_1]; exact ul_) ⟨hi, nm_r (e' := upd (ac_be c) a b) (by rw [hc]) ⟨hi, nm_r (e' := upd (ac_bo c) a b) (by rw [hc]) ⟨hi, nm_r (e' := upd (ac_sg c) a g) (by rw [hc]) ⟨hi, nm_r (e' := upd (ac_st c) a 0) (by rw [hc]) ⟨hi, nm_r (e' := fun j => lN (fu_ sd a 0 j)) (by rw [hc]; exact ul_) ?_⟩⟩⟩⟩⟩⟩)⟩⟩
    refine yf_forget a1 (fun fa g1 g2 => ?_)
    refine K _ (yg_in (by omega) (yt_brt aT (fun q hm => ((tC.1 q a).mp hm).2.2.2.1 hta)) (ym_up aM (by omega)) hQ' (fun q hq htq j hj => ?_) aS)
    show fa (4 * q + j) = ya_f (fu_ (ac_fl c) a [] q) j
    by_cases e : q = a
    · subst e
      rw [fu_s, g1 j hj]
      rfl
    · rw [fu_n e, g2 _ (by omega)]
      refine aF q hq ?_ j hj
      have htq' : upd (ac_th c) a 1 q ≠ 0 := htq
      rw [pk_un e] at htq'
      exact htq'
  have L : ∀ d i, 0 < i → i + d = a → wY_born_3 post (nI p) b g (lN s) (ac_lim c) (ac_win c) (nI (ac_wk c)) (nI (ac_puts c)) (ac_op c) (ac_as c) (ac_bs c) (ac_th c) (ac_pa c) (fun j => lN (bt j)) (ac_be c) (ac_bo c) (ac_sg c) (ac_st c) (fun j => lN (sd j)) a_owner (fun j => lN (cm j)) a_kinds a_values a_senders a_failed (ac_ou c) a_totals go (d + 1) (nI i) := by
    intro d
    induction d with
    | zero =>
      intro i i0 hi2
      have e : i = a := by omega
      subst e
      refine br_f (nI_ge (b := 12) (by omega) (by omega)) ⟨hi, br_t ?_ H26⟩
      rw [hc]
      exact hta
    | succ d ih =>
      intro i i0 hi2
      refine br_f (nI_ge (b := 12) (by omega) (by omega)) ⟨ni_ (by omega), br_f ?_ (nm_r (e' := nI (i + 1)) (nI_1 _) (ih (i + 1) (by omega) (by omega)))⟩
      rw [nc_ (by omega)]
      exact hall i i0 (by omega)
  exact ⟨a, by
    have := L (a - 1) 1 (by omega) (by omega)
    rw [show a - 1 + 1 = a by omega] at this
    exact this⟩
end
section
/-! the component's ends -/
def xc_ (F : Int32 → Int32 → Int32 → Int32 → Int32 → Int32 → Int32 → Int32 → Int32 → Int32 → Int32 → Int32 → Int32 → Int32 → (Nat → Int32) → (Nat → Int32) → (Nat → Int32) → (Nat → Int32) → (Nat → Int32) → (Nat → Int32) → (Nat → Int32) → (Nat → Int32) → (Nat → Int32) → (Nat → Int32) → (Nat → Int32) → (Nat → Int32) → (Nat → Int32) → (Nat → Int32) → (Nat → Int32) → (Nat → Int32) → (Nat → Int32) → (Nat → Int32) → (Nat → Int32) → (Nat → Int32) → (Nat → Int32) → (Nat → Int32) → (Nat → Int32) → (Nat → Int32) → (Nat → Int32) → (Nat → Int32) → Prop) (w : SX) : Prop := match w with
  | (f_front, f_back, f_waiting, f_limit, f_window, f_puts, f_steps, f_lost, f_failures, f_anew, f_melted, f_working, f_heldValue, f_heldSender, a_op, a_first, a_second, a_there, a_parent, a_behaviour, a_born, a_strategy, a_state, a_eldest, a_youngest, a_younger, a_older, a_children, a_kind, a_value, a_sender, a_head, a_mails, a_next, a_before, a_queued, a_failedAt, a_failedHead, a_failedCount, a_put) => F f_front f_back f_waiting f_limit f_window f_puts f_steps f_lost f_failures f_anew f_melted f_working f_heldValue f_heldSender a_op a_first a_second a_there a_parent a_behaviour a_born a_strategy a_state a_eldest a_youngest a_younger a_older a_children a_kind a_value a_sender a_head a_mails a_next a_before a_queued a_failedAt a_failedHead a_failedCount a_put
theorem cn_lt {P P' : Nat → Bool} {x : Nat} (hm : ∀ j, P' j = true → P j = true) (hx : P x = true) (hx' : P' x = false) : ∀ d i, i ≤ x → x < i + d → cn_c P' i d < cn_c P i d := by
  have hle : ∀ d i, cn_c P' i d ≤ cn_c P i d := by
    intro d
    induction d with
    | zero => intro i; exact Nat.le_refl 0
    | succ d ih =>
      intro i
      unfold cn_c
      have h1 := ih (i + 1)
      by_cases h : P' i = true
      · rw [if_pos h, if_pos (hm i h)]
        omega
      · rw [if_neg h]
        omega
  intro d
  induction d with
  | zero => intro i h1 h2; omega
  | succ d ih =>
    intro i h1 h2
    unfold cn_c
    by_cases e : i = x
    · subst e
      rw [if_pos hx, if_neg (by rw [hx']; decide)]
      have := hle d (i + 1)
      omega
    · have h3 := ih (i + 1) (by omega) (by omega)
      by_cases h : P' i = true
      · rw [if_pos h, if_pos (hm i h)]
        omega
      · rw [if_neg h]
        omega
theorem rm_pa (D : Nat → Bool) (c : AC) : ac_pa (rm_ D c) = ac_pa c := rfl
theorem rm_wk (D : Nat → Bool) (c : AC) : ac_wk (rm_ D c) = ac_wk c := rfl
theorem rm_sg (D : Nat → Bool) (c : AC) : ac_sg (rm_ D c) = ac_sg c := rfl
theorem rm_thE (D : Nat → Bool) (c : AC) (x : Nat) : ac_th (rm_ D c) x = if rm_g D x = true then 0 else ac_th c x := rfl
theorem rm_chE (D : Nat → Bool) (c : AC) (p : Nat) : ac_ch (rm_ D c) p = (ac_ch c p).filter (fun x => !rm_g D x) := rfl
theorem rm_thn {D : Nat → Bool} {c : AC} {x : Nat} : ac_th (rm_ D c) x ≠ 0 ↔ rm_g D x = false ∧ ac_th c x ≠ 0 := by
  rw [rm_thE]
  exact rm_tn
def ac_cnt (c : AC) : Nat := cn_c (fun y => decide (ac_th c y ≠ 0)) 1 11
theorem rm_cnt {D : Nat → Bool} {c : AC} {x : Nat} (x0 : 0 < x) (x1 : x < 12) (hx : ac_th c x ≠ 0) (hD : D x = true) : ac_cnt (rm_ D c) < ac_cnt c := by
  refine cn_lt (x := x) (fun j hj => ?_) (decide_eq_true hx) (decide_eq_false ?_) 11 1 (by omega) (by omega)
  · have hj' : ac_th (rm_ D c) j ≠ 0 := of_decide_eq_true hj
    exact decide_eq_true (rm_thn.mp hj').2
  · intro hh
    have := (rm_thn.mp hh).1
    rw [rm_gi x0 x1, hD] at this
    exact absurd this (by decide)
theorem cnt_pos {c : AC} {x : Nat} (x0 : 0 < x) (x1 : x < 12) (hx : ac_th c x ≠ 0) : 0 < ac_cnt c :=
  Nat.lt_of_le_of_lt (Nat.zero_le _) (rm_cnt (D := fun _ => true) x0 x1 hx rfl)
section XE
variable {f_front f_back f_waiting f_limit f_window f_puts f_steps f_lost f_failures f_anew f_melted f_working f_heldValue f_heldSender : Int32} {a_op a_first a_second a_there a_parent a_behaviour a_born a_strategy a_state a_eldest a_youngest a_younger a_older a_children a_kind a_value a_sender a_head a_mails a_next a_before a_queued a_failedAt a_failedHead a_failedCount a_put : Nat → Int32}
theorem xe_8 {B M a : Nat} {c : AC} {rk : Nat → Nat} {post : SX → Prop} {J : Int32 → Int32 → Int32 → Int32 → Int32 → Int32 → Int32 → Int32 → Int32 → Int32 → Int32 → Int32 → Int32 → Int32 → Int32 → Int32 → (Nat → Int32) → (Nat → Int32) → (Nat → Int32) → (Nat → Int32) → (Nat → Int32) → (Nat → Int32) → (Nat → Int32) → (Nat → Int32) → (Nat → Int32) → (Nat → Int32) → (Nat → Int32) → (Nat → Int32) → (Nat → Int32) → (Nat → Int32) → (Nat → Int32) → (Nat → Int32) → (Nat → Int32) → (Nat → Int32) → (Nat → Int32) → (Nat → Int32) → (Nat → Int32) → (Nat → Int32) → (Nat → Int32) → (Nat → Int32) → (Nat → Int32) → (Nat → Int32) → Prop}
    (hci : ci_A B c) (hK : ci_K (ac_th c) (ac_pa c) rk M) (a1 : a < 12)
    (aA : xa_A (ac_op c) (ac_bs c) a_second) (aT : xa_T (ac_th c) (ac_ch c) a_eldest a_youngest a_younger a_older a_children)
    (aM : xa_M (ac_ml c) a_kind a_value a_sender a_head a_mails) (aQ : xa_Q (ac_row c) f_front f_back f_waiting a_next a_before a_queued)
    (aF : xa_F (ac_fl c) a_failedAt a_failedHead a_failedCount) (aO : xa_O (ac_puts c) (ac_ou c) a_put)
    (HJ : ∀ x, 0 < x → x < 12 → ac_th c x ≠ 0 → up_in (ac_pa c) a x → ac_ch c x = [] → ∀ w', xr_ (rm_ (rm_1 x) c) w' → (x = a → xc_ (J (ac_pa c x) 0) w') ∧ (x ≠ a → xc_ (J (ac_pa c x) 1) w')) :
    ∀ n x, M - rk x < n → 0 < x → x < 12 → ac_th c x ≠ 0 → up_in (ac_pa c) a x → wX_end_8 post J (nI a) f_front f_back f_waiting (ac_lim c) (ac_win c) (nI (ac_puts c)) (nI (ac_steps c)) (nI (ac_lost c)) (nI (ac_fai c)) (nI (ac_ane c)) (nI (ac_mel c)) (xr_w (ac_wk c)) (ac_hv c) (ac_hs c) (ac_op c) (ac_as c) a_second (ac_th c) (ac_pa c) (ac_be c) (ac_bo c) (ac_sg c) (ac_st c) a_eldest a_youngest a_younger a_older a_children a_kind a_value a_sender a_head a_mails a_next a_before a_queued a_failedAt a_failedHead a_failedCount a_put n (nI x) := by
  have hci' := hci
  obtain ⟨⟨t0, t1, tP, tC, rk', M', tK⟩, _⟩ := hci
  intro n
  induction n with
  | zero => intro x hn; omega
  | succ n ih =>
    intro x hn x0 x1 hx hu
    have hi := ni_ x1
    have hc := nc_ x1
    have hlt : ∀ y, y ∈ ac_ch c x → y < 12 := fun y hy => ci_chlt tC hy
    have hel : a_eldest x = dl_hd (ac_ch c x) := (aT x x1 hx).1.1
    refine And.intro hi (br_c (fun he => ?_) (fun he => ?_))
    · rw [hc, hel, dl_hd_neg hlt] at he
      refine ⟨hi, nm_r (e' := ac_pa c x) (by rw [hc]) (xl_leave (xr_in aA aT aM aQ aF aO) hci' x0 x1 hx (xt_el ?_))⟩
      intro f_front f_back f_waiting f_limit f_window f_puts f_steps f_lost f_failures f_anew f_melted f_working f_heldValue f_heldSender a_op a_first a_second a_there a_parent a_behaviour a_born a_strategy a_state a_eldest a_youngest a_younger a_older a_children a_kind a_value a_sender a_head a_mails a_next a_before a_queued a_failedAt a_failedHead a_failedCount a_put hw
      have H := HJ x x0 x1 hx hu he _ hw
      exact br_c (fun e => H.1 ((nI_eq (by omega) (by omega)).mp e)) (fun e => H.2 (fun q => e (by rw [q])))
    · rw [hc, hel, dl_hd_neg hlt] at he
      obtain ⟨e, t, ht⟩ : ∃ e t, ac_ch c x = e :: t := by
        cases hh : ac_ch c x with
        | nil => exact absurd hh he
        | cons e t => exact ⟨e, t, rfl⟩
      obtain ⟨_, e0, e1, e2, e3⟩ := (tC.1 x e).mp (by rw [ht]; simp)
      have r1 := hK.2 e x e0 e1 e2 e3 x1
      have r2 := hK.1 e e1
      refine ⟨hi, nm_r (e' := nI e) (by rw [hc, hel, ht]; rfl) (ih e (by omega) e0 e1 e2 ((up_par e3 x1).mpr (Or.inr hu)))⟩
end XE
theorem xe_4 {post : SX → Prop} {a : Nat} (a0 : 0 < a) (a1 : a < 12) : ∀ n B c x w, ci_A B c → 0 < x → x < 12 → ac_th c x ≠ 0 → ac_th c a ≠ 0 → up_in (ac_pa c) a x → ac_cnt c < n → xr_ c w → (∀ w', xr_ (rm_ (rm_S (ac_pa c) a) c) w' → post w') → xc_ (wX_end_4 post (nI a) n (nI x) 1) w := by
  intro n
  induction n with
  | zero => intro B c x w _ _ _ _ _ _ hn; omega
  | succ n ih =>
    intro B c x w hci x0 x1 hx hta hu hn h K
    refine xr_el (P := fun w => xc_ (wX_end_4 post (nI a) (n + 1) (nI x) 1) w) h ?_
    intro f_front f_back f_waiting a_second a_eldest a_youngest a_younger a_older a_children a_kind a_value a_sender a_head a_mails a_next a_before a_queued a_failedAt a_failedHead a_failedCount a_put aA aT aM aQ aF aO
    have hci' := hci
    obtain ⟨⟨t0, t1, tP, tC, rk, M, tK⟩, _⟩ := hci
    have hn1 : 0 < n := by
      have := cnt_pos x0 x1 hx
      omega
    obtain ⟨m, rfl⟩ : ∃ m, n = m + 1 := ⟨n - 1, by omega⟩
    refine br_f (by decide) ⟨M - rk x + 1, xe_8 hci' tK a1 aA aT aM aQ aF aO (fun y y0 y1 hy hyu hyl w' hw' => ⟨fun e => ?_, fun e => ?_⟩) _ x (by omega) x0 x1 hx hu⟩
    · subst e
      rw [rm_Slf hci' y1 hyl] at hw'
      revert hw'
      revert w'
      refine xt_el ?_
      intro f_front f_back f_waiting f_limit f_window f_puts f_steps f_lost f_failures f_anew f_melted f_working f_heldValue f_heldSender a_op a_first a_second a_there a_parent a_behaviour a_born a_strategy a_state a_eldest a_youngest a_younger a_older a_children a_kind a_value a_sender a_head a_mails a_next a_before a_queued a_failedAt a_failedHead a_failedCount a_put hw'
      exact br_t rfl (K _ hw')
    · obtain ⟨p, p1, hp, htp⟩ := tP y y0 y1 hy
      have hup : up_in (ac_pa c) a p := ((up_par hp p1).mp hyu).elim (fun q => absurd q e) id
      have p0 : 0 < p := by
        refine Nat.pos_of_ne_zero (fun q => ?_)
        subst q
        rw [up_zero t1] at hup
        omega
      have hpy : p ≠ y := by
        intro q
        subst q
        have := tK.2 p p y0 y1 hy hp p1
        omega
      have keep : ∀ z, z ≠ y → ac_th c z ≠ 0 → ac_th (rm_ (rm_1 y) c) z ≠ 0 := by
        intro z hz hz2
        refine rm_thn.mpr ⟨?_, hz2⟩
        rw [rm_1g y0 y1]
        exact decide_eq_false hz
      rw [hp]
      refine ih B (rm_ (rm_1 y) c) p w' (rm_1ci hci' hyl) p0 p1 (keep p hpy htp) (keep a (fun q => e q.symm) hta) (by rw [rm_pa]; exact hup) ?_ hw' (fun w2 hw2 => K w2 ?_)
      · have := rm_cnt (D := rm_1 y) y0 y1 hy (decide_eq_true rfl)
        omega
      · rw [rm_pa, rm_S1 hyu] at hw2
        exact hw2
theorem xe_end {B : Nat} {c : AC} {w : SX} {post : SX → Prop} {a : Nat} (h : xr_ c w) (hci : ci_A B c) (a0 : 0 < a) (a1 : a < 12) (hta : ac_th c a ≠ 0) (K : ∀ w', xr_ (rm_ (rm_S (ac_pa c) a) c) w' → post w') : wpX_end post w (nI a) := by
  refine xr_el (P := fun w => xr_ c w → wpX_end post w (nI a)) h ?_ h
  intro f_front f_back f_waiting a_second a_eldest a_youngest a_younger a_older a_children a_kind a_value a_sender a_head a_mails a_next a_before a_queued a_failedAt a_failedHead a_failedCount a_put _ _ _ _ _ _ hw
  exact ⟨ac_cnt c + 1, xe_4 a0 a1 (ac_cnt c + 1) B c a (f_front, f_back, f_waiting, ac_lim c, ac_win c, nI (ac_puts c), nI (ac_steps c), nI (ac_lost c), nI (ac_fai c), nI (ac_ane c), nI (ac_mel c), xr_w (ac_wk c), ac_hv c, ac_hs c, ac_op c, ac_as c, a_second, ac_th c, ac_pa c, ac_be c, ac_bo c, ac_sg c, ac_st c, a_eldest, a_youngest, a_younger, a_older, a_children, a_kind, a_value, a_sender, a_head, a_mails, a_next, a_before, a_queued, a_failedAt, a_failedHead, a_failedCount, a_put) hci a0 a1 hta hta up_self (by omega) hw K⟩
theorem xh_0 {post : SX → Prop} {a : Nat} (a1 : a < 12) : ∀ n B c w, ci_A B c → ac_th c a ≠ 0 → ac_cnt c < n → xr_ c w → (∀ w', xr_ (rm_ (rm_B (ac_pa c) a) c) w' → post w') → xc_ (wX_childless_0 post (nI a) n) w := by
  intro n
  induction n with
  | zero => intro B c w _ _ hn; omega
  | succ n ih =>
    intro B c w hci hta hn h K
    refine xr_el (P := fun w => xr_ c w → xc_ (wX_childless_0 post (nI a) (n + 1)) w) h ?_ h
    intro f_front f_back f_waiting a_second a_eldest a_youngest a_younger a_older a_children a_kind a_value a_sender a_head a_mails a_next a_before a_queued a_failedAt a_failedHead a_failedCount a_put aA aT aM aQ aF aO hw
    have hci' := hci
    obtain ⟨⟨t0, t1, tP, tC, rk, M, tK⟩, _⟩ := hci
    have hi := ni_ a1
    have hc := nc_ a1
    have hlt : ∀ y, y ∈ ac_ch c a → y < 12 := fun y hy => ci_chlt tC hy
    have hel : a_eldest a = dl_hd (ac_ch c a) := (aT a a1 hta).1.1
    refine And.intro hi (br_c (fun he => ?_) (fun he => ⟨hi, ?_⟩))
    · rw [hc, hel, dl_hd_neg hlt] at he
      rw [rm_Blf hci' a1 he] at K
      exact K _ hw
    · rw [hc, hel, dl_hd_neg hlt] at he
      obtain ⟨e, t, ht⟩ : ∃ e t, ac_ch c a = e :: t := by
        cases hh : ac_ch c a with
        | nil => exact absurd hh he
        | cons e t => exact ⟨e, t, rfl⟩
      have hem : e ∈ ac_ch c a := by rw [ht]; simp
      obtain ⟨_, e0, e1, e2, e3⟩ := (tC.1 a e).mp hem
      have he1 : a_eldest (nI a).toNatClampNeg = nI e := by rw [hc, hel, ht]; rfl
      rw [he1]
      refine xe_end hw hci' e0 e1 e2 (fun w' hw' => ?_)
      have keep : ac_th (rm_ (rm_S (ac_pa c) e) c) a ≠ 0 := by
        refine rm_thn.mpr ⟨?_, hta⟩
        by_cases hz : 0 < a ∧ a < 12
        · rw [rm_gi hz.1 hz.2]
          refine bb_no.mpr (fun ⟨k, hk⟩ => ?_)
          have r1 := up_rk t1 tP tK k a a1 hta hk
          have r2 := tK.2 e a e0 e1 e2 e3 a1
          omega
        · exact rm_g0 hz
      have := ih B (rm_ (rm_S (ac_pa c) e) c) w' (rm_Sci hci') keep (by
        have := rm_cnt (D := rm_S (ac_pa c) e) e0 e1 e2 (bb_iff.mpr up_self)
        omega) hw' (fun w2 hw2 => K w2 (by
          rw [rm_pa, rm_BS hci' a1 hta hem] at hw2
          exact hw2))
      exact this
theorem xh_childless {B : Nat} {c : AC} {w : SX} {post : SX → Prop} {a : Nat} (h : xr_ c w) (hci : ci_A B c) (a1 : a < 12) (hta : ac_th c a ≠ 0) (K : ∀ w', xr_ (rm_ (rm_B (ac_pa c) a) c) w' → post w') : wpX_childless post w (nI a) := by
  refine xr_el (P := fun w => xr_ c w → wpX_childless post w (nI a)) h ?_ h
  intro f_front f_back f_waiting a_second a_eldest a_youngest a_younger a_older a_children a_kind a_value a_sender a_head a_mails a_next a_before a_queued a_failedAt a_failedHead a_failedCount a_put _ _ _ _ _ _ hw
  exact ⟨ac_cnt c + 1, xh_0 a1 (ac_cnt c + 1) B c (f_front, f_back, f_waiting, ac_lim c, ac_win c, nI (ac_puts c), nI (ac_steps c), nI (ac_lost c), nI (ac_fai c), nI (ac_ane c), nI (ac_mel c), xr_w (ac_wk c), ac_hv c, ac_hs c, ac_op c, ac_as c, a_second, ac_th c, ac_pa c, ac_be c, ac_bo c, ac_sg c, ac_st c, a_eldest, a_youngest, a_younger, a_older, a_children, a_kind, a_value, a_sender, a_head, a_mails, a_next, a_before, a_queued, a_failedAt, a_failedHead, a_failedCount, a_put) hci hta (by omega) hw K⟩
end
section
/-! the reference's ends -/
def yc_ (F : Int64 → Int32 → Int32 → Int32 → Int32 → (Nat → Int32) → (Nat → Int32) → (Nat → Int32) → (Nat → Int32) → (Nat → Int32) → (Nat → Int64) → (Nat → Int32) → (Nat → Int32) → (Nat → Int32) → (Nat → Int32) → (Nat → Int64) → (Nat → Int32) → (Nat → Int64) → (Nat → Int32) → (Nat → Int32) → (Nat → Int32) → (Nat → Int32) → (Nat → Int32) → (Nat → Int32) → (Nat → Int32) → Prop) (w : SY) : Prop := match w with
  | (f_stamps, f_limit, f_window, f_acting, f_outs, a_ops, a_as, a_bs, a_there, a_parent, a_birth, a_behaviour, a_first, a_strategy, a_state, a_stands, a_owner, a_came, a_kinds, a_values, a_senders, a_failed, a_last, a_totals, a_goes) => F f_stamps f_limit f_window f_acting f_outs a_ops a_as a_bs a_there a_parent a_birth a_behaviour a_first a_strategy a_state a_stands a_owner a_came a_kinds a_values a_senders a_failed a_last a_totals a_goes
theorem rm_ext {D E : Nat → Bool} {c : AC} (h : ∀ y, rm_g D y = rm_g E y) : rm_ D c = rm_ E c := by
  have e : rm_g D = rm_g E := funext h
  unfold rm_
  rw [e]
theorem ye_57 {post : SY → Prop} {B : Nat} {go : Nat → Int32} : ∀ d i c w, 0 < i → i + d = 12 → yg_ B go c w → (∀ w', yg_ B go (rm_ (fun y => decide (i ≤ y) && decide (go y ≠ 0)) c) w' → post w') → yc_ (wY_end_57 post (d + 1) (nI i)) w := by
  intro d
  induction d with
  | zero =>
    intro i c w i0 hi h K
    have e : i = 12 := by omega
    subst e
    have e2 : rm_ (fun y => decide (12 ≤ y) && decide (go y ≠ 0)) c = c := by
      rw [← rm_non (c := c), rm_rm]
      refine rm_ext (fun y => ?_)
      by_cases hy : 0 < y ∧ y < 12
      · rw [rm_gi hy.1 hy.2, rm_gi hy.1 hy.2]
        have : ¬ 12 ≤ y := by omega
        simp [this]
      · rw [rm_g0 hy, rm_g0 hy]
    rw [e2] at K
    revert h
    revert w
    refine yt_el ?_
    intro f_stamps f_limit f_window f_acting f_outs a_ops a_as a_bs a_there a_parent a_birth a_behaviour a_first a_strategy a_state a_stands a_owner a_came a_kinds a_values a_senders a_failed a_last a_totals a_goes h
    exact br_t (nI_le (a := 12) (b := 12) (by omega) (by omega)) (K _ h)
  | succ d ih =>
    intro i c w i0 hi h K
    refine yg_el (P := fun w => yg_ B go c w → yc_ (wY_end_57 post (d + 1 + 1) (nI i)) w) h ?_ h
    intro s bt sd cm a_owner a_kinds a_values a_senders a_failed a_totals _ _ _ _ _ _ hw
    have ci : (nI i).toNatClampNeg = i := nI_clamp (by omega)
    refine br_f (nI_ge (b := 12) (by omega) (by omega)) ⟨ni_ (by omega), br_c (fun hg => ?_) (fun hg => ?_)⟩
    · rw [ci] at hg
      refine nm_r (e' := nI (i + 1)) (nI_1 _) ?_
      have e2 : rm_ (fun y => decide (i ≤ y) && decide (go y ≠ 0)) c = rm_ (fun y => decide (i + 1 ≤ y) && decide (go y ≠ 0)) c := by
        refine congrArg (fun D => rm_ D c) (funext (fun y => ?_))
        by_cases e : y = i
        · subst e
          simp [hg]
        · have : i ≤ y ↔ i + 1 ≤ y := by omega
          simp [this]
      rw [e2] at K
      exact ih (i + 1) c _ (by omega) (by omega) hw K
    · rw [ci] at hg
      refine yv_vanish hw i0 (by omega) (fun w' hw' => ?_)
      have e2 : rm_ (fun y => decide (i + 1 ≤ y) && decide (go y ≠ 0)) (rm_ (rm_1 i) c) = rm_ (fun y => decide (i ≤ y) && decide (go y ≠ 0)) c := by
        rw [rm_rm]
        refine congrArg (fun D => rm_ D c) (funext (fun y => ?_))
        show (decide (y = i) || (decide (i + 1 ≤ y) && decide (go y ≠ 0))) = (decide (i ≤ y) && decide (go y ≠ 0))
        by_cases e : y = i
        · subst e
          simp [hg]
        · have : i ≤ y ↔ i + 1 ≤ y := by omega
          simp [this, e]
      have H := ih (i + 1) (rm_ (rm_1 i) c) w' (by omega) (by omega) hw' (fun w2 hw2 => K w2 (by rw [e2] at hw2; exact hw2))
      revert H
      revert hw'
      revert w'
      refine yt_el ?_
      intro f_stamps f_limit f_window f_acting f_outs a_ops a_as a_bs a_there a_parent a_birth a_behaviour a_first a_strategy a_state a_stands a_owner a_came a_kinds a_values a_senders a_failed a_last a_totals a_goes _ H
      exact nm_r (e' := nI (i + 1)) (nI_1 _) H
theorem ye_end {post : SY → Prop} {B B' : Nat} {go : Nat → Int32} {c : AC} {w : SY} {top : Nat} {too : Int32} {D : Nat → Bool} (h : yg_ B go c w) (hci : ci_A B' c) (o1 : top < 12)
    (hD : ∀ x, 0 < x → x < 12 → ac_th c x ≠ 0 → D x = if x = top then decide (too ≠ 0) else bb_ (up_in (ac_pa c) top x ∧ x ≠ top)) (K : ∀ w', yr_ B (rm_ D c) w' → post w') : wpY_end post w (nI top) too := by
  refine yg_el (P := fun w => wpY_end post w (nI top) too) h ?_
  intro s bt sd cm a_owner a_kinds a_values a_senders a_failed a_totals hs aT aM aQ aF aS
  have L2 : ∀ d i (g : Nat → Int32), 0 < i → i + d = 12 → (∀ y, 0 < y → y < i → g y = if ac_th c y ≠ 0 ∧ D y = true then 1 else 0) → wY_end_2 post (nI top) too (lN s) (ac_lim c) (ac_win c) (nI (ac_wk c)) (nI (ac_puts c)) (d + 1) (nI i) (ac_op c) (ac_as c) (ac_bs c) (ac_th c) (ac_pa c) (fun j => lN (bt j)) (ac_be c) (ac_bo c) (ac_sg c) (ac_st c) (fun j => lN (sd j)) a_owner (fun j => lN (cm j)) a_kinds a_values a_senders a_failed (ac_ou c) a_totals g := by
    intro d
    induction d with
    | zero =>
      intro i g i0 hi hg
      have e : i = 12 := by omega
      subst e
      refine br_t (nI_le (a := 12) (b := 12) (by omega) (by omega)) ⟨12, ye_57 11 1 c (lN s, ac_lim c, ac_win c, nI (ac_wk c), nI (ac_puts c), ac_op c, ac_as c, ac_bs c, ac_th c, ac_pa c, (fun j => lN (bt j)), ac_be c, ac_bo c, ac_sg c, ac_st c, (fun j => lN (sd j)), a_owner, (fun j => lN (cm j)), a_kinds, a_values, a_senders, a_failed, ac_ou c, a_totals, g) (by omega) (by omega) (yg_in hs aT aM aQ aF aS) (fun w' hw' => K w' ⟨g, ?_⟩)⟩
      have e2 : rm_ (fun y => decide (1 ≤ y) && decide (g y ≠ 0)) c = rm_ D c := by
        refine ci_con hci (fun y y0 y1 hy => ?_)
        rw [hg y y0 y1]
        have h1 : 1 ≤ y := by omega
        cases hd : D y <;> simp [h1, hy]
      rw [← e2]
      exact hw'
    | succ d ih =>
      intro i g i0 hi hg
      have i1 : i < 12 := by omega
      have ci : (nI i).toNatClampNeg = i := nI_clamp (by omega)
      have ii := ni_ i1
      have nx : ∀ v : Int32, v = (if ac_th c i ≠ 0 ∧ D i = true then 1 else 0) → wY_end_2 post (nI top) too (lN s) (ac_lim c) (ac_win c) (nI (ac_wk c)) (nI (ac_puts c)) (d + 1) (nI (i + 1)) (ac_op c) (ac_as c) (ac_bs c) (ac_th c) (ac_pa c) (fun j => lN (bt j)) (ac_be c) (ac_bo c) (ac_sg c) (ac_st c) (fun j => lN (sd j)) a_owner (fun j => lN (cm j)) a_kinds a_values a_senders a_failed (ac_ou c) a_totals (upd g i v) := by
        intro v hv
        refine ih (i + 1) _ (by omega) (by omega) (fun y y0 y1 => ?_)
        by_cases e : y = i
        · subst e
          rw [pk_us]
          exact hv
        · rw [pk_un e]
          exact hg y y0 (by omega)
      refine br_f (nI_ge (b := 12) (by omega) (by omega)) ⟨ii, br_c (fun ht => ?_) (fun ht => br_c (fun he => br_c (fun ho => ?_) (fun ho => ?_)) (fun he => ?_))⟩
      · rw [ci] at ht
        refine ⟨ii, nm_r (e' := upd g i 0) (by rw [ci]; rfl) (nm_r (e' := nI (i + 1)) (nI_1 _) (nx 0 ?_))⟩
        rw [if_neg (fun q => q.1 ht)]
      · rw [ci] at ht
        have he' : i = top := (nI_eq (by omega) (by omega)).mp he
        refine ⟨ii, nm_r (e' := upd g i 0) (by rw [ci]; rfl) (nm_r (e' := nI (i + 1)) (nI_1 _) (nx 0 ?_))⟩
        rw [hD i i0 i1 ht, if_pos he', if_neg]
        intro q
        exact of_decide_eq_true q.2 ho
      · rw [ci] at ht
        have he' : i = top := (nI_eq (by omega) (by omega)).mp he
        refine ⟨ii, nm_r (e' := upd g i 1) (by rw [ci]; rfl) (nm_r (e' := nI (i + 1)) (nI_1 _) (nx 1 ?_))⟩
        rw [hD i i0 i1 ht, if_pos he', if_pos ⟨ht, decide_eq_true ho⟩]
      · rw [ci] at ht
        have he' : i ≠ top := fun q => he (by rw [q])
        refine yi_below (a_parent := ac_pa c) hci i1 ht o1 ?_
        have hDi := hD i i0 i1 ht
        rw [if_neg he'] at hDi
        rw [← hDi]
        cases hd : D i
        · refine br_t rfl ⟨ii, nm_r (e' := upd g i 0) (by rw [ci]; rfl) (nm_r (e' := nI (i + 1)) (nI_1 _) (nx 0 ?_))⟩
          rw [hd, if_neg (fun q => absurd q.2 (by decide))]
        · refine br_f (by decide) ⟨ii, nm_r (e' := upd g i 1) (by rw [ci]; rfl) (nm_r (e' := nI (i + 1)) (nI_1 _) (nx 1 ?_))⟩
          rw [hd, if_pos ⟨ht, rfl⟩]
  exact ⟨12, L2 11 1 go (by omega) (by omega) (fun y y0 y1 => by omega)⟩
end
section
/-! begun anew -/
noncomputable def ac_bgn (c : AC) (x : Nat) : AC := ac_rst (rm_ (rm_B (ac_pa c) x) c) x
theorem rm_Bk {c : AC} {a y : Nat} (hy : ac_th c y ≠ 0) (hn : ¬ (up_in (ac_pa c) a y ∧ y ≠ a)) : ac_th (rm_ (rm_B (ac_pa c) a) c) y ≠ 0 := by
  refine rm_thn.mpr ⟨?_, hy⟩
  by_cases hz : 0 < y ∧ y < 12
  · rw [rm_gi hz.1 hz.2]
    exact bb_no.mpr hn
  · exact rm_g0 hz
theorem xr_lf {c : AC} {w : SX} {post : SX → Prop} (h : xr_ c w) (K : ∀ (f_front f_back f_waiting : Int32) (a_second a_eldest a_youngest a_younger a_older a_children a_kind a_value a_sender a_head a_mails a_next a_before a_queued a_failedAt a_failedHead a_failedCount a_put : Nat → Int32), xr_ c (f_front, f_back, f_waiting, ac_lim c, ac_win c, nI (ac_puts c), nI (ac_steps c), nI (ac_lost c), nI (ac_fai c), nI (ac_ane c), nI (ac_mel c), xr_w (ac_wk c), ac_hv c, ac_hs c, ac_op c, ac_as c, a_second, ac_th c, ac_pa c, ac_be c, ac_bo c, ac_sg c, ac_st c, a_eldest, a_youngest, a_younger, a_older, a_children, a_kind, a_value, a_sender, a_head, a_mails, a_next, a_before, a_queued, a_failedAt, a_failedHead, a_failedCount, a_put) → post (f_front, f_back, f_waiting, ac_lim c, ac_win c, nI (ac_puts c), nI (ac_steps c), nI (ac_lost c), nI (ac_fai c), nI (ac_ane c), nI (ac_mel c), xr_w (ac_wk c), ac_hv c, ac_hs c, ac_op c, ac_as c, a_second, ac_th c, ac_pa c, ac_be c, ac_bo c, ac_sg c, ac_st c, a_eldest, a_youngest, a_younger, a_older, a_children, a_kind, a_value, a_sender, a_head, a_mails, a_next, a_before, a_queued, a_failedAt, a_failedHead, a_failedCount, a_put)) : post w :=
  xr_el (P := post) h (fun f_front f_back f_waiting a_second a_eldest a_youngest a_younger a_older a_children a_kind a_value a_sender a_head a_mails a_next a_before a_queued a_failedAt a_failedHead a_failedCount a_put h1 h2 h3 h4 h5 h6 => K f_front f_back f_waiting a_second a_eldest a_youngest a_younger a_older a_children a_kind a_value a_sender a_head a_mails a_next a_before a_queued a_failedAt a_failedHead a_failedCount a_put (xr_in h1 h2 h3 h4 h5 h6))
theorem xr_ela {c : AC} {P : SX → Prop} (k : ∀ (f_front f_back f_waiting : Int32) (a_second a_eldest a_youngest a_younger a_older a_children a_kind a_value a_sender a_head a_mails a_next a_before a_queued a_failedAt a_failedHead a_failedCount a_put : Nat → Int32),
  xa_A (ac_op c) (ac_bs c) a_second → xa_T (ac_th c) (ac_ch c) a_eldest a_youngest a_younger a_older a_children →
  xa_M (ac_ml c) a_kind a_value a_sender a_head a_mails → xa_Q (ac_row c) f_front f_back f_waiting a_next a_before a_queued →
  xa_F (ac_fl c) a_failedAt a_failedHead a_failedCount → xa_O (ac_puts c) (ac_ou c) a_put → P (f_front, f_back, f_waiting, ac_lim c, ac_win c, nI (ac_puts c), nI (ac_steps c), nI (ac_lost c), nI (ac_fai c), nI (ac_ane c), nI (ac_mel c), xr_w (ac_wk c), ac_hv c, ac_hs c, ac_op c, ac_as c, a_second, ac_th c, ac_pa c, ac_be c, ac_bo c, ac_sg c, ac_st c, a_eldest, a_youngest, a_younger, a_older, a_children, a_kind, a_value, a_sender, a_head, a_mails, a_next, a_before, a_queued, a_failedAt, a_failedHead, a_failedCount, a_put)) : ∀ w, xr_ c w → P w := fun w h => xr_el h k
theorem rst_th (c : AC) (x : Nat) : ac_th (ac_rst c x) = ac_th c := rfl
theorem rst_pa (c : AC) (x : Nat) : ac_pa (ac_rst c x) = ac_pa c := rfl
theorem rst_wk (c : AC) (x : Nat) : ac_wk (ac_rst c x) = ac_wk c := rfl
theorem rst_sg (c : AC) (x : Nat) : ac_sg (ac_rst c x) = ac_sg c := rfl
theorem rst_ch (c : AC) (x : Nat) : ac_ch (ac_rst c x) = ac_ch c := rfl
theorem xr_rst {c : AC} {x : Nat} {f_front f_back f_waiting : Int32} {a_second a_eldest a_youngest a_younger a_older a_children a_kind a_value a_sender a_head a_mails a_next a_before a_queued a_failedAt a_failedHead a_failedCount a_put : Nat → Int32} (aA : xa_A (ac_op c) (ac_bs c) a_second) (aT : xa_T (ac_th c) (ac_ch c) a_eldest a_youngest a_younger a_older a_children)
  (aM : xa_M (ac_ml c) a_kind a_value a_sender a_head a_mails) (aQ : xa_Q (ac_row c) f_front f_back f_waiting a_next a_before a_queued)
  (aF : xa_F (ac_fl c) a_failedAt a_failedHead a_failedCount) (aO : xa_O (ac_puts c) (ac_ou c) a_put) : xr_ (ac_rst c x) (f_front, f_back, f_waiting, ac_lim c, ac_win c, nI (ac_puts c), nI (ac_steps c), nI (ac_lost c), nI (ac_fai c), nI (ac_ane c + 1), nI (ac_mel c), xr_w (ac_wk c), ac_hv c, ac_hs c, ac_op c, ac_as c, a_second, ac_th c, ac_pa c, upd (ac_be c) x (ac_bo c x), ac_bo c, ac_sg c, upd (ac_st c) x 0, a_eldest, a_youngest, a_younger, a_older, a_children, a_kind, a_value, a_sender, a_head, a_mails, a_next, a_before, a_queued, a_failedAt, a_failedHead, upd a_failedCount x 0, a_put) := xr_in aA aT aM aQ (xf_cl aF) aO
theorem xg_begin {B : Nat} {c : AC} {w : SX} {post : SX → Prop} {x : Nat} (h : xr_ c w) (hci : ci_A B c) (x1 : x < 12) (hx : ac_th c x ≠ 0) (K : ∀ w', xr_ (ac_bgn c x) w' → post w') : wpX_begin post w (nI x) := by
  refine xr_lf (post := fun w => wpX_begin post w (nI x)) h ?_
  intro f_front f_back f_waiting a_second a_eldest a_youngest a_younger a_older a_children a_kind a_value a_sender a_head a_mails a_next a_before a_queued a_failedAt a_failedHead a_failedCount a_put hw
  show wpX_begin post _ _
  unfold wpX_begin
  refine xh_childless hw hci x1 hx ?_
  have hci1 := rm_Bci (a := x) hci
  have hx1 := rm_Bk (a := x) hx (fun q => q.2 rfl)
  unfold ac_bgn at K
  revert K hci1 hx1
  generalize rm_ (rm_B (ac_pa c) x) c = c1
  intro K hci1 hx1
  refine xr_ela ?_
  intro f_front f_back f_waiting a_second a_eldest a_youngest a_younger a_older a_children a_kind a_value a_sender a_head a_mails a_next a_before a_queued a_failedAt a_failedHead a_failedCount a_put aA aT aM aQ aF aO
  have hi := ni_ x1
  have hc := nc_ x1
  obtain ⟨b, hb, eb⟩ := (hci1.2.1 x x1 hx1).2.1
  refine And.intro hi (nm_r (e' := upd (ac_st c1) x 0) (by rw [hc]) ⟨hi, hi, nm_r (e' := upd (ac_be c1) x (ac_bo c1 x)) (by rw [hc, eb, nb_2 (by omega)]) ⟨hi, nm_r (e' := upd a_failedCount x 0) (by rw [hc, nb_0]) (nm_r (e' := nI (ac_ane c1 + 1)) (nI_1 _) (K _ (xr_rst aA aT aM aQ aF aO)))⟩⟩)
theorem yr_el {B : Nat} {c : AC} {w : SY} {P : SY → Prop} (h : yr_ B c w) (k : ∀ (a_goes : Nat → Int32) (s : Nat) (bt sd cm : Nat → Nat) (a_owner a_kinds a_values a_senders a_failed a_totals : Nat → Int32), s ≤ B →
  ya_T (ac_ch c) bt s → ya_M (ac_ml c) a_owner cm a_kinds a_values a_senders s → ya_Q (ac_row c) sd s → ya_F (ac_th c) (ac_fl c) a_failed → ya_S (ac_steps c) (ac_lost c) (ac_fai c) (ac_ane c) (ac_mel c) a_totals → yg_ B a_goes c (lN s, ac_lim c, ac_win c, nI (ac_wk c), nI (ac_puts c), ac_op c, ac_as c, ac_bs c, ac_th c, ac_pa c, (fun j => lN (bt j)), ac_be c, ac_bo c, ac_sg c, ac_st c, (fun j => lN (sd j)), a_owner, (fun j => lN (cm j)), a_kinds, a_values, a_senders, a_failed, ac_ou c, a_totals, a_goes) → P (lN s, ac_lim c, ac_win c, nI (ac_wk c), nI (ac_puts c), ac_op c, ac_as c, ac_bs c, ac_th c, ac_pa c, (fun j => lN (bt j)), ac_be c, ac_bo c, ac_sg c, ac_st c, (fun j => lN (sd j)), a_owner, (fun j => lN (cm j)), a_kinds, a_values, a_senders, a_failed, ac_ou c, a_totals, a_goes)) : P w := by
  obtain ⟨go, h⟩ := h
  exact yg_el h (fun s bt sd cm a_owner a_kinds a_values a_senders a_failed a_totals h0 h1 h2 h3 h4 h5 => k go s bt sd cm a_owner a_kinds a_values a_senders a_failed a_totals h0 h1 h2 h3 h4 h5 (yg_in h0 h1 h2 h3 h4 h5))
theorem yr_ela {B : Nat} {c : AC} {P : SY → Prop} (k : ∀ (a_goes : Nat → Int32) (s : Nat) (bt sd cm : Nat → Nat) (a_owner a_kinds a_values a_senders a_failed a_totals : Nat → Int32), s ≤ B →
  ya_T (ac_ch c) bt s → ya_M (ac_ml c) a_owner cm a_kinds a_values a_senders s → ya_Q (ac_row c) sd s → ya_F (ac_th c) (ac_fl c) a_failed → ya_S (ac_steps c) (ac_lost c) (ac_fai c) (ac_ane c) (ac_mel c) a_totals → yg_ B a_goes c (lN s, ac_lim c, ac_win c, nI (ac_wk c), nI (ac_puts c), ac_op c, ac_as c, ac_bs c, ac_th c, ac_pa c, (fun j => lN (bt j)), ac_be c, ac_bo c, ac_sg c, ac_st c, (fun j => lN (sd j)), a_owner, (fun j => lN (cm j)), a_kinds, a_values, a_senders, a_failed, ac_ou c, a_totals, a_goes) → P (lN s, ac_lim c, ac_win c, nI (ac_wk c), nI (ac_puts c), ac_op c, ac_as c, ac_bs c, ac_th c, ac_pa c, (fun j => lN (bt j)), ac_be c, ac_bo c, ac_sg c, ac_st c, (fun j => lN (sd j)), a_owner, (fun j => lN (cm j)), a_kinds, a_values, a_senders, a_failed, ac_ou c, a_totals, a_goes)) : ∀ w, yr_ B c w → P w := fun w h => yr_el h k
theorem yr_up {B B' : Nat} {c : AC} {w : SY} (h : yr_ B c w) (hb : B ≤ B') : yr_ B' c w := by
  obtain ⟨go, h⟩ := h
  exact ⟨go, yg_up h hb⟩
theorem yf_cl {th fa fa' : Nat → Int32} {fl : Nat → List Nat} {x : Nat} (aF : ya_F th fl fa) (g1 : ∀ j, j < 4 → fa' (4 * x + j) = -1000) (g2 : ∀ i, (i < 4 * x ∨ 4 * x + 4 ≤ i) → fa' i = fa i) : ya_F th (fu_ fl x []) fa' := by
  intro q hq htq j hj
  by_cases e : q = x
  · subst e
    rw [fu_s, g1 j hj]
    rfl
  · rw [fu_n e, g2 _ (by omega)]
    exact aF q hq htq j hj
theorem yg_rst {B x : Nat} {a_goes : Nat → Int32} {c : AC} {s : Nat} {bt sd cm : Nat → Nat} {a_owner a_kinds a_values a_senders a_failed a_totals : Nat → Int32} (h0 : s ≤ B)
  (h1 : ya_T (ac_ch c) bt s) (h2 : ya_M (ac_ml c) a_owner cm a_kinds a_values a_senders s) (h3 : ya_Q (ac_row c) sd s) (h4 : ya_F (ac_th c) (fu_ (ac_fl c) x []) a_failed) (h5 : ya_S (ac_steps c) (ac_lost c) (ac_fai c) (ac_ane c + 1) (ac_mel c) a_totals) : yg_ B a_goes (ac_rst c x) (lN s, ac_lim c, ac_win c, nI (ac_wk c), nI (ac_puts c), ac_op c, ac_as c, ac_bs c, ac_th c, ac_pa c, (fun j => lN (bt j)), upd (ac_be c) x (ac_bo c x), ac_bo c, ac_sg c, upd (ac_st c) x 0, (fun j => lN (sd j)), a_owner, (fun j => lN (cm j)), a_kinds, a_values, a_senders, a_failed, ac_ou c, a_totals, a_goes) :=
  yg_in h0 h1 h2 h3 h4 h5
theorem yg_restart {B B' : Nat} {c : AC} {w : SY} {post : SY → Prop} {x : Nat} (h : yr_ B c w) (hci : ci_A B' c) (x1 : x < 12) (K : ∀ w', yr_ B (ac_bgn c x) w' → post w') : wpY_restart post w (nI x) := by
  refine yr_el (P := fun w => wpY_restart post w (nI x)) h ?_
  intro a_goes s bt sd cm a_owner a_kinds a_values a_senders a_failed a_totals _ _ _ _ _ _ hg
  show wpY_restart post _ _
  unfold wpY_restart
  refine ye_end (D := rm_B (ac_pa c) x) hg hci x1 (fun y y0 y1 hy => ?_) ?_
  · by_cases e : y = x
    · subst e
      rw [if_pos rfl]
      exact (bb_no.mpr (fun q => q.2 rfl)).trans (decide_eq_false (fun q => q rfl)).symm
    · rw [if_neg e]
      rfl
  · unfold ac_bgn at K
    revert K
    generalize rm_ (rm_B (ac_pa c) x) c = c1
    intro K
    have hi := ni_ x1
    have hc := nc_ x1
    refine yr_ela ?_
    intro a_goes s bt sd cm a_owner a_kinds a_values a_senders a_failed a_totals hs aT aM aQ aF aS _
    have aS' : ya_S (ac_steps c1) (ac_lost c1) (ac_fai c1) (ac_ane c1 + 1) (ac_mel c1) (upd a_totals 3 (a_totals 3 + 1)) := by
      obtain ⟨s0, s1, s2, s3, s4⟩ := aS
      refine ⟨?_, ?_, ?_, ?_, ?_⟩
      · rw [pk_un (by omega)]; exact s0
      · rw [pk_un (by omega)]; exact s1
      · rw [pk_un (by omega)]; exact s2
      · rw [pk_us, s3, nI_1]
      · rw [pk_un (by omega)]; exact s4
    refine And.intro hi (nm_r (e' := upd (ac_st c1) x 0) (by rw [hc]) ⟨hi, hi, nm_r (e' := upd (ac_be c1) x (ac_bo c1 x)) (by rw [hc]) (yf_forget x1 (fun fa g1 g2 => ?_))⟩)
    exact nm_e (K _ ⟨a_goes, yg_rst hs aT aM aQ (yf_cl aF g1 g2) aS'⟩)
/-! the order does not matter -/
def rs_k (c : AC) (n : Nat) (b t : Nat → Int32) (f : Nat → List Nat) : AC := (ac_lim c, ac_win c, ac_lost c, ac_fai c, n, ac_mel c, ac_hv c, ac_hs c, ac_puts c, ac_steps c, ac_wk c, ac_op c, ac_as c, ac_bs c, ac_th c, ac_pa c, b, ac_bo c, ac_sg c, t, ac_ou c, ac_ch c, ac_ml c, f, ac_row c)
theorem rs_kc {c : AC} {n n' : Nat} {b b' t t' : Nat → Int32} {f f' : Nat → List Nat} (e1 : n = n') (e2 : b = b') (e3 : t = t') (e4 : f = f') : rs_k c n b t f = rs_k c n' b' t' f' := by
  subst e1 e2 e3 e4
  rfl
theorem up_com {f : Nat → Int32} {x y : Nat} {a b : Int32} (h : x ≠ y) : upd (upd f x a) y b = upd (upd f y b) x a := by
  funext j
  unfold upd
  by_cases e1 : j = y
  · by_cases e2 : j = x
    · exact absurd (e2.symm.trans e1) h
    · rw [if_pos e1, if_neg e2, if_pos e1]
  · by_cases e2 : j = x
    · rw [if_neg e1, if_pos e2, if_pos e2]
    · rw [if_neg e1, if_neg e2, if_neg e2, if_neg e1]
theorem fu_com {f : Nat → List Nat} {x y : Nat} : fu_ (fu_ f x []) y [] = fu_ (fu_ f y []) x [] := by
  funext j
  unfold fu_
  by_cases e1 : j = y
  · by_cases e2 : j = x
    · rw [if_pos e1, if_pos e2]
    · rw [if_pos e1, if_neg e2, if_pos e1]
  · by_cases e2 : j = x
    · rw [if_neg e1, if_pos e2, if_pos e2]
    · rw [if_neg e1, if_neg e2, if_neg e2, if_neg e1]
theorem rs_e (c : AC) (x : Nat) : ac_rst c x = rs_k c (ac_ane c + 1) (upd (ac_be c) x (ac_bo c x)) (upd (ac_st c) x 0) (fu_ (ac_fl c) x []) := rfl
theorem rs_2 (c : AC) (x y : Nat) : ac_rst (ac_rst c x) y = rs_k c (ac_ane c + 1 + 1) (upd (upd (ac_be c) x (ac_bo c x)) y (ac_bo c y)) (upd (upd (ac_st c) x 0) y 0) (fu_ (fu_ (ac_fl c) x []) y []) := rfl
theorem rs_com (c : AC) (x y : Nat) : ac_rst (ac_rst c x) y = ac_rst (ac_rst c y) x := by
  by_cases e : x = y
  · subst e
    rfl
  · rw [rs_2, rs_2]
    exact rs_kc rfl (up_com e) (up_com e) fu_com
theorem bg_pa {c : AC} {x : Nat} : ac_pa (ac_bgn c x) = ac_pa c := by
  unfold ac_bgn
  rw [rst_pa, rm_pa]
theorem bg_wk {c : AC} {x : Nat} : ac_wk (ac_bgn c x) = ac_wk c := by
  unfold ac_bgn
  rw [rst_wk, rm_wk]
theorem bg_sg {c : AC} {x : Nat} : ac_sg (ac_bgn c x) = ac_sg c := by
  unfold ac_bgn
  rw [rst_sg, rm_sg]
theorem rs_rm (c : AC) (D : Nat → Bool) (x : Nat) : rm_ D (ac_rst c x) = ac_rst (rm_ D c) x := rfl
theorem bg_com (c : AC) (x y : Nat) : ac_bgn (ac_bgn c x) y = ac_bgn (ac_bgn c y) x := by
  have h1 : ∀ x y, ac_bgn (ac_bgn c x) y = ac_rst (ac_rst (rm_ (fun z => rm_B (ac_pa c) x z || rm_B (ac_pa c) y z) c) x) y := by
    intro x y
    have e : ac_bgn (ac_bgn c x) y = ac_rst (rm_ (rm_B (ac_pa c) y) (ac_bgn c x)) y := by
      rw [← bg_pa (c := c) (x := x)]
      rfl
    rw [e]
    unfold ac_bgn
    rw [rs_rm, rm_rm]
  rw [h1, h1, rs_com]
  refine congrArg (fun D => ac_rst (ac_rst (rm_ D c) y) x) (funext (fun z => ?_))
  exact Bool.or_comm _ _
theorem bg_ci {B x : Nat} {c : AC} (h : ci_A B c) : ci_A B (ac_bgn c x) := ac_rst_ci (rm_Bci h)
theorem bg_sib {B p x y : Nat} {c : AC} (h : ci_A B c) (hx : x ∈ ac_ch c p) (htp : ac_th c p ≠ 0) (hy : y ∈ ac_ch c p) : ¬ (up_in (ac_pa c) x y ∧ y ≠ x) := by
  obtain ⟨⟨t0, t1, tP, tC, rk, M, tK⟩, _⟩ := h
  rintro ⟨hu, hyx⟩
  obtain ⟨p1, x0, x1, x2, x3⟩ := (tC.1 p x).mp hx
  obtain ⟨_, y0, y1, y2, y3⟩ := (tC.1 p y).mp hy
  rcases (up_par y3 p1).mp hu with e | ⟨n, hn⟩
  · exact hyx e
  · have r1 := up_rk t1 tP tK n p p1 htp hn
    have r2 := tK.2 x p x0 x1 x2 x3 p1
    omega
theorem bg_ch {B p x : Nat} {c : AC} (h : ci_A B c) (hx : x ∈ ac_ch c p) (htp : ac_th c p ≠ 0) : ac_ch (ac_bgn c x) p = ac_ch c p := by
  unfold ac_bgn
  rw [rst_ch, rm_chE, List.filter_eq_self]
  intro y hy
  have hn := bg_sib h hx htp hy
  by_cases hz : 0 < y ∧ y < 12
  · rw [rm_gi hz.1 hz.2]
    have : rm_B (ac_pa c) x y = false := bb_no.mpr hn
    rw [this]
    rfl
  · rw [rm_g0 hz]
    rfl
theorem bg_thp {B p x : Nat} {c : AC} (h : ci_A B c) (hx : x ∈ ac_ch c p) (htp : ac_th c p ≠ 0) : ac_th (ac_bgn c x) p ≠ 0 := by
  obtain ⟨⟨t0, t1, tP, tC, rk, M, tK⟩, _⟩ := h
  obtain ⟨p1, x0, x1, x2, x3⟩ := (tC.1 p x).mp hx
  unfold ac_bgn
  rw [rst_th]
  refine rm_Bk htp (fun ⟨⟨n, hn⟩, _⟩ => ?_)
  have r1 := up_rk t1 tP tK n p p1 htp hn
  have r2 := tK.2 x p x0 x1 x2 x3 p1
  omega
end
section
theorem xr_cl {c : AC} {x : Nat} {f_front f_back f_waiting : Int32} {a_second a_eldest a_youngest a_younger a_older a_children a_kind a_value a_sender a_head a_mails a_next a_before a_queued a_failedAt a_failedHead a_failedCount a_put : Nat → Int32} (aA : xa_A (ac_op c) (ac_bs c) a_second) (aT : xa_T (ac_th c) (ac_ch c) a_eldest a_youngest a_younger a_older a_children)
  (aM : xa_M (ac_ml c) a_kind a_value a_sender a_head a_mails) (aQ : xa_Q (ac_row c) f_front f_back f_waiting a_next a_before a_queued)
  (aF : xa_F (ac_fl c) a_failedAt a_failedHead a_failedCount) (aO : xa_O (ac_puts c) (ac_ou c) a_put) : xr_ (ac_cl c x) (f_front, f_back, f_waiting, ac_lim c, ac_win c, nI (ac_puts c), nI (ac_steps c), nI (ac_lost c), nI (ac_fai c), nI (ac_ane c), nI (ac_mel c), xr_w (ac_wk c), ac_hv c, ac_hs c, ac_op c, ac_as c, a_second, ac_th c, ac_pa c, ac_be c, ac_bo c, ac_sg c, ac_st c, a_eldest, a_youngest, a_younger, a_older, a_children, a_kind, a_value, a_sender, a_head, a_mails, a_next, a_before, a_queued, a_failedAt, a_failedHead, upd a_failedCount x 0, a_put) := xr_in aA aT aM aQ (xf_cl aF) aO
theorem xr_mlt {c : AC} {f_front f_back f_waiting : Int32} {a_second a_eldest a_youngest a_younger a_older a_children a_kind a_value a_sender a_head a_mails a_next a_before a_queued a_failedAt a_failedHead a_failedCount a_put : Nat → Int32} (aA : xa_A (ac_op c) (ac_bs c) a_second) (aT : xa_T (ac_th c) (ac_ch c) a_eldest a_youngest a_younger a_older a_children)
  (aM : xa_M (ac_ml c) a_kind a_value a_sender a_head a_mails) (aQ : xa_Q (ac_row c) f_front f_back f_waiting a_next a_before a_queued)
  (aF : xa_F (ac_fl c) a_failedAt a_failedHead a_failedCount) (aO : xa_O (ac_puts c) (ac_ou c) a_put) : xr_ (ac_mlt c) (f_front, f_back, f_waiting, ac_lim c, ac_win c, nI (ac_puts c), nI (ac_steps c), nI (ac_lost c), nI (ac_fai c), nI (ac_ane c), nI (ac_mel c + 1), xr_w (ac_wk c), ac_hv c, ac_hs c, ac_op c, ac_as c, a_second, ac_th c, ac_pa c, ac_be c, ac_bo c, ac_sg c, ac_st c, a_eldest, a_youngest, a_younger, a_older, a_children, a_kind, a_value, a_sender, a_head, a_mails, a_next, a_before, a_queued, a_failedAt, a_failedHead, a_failedCount, a_put) := xr_in aA aT aM aQ aF aO
theorem xr_fi {c : AC} {f_front f_back f_waiting : Int32} {a_second a_eldest a_youngest a_younger a_older a_children a_kind a_value a_sender a_head a_mails a_next a_before a_queued a_failedAt a_failedHead a_failedCount a_put : Nat → Int32} (aA : xa_A (ac_op c) (ac_bs c) a_second) (aT : xa_T (ac_th c) (ac_ch c) a_eldest a_youngest a_younger a_older a_children)
  (aM : xa_M (ac_ml c) a_kind a_value a_sender a_head a_mails) (aQ : xa_Q (ac_row c) f_front f_back f_waiting a_next a_before a_queued)
  (aF : xa_F (ac_fl c) a_failedAt a_failedHead a_failedCount) (aO : xa_O (ac_puts c) (ac_ou c) a_put) : xr_ (ac_fi c) (f_front, f_back, f_waiting, ac_lim c, ac_win c, nI (ac_puts c), nI (ac_steps c), nI (ac_lost c), nI (ac_fai c + 1), nI (ac_ane c), nI (ac_mel c), xr_w (ac_wk c), ac_hv c, ac_hs c, ac_op c, ac_as c, a_second, ac_th c, ac_pa c, ac_be c, ac_bo c, ac_sg c, ac_st c, a_eldest, a_youngest, a_younger, a_older, a_children, a_kind, a_value, a_sender, a_head, a_mails, a_next, a_before, a_queued, a_failedAt, a_failedHead, a_failedCount, a_put) := xr_in aA aT aM aQ aF aO
theorem yg_cl {B : Nat} {x : Nat} {a_goes : Nat → Int32} {c : AC} {s : Nat} {bt sd cm : Nat → Nat} {a_owner a_kinds a_values a_senders a_failed a_totals : Nat → Int32} (h0 : s ≤ B)
  (h1 : ya_T (ac_ch c) bt s) (h2 : ya_M (ac_ml c) a_owner cm a_kinds a_values a_senders s) (h3 : ya_Q (ac_row c) sd s) (h4 : ya_F (ac_th c) (fu_ (ac_fl c) x []) a_failed) (h5 : ya_S (ac_steps c) (ac_lost c) (ac_fai c) (ac_ane c) (ac_mel c) a_totals) : yg_ B a_goes (ac_cl c x) (lN s, ac_lim c, ac_win c, nI (ac_wk c), nI (ac_puts c), ac_op c, ac_as c, ac_bs c, ac_th c, ac_pa c, (fun j => lN (bt j)), ac_be c, ac_bo c, ac_sg c, ac_st c, (fun j => lN (sd j)), a_owner, (fun j => lN (cm j)), a_kinds, a_values, a_senders, a_failed, ac_ou c, a_totals, a_goes) :=
  yg_in h0 h1 h2 h3 h4 h5
theorem yg_mlt {B : Nat} {a_goes : Nat → Int32} {c : AC} {s : Nat} {bt sd cm : Nat → Nat} {a_owner a_kinds a_values a_senders a_failed a_totals : Nat → Int32} (h0 : s ≤ B)
  (h1 : ya_T (ac_ch c) bt s) (h2 : ya_M (ac_ml c) a_owner cm a_kinds a_values a_senders s) (h3 : ya_Q (ac_row c) sd s) (h4 : ya_F (ac_th c) (ac_fl c) a_failed) (h5 : ya_S (ac_steps c) (ac_lost c) (ac_fai c) (ac_ane c) (ac_mel c + 1) a_totals) : yg_ B a_goes (ac_mlt c) (lN s, ac_lim c, ac_win c, nI (ac_wk c), nI (ac_puts c), ac_op c, ac_as c, ac_bs c, ac_th c, ac_pa c, (fun j => lN (bt j)), ac_be c, ac_bo c, ac_sg c, ac_st c, (fun j => lN (sd j)), a_owner, (fun j => lN (cm j)), a_kinds, a_values, a_senders, a_failed, ac_ou c, a_totals, a_goes) :=
  yg_in h0 h1 h2 h3 h4 h5
theorem yg_fi {B : Nat} {a_goes : Nat → Int32} {c : AC} {s : Nat} {bt sd cm : Nat → Nat} {a_owner a_kinds a_values a_senders a_failed a_totals : Nat → Int32} (h0 : s ≤ B)
  (h1 : ya_T (ac_ch c) bt s) (h2 : ya_M (ac_ml c) a_owner cm a_kinds a_values a_senders s) (h3 : ya_Q (ac_row c) sd s) (h4 : ya_F (ac_th c) (ac_fl c) a_failed) (h5 : ya_S (ac_steps c) (ac_lost c) (ac_fai c + 1) (ac_ane c) (ac_mel c) a_totals) : yg_ B a_goes (ac_fi c) (lN s, ac_lim c, ac_win c, nI (ac_wk c), nI (ac_puts c), ac_op c, ac_as c, ac_bs c, ac_th c, ac_pa c, (fun j => lN (bt j)), ac_be c, ac_bo c, ac_sg c, ac_st c, (fun j => lN (sd j)), a_owner, (fun j => lN (cm j)), a_kinds, a_values, a_senders, a_failed, ac_ou c, a_totals, a_goes) :=
  yg_in h0 h1 h2 h3 h4 h5
/-! siblings begun anew -/
theorem xr_lfa {c : AC} {P : SX → Prop} (K : ∀ (f_front f_back f_waiting : Int32) (a_second a_eldest a_youngest a_younger a_older a_children a_kind a_value a_sender a_head a_mails a_next a_before a_queued a_failedAt a_failedHead a_failedCount a_put : Nat → Int32), xr_ c (f_front, f_back, f_waiting, ac_lim c, ac_win c, nI (ac_puts c), nI (ac_steps c), nI (ac_lost c), nI (ac_fai c), nI (ac_ane c), nI (ac_mel c), xr_w (ac_wk c), ac_hv c, ac_hs c, ac_op c, ac_as c, a_second, ac_th c, ac_pa c, ac_be c, ac_bo c, ac_sg c, ac_st c, a_eldest, a_youngest, a_younger, a_older, a_children, a_kind, a_value, a_sender, a_head, a_mails, a_next, a_before, a_queued, a_failedAt, a_failedHead, a_failedCount, a_put) → P (f_front, f_back, f_waiting, ac_lim c, ac_win c, nI (ac_puts c), nI (ac_steps c), nI (ac_lost c), nI (ac_fai c), nI (ac_ane c), nI (ac_mel c), xr_w (ac_wk c), ac_hv c, ac_hs c, ac_op c, ac_as c, a_second, ac_th c, ac_pa c, ac_be c, ac_bo c, ac_sg c, ac_st c, a_eldest, a_youngest, a_younger, a_older, a_children, a_kind, a_value, a_sender, a_head, a_mails, a_next, a_before, a_queued, a_failedAt, a_failedHead, a_failedCount, a_put)) : ∀ w, xr_ c w → P w := fun w h => xr_lf (post := P) h K
theorem xk_118 {post : SX → Prop} {p : Nat} {s5 : Int32} (p1 : p < 12) (hs : ¬ s5 = 0) : ∀ (t : List Nat) (n B : Nat) (c : AC) (s0 : List Nat) (w : SX), t.length < n → ci_A B c → ac_th c p ≠ 0 → ac_ch c p = s0 ++ t → xr_ c w → (∀ w', xr_ (t.foldl ac_bgn c) w' → post w') → xc_ (wX_fail_118 post s5 n (dl_hd t)) w := by
  intro t
  induction t with
  | nil =>
    intro n B c s0 w hn hci htp hch h K
    obtain ⟨m, rfl⟩ : ∃ m, n = m + 1 := ⟨n - 1, by simp at hn; omega⟩
    revert h
    revert w
    refine xt_el ?_
    intro f_front f_back f_waiting f_limit f_window f_puts f_steps f_lost f_failures f_anew f_melted f_working f_heldValue f_heldSender a_op a_first a_second a_there a_parent a_behaviour a_born a_strategy a_state a_eldest a_youngest a_younger a_older a_children a_kind a_value a_sender a_head a_mails a_next a_before a_queued a_failedAt a_failedHead a_failedCount a_put h
    exact br_t (by decide) (K _ h)
  | cons x t ih =>
    intro n B c s0 w hn hci htp hch h K
    obtain ⟨m, rfl⟩ : ∃ m, n = m + 1 := ⟨n - 1, by simp at hn; omega⟩
    have hm : x ∈ ac_ch c p := by rw [hch]; simp
    obtain ⟨_, x0, x1, x2, _⟩ := (hci.1.2.2.2.1.1 p x).mp hm
    have ch1 := bg_ch hci hm htp
    have th1 := bg_thp hci hm htp
    have ci1 := bg_ci (x := x) hci
    refine xr_lf (post := fun w => xc_ (wX_fail_118 post s5 (m + 1) (nI x)) w) h ?_
    intro f_front f_back f_waiting a_second a_eldest a_youngest a_younger a_older a_children a_kind a_value a_sender a_head a_mails a_next a_before a_queued a_failedAt a_failedHead a_failedCount a_put hw
    refine br_f (nI_pos (by omega)) (xg_begin hw hci x1 x2 ?_)
    rw [List.foldl_cons] at K
    rw [hch] at ch1
    revert K ch1 th1 ci1
    generalize ac_bgn c x = c1
    intro K ch1 th1 ci1
    refine xr_ela ?_
    intro f_front f_back f_waiting a_second a_eldest a_youngest a_younger a_older a_children a_kind a_value a_sender a_head a_mails a_next a_before a_queued a_failedAt a_failedHead a_failedCount a_put aA aT aM aQ aF aO
    have hy := ((aT p p1 th1).1.2.2 s0 x t ch1).1
    refine br_f hs ⟨ni_ x1, nm_r (e' := dl_hd t) (by rw [nc_ x1]; exact hy) ?_⟩
    exact ih m B c1 (s0 ++ [x]) (f_front, f_back, f_waiting, ac_lim c1, ac_win c1, nI (ac_puts c1), nI (ac_steps c1), nI (ac_lost c1), nI (ac_fai c1), nI (ac_ane c1), nI (ac_mel c1), xr_w (ac_wk c1), ac_hv c1, ac_hs c1, ac_op c1, ac_as c1, a_second, ac_th c1, ac_pa c1, ac_be c1, ac_bo c1, ac_sg c1, ac_st c1, a_eldest, a_youngest, a_younger, a_older, a_children, a_kind, a_value, a_sender, a_head, a_mails, a_next, a_before, a_queued, a_failedAt, a_failedHead, a_failedCount, a_put) (by simp at hn; omega) ci1 th1 (by rw [ch1]; simp) (xr_in aA aT aM aQ aF aO) K
theorem xk_one {post : SX → Prop} {B x : Nat} {c : AC} {w : SX} (h : xr_ c w) (hci : ci_A B c) (x1 : x < 12) (hx : ac_th c x ≠ 0) (K : ∀ w', xr_ ([x].foldl ac_bgn c) w' → post w') : xc_ (wX_fail_118 post 0 2 (nI x)) w := by
  refine xr_lf (post := fun w => xc_ (wX_fail_118 post 0 2 (nI x)) w) h ?_
  intro f_front f_back f_waiting a_second a_eldest a_youngest a_younger a_older a_children a_kind a_value a_sender a_head a_mails a_next a_before a_queued a_failedAt a_failedHead a_failedCount a_put hw
  refine br_f (nI_pos (by omega)) (xg_begin hw hci x1 hx (xt_el ?_))
  intro f_front f_back f_waiting f_limit f_window f_puts f_steps f_lost f_failures f_anew f_melted f_working f_heldValue f_heldSender a_op a_first a_second a_there a_parent a_behaviour a_born a_strategy a_state a_eldest a_youngest a_younger a_older a_children a_kind a_value a_sender a_head a_mails a_next a_before a_queued a_failedAt a_failedHead a_failedCount a_put hw'
  exact br_t rfl (br_t (by decide) (K _ hw'))
def lk_L (g child : Nat) (s0 t : List Nat) : List Nat := if g = 0 then [child] else if g = 2 then child :: t else s0 ++ child :: t
theorem xk_strat {post : SX → Prop} {B p child g m : Nat} {c : AC} {w : SX} {s0 t : List Nat} (h : xr_ c w) (hci : ci_A B c) (p1 : p < 12) (htp : ac_th c p ≠ 0) (hch : ac_ch c p = s0 ++ child :: t) (hg : ac_sg c p = nI g) (hg2 : g ≤ 2)
    (K : ∀ w', xr_ ((lk_L g child s0 t).foldl ac_bgn c) w' → post w') : xc_ (wX_fail_26 post (m + 1) (nI child) (nI p) 0) w := by
  have hm : child ∈ ac_ch c p := by rw [hch]; simp
  obtain ⟨_, x0, x1, x2, _⟩ := (hci.1.2.2.2.1.1 p child).mp hm
  refine xr_el (P := fun w => xc_ (wX_fail_26 post (m + 1) (nI child) (nI p) 0) w) h ?_
  intro f_front f_back f_waiting a_second a_eldest a_youngest a_younger a_older a_children a_kind a_value a_sender a_head a_mails a_next a_before a_queued a_failedAt a_failedHead a_failedCount a_put aA aT aM aQ aF aO
  have hw : xr_ c (f_front, f_back, f_waiting, ac_lim c, ac_win c, nI (ac_puts c), nI (ac_steps c), nI (ac_lost c), nI (ac_fai c), nI (ac_ane c), nI (ac_mel c), xr_w (ac_wk c), ac_hv c, ac_hs c, ac_op c, ac_as c, a_second, ac_th c, ac_pa c, ac_be c, ac_bo c, ac_sg c, ac_st c, a_eldest, a_youngest, a_younger, a_older, a_children, a_kind, a_value, a_sender, a_head, a_mails, a_next, a_before, a_queued, a_failedAt, a_failedHead, a_failedCount, a_put) := xr_in aA aT aM aQ aF aO
  have hgg : g = 0 ∨ g = 1 ∨ g = 2 := by omega
  refine br_t rfl ⟨ni_ p1, nm_r (e' := nI g) (by rw [nc_ p1]; exact hg) ?_⟩
  rcases hgg with e | e | e
  · subst e
    exact br_t rfl ⟨2, xk_one hw hci x1 x2 K⟩
  · subst e
    refine br_f (by decide) (br_f (by decide) ⟨ni_ p1, nm_r (e' := dl_hd (s0 ++ child :: t)) ?_ ⟨(s0 ++ child :: t).length + 1, ?_⟩⟩)
    · rw [nc_ p1, (aT p p1 htp).1.1, hch]
    · exact xk_118 (s5 := nI 1) p1 (by decide) (s0 ++ child :: t) ((s0 ++ child :: t).length + 1) B c [] (f_front, f_back, f_waiting, ac_lim c, ac_win c, nI (ac_puts c), nI (ac_steps c), nI (ac_lost c), nI (ac_fai c), nI (ac_ane c), nI (ac_mel c), xr_w (ac_wk c), ac_hv c, ac_hs c, ac_op c, ac_as c, a_second, ac_th c, ac_pa c, ac_be c, ac_bo c, ac_sg c, ac_st c, a_eldest, a_youngest, a_younger, a_older, a_children, a_kind, a_value, a_sender, a_head, a_mails, a_next, a_before, a_queued, a_failedAt, a_failedHead, a_failedCount, a_put) (by omega) hci htp (by rw [hch]; rfl) hw K
  · subst e
    exact br_f (by decide) (br_t rfl ⟨(child :: t).length + 1, xk_118 (s5 := nI 2) p1 (by decide) (child :: t) ((child :: t).length + 1) B c s0 (f_front, f_back, f_waiting, ac_lim c, ac_win c, nI (ac_puts c), nI (ac_steps c), nI (ac_lost c), nI (ac_fai c), nI (ac_ane c), nI (ac_mel c), xr_w (ac_wk c), ac_hv c, ac_hs c, ac_op c, ac_as c, a_second, ac_th c, ac_pa c, ac_be c, ac_bo c, ac_sg c, ac_st c, a_eldest, a_youngest, a_younger, a_older, a_children, a_kind, a_value, a_sender, a_head, a_mails, a_next, a_before, a_queued, a_failedAt, a_failedHead, a_failedCount, a_put) (by omega) hci htp hch hw K⟩)
theorem yk_10 {post : SY → Prop} {B B' p child g : Nat} {s0 t : List Nat} (hB : B < 2 ^ 30) (p1 : p < 12) (c1 : child < 12) (hg2 : g ≤ 2) : ∀ (d i : Nat) (c : AC) (w : SY), 0 < i → i + d = 12 → ci_A B' c → ac_th c p ≠ 0 → ac_ch c p = s0 ++ child :: t → yr_ B c w →
    (∀ w', yr_ B (((List.range' i d).filter (fun x => decide (x ∈ lk_L g child s0 t))).foldl ac_bgn c) w' → post w') → yc_ (wY_anew_10 post (nI p) (nI child) (nI g) (d + 1) (nI i)) w := by
  intro d
  induction d with
  | zero =>
    intro i c w i0 hi hci htp hch h K
    have e : i = 12 := by omega
    subst e
    revert h
    revert w
    refine yt_el ?_
    intro f_stamps f_limit f_window f_acting f_outs a_ops a_as a_bs a_there a_parent a_birth a_behaviour a_first a_strategy a_state a_stands a_owner a_came a_kinds a_values a_senders a_failed a_last a_totals a_goes h
    exact br_t (nI_le (a := 12) (b := 12) (by omega) (by omega)) (K _ h)
  | succ d ih =>
    intro i c w i0 hi hci htp hch h K
    refine yr_el (P := fun w => yc_ (wY_anew_10 post (nI p) (nI child) (nI g) (d + 1 + 1) (nI i)) w) h ?_
    intro a_goes s bt sd cm a_owner a_kinds a_values a_senders a_failed a_totals hs aT aM aQ aF aS hgw
    have i1 : i < 12 := by omega
    have ci : (nI i).toNatClampNeg = i := nI_clamp (by omega)
    have ii := ni_ i1
    have tC := hci.1.2.2.2.1
    rw [List.range'_succ, List.filter_cons] at K
    have hw : yr_ B c (lN s, ac_lim c, ac_win c, nI (ac_wk c), nI (ac_puts c), ac_op c, ac_as c, ac_bs c, ac_th c, ac_pa c, (fun j => lN (bt j)), ac_be c, ac_bo c, ac_sg c, ac_st c, (fun j => lN (sd j)), a_owner, (fun j => lN (cm j)), a_kinds, a_values, a_senders, a_failed, ac_ou c, a_totals, a_goes) := ⟨a_goes, hgw⟩
    have N : i ∉ lk_L g child s0 t → wY_anew_10 post (nI p) (nI child) (nI g) (d + 1) (nI (i + 1)) (lN s) (ac_lim c) (ac_win c) (nI (ac_wk c)) (nI (ac_puts c)) (ac_op c) (ac_as c) (ac_bs c) (ac_th c) (ac_pa c) (fun j => lN (bt j)) (ac_be c) (ac_bo c) (ac_sg c) (ac_st c) (fun j => lN (sd j)) a_owner (fun j => lN (cm j)) a_kinds a_values a_senders a_failed (ac_ou c) a_totals a_goes := by
      intro hn
      rw [if_neg (by simpa using hn)] at K
      exact ih (i + 1) c (lN s, ac_lim c, ac_win c, nI (ac_wk c), nI (ac_puts c), ac_op c, ac_as c, ac_bs c, ac_th c, ac_pa c, (fun j => lN (bt j)), ac_be c, ac_bo c, ac_sg c, ac_st c, (fun j => lN (sd j)), a_owner, (fun j => lN (cm j)), a_kinds, a_values, a_senders, a_failed, ac_ou c, a_totals, a_goes) (by omega) (by omega) hci htp hch hw K
    have N78 : i ∉ lk_L g child s0 t → wY_anew_78 post (wY_anew_10 post (nI p) (nI child) (nI g) (d + 1)) (nI p) (nI child) (nI g) (nI i) (lN s) (ac_lim c) (ac_win c) (nI (ac_wk c)) (nI (ac_puts c)) (ac_op c) (ac_as c) (ac_bs c) (ac_th c) (ac_pa c) (fun j => lN (bt j)) (ac_be c) (ac_bo c) (ac_sg c) (ac_st c) (fun j => lN (sd j)) a_owner (fun j => lN (cm j)) a_kinds a_values a_senders a_failed (ac_ou c) a_totals a_goes := by
      intro hn
      exact br_t rfl (nm_r (e' := nI (i + 1)) (nI_1 _) (N hn))
    have R74 : i ∈ ac_ch c p → i ∈ lk_L g child s0 t → wY_anew_74 post (wY_anew_10 post (nI p) (nI child) (nI g) (d + 1)) (nI p) (nI child) (nI g) (nI i) (lN s) (ac_lim c) (ac_win c) (nI (ac_wk c)) (nI (ac_puts c)) (ac_op c) (ac_as c) (ac_bs c) (ac_th c) (ac_pa c) (fun j => lN (bt j)) (ac_be c) (ac_bo c) (ac_sg c) (ac_st c) (fun j => lN (sd j)) a_owner (fun j => lN (cm j)) a_kinds a_values a_senders a_failed (ac_ou c) a_totals a_goes := by
      intro him hn
      rw [if_pos (by simpa using hn), List.foldl_cons] at K
      refine br_f (by decide) (yg_restart hw hci i1 (fun w' hw' => ?_))
      have H := ih (i + 1) (ac_bgn c i) w' (by omega) (by omega) (bg_ci hci) (bg_thp hci him htp) (by rw [bg_ch hci him htp]; exact hch) hw' K
      revert H
      revert hw'
      revert w'
      refine yt_el ?_
      intro f_stamps f_limit f_window f_acting f_outs a_ops a_as a_bs a_there a_parent a_birth a_behaviour a_first a_strategy a_state a_stands a_owner a_came a_kinds a_values a_senders a_failed a_last a_totals a_goes _ H
      exact nm_r (e' := nI (i + 1)) (nI_1 _) H
    have hsub : i ∈ lk_L g child s0 t → i ∈ ac_ch c p := by
      intro hm
      rw [hch]
      unfold lk_L at hm
      split at hm
      · simp at hm
        subst hm
        simp
      · split at hm
        · simp at hm
          simp
          rcases hm with hm | hm
          · exact Or.inr (Or.inl hm)
          · exact Or.inr (Or.inr hm)
        · exact hm
    refine br_f (nI_ge (b := 12) (by omega) (by omega)) ⟨ii, br_c (fun ht => ?_) (fun ht => ⟨ii, br_c (fun hp => ?_) (fun hp => ?_)⟩)⟩
    · rw [ci] at ht
      exact nm_r (e' := nI (i + 1)) (nI_1 _) (N (fun q => ((tC.1 p i).mp (hsub q)).2.2.2.1 ht))
    · rw [ci] at ht hp
      have him : i ∈ ac_ch c p := (tC.1 p i).mpr ⟨p1, i0, i1, ht, hp⟩
      refine br_c (fun he => ?_) (fun he => ?_)
      · have he' : i = child := (nI_eq (by omega) (by omega)).mp he
        refine R74 him ?_
        unfold lk_L
        split
        · simp [he']
        · split <;> simp [he']
      · have he' : i ≠ child := fun q => he (by rw [q])
        have hgg : g = 0 ∨ g = 1 ∨ g = 2 := by omega
        rcases hgg with e | e | e
        · subst e
          refine br_f (by decide) (br_f (by decide) (N78 ?_))
          unfold lk_L
          simp [he']
        · subst e
          refine br_t rfl (R74 him ?_)
          unfold lk_L
          rw [if_neg (by omega), if_neg (by omega), ← hch]
          exact him
        · subst e
          have hso := aT.2 p
          rw [hch] at hso
          unfold so_ok at hso
          have h2 := List.pairwise_append.mp hso
          have h3 := List.pairwise_cons.mp h2.2.1
          have hbi : bt i < 2 ^ 31 := by have := aT.1 i; omega
          have hbc : bt child < 2 ^ 31 := by have := aT.1 child; omega
          have cc : (nI child).toNatClampNeg = child := nI_clamp (by omega)
          have him' := him
          rw [hch] at him'
          have him2 : i ∈ s0 ∨ i ∈ t := by
            simp at him'
            rcases him' with q | q | q
            · exact Or.inl q
            · exact absurd q he'
            · exact Or.inr q
          refine br_f (by decide) (br_t rfl ⟨ii, ni_ c1, br_c (fun hle => ?_) (fun hle => ?_)⟩)
          · rw [ci, cc] at hle
            have hle' := (lN_le hbi hbc).mp hle
            refine N78 (fun q => ?_)
            unfold lk_L at q
            simp at q
            rcases q with q | q
            · exact he' q
            · have := h3.1 i q
              omega
          · rw [ci, cc] at hle
            have hle' : ¬ bt i ≤ bt child := fun q => hle ((lN_le hbi hbc).mpr q)
            refine R74 him ?_
            unfold lk_L
            rw [if_neg (by omega), if_pos rfl]
            rcases him2 with q | q
            · have := h2.2.2 i q child (by simp)
              omega
            · simp [q]
    · rw [ci] at hp
      exact nm_r (e' := nI (i + 1)) (nI_1 _) (N (fun q => hp ((tC.1 p i).mp (hsub q)).2.2.2.2))
theorem pm_ {c : AC} {L : List Nat} (hn : L.Nodup) (hr : ∀ x, x ∈ L → 1 ≤ x ∧ x < 12) : ((List.range' 1 11).filter (fun x => decide (x ∈ L))).foldl ac_bgn c = L.foldl ac_bgn c := by
  refine List.Perm.foldl_eq' ((List.perm_ext_iff_of_nodup (List.Pairwise.filter _ List.nodup_range') hn).mpr (fun x => ?_)) (fun x _ y _ z => bg_com z x y) c
  rw [List.mem_filter, List.mem_range'_1]
  constructor
  · rintro ⟨_, h⟩
    simpa using h
  · intro h
    have := hr x h
    exact ⟨by omega, by simpa using h⟩
theorem yk_anew {post : SY → Prop} {B B' p child g : Nat} {c : AC} {w : SY} {s0 t : List Nat} (h : yr_ B c w) (hB : B < 2 ^ 30) (hci : ci_A B' c) (p1 : p < 12) (htp : ac_th c p ≠ 0) (hch : ac_ch c p = s0 ++ child :: t) (hg : ac_sg c p = nI g) (hg2 : g ≤ 2)
    (K : ∀ w', yr_ B ((lk_L g child s0 t).foldl ac_bgn c) w' → post w') : wpY_anew post w (nI p) (nI child) := by
  have tC := hci.1.2.2.2.1
  have hm : child ∈ ac_ch c p := by rw [hch]; simp
  have x1 := ci_chlt tC hm
  have hnd := tC.2 p
  have hlt : ∀ x, x ∈ ac_ch c p → 1 ≤ x ∧ x < 12 := fun x hx => ⟨((tC.1 p x).mp hx).2.1, ((tC.1 p x).mp hx).2.2.1⟩
  rw [hch] at hnd hlt
  have hL : (lk_L g child s0 t).Nodup ∧ ∀ x, x ∈ lk_L g child s0 t → 1 ≤ x ∧ x < 12 := by
    unfold lk_L
    split
    · refine ⟨by simp, fun x hx => hlt x ?_⟩
      simp at hx
      subst hx
      simp
    · split
      · refine ⟨(List.nodup_append.mp hnd).2.1, fun x hx => hlt x ?_⟩
        exact List.mem_append.mpr (Or.inr hx)
      · exact ⟨hnd, hlt⟩
  rw [← pm_ hL.1 hL.2] at K
  refine yr_el (P := fun w => wpY_anew post w (nI p) (nI child)) h ?_
  intro a_goes s bt sd cm a_owner a_kinds a_values a_senders a_failed a_totals _ _ _ _ _ _ hgw
  exact And.intro (ni_ p1) (nm_r (e' := nI g) (by rw [nc_ p1]; exact hg) ⟨12, yk_10 hB p1 x1 hg2 11 1 c (lN s, ac_lim c, ac_win c, nI (ac_wk c), nI (ac_puts c), ac_op c, ac_as c, ac_bs c, ac_th c, ac_pa c, (fun j => lN (bt j)), ac_be c, ac_bo c, ac_sg c, ac_st c, (fun j => lN (sd j)), a_owner, (fun j => lN (cm j)), a_kinds, a_values, a_senders, a_failed, ac_ou c, a_totals, a_goes) (by omega) (by omega) hci htp hch ⟨a_goes, hgw⟩ K⟩)
theorem fo_ci {B p : Nat} : ∀ (L : List Nat) (c : AC), ci_A B c → ci_A B (L.foldl ac_bgn c) := by
  intro L
  induction L with
  | nil => intro c h; exact h
  | cons x L ih =>
    intro c h
    rw [List.foldl_cons]
    exact ih _ (bg_ci h)
theorem fo_wk : ∀ (L : List Nat) (c : AC), ac_wk (L.foldl ac_bgn c) = ac_wk c := by
  intro L
  induction L with
  | nil => intro c; rfl
  | cons x L ih =>
    intro c
    rw [List.foldl_cons, ih, bg_wk]
/-! all begin anew -/
noncomputable def ac_melt (c : AC) : AC := ac_cl (rm_ (rm_B (ac_pa c) 0) (ac_mlt c)) 0
theorem mlt_pa (c : AC) : ac_pa (ac_mlt c) = ac_pa c := rfl
theorem mlt_th (c : AC) : ac_th (ac_mlt c) = ac_th c := rfl
theorem mlt_wk (c : AC) : ac_wk (ac_mlt c) = ac_wk c := rfl
theorem cl_wk (c : AC) (p : Nat) : ac_wk (ac_cl c p) = ac_wk c := rfl
theorem me_ci {B : Nat} {c : AC} (h : ci_A B c) : ci_A B (ac_melt c) := by
  have := ac_cl_ci (p := 0) (rm_Bci (a := 0) (ac_mlt_ci h))
  rw [mlt_pa] at this
  exact this
theorem me_wk (c : AC) : ac_wk (ac_melt c) = ac_wk c := by
  unfold ac_melt
  rw [cl_wk, rm_wk, mlt_wk]
theorem xk_melt {post : SX → Prop} {B m : Nat} {child r : Int32} {c : AC} {w : SX} (h : xr_ c w) (hci : ci_A B c) (hr : ¬ r = 0) (K : ∀ w', xr_ (ac_melt c) w' → post w') : xc_ (wX_fail_26 post (m + 1) child 0 r) w := by
  refine xr_el (P := fun w => xc_ (wX_fail_26 post (m + 1) child 0 r) w) h ?_
  intro f_front f_back f_waiting a_second a_eldest a_youngest a_younger a_older a_children a_kind a_value a_sender a_head a_mails a_next a_before a_queued a_failedAt a_failedHead a_failedCount a_put aA aT aM aQ aF aO
  have hw := xr_mlt aA aT aM aQ aF aO
  refine br_f hr (br_t rfl (nm_r (e' := nI (ac_mel c + 1)) (nI_1 _) ?_))
  have ht0 : ac_th (ac_mlt c) 0 ≠ 0 := by
    rw [mlt_th]
    exact hci.1.1
  refine xh_childless (a := 0) hw (ac_mlt_ci hci) (by omega) ht0 ?_
  rw [mlt_pa]
  unfold ac_melt at K
  revert K
  generalize rm_ (rm_B (ac_pa c) 0) (ac_mlt c) = c1
  intro K
  refine xr_ela ?_
  intro f_front f_back f_waiting a_second a_eldest a_youngest a_younger a_older a_children a_kind a_value a_sender a_head a_mails a_next a_before a_queued a_failedAt a_failedHead a_failedCount a_put aA aT aM aQ aF aO
  exact nm_r (e' := upd a_failedCount 0 0) (by rw [nb_0]) (K _ (xr_cl aA aT aM aQ aF aO))
theorem yk_melt {post : SY → Prop} {B B' : Nat} {c : AC} {w : SY} (h : yr_ B c w) (hci : ci_A B' c) (K : ∀ w', yr_ B (ac_melt c) w' → post w') : wpY_melt post w := by
  refine yr_el (P := fun w => wpY_melt post w) h ?_
  intro a_goes s bt sd cm a_owner a_kinds a_values a_senders a_failed a_totals hs aT aM aQ aF aS _
  have aS' : ya_S (ac_steps c) (ac_lost c) (ac_fai c) (ac_ane c) (ac_mel c + 1) (upd a_totals 4 (a_totals 4 + 1)) := by
    obtain ⟨s0, s1, s2, s3, s4⟩ := aS
    refine ⟨?_, ?_, ?_, ?_, ?_⟩
    · rw [pk_un (by omega)]; exact s0
    · rw [pk_un (by omega)]; exact s1
    · rw [pk_un (by omega)]; exact s2
    · rw [pk_un (by omega)]; exact s3
    · rw [pk_us, s4, nI_1]
  have hw := yg_mlt (a_goes := a_goes) hs aT aM aQ aF aS'
  refine nm_e ?_
  refine ye_end (top := 0) (D := rm_B (ac_pa c) 0) hw (ac_mlt_ci hci) (by omega) (fun y y0 y1 hy => ?_) ?_
  · rw [if_neg (by omega), mlt_pa]
    rfl
  · unfold ac_melt at K
    revert K
    generalize rm_ (rm_B (ac_pa c) 0) (ac_mlt c) = c1
    intro K
    refine yr_ela ?_
    intro a_goes s bt sd cm a_owner a_kinds a_values a_senders a_failed a_totals hs aT aM aQ aF aS _
    refine yf_forget (p := 0) (by omega) (fun fa g1 g2 => ?_)
    exact K _ ⟨a_goes, yg_cl hs aT aM aQ (yf_cl aF g1 g2) aS⟩
end
section
/-! a failure goes up -/
def ac_n2 (c : AC) (p : Nat) : AC := ac_note (ac_fi c) p
theorem fi_th (c : AC) : ac_th (ac_fi c) = ac_th c := rfl
theorem fi_lim (c : AC) : ac_lim (ac_fi c) = ac_lim c := rfl
theorem fi_win (c : AC) : ac_win (ac_fi c) = ac_win c := rfl
theorem fi_steps (c : AC) : ac_steps (ac_fi c) = ac_steps c := rfl
theorem fi_fl (c : AC) : ac_fl (ac_fi c) = ac_fl c := rfl
theorem n2_th (c : AC) (p : Nat) : ac_th (ac_n2 c p) = ac_th c := rfl
theorem n2_pa (c : AC) (p : Nat) : ac_pa (ac_n2 c p) = ac_pa c := rfl
theorem n2_ch (c : AC) (p : Nat) : ac_ch (ac_n2 c p) = ac_ch c := rfl
theorem n2_lim (c : AC) (p : Nat) : ac_lim (ac_n2 c p) = ac_lim c := rfl
theorem n2_win (c : AC) (p : Nat) : ac_win (ac_n2 c p) = ac_win c := rfl
theorem n2_wk (c : AC) (p : Nat) : ac_wk (ac_n2 c p) = ac_wk c := rfl
theorem n2_ci {B p : Nat} {c : AC} (h : ci_A B c) : ci_A B (ac_n2 c p) := ac_note_ci (ac_fi_ci h)
def ac_tm (L W : Nat) (c : AC) (p : Nat) : Int32 := tm_ L W (ac_steps c) ((ac_steps c :: ac_fl c p).take 4)
theorem yf_pre {post : SY → Prop} {B L W n child p : Nat} {c : AC} {w : SY} (h : yr_ B c w) (hci : ci_A B c) (hB : B < 2 ^ 29) (x1 : child < 12) (hp : ac_pa c child = nI p) (p1 : p < 12) (htp : ac_th c p ≠ 0) (hL : ac_lim c = nI L) (hL3 : L ≤ 3) (hW : ac_win c = nI W) (hW1 : W ≤ 100)
    (K : ∀ w', yr_ B (ac_n2 c p) w' → ((ac_tm L W c p = 0 → yc_ (wY_fails_48 post (wY_fails_4 post n) (nI child) (nI p) (ac_tm L W c p)) w') ∧ (¬ ac_tm L W c p = 0 → ((nI p ≤ 0 → yc_ (wY_fails_48 post (wY_fails_4 post n) (nI child) (nI p) (ac_tm L W c p)) w') ∧ (¬ nI p ≤ 0 → yc_ (wY_fails_49 post (wY_fails_4 post n) (nI child) (nI p) (ac_tm L W c p) 1) w'))))) :
    yc_ (wY_fails_4 post (n + 1) (nI child) 1) w := by
  refine yr_el (P := fun w => yc_ (wY_fails_4 post (n + 1) (nI child) 1) w) h ?_
  intro a_goes s bt sd cm a_owner a_kinds a_values a_senders a_failed a_totals hs aT aM aQ aF aS _
  have aS' : ya_S (ac_steps c) (ac_lost c) (ac_fai c + 1) (ac_ane c) (ac_mel c) (upd a_totals 2 (a_totals 2 + 1)) := by
    obtain ⟨s0, s1, s2, s3, s4⟩ := aS
    refine ⟨?_, ?_, ?_, ?_, ?_⟩
    · rw [pk_un (by omega)]; exact s0
    · rw [pk_un (by omega)]; exact s1
    · rw [pk_us, s2, nI_1]
    · rw [pk_un (by omega)]; exact s3
    · rw [pk_un (by omega)]; exact s4
  have hg := yg_fi (a_goes := a_goes) hs aT aM aQ aF aS'
  refine br_f (by decide) (nm_e ⟨ni_ x1, nm_r (e' := nI p) (by rw [nc_ x1]; exact hp) ?_⟩)
  refine yn_note (L := L) (W := W) hg (ac_fi_ci hci) hB p1 (by rw [fi_th]; exact htp) (by rw [fi_lim]; exact hL) hL3 (by rw [fi_win]; exact hW) hW1 ?_
  rw [fi_steps, fi_fl]
  have K' : ∀ w', yg_ B a_goes (ac_note (ac_fi c) p) w' → _ := fun w' hw' => K w' ⟨a_goes, hw'⟩
  unfold ac_tm at K'
  revert K'
  generalize tm_ L W (ac_steps c) ((ac_steps c :: ac_fl c p).take 4) = r
  intro K'
  refine yt_el ?_
  intro f_stamps f_limit f_window f_acting f_outs a_ops a_as a_bs a_there a_parent a_birth a_behaviour a_first a_strategy a_state a_stands a_owner a_came a_kinds a_values a_senders a_failed a_last a_totals a_goes hw'
  exact K' _ hw'
theorem lf_go {B L W M : Nat} {rk : Nat → Nat} (hB : B < 2 ^ 29) (hL3 : L ≤ 3) (hW1 : W ≤ 100) : ∀ (n : Nat) (c : AC) (child p : Nat), ci_A B c → ac_lim c = nI L → ac_win c = nI W → ci_K (ac_th c) (ac_pa c) rk M → 0 < child → child < 12 → ac_th c child ≠ 0 → ac_pa c child = nI p → p < 12 → ac_th c p ≠ 0 → rk child ≤ n →
    ∃ c' : AC, ci_A B c' ∧ ac_wk c' = ac_wk c ∧ (∀ (w : SX) (post : SX → Prop), xr_ (ac_n2 c p) w → (∀ w', xr_ c' w' → post w') → xc_ (wX_fail_26 post n (nI child) (nI p) (ac_tm L W c p)) w) ∧
      (∀ (w : SY) (post : SY → Prop), yr_ B c w → (∀ w', yr_ B c' w' → post w') → yc_ (wY_fails_4 post (n + 1) (nI child) 1) w) := by
  intro n
  induction n with
  | zero =>
    intro c child p hci hL hW hK x0 x1 hx hp p1 htp hr
    have := hK.2 child p x0 x1 hx hp p1
    omega
  | succ n ih =>
    intro c child p hci hL hW hK x0 x1 hx hp p1 htp hr
    have hrk := hK.2 child p x0 x1 hx hp p1
    have ci2 := n2_ci (p := p) hci
    have hmem : child ∈ ac_ch c p := (hci.1.2.2.2.1.1 p child).mpr ⟨p1, x0, x1, hx, hp⟩
    by_cases hr0 : ac_tm L W c p = 0
    · obtain ⟨s0, t, hs⟩ := List.append_of_mem hmem
      have hs2 : ac_ch (ac_n2 c p) p = s0 ++ child :: t := by rw [n2_ch]; exact hs
      have htp2 : ac_th (ac_n2 c p) p ≠ 0 := by rw [n2_th]; exact htp
      obtain ⟨g, hg2, hg⟩ := (ci2.2.1 p p1 htp2).2.2
      refine ⟨(lk_L g child s0 t).foldl ac_bgn (ac_n2 c p), fo_ci (p := p) _ _ ci2, by rw [fo_wk, n2_wk], fun w post hw K => ?_, fun w post hw K => ?_⟩
      · rw [hr0]
        exact xk_strat hw ci2 p1 htp2 hs2 hg hg2 K
      · refine yf_pre hw hci hB x1 hp p1 htp hL hL3 hW hW1 (fun w' hw' => br_t hr0 ?_)
        have H : wpY_anew (fun w'' => yc_ (wY_fails_4 post (n + 1) (nI child) 0) w'') w' (nI p) (nI child) := by
          refine yk_anew hw' (by omega) ci2 p1 htp2 hs2 hg hg2 (fun w2 hw2 => ?_)
          have hp2 := K w2 hw2
          revert hp2
          revert w2
          refine yt_el ?_
          intro f_stamps f_limit f_window f_acting f_outs a_ops a_as a_bs a_there a_parent a_birth a_behaviour a_first a_strategy a_state a_stands a_owner a_came a_kinds a_values a_senders a_failed a_last a_totals a_goes _ hp2
          exact br_t rfl hp2
        rw [hr0]
        revert H
        revert w'
        refine yt_el ?_
        intro f_stamps f_limit f_window f_acting f_outs a_ops a_as a_bs a_there a_parent a_birth a_behaviour a_first a_strategy a_state a_stands a_owner a_came a_kinds a_values a_senders a_failed a_last a_totals a_goes _ H
        exact br_t rfl (br_t rfl H)
    · by_cases hp0 : p = 0
      · subst hp0
        refine ⟨ac_melt (ac_n2 c 0), me_ci ci2, by rw [me_wk, n2_wk], fun w post hw K => ?_, fun w post hw K => ?_⟩
        · exact xk_melt hw ci2 hr0 K
        · refine yf_pre hw hci hB x1 hp p1 htp hL hL3 hW hW1 (fun w' hw' => br_f hr0 (br_t (Int32.le_refl 0) ?_))
          have H : wpY_melt (fun w'' => yc_ (wY_fails_4 post (n + 1) (nI child) 0) w'') w' := by
            refine yk_melt hw' ci2 (fun w2 hw2 => ?_)
            have hp2 := K w2 hw2
            revert hp2
            revert w2
            refine yt_el ?_
            intro f_stamps f_limit f_window f_acting f_outs a_ops a_as a_bs a_there a_parent a_birth a_behaviour a_first a_strategy a_state a_stands a_owner a_came a_kinds a_values a_senders a_failed a_last a_totals a_goes _ hp2
            exact br_t rfl hp2
          revert H
          revert w'
          refine yt_el ?_
          intro f_stamps f_limit f_window f_acting f_outs a_ops a_as a_bs a_there a_parent a_birth a_behaviour a_first a_strategy a_state a_stands a_owner a_came a_kinds a_values a_senders a_failed a_last a_totals a_goes _ H
          exact br_t rfl (br_f hr0 H)
      · obtain ⟨p', p1', hp', htp'⟩ := hci.1.2.2.1 p (by omega) p1 htp
        obtain ⟨c', hc1, hc2, hcX, hcY⟩ := ih (ac_n2 c p) p p' ci2 (by rw [n2_lim]; exact hL) (by rw [n2_win]; exact hW) (by rw [n2_th, n2_pa]; exact hK) (by omega) p1 (by rw [n2_th]; exact htp) (by rw [n2_pa]; exact hp') p1' (by rw [n2_th]; exact htp') (by omega)
        refine ⟨c', hc1, by rw [hc2, n2_wk], fun w post hw K => ?_, fun w post hw K => ?_⟩
        · have hl2 : ac_lim (ac_n2 c p) = nI L := by rw [n2_lim]; exact hL
          have hw2 : ac_win (ac_n2 c p) = nI W := by rw [n2_win]; exact hW
          have hp2 : ac_pa (ac_n2 c p) p = nI p' := by rw [n2_pa]; exact hp'
          generalize ac_tm L W c p = r at hr0
          revert hcX hcY ci2 hw hl2 hw2 hp2
          generalize ac_n2 c p = c2
          intro ci2 hcX hcY hw hl2 hw2 hp2
          refine xr_el (P := fun w => xc_ (wX_fail_26 post (n + 1) (nI child) (nI p) r) w) hw ?_
          intro f_front f_back f_waiting a_second a_eldest a_youngest a_younger a_older a_children a_kind a_value a_sender a_head a_mails a_next a_before a_queued a_failedAt a_failedHead a_failedCount a_put aA aT aM aQ aF aO
          refine br_f hr0 (br_f (nI_ne0 (by omega) (by omega)) ⟨ni_ p1, nm_r (e' := nI p') (by rw [nc_ p1]; exact hp2) (nm_r (e' := nI (ac_fai c2 + 1)) (nI_1 _) ?_)⟩)
          refine xf_tooMany (L := L) (W := W) (xr_fi aA aT aM aQ aF aO) (ac_fi_ci ci2) hB p1' (by rw [fi_lim]; exact hl2) hL3 (by rw [fi_win]; exact hw2) hW1 ?_
          rw [fi_steps, fi_fl]
          have HX : ∀ w', xr_ (ac_note (ac_fi c2) p') w' → _ := fun w' hw' => hcX w' post hw' K
          unfold ac_tm at HX
          revert HX
          generalize tm_ L W (ac_steps c2) ((ac_steps c2 :: ac_fl c2 p').take 4) = r2
          intro HX
          refine xt_el ?_
          intro f_front f_back f_waiting f_limit f_window f_puts f_steps f_lost f_failures f_anew f_melted f_working f_heldValue f_heldSender a_op a_first a_second a_there a_parent a_behaviour a_born a_strategy a_state a_eldest a_youngest a_younger a_older a_children a_kind a_value a_sender a_head a_mails a_next a_before a_queued a_failedAt a_failedHead a_failedCount a_put hw'
          exact HX _ hw'
        · refine yf_pre hw hci hB x1 hp p1 htp hL hL3 hW hW1 (fun w' hw' => br_f hr0 (br_f (nI_nle (by omega) (by omega)) ?_))
          have H := hcY w' post hw' K
          revert H
          revert hw'
          revert w'
          refine yt_el ?_
          intro f_stamps f_limit f_window f_acting f_outs a_ops a_as a_bs a_there a_parent a_birth a_behaviour a_first a_strategy a_state a_stands a_owner a_came a_kinds a_values a_senders a_failed a_last a_totals a_goes _ H
          exact br_f (by decide) H
theorem lf_fail {B x : Nat} {c : AC} (hci : ci_A B c) (hB : B < 2 ^ 29) (x0 : 0 < x) (x1 : x < 12) (hx : ac_th c x ≠ 0) : ∃ c' : AC, ci_A B c' ∧ ac_wk c' = ac_wk c ∧
    (∀ (w : SX) (post : SX → Prop), xr_ c w → (∀ w', xr_ c' w' → post w') → wpX_fail post w (nI x)) ∧ (∀ (w : SY) (post : SY → Prop), yr_ B c w → (∀ w', yr_ B c' w' → post w') → wpY_fails post w (nI x)) := by
  have hci' := hci
  obtain ⟨⟨t0, t1, tP, tC, rk, M, tK⟩, hV, hM, hQ, hF, hR, ⟨L, hL3, hL⟩, ⟨W, hW0, hW1, hW⟩, hB3⟩ := hci
  obtain ⟨p, p1, hp, htp⟩ := tP x x0 x1 hx
  obtain ⟨c', hc1, hc2, hcX, hcY⟩ := lf_go hB hL3 hW1 (rk x) c x p hci' hL hW tK x0 x1 hx hp p1 htp (Nat.le_refl _)
  refine ⟨c', hc1, hc2, fun w post hw K => ?_, fun w post hw K => ?_⟩
  · refine xr_el (P := fun w => wpX_fail post w (nI x)) hw ?_
    intro f_front f_back f_waiting a_second a_eldest a_youngest a_younger a_older a_children a_kind a_value a_sender a_head a_mails a_next a_before a_queued a_failedAt a_failedHead a_failedCount a_put aA aT aM aQ aF aO
    refine And.intro (ni_ x1) (nm_r (e' := nI p) (by rw [nc_ x1]; exact hp) (nm_r (e' := nI (ac_fai c + 1)) (nI_1 _) ?_))
    refine xf_tooMany (L := L) (W := W) (xr_fi aA aT aM aQ aF aO) (ac_fi_ci hci') hB p1 (by rw [fi_lim]; exact hL) hL3 (by rw [fi_win]; exact hW) hW1 ?_
    rw [fi_steps, fi_fl]
    have HX : ∀ w', xr_ (ac_note (ac_fi c) p) w' → _ := fun w' hw' => hcX w' post hw' K
    unfold ac_tm at HX
    revert HX
    generalize tm_ L W (ac_steps c) ((ac_steps c :: ac_fl c p).take 4) = r2
    intro HX
    refine xt_el ?_
    intro f_front f_back f_waiting f_limit f_window f_puts f_steps f_lost f_failures f_anew f_melted f_working f_heldValue f_heldSender a_op a_first a_second a_there a_parent a_behaviour a_born a_strategy a_state a_eldest a_youngest a_younger a_older a_children a_kind a_value a_sender a_head a_mails a_next a_before a_queued a_failedAt a_failedHead a_failedCount a_put hw'
    exact ⟨rk x, HX _ hw'⟩
  · have H := hcY w post hw K
    revert H
    revert hw
    revert w
    refine yt_el ?_
    intro f_stamps f_limit f_window f_acting f_outs a_ops a_as a_bs a_there a_parent a_birth a_behaviour a_first a_strategy a_state a_stands a_owner a_came a_kinds a_values a_senders a_failed a_last a_totals a_goes _ H
    exact ⟨rk x + 1, H⟩
end
section
/-! messages told by an actor at work -/
def fr_ (c c' : AC) (x : Nat) : Prop := ac_th c' x ≠ 0 ∧ ac_wk c' = ac_wk c ∧ ac_hv c' = ac_hv c ∧ ac_hs c' = ac_hs c
def ac_po (x k : Nat) (c : AC) (to : Nat) : AC := ac_post c to (nI k) (ac_st c x) (nI x)
theorem po_th {x k to : Nat} {c : AC} : ac_th (ac_po x k c to) = ac_th c := ac_post_fr.1
theorem po_ch {x k to : Nat} {c : AC} : ac_ch (ac_po x k c to) = ac_ch c := ac_post_fr.2.2.1
theorem po_fr {x k to : Nat} {c : AC} (hx : ac_th c x ≠ 0) : fr_ c (ac_po x k c to) x := ⟨by rw [po_th]; exact hx, ac_post_fr.2.2.2.2.1, ac_post_fr.2.2.2.2.2.1, ac_post_fr.2.2.2.2.2.2⟩
theorem fr_tr {c c1 c2 : AC} {x : Nat} (h1 : fr_ c c1 x) (h2 : fr_ c1 c2 x) : fr_ c c2 x := ⟨h2.1, h2.2.1.trans h1.2.1, h2.2.2.1.trans h1.2.2.1, h2.2.2.2.trans h1.2.2.2⟩
theorem xr_los {c : AC} {f_front f_back f_waiting : Int32} {a_second a_eldest a_youngest a_younger a_older a_children a_kind a_value a_sender a_head a_mails a_next a_before a_queued a_failedAt a_failedHead a_failedCount a_put : Nat → Int32} (aA : xa_A (ac_op c) (ac_bs c) a_second) (aT : xa_T (ac_th c) (ac_ch c) a_eldest a_youngest a_younger a_older a_children)
  (aM : xa_M (ac_ml c) a_kind a_value a_sender a_head a_mails) (aQ : xa_Q (ac_row c) f_front f_back f_waiting a_next a_before a_queued)
  (aF : xa_F (ac_fl c) a_failedAt a_failedHead a_failedCount) (aO : xa_O (ac_puts c) (ac_ou c) a_put) : xr_ (ac_los c) (f_front, f_back, f_waiting, ac_lim c, ac_win c, nI (ac_puts c), nI (ac_steps c), nI (ac_lost c + 1), nI (ac_fai c), nI (ac_ane c), nI (ac_mel c), xr_w (ac_wk c), ac_hv c, ac_hs c, ac_op c, ac_as c, a_second, ac_th c, ac_pa c, ac_be c, ac_bo c, ac_sg c, ac_st c, a_eldest, a_youngest, a_younger, a_older, a_children, a_kind, a_value, a_sender, a_head, a_mails, a_next, a_before, a_queued, a_failedAt, a_failedHead, a_failedCount, a_put) := xr_in aA aT aM aQ aF aO
theorem yg_los {B : Nat} {a_goes : Nat → Int32} {c : AC} {s : Nat} {bt sd cm : Nat → Nat} {a_owner a_kinds a_values a_senders a_failed a_totals : Nat → Int32} (h0 : s ≤ B)
  (h1 : ya_T (ac_ch c) bt s) (h2 : ya_M (ac_ml c) a_owner cm a_kinds a_values a_senders s) (h3 : ya_Q (ac_row c) sd s) (h4 : ya_F (ac_th c) (ac_fl c) a_failed) (h5 : ya_S (ac_steps c) (ac_lost c + 1) (ac_fai c) (ac_ane c) (ac_mel c) a_totals) : yg_ B a_goes (ac_los c) (lN s, ac_lim c, ac_win c, nI (ac_wk c), nI (ac_puts c), ac_op c, ac_as c, ac_bs c, ac_th c, ac_pa c, (fun j => lN (bt j)), ac_be c, ac_bo c, ac_sg c, ac_st c, (fun j => lN (sd j)), a_owner, (fun j => lN (cm j)), a_kinds, a_values, a_senders, a_failed, ac_ou c, a_totals, a_goes) :=
  yg_in h0 h1 h2 h3 h4 h5
theorem fr_los {c : AC} {x : Nat} (hx : ac_th c x ≠ 0) : fr_ c (ac_los c) x := ⟨hx, rfl, rfl, rfl⟩
theorem fr_show {c : AC} {x : Nat} {v : Int32} (hx : ac_th c x ≠ 0) : fr_ c (ac_show c v) x := ⟨hx, rfl, rfl, rfl⟩
/-! one target -/
def sn_ (c : AC) (x k : Nat) (tgt : Int32) (c' : AC) : Prop :=
  (tgt = 0 ∧ c' = ac_show c (ac_st c x)) ∨ (tgt = -1 ∧ c' = ac_los c) ∨ (∃ to, 0 < to ∧ to < 12 ∧ ac_th c to ≠ 0 ∧ tgt = nI to ∧ c' = ac_po x k c to)
theorem sn_ci {B x k : Nat} {tgt : Int32} {c c' : AC} (h : sn_ c x k tgt c') (hci : ci_A B c) (hk : k ≤ 3) (x1 : x < 12) (hx : ac_th c x ≠ 0) : ci_A (B + 2) c' ∧ fr_ c c' x := by
  rcases h with ⟨_, e⟩ | ⟨_, e⟩ | ⟨to, o0, o1, ht, _, e⟩
  · rw [e]
    exact ⟨ci_up (ac_show_ci hci) (by omega), fr_show hx⟩
  · rw [e]
    exact ⟨ci_up (ac_los_ci hci) (by omega), fr_los hx⟩
  · rw [e]
    exact ⟨ci_up (ac_post_ci hci o0 o1 ht hk x1) (by omega), po_fr hx⟩
theorem xs_snd {B x k : Nat} {tgt : Int32} {c c' : AC} {w : SX} {post : SX → Prop} (hs : sn_ c x k tgt c') (h : xr_ c w) (hci : ci_A B c) (hB : B < 2 ^ 29) (hk : k ≤ 3) (x1 : x < 12) (K : ∀ w', xr_ c' w' → post w') : xc_ (wX_announce_124 post (nI x) (nI k) tgt) w := by
  refine xr_el (P := fun w => xc_ (wX_announce_124 post (nI x) (nI k) tgt) w) h ?_
  intro f_front f_back f_waiting a_second a_eldest a_youngest a_younger a_older a_children a_kind a_value a_sender a_head a_mails a_next a_before a_queued a_failedAt a_failedHead a_failedCount a_put aA aT aM aQ aF aO
  have hw : xr_ c (f_front, f_back, f_waiting, ac_lim c, ac_win c, nI (ac_puts c), nI (ac_steps c), nI (ac_lost c), nI (ac_fai c), nI (ac_ane c), nI (ac_mel c), xr_w (ac_wk c), ac_hv c, ac_hs c, ac_op c, ac_as c, a_second, ac_th c, ac_pa c, ac_be c, ac_bo c, ac_sg c, ac_st c, a_eldest, a_youngest, a_younger, a_older, a_children, a_kind, a_value, a_sender, a_head, a_mails, a_next, a_before, a_queued, a_failedAt, a_failedHead, a_failedCount, a_put) := xr_in aA aT aM aQ aF aO
  have hc := nc_ x1
  show wX_announce_124 post (nI x) (nI k) tgt f_front f_back f_waiting (ac_lim c) (ac_win c) (nI (ac_puts c)) (nI (ac_steps c)) (nI (ac_lost c)) (nI (ac_fai c)) (nI (ac_ane c)) (nI (ac_mel c)) (xr_w (ac_wk c)) (ac_hv c) (ac_hs c) (ac_op c) (ac_as c) a_second (ac_th c) (ac_pa c) (ac_be c) (ac_bo c) (ac_sg c) (ac_st c) a_eldest a_youngest a_younger a_older a_children a_kind a_value a_sender a_head a_mails a_next a_before a_queued a_failedAt a_failedHead a_failedCount a_put
  unfold wX_announce_124 wpX_send
  rcases hs with ⟨e0, e⟩ | ⟨e0, e⟩ | ⟨to, o0, o1, ht, e0, e⟩
  · subst e0 e
    refine br_t rfl ⟨ni_ x1, ?_⟩
    rw [hc]
    refine xs_show hw hci (by omega) (fun w' hw' => ?_)
    have hp := K w' hw'
    revert hp
    revert hw'
    revert w'
    refine xt_el ?_
    intro f_front f_back f_waiting f_limit f_window f_puts f_steps f_lost f_failures f_anew f_melted f_working f_heldValue f_heldSender a_op a_first a_second a_there a_parent a_behaviour a_born a_strategy a_state a_eldest a_youngest a_younger a_older a_children a_kind a_value a_sender a_head a_mails a_next a_before a_queued a_failedAt a_failedHead a_failedCount a_put _ hp
    exact hp
  · subst e0 e
    refine br_f (by decide) (br_f (by decide) (nm_r (e' := nI (ac_lost c + 1)) (nI_1 _) ?_))
    exact K _ (xr_los aA aT aM aQ aF aO)
  · subst e0 e
    refine br_f (nI_ne0 o0 (by omega)) (br_t (nI_pos' (by omega)) ⟨ni_ x1, ?_⟩)
    rw [hc]
    refine xp_post hw hci o0 o1 hk x1 (fun w' hw' => ?_)
    have hp := K w' hw'
    revert hp
    revert hw'
    revert w'
    refine xt_el ?_
    intro f_front f_back f_waiting f_limit f_window f_puts f_steps f_lost f_failures f_anew f_melted f_working f_heldValue f_heldSender a_op a_first a_second a_there a_parent a_behaviour a_born a_strategy a_state a_eldest a_youngest a_younger a_older a_children a_kind a_value a_sender a_head a_mails a_next a_before a_queued a_failedAt a_failedHead a_failedCount a_put _ hp
    exact hp
theorem ys_171 {B : Nat} {c : AC} {w : SY} {post : SY → Prop} (h : yr_ B c w) (K : ∀ w', yr_ B (ac_los c) w' → post w') : yc_ (wY_say_171 post) w := by
  refine yr_el (P := fun w => yc_ (wY_say_171 post) w) h ?_
  intro a_goes s bt sd cm a_owner a_kinds a_values a_senders a_failed a_totals hs aT aM aQ aF aS _
  have aS' : ya_S (ac_steps c) (ac_lost c + 1) (ac_fai c) (ac_ane c) (ac_mel c) (upd a_totals 1 (a_totals 1 + 1)) := by
    obtain ⟨s0, s1, s2, s3, s4⟩ := aS
    refine ⟨?_, ?_, ?_, ?_, ?_⟩
    · rw [pk_un (by omega)]; exact s0
    · rw [pk_us, s1, nI_1]
    · rw [pk_un (by omega)]; exact s2
    · rw [pk_un (by omega)]; exact s3
    · rw [pk_un (by omega)]; exact s4
  exact nm_e (K _ ⟨a_goes, yg_los hs aT aM aQ aF aS'⟩)
theorem ys_136 {B x k q : Nat} {c c' : AC} {w : SY} {post : SY → Prop} (h : yr_ B c w) (hci : ci_A B c) (hB : B < 2 ^ 29) (x1 : x < 12) (q1 : q < 12)
    (hp : 0 < q → ac_th c q ≠ 0 → c' = ac_po x k c q) (hn : ¬ (0 < q ∧ ac_th c q ≠ 0) → c' = ac_los c) (K : ∀ w', yr_ (B + 2) c' w' → post w') : yc_ (wY_say_136 post (nI x) (nI k) (nI q)) w := by
  have H : ¬ (0 < q ∧ ac_th c q ≠ 0) → yc_ (wY_say_171 post) w := by
    intro hh
    rw [hn hh] at K
    exact ys_171 h (fun w' hw' => K w' (yr_up hw' (by omega)))
  revert H
  refine yr_el (P := fun w => (¬ (0 < q ∧ ac_th c q ≠ 0) → yc_ (wY_say_171 post) w) → yc_ (wY_say_136 post (nI x) (nI k) (nI q)) w) h ?_
  intro a_goes s bt sd cm a_owner a_kinds a_values a_senders a_failed a_totals hs aT aM aQ aF aS hg H
  refine br_c (fun h0 => ?_) (fun h0 => ⟨ni_ q1, br_c (fun ht => ?_) (fun ht => ⟨ni_ x1, ?_⟩)⟩)
  · refine H (fun hh => ?_)
    exact nI_nle hh.1 (by omega) h0
  · rw [nc_ q1] at ht
    exact H (fun hh => hh.2 ht)
  · rw [nc_ q1] at ht
    have q0 : 0 < q := by
      refine Nat.pos_of_ne_zero (fun e => h0 ?_)
      subst e
      exact Int32.le_refl 0
    rw [hp q0 ht] at K
    rw [nc_ x1]
    refine yd_deliver hg hci (by omega) q0 q1 (fun w' hw' => ?_)
    have hp := K w' ⟨a_goes, hw'⟩
    revert hp
    revert hw'
    revert w'
    refine yt_el ?_
    intro f_stamps f_limit f_window f_acting f_outs a_ops a_as a_bs a_there a_parent a_birth a_behaviour a_first a_strategy a_state a_stands a_owner a_came a_kinds a_values a_senders a_failed a_last a_totals a_goes _ hp
    exact hp
/-! all children -/
theorem fo_po_ci {B x k : Nat} (hk : k ≤ 3) (x1 : x < 12) : ∀ (t : List Nat) (c : AC), ci_A B c → ac_th c x ≠ 0 → (∀ y, y ∈ t → y ∈ ac_ch c x) → ci_A B (t.foldl (ac_po x k) c) ∧ fr_ c (t.foldl (ac_po x k) c) x := by
  intro t
  induction t with
  | nil => intro c h hx _; exact ⟨h, hx, rfl, rfl, rfl⟩
  | cons y t ih =>
    intro c h hx hs
    obtain ⟨_, y0, y1, y2, _⟩ := (h.1.2.2.2.1.1 x y).mp (hs y (by simp))
    rw [List.foldl_cons]
    have h1 := ih (ac_po x k c y) (ac_post_ci h y0 y1 y2 hk x1) (by rw [po_th]; exact hx) (fun z hz => by rw [po_ch]; exact hs z (by simp [hz]))
    exact ⟨h1.1, fr_tr (po_fr hx) h1.2⟩
theorem xs_13 {post : SX → Prop} {x k : Nat} (hk : k ≤ 3) (x1 : x < 12) : ∀ (t : List Nat) (n B : Nat) (c : AC) (s0 : List Nat) (w : SX), t.length < n → ci_A B c → ac_th c x ≠ 0 → ac_ch c x = s0 ++ t → xr_ c w → (∀ w', xr_ (t.foldl (ac_po x k) c) w' → post w') → xc_ (wX_announce_13 post (nI x) (nI k) n (dl_hd t)) w := by
  intro t
  induction t with
  | nil =>
    intro n B c s0 w hn hci htx hch h K
    obtain ⟨m, rfl⟩ : ∃ m, n = m + 1 := ⟨n - 1, by simp at hn; omega⟩
    revert h
    revert w
    refine xt_el ?_
    intro f_front f_back f_waiting f_limit f_window f_puts f_steps f_lost f_failures f_anew f_melted f_working f_heldValue f_heldSender a_op a_first a_second a_there a_parent a_behaviour a_born a_strategy a_state a_eldest a_youngest a_younger a_older a_children a_kind a_value a_sender a_head a_mails a_next a_before a_queued a_failedAt a_failedHead a_failedCount a_put h
    exact br_t (by decide) (K _ h)
  | cons y t ih =>
    intro n B c s0 w hn hci htx hch h K
    obtain ⟨m, rfl⟩ : ∃ m, n = m + 1 := ⟨n - 1, by simp at hn; omega⟩
    have hm : y ∈ ac_ch c x := by rw [hch]; simp
    obtain ⟨_, y0, y1, y2, _⟩ := (hci.1.2.2.2.1.1 x y).mp hm
    have ch1 : ac_ch (ac_po x k c y) x = s0 ++ y :: t := by rw [po_ch]; exact hch
    have th1 : ac_th (ac_po x k c y) x ≠ 0 := by rw [po_th]; exact htx
    have ci1 : ci_A B (ac_po x k c y) := ac_post_ci hci y0 y1 y2 hk x1
    refine xr_lf (post := fun w => xc_ (wX_announce_13 post (nI x) (nI k) (m + 1) (nI y)) w) h ?_
    intro f_front f_back f_waiting a_second a_eldest a_youngest a_younger a_older a_children a_kind a_value a_sender a_head a_mails a_next a_before a_queued a_failedAt a_failedHead a_failedCount a_put hw
    refine br_f (nI_pos (by omega)) ⟨ni_ x1, ?_⟩
    rw [nc_ x1]
    refine xp_post hw hci y0 y1 hk x1 ?_
    rw [List.foldl_cons] at K
    have e : ac_post c y (nI k) (ac_st c x) (nI x) = ac_po x k c y := rfl
    rw [e]
    revert K ch1 th1 ci1
    generalize ac_po x k c y = c1
    intro K ch1 th1 ci1
    refine xr_ela ?_
    intro f_front f_back f_waiting a_second a_eldest a_youngest a_younger a_older a_children a_kind a_value a_sender a_head a_mails a_next a_before a_queued a_failedAt a_failedHead a_failedCount a_put aA aT aM aQ aF aO
    have hy := ((aT x x1 th1).1.2.2 s0 y t ch1).1
    refine ⟨ni_ y1, nm_r (e' := dl_hd t) (by rw [nc_ y1]; exact hy) ?_⟩
    exact ih m B c1 (s0 ++ [y]) (f_front, f_back, f_waiting, ac_lim c1, ac_win c1, nI (ac_puts c1), nI (ac_steps c1), nI (ac_lost c1), nI (ac_fai c1), nI (ac_ane c1), nI (ac_mel c1), xr_w (ac_wk c1), ac_hv c1, ac_hs c1, ac_op c1, ac_as c1, a_second, ac_th c1, ac_pa c1, ac_be c1, ac_bo c1, ac_sg c1, ac_st c1, a_eldest, a_youngest, a_younger, a_older, a_children, a_kind, a_value, a_sender, a_head, a_mails, a_next, a_before, a_queued, a_failedAt, a_failedHead, a_failedCount, a_put) (by simp at hn; omega) ci1 th1 (by rw [ch1]; simp) (xr_in aA aT aM aQ aF aO) K
theorem ys_15 {post : SY → Prop} {x k : Nat} (hk : k ≤ 3) (x1 : x < 12) : ∀ (t : List Nat) (B : Nat) (c : AC) (s0 : List Nat) (w : SY), B + 2 * t.length < 2 ^ 29 → ci_A B c → ac_th c x ≠ 0 → ac_ch c x = s0 ++ t → yr_ B c w → (∀ w', yr_ (B + 2 * t.length) (t.foldl (ac_po x k) c) w' → post w') → yc_ (wY_say_15 post (nI x) (nI k) (nI (s0 ++ t).length) (t.length + 1) (nI s0.length)) w := by
  intro t
  induction t with
  | nil =>
    intro B c s0 w hB hci htx hch h K
    revert h
    revert w
    refine yt_el ?_
    intro f_stamps f_limit f_window f_acting f_outs a_ops a_as a_bs a_there a_parent a_birth a_behaviour a_first a_strategy a_state a_stands a_owner a_came a_kinds a_values a_senders a_failed a_last a_totals a_goes h
    refine br_t ?_ (K _ h)
    rw [List.append_nil]
    exact Int32.le_refl _
  | cons y t ih =>
    intro B c s0 w hB hci htx hch h K
    have hlen := ch_len hci.1.2.2.2.1 x
    rw [hch] at hlen
    have hlen' : s0.length + (t.length + 1) ≤ 11 := by simpa using hlen
    have hBl : B + 2 * (t.length + 1) < 2 ^ 29 := hB
    have hm : y ∈ ac_ch c x := by rw [hch]; simp
    obtain ⟨_, y0, y1, y2, _⟩ := (hci.1.2.2.2.1.1 x y).mp hm
    refine yr_el (P := fun w => yc_ (wY_say_15 post (nI x) (nI k) (nI (s0 ++ y :: t).length) ((y :: t).length + 1) (nI s0.length)) w) h ?_
    intro a_goes s bt sd cm a_owner a_kinds a_values a_senders a_failed a_totals hs aT aM aQ aF aS hg
    refine br_f ?_ ?_
    · refine nI_ge ?_ ?_
      · simp
      · have : (s0 ++ y :: t).length = s0.length + (t.length + 1) := by simp
        omega
    · refine yk_kid hg (by omega) hci x1 (fun s' y' t' e he => ?_) (fun hno => ?_)
      · have hl' : s'.length ≤ 11 := by
          have := ch_len hci.1.2.2.2.1 x
          rw [e] at this
          simp at this
          omega
        have hll : s0.length = s'.length := (nI_eq (by omega) (by omega)).mp he
        have hyy : y = y' := so_uniq hch e hll
        subst hyy
        refine ⟨ni_ x1, ?_⟩
        rw [nc_ x1]
        refine yd_deliver hg hci (by omega) y0 y1 (fun w' hw' => ?_)
        have H := ih (B + 2) (ac_po x k c y) (s0 ++ [y]) w' (by omega) (ci_up (ac_post_ci hci y0 y1 y2 hk x1) (by omega)) (by rw [po_th]; exact htx) (by rw [po_ch, hch]; simp) ⟨a_goes, hw'⟩ (fun w2 hw2 => K w2 (by
          rw [List.foldl_cons]
          have e3 : B + 2 * (y :: t).length = B + 2 + 2 * t.length := by simp; omega
          rw [e3]
          exact hw2))
        have e1 : (s0 ++ [y] ++ t).length = (s0 ++ y :: t).length := by simp
        have e2 : (s0 ++ [y]).length = s0.length + 1 := by simp
        rw [e1, e2] at H
        revert H
        revert hw'
        revert w'
        refine yt_el ?_
        intro f_stamps f_limit f_window f_acting f_outs a_ops a_as a_bs a_there a_parent a_birth a_behaviour a_first a_strategy a_state a_stands a_owner a_came a_kinds a_values a_senders a_failed a_last a_totals a_goes _ H
        exact nm_r (e' := nI (s0.length + 1)) (nI_1 _) H
      · exact absurd rfl (hno s0 y t hch)
end
section
/-! announce against say -/
def tg_ (c : AC) (x wm q : Nat) : Int32 := if wm = 0 then ac_pa c x else if wm = 1 then (if 0 < q ∧ ac_th c q ≠ 0 then nI q else -1) else if wm = 2 then nI x else if wm = 3 then dl_hd (ac_ch c x) else dl_hd (ac_ch c x).reverse
theorem xs_ann {B x k wm q : Nat} {c c' : AC} {w : SX} {post : SX → Prop} (h : xr_ c w) (hci : ci_A B c) (hB : B < 2 ^ 29) (hk : k ≤ 3) (x1 : x < 12) (hx : ac_th c x ≠ 0) (hwm : wm < 5) (hq : ac_hs c = nI q) (q1 : q < 12) (hs : sn_ c x k (tg_ c x wm q) c') (K : ∀ w', xr_ c' w' → post w') : wpX_announce post w (nI x) (nI wm) (nI k) := by
  have H := xs_snd hs h hci hB hk x1 K
  revert H
  refine xr_el (P := fun w => xc_ (wX_announce_124 post (nI x) (nI k) (tg_ c x wm q)) w → wpX_announce post w (nI x) (nI wm) (nI k)) h ?_
  intro f_front f_back f_waiting a_second a_eldest a_youngest a_younger a_older a_children a_kind a_value a_sender a_head a_mails a_next a_before a_queued a_failedAt a_failedHead a_failedCount a_put aA aT aM aQ aF aO H
  have hc := nc_ x1
  have hi := ni_ x1
  have hTx := (aT x x1 hx).1
  have n5 : ¬ nI wm = 5 := fun e => by
    have := (nI_eq (a := wm) (b := 5) (by omega) (by omega)).mp e
    omega
  have H88 : wm ≠ 1 → ∀ z, z = tg_ c x wm q → wX_announce_88 post (nI x) (nI wm) (nI k) z f_front f_back f_waiting (ac_lim c) (ac_win c) (nI (ac_puts c)) (nI (ac_steps c)) (nI (ac_lost c)) (nI (ac_fai c)) (nI (ac_ane c)) (nI (ac_mel c)) (xr_w (ac_wk c)) (ac_hv c) (ac_hs c) (ac_op c) (ac_as c) a_second (ac_th c) (ac_pa c) (ac_be c) (ac_bo c) (ac_sg c) (ac_st c) a_eldest a_youngest a_younger a_older a_children a_kind a_value a_sender a_head a_mails a_next a_before a_queued a_failedAt a_failedHead a_failedCount a_put := by
    intro h1 z hz
    rw [hz]
    refine br_f (fun e => ?_) H
    exact h1 ((nI_eq (a := wm) (b := 1) (by omega) (by omega)).mp e)
  have hw : wm = 0 ∨ wm = 1 ∨ wm = 2 ∨ wm = 3 ∨ wm = 4 := by omega
  rcases hw with e | e | e | e | e
  · subst e
    refine br_f n5 (br_t rfl ⟨hi, H88 (by omega) _ ?_⟩)
    rw [hc]
    rfl
  · subst e
    have E : ∀ z, wX_announce_88 post (nI x) (nI 1) (nI k) z f_front f_back f_waiting (ac_lim c) (ac_win c) (nI (ac_puts c)) (nI (ac_steps c)) (nI (ac_lost c)) (nI (ac_fai c)) (nI (ac_ane c)) (nI (ac_mel c)) (xr_w (ac_wk c)) (ac_hv c) (ac_hs c) (ac_op c) (ac_as c) a_second (ac_th c) (ac_pa c) (ac_be c) (ac_bo c) (ac_sg c) (ac_st c) a_eldest a_youngest a_younger a_older a_children a_kind a_value a_sender a_head a_mails a_next a_before a_queued a_failedAt a_failedHead a_failedCount a_put := by
      intro z
      refine br_t rfl ?_
      have ht : tg_ c x 1 q = if 0 < q ∧ ac_th c q ≠ 0 then nI q else -1 := rfl
      rw [ht] at H
      refine br_c (fun h0 => ?_) (fun h0 => ?_)
      · rw [hq] at h0
        rw [if_neg (fun hh => nI_nle hh.1 (by omega) h0)] at H
        exact H
      · rw [hq] at h0
        have q0 : 0 < q := by
          refine Nat.pos_of_ne_zero (fun e => h0 ?_)
          subst e
          exact Int32.le_refl 0
        refine ⟨by rw [hq]; exact ni_ q1, br_c (fun ht => ?_) (fun ht => ?_)⟩
        · rw [hq, nc_ q1] at ht
          rw [if_neg (fun hh => hh.2 ht)] at H
          exact H
        · rw [hq, nc_ q1] at ht
          rw [if_pos ⟨q0, ht⟩, ← hq] at H
          exact H
    exact br_f n5 (br_f (by decide) (br_f (by decide) (br_f (by decide) ⟨hi, E _⟩)))
  · subst e
    exact br_f n5 (br_f (by decide) (br_t rfl (H88 (by omega) _ rfl)))
  · subst e
    refine br_f n5 (br_f (by decide) (br_f (by decide) (br_t rfl ⟨hi, H88 (by omega) _ ?_⟩)))
    rw [hc, hTx.1]
    rfl
  · subst e
    refine br_f n5 (br_f (by decide) (br_f (by decide) (br_f (by decide) ⟨hi, H88 (by omega) _ ?_⟩)))
    rw [hc, hTx.2.1]
    rfl
def la_ (B x wm k : Nat) (c c' : AC) : Prop := ci_A (B + 24) c' ∧ fr_ c c' x ∧
  (∀ (w : SX) (post : SX → Prop), xr_ c w → (∀ w', xr_ c' w' → post w') → wpX_announce post w (nI x) (nI wm) (nI k)) ∧
  (∀ (w : SY) (post : SY → Prop), yr_ B c w → (∀ w', yr_ (B + 24) c' w' → post w') → wpY_say post w (nI x) (nI wm) (nI k) (ac_hs c))
section LA
variable {B x k : Nat} {c : AC}
theorem la_5 (hci : ci_A B c) (hB : B < 2 ^ 28) (x1 : x < 12) (hx : ac_th c x ≠ 0) (hk : k ≤ 3) : ∃ c', la_ B x 5 k c c' := by
  have hlen := ch_len hci.1.2.2.2.1 x
  have hf := fo_po_ci (k := k) hk x1 (ac_ch c x) c hci hx (fun y hy => hy)
  refine ⟨(ac_ch c x).foldl (ac_po x k) c, ci_up hf.1 (by omega), hf.2, fun w post h K => ?_, fun w post h K => ?_⟩
  · refine xr_el (P := fun w => wpX_announce post w (nI x) (nI 5) (nI k)) h ?_
    intro f_front f_back f_waiting a_second a_eldest a_youngest a_younger a_older a_children a_kind a_value a_sender a_head a_mails a_next a_before a_queued a_failedAt a_failedHead a_failedCount a_put aA aT aM aQ aF aO
    refine br_t rfl ⟨ni_ x1, nm_r (e' := dl_hd (ac_ch c x)) (by rw [nc_ x1]; exact (aT x x1 hx).1.1) ⟨(ac_ch c x).length + 1, ?_⟩⟩
    exact xs_13 hk x1 (ac_ch c x) ((ac_ch c x).length + 1) B c [] (f_front, f_back, f_waiting, ac_lim c, ac_win c, nI (ac_puts c), nI (ac_steps c), nI (ac_lost c), nI (ac_fai c), nI (ac_ane c), nI (ac_mel c), xr_w (ac_wk c), ac_hv c, ac_hs c, ac_op c, ac_as c, a_second, ac_th c, ac_pa c, ac_be c, ac_bo c, ac_sg c, ac_st c, a_eldest, a_youngest, a_younger, a_older, a_children, a_kind, a_value, a_sender, a_head, a_mails, a_next, a_before, a_queued, a_failedAt, a_failedHead, a_failedCount, a_put) (by omega) hci hx rfl (xr_in aA aT aM aQ aF aO) K
  · refine yr_el (P := fun w => wpY_say post w (nI x) (nI 5) (nI k) (ac_hs c)) h ?_
    intro a_goes s bt sd cm a_owner a_kinds a_values a_senders a_failed a_totals hs aT aM aQ aF aS hg
    show wpY_say post _ (nI x) (nI 5) (nI k) (ac_hs c)
    unfold wpY_say
    refine yk_kids hg hci x1 (br_t rfl ⟨(ac_ch c x).length + 1, ?_⟩)
    exact ys_15 hk x1 (ac_ch c x) B c [] (lN s, ac_lim c, ac_win c, nI (ac_wk c), nI (ac_puts c), ac_op c, ac_as c, ac_bs c, ac_th c, ac_pa c, (fun j => lN (bt j)), ac_be c, ac_bo c, ac_sg c, ac_st c, (fun j => lN (sd j)), a_owner, (fun j => lN (cm j)), a_kinds, a_values, a_senders, a_failed, ac_ou c, a_totals, a_goes) (by omega) hci hx rfl ⟨a_goes, hg⟩ (fun w' hw' => K w' (yr_up hw' (by omega)))
theorem la_of {wm q : Nat} {c' : AC} (hci : ci_A B c) (hB : B < 2 ^ 28) (x1 : x < 12) (hx : ac_th c x ≠ 0) (hk : k ≤ 3) (hwm : wm < 5) (hq : ac_hs c = nI q) (q1 : q < 12) (hs : sn_ c x k (tg_ c x wm q) c')
    (HY : ∀ (w : SY) (post : SY → Prop), yr_ B c w → (∀ w', yr_ (B + 2) c' w' → post w') → wpY_say post w (nI x) (nI wm) (nI k) (ac_hs c)) : la_ B x wm k c c' := by
  have h1 := sn_ci hs hci hk x1 hx
  exact ⟨ci_up h1.1 (by omega), h1.2, fun w post h K => xs_ann h hci (by omega) hk x1 hx hwm hq q1 hs K, fun w post h K => HY w post h (fun w' hw' => K w' (yr_up hw' (by omega)))⟩
theorem la_0 (hci : ci_A B c) (hB : B < 2 ^ 28) (x0 : 0 < x) (x1 : x < 12) (hx : ac_th c x ≠ 0) (hk : k ≤ 3) : ∃ c', la_ B x 0 k c c' := by
  obtain ⟨q, q1, hq⟩ := hci.2.2.2.2.2.2.2.2.1
  obtain ⟨p, p1, hp, htp⟩ := hci.1.2.2.1 x x0 x1 hx
  by_cases hp0 : p = 0
  · subst hp0
    refine ⟨ac_show c (ac_st c x), la_of hci hB x1 hx hk (by omega) hq q1 (Or.inl ⟨hp, rfl⟩) (fun w post h K => ?_)⟩
    refine yr_el (P := fun w => wpY_say post w (nI x) (nI 0) (nI k) (ac_hs c)) h ?_
    intro a_goes s bt sd cm a_owner a_kinds a_values a_senders a_failed a_totals hs aT aM aQ aF aS hg
    show wpY_say post _ (nI x) (nI 0) (nI k) (ac_hs c)
    unfold wpY_say
    refine yk_kids hg hci x1 (br_f (by decide) (br_t rfl ⟨ni_ x1, br_t (by rw [nc_ x1]; exact hp) ⟨ni_ x1, ?_⟩⟩))
    rw [nc_ x1]
    refine yw_put hg (fun w' hw' => ?_)
    have hh := K w' (yr_up ⟨a_goes, hw'⟩ (by omega))
    revert hh
    revert hw'
    revert w'
    refine yt_el ?_
    intro f_stamps f_limit f_window f_acting f_outs a_ops a_as a_bs a_there a_parent a_birth a_behaviour a_first a_strategy a_state a_stands a_owner a_came a_kinds a_values a_senders a_failed a_last a_totals a_goes _ hh
    exact hh
  · refine ⟨ac_po x k c p, la_of hci hB x1 hx hk (by omega) hq q1 (Or.inr (Or.inr ⟨p, by omega, p1, htp, hp, rfl⟩)) (fun w post h K => ?_)⟩
    have H := ys_136 (k := k) h hci (by omega) x1 p1 (fun _ _ => rfl) (fun hn => absurd ⟨by omega, htp⟩ hn) K
    revert H
    refine yr_el (P := fun w => yc_ (wY_say_136 post (nI x) (nI k) (nI p)) w → wpY_say post w (nI x) (nI 0) (nI k) (ac_hs c)) h ?_
    intro a_goes s bt sd cm a_owner a_kinds a_values a_senders a_failed a_totals hs aT aM aQ aF aS hg H
    show wpY_say post _ (nI x) (nI 0) (nI k) (ac_hs c)
    unfold wpY_say
    refine yk_kids hg hci x1 (br_f (by decide) (br_t rfl ⟨ni_ x1, br_f (by rw [nc_ x1, hp]; exact nI_ne0 (by omega) (by omega)) (br_t rfl ⟨ni_ x1, ?_⟩)⟩))
    rw [nc_ x1, hp]
    exact H
theorem la_1 (hci : ci_A B c) (hB : B < 2 ^ 28) (x1 : x < 12) (hx : ac_th c x ≠ 0) (hk : k ≤ 3) : ∃ c', la_ B x 1 k c c' := by
  obtain ⟨q, q1, hq⟩ := hci.2.2.2.2.2.2.2.2.1
  have Y : ∀ c', (0 < q → ac_th c q ≠ 0 → c' = ac_po x k c q) → (¬ (0 < q ∧ ac_th c q ≠ 0) → c' = ac_los c) → ∀ (w : SY) (post : SY → Prop), yr_ B c w → (∀ w', yr_ (B + 2) c' w' → post w') → wpY_say post w (nI x) (nI 1) (nI k) (ac_hs c) := by
    intro c' h1 h2 w post h K
    have H := ys_136 (k := k) h hci (by omega) x1 q1 h1 h2 K
    revert H
    refine yr_el (P := fun w => yc_ (wY_say_136 post (nI x) (nI k) (nI q)) w → wpY_say post w (nI x) (nI 1) (nI k) (ac_hs c)) h ?_
    intro a_goes s bt sd cm a_owner a_kinds a_values a_senders a_failed a_totals hs aT aM aQ aF aS hg H
    show wpY_say post _ (nI x) (nI 1) (nI k) (ac_hs c)
    unfold wpY_say
    refine yk_kids hg hci x1 (br_f (by decide) (br_f (by decide) (br_f (by decide) (br_t rfl ?_))))
    rw [hq]
    exact H
  by_cases hc : 0 < q ∧ ac_th c q ≠ 0
  · refine ⟨ac_po x k c q, la_of hci hB x1 hx hk (by omega) hq q1 (Or.inr (Or.inr ⟨q, hc.1, q1, hc.2, ?_, rfl⟩)) (Y _ (fun _ _ => rfl) (fun hn => absurd hc hn))⟩
    show (if 0 < q ∧ ac_th c q ≠ 0 then nI q else -1) = nI q
    rw [if_pos hc]
  · refine ⟨ac_los c, la_of hci hB x1 hx hk (by omega) hq q1 (Or.inr (Or.inl ⟨?_, rfl⟩)) (Y _ (fun h1 h2 => absurd ⟨h1, h2⟩ hc) (fun _ => rfl))⟩
    show (if 0 < q ∧ ac_th c q ≠ 0 then nI q else -1) = -1
    rw [if_neg hc]
theorem la_2 (hci : ci_A B c) (hB : B < 2 ^ 28) (x0 : 0 < x) (x1 : x < 12) (hx : ac_th c x ≠ 0) (hk : k ≤ 3) : ∃ c', la_ B x 2 k c c' := by
  obtain ⟨q, q1, hq⟩ := hci.2.2.2.2.2.2.2.2.1
  refine ⟨ac_po x k c x, la_of hci hB x1 hx hk (by omega) hq q1 (Or.inr (Or.inr ⟨x, x0, x1, hx, rfl, rfl⟩)) (fun w post h K => ?_)⟩
  have H := ys_136 (k := k) h hci (by omega) x1 x1 (fun _ _ => rfl) (fun hn => absurd ⟨x0, hx⟩ hn) K
  revert H
  refine yr_el (P := fun w => yc_ (wY_say_136 post (nI x) (nI k) (nI x)) w → wpY_say post w (nI x) (nI 2) (nI k) (ac_hs c)) h ?_
  intro a_goes s bt sd cm a_owner a_kinds a_values a_senders a_failed a_totals hs aT aM aQ aF aS hg H
  show wpY_say post _ (nI x) (nI 2) (nI k) (ac_hs c)
  unfold wpY_say
  exact yk_kids hg hci x1 (br_f (by decide) (br_f (by decide) (br_f (by decide) (br_f (by decide) (br_t rfl H)))))
theorem la_3 {wm : Nat} (hci : ci_A B c) (hB : B < 2 ^ 28) (x1 : x < 12) (hx : ac_th c x ≠ 0) (hk : k ≤ 3) (hwm : wm = 3 ∨ wm = 4) : ∃ c', la_ B x wm k c c' := by
  obtain ⟨q, q1, hq⟩ := hci.2.2.2.2.2.2.2.2.1
  have tC := hci.1.2.2.2.1
  have hlen := ch_len tC x
  have n5 : ¬ nI wm = 5 := by rcases hwm with e | e <;> subst e <;> decide
  have n0 : ¬ nI wm = 0 := by rcases hwm with e | e <;> subst e <;> decide
  have n1 : ¬ nI wm = 1 := by rcases hwm with e | e <;> subst e <;> decide
  have n2 : ¬ nI wm = 2 := by rcases hwm with e | e <;> subst e <;> decide
  have wm5 : wm < 5 := by omega
  by_cases hch : ac_ch c x = []
  · refine ⟨ac_los c, la_of hci hB x1 hx hk wm5 hq q1 (Or.inr (Or.inl ⟨?_, rfl⟩)) (fun w post h K => ?_)⟩
    · rcases hwm with e | e
      · subst e
        show dl_hd (ac_ch c x) = -1
        rw [hch]
        rfl
      · subst e
        show dl_hd (ac_ch c x).reverse = -1
        rw [hch]
        rfl
    · have H := ys_136 (q := 0) (k := k) h hci (by omega) x1 (by omega) (fun h0 _ => absurd h0 (by omega)) (fun _ => rfl) K
      revert H
      refine yr_el (P := fun w => yc_ (wY_say_136 post (nI x) (nI k) (nI 0)) w → wpY_say post w (nI x) (nI wm) (nI k) (ac_hs c)) h ?_
      intro a_goes s bt sd cm a_owner a_kinds a_values a_senders a_failed a_totals hs aT aM aQ aF aS hg H
      show wpY_say post _ (nI x) (nI wm) (nI k) (ac_hs c)
      unfold wpY_say
      refine yk_kids hg hci x1 (br_f n5 (br_f n0 (br_f n0 (br_f n1 (br_f n2 (br_t ?_ H))))))
      rw [hch]
      rfl
  · obtain ⟨y, hyx, hym⟩ : ∃ y, tg_ c x wm q = nI y ∧ y ∈ ac_ch c x ∧ ∃ s t, ac_ch c x = s ++ y :: t ∧ ((wm = 3 ∧ s = []) ∨ (wm = 4 ∧ t = [])) := by
      rcases hwm with e | e
      · subst e
        cases hh : ac_ch c x with
        | nil => exact absurd hh hch
        | cons y t =>
          refine ⟨y, ?_, by simp, [], t, rfl, Or.inl ⟨rfl, rfl⟩⟩
          show dl_hd (ac_ch c x) = nI y
          rw [hh]
          rfl
      · subst e
        obtain ⟨l0, y, hl⟩ := dl_lastE hch
        refine ⟨y, ?_, by rw [hl]; simp, l0, [], hl, Or.inr ⟨rfl, rfl⟩⟩
        show dl_hd (ac_ch c x).reverse = nI y
        rw [hl]
        simp [dl_hd]
    obtain ⟨hym, s0, t0, hst, hpos⟩ := hym
    obtain ⟨_, y0, y1, y2, _⟩ := (tC.1 x y).mp hym
    refine ⟨ac_po x k c y, la_of hci hB x1 hx hk wm5 hq q1 (Or.inr (Or.inr ⟨y, y0, y1, y2, hyx, rfl⟩)) (fun w post h K => ?_)⟩
    have H := ys_136 (q := y) (k := k) h hci (by omega) x1 y1 (fun _ _ => rfl) (fun hn => absurd ⟨y0, y2⟩ hn) K
    revert H
    refine yr_el (P := fun w => yc_ (wY_say_136 post (nI x) (nI k) (nI y)) w → wpY_say post w (nI x) (nI wm) (nI k) (ac_hs c)) h ?_
    intro a_goes s bt sd cm a_owner a_kinds a_values a_senders a_failed a_totals hs aT aM aQ aF aS hg H
    show wpY_say post _ (nI x) (nI wm) (nI k) (ac_hs c)
    unfold wpY_say
    have hl1 : 0 < (ac_ch c x).length := List.length_pos_of_mem hym
    have hkid : ∀ z : Int32, z = nI s0.length → wY_say_133 post (nI x) (nI k) z (nI x) (lN s) (ac_lim c) (ac_win c) (nI (ac_wk c)) (nI (ac_puts c)) (ac_op c) (ac_as c) (ac_bs c) (ac_th c) (ac_pa c) (fun j => lN (bt j)) (ac_be c) (ac_bo c) (ac_sg c) (ac_st c) (fun j => lN (sd j)) a_owner (fun j => lN (cm j)) a_kinds a_values a_senders a_failed (ac_ou c) a_totals a_goes := by
      intro z hz
      refine yk_kid hg (by omega) hci x1 (fun s' y' t' e he => ?_) (fun hno => ?_)
      · have hl' : s'.length ≤ 11 ∧ s0.length ≤ 11 := by
          have h1 := hlen
          have h2 := hlen
          rw [e] at h1
          rw [hst] at h2
          simp at h1 h2
          omega
        have hll : s0.length = s'.length := (nI_eq (by omega) (by omega)).mp (hz.symm.trans he)
        have hyy : y = y' := so_uniq hst e hll
        subst hyy
        exact H
      · exact absurd hz (hno s0 y t0 hst)
    refine yk_kids hg hci x1 (br_f n5 (br_f n0 (br_f n0 (br_f n1 (br_f n2 (br_f (nI_ne0 hl1 (by omega)) ?_))))))
    rcases hpos with ⟨e1, e2⟩ | ⟨e1, e2⟩
    · subst e1 e2
      exact br_t rfl (hkid 0 rfl)
    · subst e1 e2
      refine br_f (by decide) (hkid _ ?_)
      have e3 : (ac_ch c x).length = s0.length + 1 := by rw [hst]; simp
      rw [e3]
      exact nI_pred _
theorem la_all {wm : Nat} (hci : ci_A B c) (hB : B < 2 ^ 28) (x0 : 0 < x) (x1 : x < 12) (hx : ac_th c x ≠ 0) (hwm : wm ≤ 5) (hk : k ≤ 3) : ∃ c', la_ B x wm k c c' := by
  have hw : wm = 0 ∨ wm = 1 ∨ wm = 2 ∨ wm = 3 ∨ wm = 4 ∨ wm = 5 := by omega
  rcases hw with e | e | e | e | e | e
  · subst e; exact la_0 hci hB x0 x1 hx hk
  · subst e; exact la_1 hci hB x1 hx hk
  · subst e; exact la_2 hci hB x0 x1 hx hk
  · subst e; exact la_3 hci hB x1 hx hk (Or.inl rfl)
  · subst e; exact la_3 hci hB x1 hx hk (Or.inr rfl)
  · subst e; exact la_5 hci hB x1 hx hk
end LA
end
section
/-! what an instruction does -/
theorem xr_stx {c : AC} {x : Nat} {v : Int32} {f_front f_back f_waiting : Int32} {a_second a_eldest a_youngest a_younger a_older a_children a_kind a_value a_sender a_head a_mails a_next a_before a_queued a_failedAt a_failedHead a_failedCount a_put : Nat → Int32} (aA : xa_A (ac_op c) (ac_bs c) a_second) (aT : xa_T (ac_th c) (ac_ch c) a_eldest a_youngest a_younger a_older a_children)
  (aM : xa_M (ac_ml c) a_kind a_value a_sender a_head a_mails) (aQ : xa_Q (ac_row c) f_front f_back f_waiting a_next a_before a_queued)
  (aF : xa_F (ac_fl c) a_failedAt a_failedHead a_failedCount) (aO : xa_O (ac_puts c) (ac_ou c) a_put) : xr_ (ac_stx c x v) (f_front, f_back, f_waiting, ac_lim c, ac_win c, nI (ac_puts c), nI (ac_steps c), nI (ac_lost c), nI (ac_fai c), nI (ac_ane c), nI (ac_mel c), xr_w (ac_wk c), ac_hv c, ac_hs c, ac_op c, ac_as c, a_second, ac_th c, ac_pa c, ac_be c, ac_bo c, ac_sg c, upd (ac_st c) x v, a_eldest, a_youngest, a_younger, a_older, a_children, a_kind, a_value, a_sender, a_head, a_mails, a_next, a_before, a_queued, a_failedAt, a_failedHead, a_failedCount, a_put) := xr_in aA aT aM aQ aF aO
theorem yg_stx {B : Nat} {c : AC} {x : Nat} {v : Int32} {s : Nat} {bt sd cm : Nat → Nat} {a_goes a_owner a_kinds a_values a_senders a_failed a_totals : Nat → Int32} (h0 : s ≤ B)
  (h1 : ya_T (ac_ch c) bt s) (h2 : ya_M (ac_ml c) a_owner cm a_kinds a_values a_senders s) (h3 : ya_Q (ac_row c) sd s) (h4 : ya_F (ac_th c) (ac_fl c) a_failed) (h5 : ya_S (ac_steps c) (ac_lost c) (ac_fai c) (ac_ane c) (ac_mel c) a_totals) : yg_ B a_goes (ac_stx c x v) (lN s, ac_lim c, ac_win c, nI (ac_wk c), nI (ac_puts c), ac_op c, ac_as c, ac_bs c, ac_th c, ac_pa c, (fun j => lN (bt j)), ac_be c, ac_bo c, ac_sg c, upd (ac_st c) x v, (fun j => lN (sd j)), a_owner, (fun j => lN (cm j)), a_kinds, a_values, a_senders, a_failed, ac_ou c, a_totals, a_goes) := yg_in h0 h1 h2 h3 h4 h5
theorem fr_stx {c : AC} {x : Nat} {v : Int32} (hx : ac_th c x ≠ 0) : fr_ c (ac_stx c x v) x := ⟨hx, rfl, rfl, rfl⟩
theorem xr_bex {c : AC} {x : Nat} {v : Int32} {f_front f_back f_waiting : Int32} {a_second a_eldest a_youngest a_younger a_older a_children a_kind a_value a_sender a_head a_mails a_next a_before a_queued a_failedAt a_failedHead a_failedCount a_put : Nat → Int32} (aA : xa_A (ac_op c) (ac_bs c) a_second) (aT : xa_T (ac_th c) (ac_ch c) a_eldest a_youngest a_younger a_older a_children)
  (aM : xa_M (ac_ml c) a_kind a_value a_sender a_head a_mails) (aQ : xa_Q (ac_row c) f_front f_back f_waiting a_next a_before a_queued)
  (aF : xa_F (ac_fl c) a_failedAt a_failedHead a_failedCount) (aO : xa_O (ac_puts c) (ac_ou c) a_put) : xr_ (ac_bex c x v) (f_front, f_back, f_waiting, ac_lim c, ac_win c, nI (ac_puts c), nI (ac_steps c), nI (ac_lost c), nI (ac_fai c), nI (ac_ane c), nI (ac_mel c), xr_w (ac_wk c), ac_hv c, ac_hs c, ac_op c, ac_as c, a_second, ac_th c, ac_pa c, upd (ac_be c) x v, ac_bo c, ac_sg c, ac_st c, a_eldest, a_youngest, a_younger, a_older, a_children, a_kind, a_value, a_sender, a_head, a_mails, a_next, a_before, a_queued, a_failedAt, a_failedHead, a_failedCount, a_put) := xr_in aA aT aM aQ aF aO
theorem yg_bex {B : Nat} {c : AC} {x : Nat} {v : Int32} {s : Nat} {bt sd cm : Nat → Nat} {a_goes a_owner a_kinds a_values a_senders a_failed a_totals : Nat → Int32} (h0 : s ≤ B)
  (h1 : ya_T (ac_ch c) bt s) (h2 : ya_M (ac_ml c) a_owner cm a_kinds a_values a_senders s) (h3 : ya_Q (ac_row c) sd s) (h4 : ya_F (ac_th c) (ac_fl c) a_failed) (h5 : ya_S (ac_steps c) (ac_lost c) (ac_fai c) (ac_ane c) (ac_mel c) a_totals) : yg_ B a_goes (ac_bex c x v) (lN s, ac_lim c, ac_win c, nI (ac_wk c), nI (ac_puts c), ac_op c, ac_as c, ac_bs c, ac_th c, ac_pa c, (fun j => lN (bt j)), upd (ac_be c) x v, ac_bo c, ac_sg c, ac_st c, (fun j => lN (sd j)), a_owner, (fun j => lN (cm j)), a_kinds, a_values, a_senders, a_failed, ac_ou c, a_totals, a_goes) := yg_in h0 h1 h2 h3 h4 h5
theorem fr_bex {c : AC} {x : Nat} {v : Int32} (hx : ac_th c x ≠ 0) : fr_ c (ac_bex c x v) x := ⟨hx, rfl, rfl, rfl⟩
theorem fr_brt {c : AC} {x a p : Nat} {b g : Int32} (hx : ac_th c x ≠ 0) (hta : ac_th c a = 0) : fr_ c (ac_brt c a p b g) x := by
  refine ⟨?_, rfl, rfl, rfl⟩
  show upd (ac_th c) a 1 x ≠ 0
  rw [pk_un (fun e => hx (by rw [e]; exact hta))]
  exact hx
theorem lb_ {B p b g : Nat} {c : AC} (hci : ci_A B c) (p1 : p < 12) (htp : ac_th c p ≠ 0) (hb : b ≤ 3) (hg : g ≤ 2) : ∃ (c' : AC) (r : Int32), ci_A (B + 1) c' ∧ (∀ y, ac_th c y ≠ 0 → fr_ c c' y) ∧
    (∀ (w : SX) (post : Int32 → SX → Prop), xr_ c w → (∀ w', xr_ c' w' → post r w') → wpX_birth post w (nI p) (nI b) (nI g)) ∧
    (∀ (w : SY) (post : Int32 → SY → Prop), yr_ B c w → (∀ w', yr_ (B + 1) c' w' → post r w') → wpY_born post w (nI p) (nI b) (nI g)) := by
  by_cases hex : ∃ a, 0 < a ∧ a < 12 ∧ ac_th c a = 0
  · obtain ⟨a, ⟨a0, a1, hta⟩, hmin⟩ := pk_least (fun a => 0 < a ∧ a < 12 ∧ ac_th c a = 0) hex
    have hall : ∀ x, 0 < x → x < a → ac_th c x ≠ 0 := fun x x0 xa e => hmin x xa ⟨x0, by omega, e⟩
    refine ⟨ac_brt c a p (nI b) (nI g), nI a, ci_up (ac_brt_ci hci a0 a1 hta p1 htp hb hg) (by omega), fun y hy => fr_brt hy hta, fun w post h K => xb_1 h hci a0 a1 hta hall p1 htp hb hg K, fun w post h K => ?_⟩
    obtain ⟨go, h⟩ := h
    exact yb_1 h hci a0 a1 hta hall (fun w' hw' => K w' ⟨go, hw'⟩)
  · have hall : ∀ x, 0 < x → x < 12 → ac_th c x ≠ 0 := fun x x0 x1 e => hex ⟨x, x0, x1, e⟩
    refine ⟨c, -1, ci_up hci (by omega), fun y hy => ⟨hy, rfl, rfl, rfl⟩, fun w post h K => xb_0 h hall K, fun w post h K => ?_⟩
    obtain ⟨go, h⟩ := h
    exact yb_0 h hall (fun w' hw' => K w' ⟨go, yg_up hw' (by omega)⟩)
def lc_ (B x kk : Nat) (c c' : AC) (o oy : Int32) : Prop := ci_A (B + 24) c' ∧ ac_wk c' = ac_wk c ∧ ((o = 0 ∧ oy = 1 ∧ fr_ c c' x) ∨ (o = 1 ∧ oy = 0)) ∧
  (∀ (w : SX) (post : Int32 → SX → Prop), xr_ c w → (∀ w', xr_ c' w' → post o w') → wpX_act post w (nI x) (nI kk)) ∧
  (∀ (w : SY) (post : Int32 → SY → Prop), yr_ B c w → (∀ w', yr_ (B + 24) c' w' → post oy w') → wpY_does post w (nI x) (nI kk) (ac_hv c) (ac_hs c))
theorem n48_ {k : Nat} (h : k < 48) : (nI k).toNatClampNeg = k := nI_clamp (by omega)
theorem i48_ {k : Nat} (h : k < 48) : vp_in (nI k) 48 := vp_in_nI h (by omega)
section LC
variable {B x kk : Nat} {c : AC}
theorem lc_0 (hci : ci_A B c) (hB : B < 2 ^ 28) (x0 : 0 < x) (x1 : x < 12) (hx : ac_th c x ≠ 0) (hk : kk < 48) (hv : ac_op c kk < 1 ∨ 8 < ac_op c kk) : ∃ c' o oy, lc_ B x kk c c' o oy := by
  refine ⟨c, 0, 1, ci_up hci (by omega), rfl, Or.inl ⟨rfl, rfl, hx, rfl, rfl, rfl⟩, fun w post h K => ?_, fun w post h K => ?_⟩
  · refine xr_el (P := fun w => wpX_act post w (nI x) (nI kk)) h ?_
    intro f_front f_back f_waiting a_second a_eldest a_youngest a_younger a_older a_children a_kind a_value a_sender a_head a_mails a_next a_before a_queued a_failedAt a_failedHead a_failedCount a_put aA aT aM aQ aF aO
    refine And.intro (i48_ hk) (nm_r (e' := ac_as c kk) (by rw [n48_ hk]) ⟨i48_ hk, nm_r (e' := ac_op c kk) (by rw [n48_ hk]) ?_⟩)
    have hp := K _ (xr_in aA aT aM aQ aF aO)
    refine br_c (fun _ => hp) (fun h1 => br_t ?_ hp)
    exact hv.elim (fun q => absurd q h1) id
  · refine yr_el (P := fun w => wpY_does post w (nI x) (nI kk) (ac_hv c) (ac_hs c)) h ?_
    intro a_goes s bt sd cm a_owner a_kinds a_values a_senders a_failed a_totals hs aT aM aQ aF aS hg
    refine And.intro (i48_ hk) (nm_r (e' := ac_op c kk) (by rw [n48_ hk]) ?_)
    have hp := K _ ⟨a_goes, yg_up hg (by omega)⟩
    refine br_c (fun _ => hp) (fun h1 => br_t ?_ hp)
    exact hv.elim (fun q => absurd q h1) id
theorem lc_1 (hci : ci_A B c) (hB : B < 2 ^ 28) (x0 : 0 < x) (x1 : x < 12) (hx : ac_th c x ≠ 0) (hk : kk < 48) (hv : ac_op c kk = 1) : ∃ c' o oy, lc_ B x kk c c' o oy := by
  refine ⟨ac_stx c x (ac_st c x + ac_as c kk), 0, 1, ci_up (ac_stx_ci hci) (by omega), rfl, Or.inl ⟨rfl, rfl, fr_stx hx⟩, fun w post h K => ?_, fun w post h K => ?_⟩
  · refine xr_el (P := fun w => wpX_act post w (nI x) (nI kk)) h ?_
    intro f_front f_back f_waiting a_second a_eldest a_youngest a_younger a_older a_children a_kind a_value a_sender a_head a_mails a_next a_before a_queued a_failedAt a_failedHead a_failedCount a_put aA aT aM aQ aF aO
    refine And.intro (i48_ hk) (nm_r (e' := ac_as c kk) (by rw [n48_ hk]) ⟨i48_ hk, nm_r (e' := 1) (by rw [n48_ hk]; exact hv) ?_⟩)
    exact br_f (by decide) (br_f (by decide) (br_t rfl (⟨ni_ x1, ni_ x1, nm_r (e' := upd (ac_st c) x (ac_st c x + ac_as c kk)) (by rw [nc_ x1]) (K _ (xr_stx aA aT aM aQ aF aO))⟩)))
  · refine yr_el (P := fun w => wpY_does post w (nI x) (nI kk) (ac_hv c) (ac_hs c)) h ?_
    intro a_goes s bt sd cm a_owner a_kinds a_values a_senders a_failed a_totals hs aT aM aQ aF aS hg
    refine And.intro (i48_ hk) (nm_r (e' := 1) (by rw [n48_ hk]; exact hv) ?_)
    exact br_f (by decide) (br_f (by decide) (br_t rfl (⟨ni_ x1, i48_ hk, ni_ x1, nm_r (e' := upd (ac_st c) x (ac_st c x + ac_as c kk)) (by rw [nc_ x1, n48_ hk]) (K _ (yr_up ⟨a_goes, yg_stx hs aT aM aQ aF aS⟩ (by omega)))⟩)))
theorem lc_2 (hci : ci_A B c) (hB : B < 2 ^ 28) (x0 : 0 < x) (x1 : x < 12) (hx : ac_th c x ≠ 0) (hk : kk < 48) (hv : ac_op c kk = 2) : ∃ c' o oy, lc_ B x kk c c' o oy := by
  refine ⟨ac_stx c x (ac_st c x + ac_hv c), 0, 1, ci_up (ac_stx_ci hci) (by omega), rfl, Or.inl ⟨rfl, rfl, fr_stx hx⟩, fun w post h K => ?_, fun w post h K => ?_⟩
  · refine xr_el (P := fun w => wpX_act post w (nI x) (nI kk)) h ?_
    intro f_front f_back f_waiting a_second a_eldest a_youngest a_younger a_older a_children a_kind a_value a_sender a_head a_mails a_next a_before a_queued a_failedAt a_failedHead a_failedCount a_put aA aT aM aQ aF aO
    refine And.intro (i48_ hk) (nm_r (e' := ac_as c kk) (by rw [n48_ hk]) ⟨i48_ hk, nm_r (e' := 2) (by rw [n48_ hk]; exact hv) ?_⟩)
    exact br_f (by decide) (br_f (by decide) (br_f (by decide) (br_t rfl (⟨ni_ x1, ni_ x1, nm_r (e' := upd (ac_st c) x (ac_st c x + ac_hv c)) (by rw [nc_ x1]) (K _ (xr_stx aA aT aM aQ aF aO))⟩))))
  · refine yr_el (P := fun w => wpY_does post w (nI x) (nI kk) (ac_hv c) (ac_hs c)) h ?_
    intro a_goes s bt sd cm a_owner a_kinds a_values a_senders a_failed a_totals hs aT aM aQ aF aS hg
    refine And.intro (i48_ hk) (nm_r (e' := 2) (by rw [n48_ hk]; exact hv) ?_)
    exact br_f (by decide) (br_f (by decide) (br_f (by decide) (br_t rfl (⟨ni_ x1, ni_ x1, nm_r (e' := upd (ac_st c) x (ac_st c x + ac_hv c)) (by rw [nc_ x1]) (K _ (yr_up ⟨a_goes, yg_stx hs aT aM aQ aF aS⟩ (by omega)))⟩))))
theorem lc_3 (hci : ci_A B c) (hB : B < 2 ^ 28) (x0 : 0 < x) (x1 : x < 12) (hx : ac_th c x ≠ 0) (hk : kk < 48) (hv : ac_op c kk = 3) : ∃ c' o oy, lc_ B x kk c c' o oy := by
  obtain ⟨⟨a, ha, ea⟩, ⟨b, hb, eb⟩⟩ := (hci.2.2.2.2.2.1 kk hk).1 hv
  obtain ⟨c', hc1, hc2, hcX, hcY⟩ := la_all (k := b) hci hB x0 x1 hx ha hb
  refine ⟨c', 0, 1, hc1, hc2.2.1, Or.inl ⟨rfl, rfl, hc2⟩, fun w post h K => ?_, fun w post h K => ?_⟩
  · refine xr_el (P := fun w => wpX_act post w (nI x) (nI kk)) h ?_
    intro f_front f_back f_waiting a_second a_eldest a_youngest a_younger a_older a_children a_kind a_value a_sender a_head a_mails a_next a_before a_queued a_failedAt a_failedHead a_failedCount a_put aA aT aM aQ aF aO
    refine And.intro (i48_ hk) (nm_r (e' := ac_as c kk) (by rw [n48_ hk]) ⟨i48_ hk, nm_r (e' := 3) (by rw [n48_ hk]; exact hv) ?_⟩)
    refine br_f (by decide) (br_f (by decide) (br_f (by decide) (br_f (by decide) (br_t rfl (⟨i48_ hk, ?_⟩)))))
    rw [n48_ hk, aA kk hk (Or.inl hv), ea, eb]
    refine hcX _ _ (xr_in aA aT aM aQ aF aO) (fun w' hw' => ?_)
    have hh := K w' hw'
    revert hh
    revert hw'
    revert w'
    refine xt_el ?_
    intro f_front f_back f_waiting f_limit f_window f_puts f_steps f_lost f_failures f_anew f_melted f_working f_heldValue f_heldSender a_op a_first a_second a_there a_parent a_behaviour a_born a_strategy a_state a_eldest a_youngest a_younger a_older a_children a_kind a_value a_sender a_head a_mails a_next a_before a_queued a_failedAt a_failedHead a_failedCount a_put _ hh
    exact hh
  · refine yr_el (P := fun w => wpY_does post w (nI x) (nI kk) (ac_hv c) (ac_hs c)) h ?_
    intro a_goes s bt sd cm a_owner a_kinds a_values a_senders a_failed a_totals hs aT aM aQ aF aS hg
    refine And.intro (i48_ hk) (nm_r (e' := 3) (by rw [n48_ hk]; exact hv) ?_)
    refine br_f (by decide) (br_f (by decide) (br_f (by decide) (br_f (by decide) (br_t rfl (⟨i48_ hk, i48_ hk, ?_⟩)))))
    rw [n48_ hk, ea, eb]
    refine hcY _ _ ⟨a_goes, hg⟩ (fun w' hw' => ?_)
    have hh := K w' hw'
    revert hh
    revert hw'
    revert w'
    refine yt_el ?_
    intro f_stamps f_limit f_window f_acting f_outs a_ops a_as a_bs a_there a_parent a_birth a_behaviour a_first a_strategy a_state a_stands a_owner a_came a_kinds a_values a_senders a_failed a_last a_totals a_goes _ hh
    exact hh
theorem lc_4 (hci : ci_A B c) (hB : B < 2 ^ 28) (x0 : 0 < x) (x1 : x < 12) (hx : ac_th c x ≠ 0) (hk : kk < 48) (hv : ac_op c kk = 4) : ∃ c' o oy, lc_ B x kk c c' o oy := by
  by_cases hlt : ac_as c kk < ac_st c x
  · obtain ⟨c', hc1, hc2, hcX, hcY⟩ := lf_fail hci (by omega) x0 x1 hx
    refine ⟨c', 1, 0, ci_up hc1 (by omega), hc2, Or.inr ⟨rfl, rfl⟩, fun w post h K => ?_, fun w post h K => ?_⟩
    · refine xr_el (P := fun w => wpX_act post w (nI x) (nI kk)) h ?_
      intro f_front f_back f_waiting a_second a_eldest a_youngest a_younger a_older a_children a_kind a_value a_sender a_head a_mails a_next a_before a_queued a_failedAt a_failedHead a_failedCount a_put aA aT aM aQ aF aO
      refine And.intro (i48_ hk) (nm_r (e' := ac_as c kk) (by rw [n48_ hk]) ⟨i48_ hk, nm_r (e' := 4) (by rw [n48_ hk]; exact hv) (br_f (by decide) (br_f (by decide) (br_f (by decide) (br_f (by decide) (br_f (by decide) (br_t rfl (⟨ni_ x1, br_t (by rw [nc_ x1]; exact hlt) ?_⟩)))))))⟩)
      refine hcX _ _ (xr_in aA aT aM aQ aF aO) (fun w' hw' => ?_)
      have hh := K w' hw'
      revert hh
      revert hw'
      revert w'
      refine xt_el ?_
      intro f_front f_back f_waiting f_limit f_window f_puts f_steps f_lost f_failures f_anew f_melted f_working f_heldValue f_heldSender a_op a_first a_second a_there a_parent a_behaviour a_born a_strategy a_state a_eldest a_youngest a_younger a_older a_children a_kind a_value a_sender a_head a_mails a_next a_before a_queued a_failedAt a_failedHead a_failedCount a_put _ hh
      exact hh
    · refine yr_el (P := fun w => wpY_does post w (nI x) (nI kk) (ac_hv c) (ac_hs c)) h ?_
      intro a_goes s bt sd cm a_owner a_kinds a_values a_senders a_failed a_totals hs aT aM aQ aF aS hg
      refine And.intro (i48_ hk) (nm_r (e' := 4) (by rw [n48_ hk]; exact hv) (br_f (by decide) (br_f (by decide) (br_f (by decide) (br_f (by decide) (br_f (by decide) (br_t rfl (⟨ni_ x1, i48_ hk, br_t (by rw [nc_ x1, n48_ hk]; exact hlt) ?_⟩))))))))
      refine hcY _ _ ⟨a_goes, hg⟩ (fun w' hw' => ?_)
      have hh := K w' (yr_up hw' (by omega))
      revert hh
      revert hw'
      revert w'
      refine yt_el ?_
      intro f_stamps f_limit f_window f_acting f_outs a_ops a_as a_bs a_there a_parent a_birth a_behaviour a_first a_strategy a_state a_stands a_owner a_came a_kinds a_values a_senders a_failed a_last a_totals a_goes _ hh
      exact hh
  · refine ⟨c, 0, 1, ci_up hci (by omega), rfl, Or.inl ⟨rfl, rfl, hx, rfl, rfl, rfl⟩, fun w post h K => ?_, fun w post h K => ?_⟩
    · refine xr_el (P := fun w => wpX_act post w (nI x) (nI kk)) h ?_
      intro f_front f_back f_waiting a_second a_eldest a_youngest a_younger a_older a_children a_kind a_value a_sender a_head a_mails a_next a_before a_queued a_failedAt a_failedHead a_failedCount a_put aA aT aM aQ aF aO
      exact And.intro (i48_ hk) (nm_r (e' := ac_as c kk) (by rw [n48_ hk]) ⟨i48_ hk, nm_r (e' := 4) (by rw [n48_ hk]; exact hv) (br_f (by decide) (br_f (by decide) (br_f (by decide) (br_f (by decide) (br_f (by decide) (br_t rfl (⟨ni_ x1, br_f (by rw [nc_ x1]; exact hlt) (K _ (xr_in aA aT aM aQ aF aO))⟩)))))))⟩)
    · refine yr_el (P := fun w => wpY_does post w (nI x) (nI kk) (ac_hv c) (ac_hs c)) h ?_
      intro a_goes s bt sd cm a_owner a_kinds a_values a_senders a_failed a_totals hs aT aM aQ aF aS hg
      exact And.intro (i48_ hk) (nm_r (e' := 4) (by rw [n48_ hk]; exact hv) (br_f (by decide) (br_f (by decide) (br_f (by decide) (br_f (by decide) (br_f (by decide) (br_t rfl (⟨ni_ x1, i48_ hk, br_f (by rw [nc_ x1, n48_ hk]; exact hlt) (K _ ⟨a_goes, yg_up hg (by omega)⟩)⟩))))))))
theorem lc_5 (hci : ci_A B c) (hB : B < 2 ^ 28) (x0 : 0 < x) (x1 : x < 12) (hx : ac_th c x ≠ 0) (hk : kk < 48) (hv : ac_op c kk = 5) : ∃ c' o oy, lc_ B x kk c c' o oy := by
  obtain ⟨⟨a, ha, ea⟩, ⟨b, hb, eb⟩⟩ := (hci.2.2.2.2.2.1 kk hk).2.1 hv
  obtain ⟨c', r, hc1, hc2, hcX, hcY⟩ := lb_ hci x1 hx ha hb
  refine ⟨c', 0, 1, ci_up hc1 (by omega), (hc2 x hx).2.1, Or.inl ⟨rfl, rfl, hc2 x hx⟩, fun w post h K => ?_, fun w post h K => ?_⟩
  · refine xr_el (P := fun w => wpX_act post w (nI x) (nI kk)) h ?_
    intro f_front f_back f_waiting a_second a_eldest a_youngest a_younger a_older a_children a_kind a_value a_sender a_head a_mails a_next a_before a_queued a_failedAt a_failedHead a_failedCount a_put aA aT aM aQ aF aO
    refine And.intro (i48_ hk) (nm_r (e' := ac_as c kk) (by rw [n48_ hk]) ⟨i48_ hk, nm_r (e' := 5) (by rw [n48_ hk]; exact hv) ?_⟩)
    refine br_f (by decide) (br_f (by decide) (br_f (by decide) (br_f (by decide) (br_f (by decide) (br_f (by decide) (br_t rfl (⟨i48_ hk, ?_⟩)))))))
    rw [n48_ hk, aA kk hk (Or.inr hv), ea, eb]
    refine hcX _ _ (xr_in aA aT aM aQ aF aO) (fun w' hw' => ?_)
    have hh := K w' hw'
    revert hh
    revert hw'
    revert w'
    refine xt_el ?_
    intro f_front f_back f_waiting f_limit f_window f_puts f_steps f_lost f_failures f_anew f_melted f_working f_heldValue f_heldSender a_op a_first a_second a_there a_parent a_behaviour a_born a_strategy a_state a_eldest a_youngest a_younger a_older a_children a_kind a_value a_sender a_head a_mails a_next a_before a_queued a_failedAt a_failedHead a_failedCount a_put _ hh
    exact hh
  · refine yr_el (P := fun w => wpY_does post w (nI x) (nI kk) (ac_hv c) (ac_hs c)) h ?_
    intro a_goes s bt sd cm a_owner a_kinds a_values a_senders a_failed a_totals hs aT aM aQ aF aS hg
    refine And.intro (i48_ hk) (nm_r (e' := 5) (by rw [n48_ hk]; exact hv) ?_)
    refine br_f (by decide) (br_f (by decide) (br_f (by decide) (br_f (by decide) (br_f (by decide) (br_f (by decide) (br_t rfl (⟨i48_ hk, i48_ hk, ?_⟩)))))))
    rw [n48_ hk, ea, eb]
    refine hcY _ _ ⟨a_goes, hg⟩ (fun w' hw' => ?_)
    have hh := K w' (yr_up hw' (by omega))
    revert hh
    revert hw'
    revert w'
    refine yt_el ?_
    intro f_stamps f_limit f_window f_acting f_outs a_ops a_as a_bs a_there a_parent a_birth a_behaviour a_first a_strategy a_state a_stands a_owner a_came a_kinds a_values a_senders a_failed a_last a_totals a_goes _ hh
    exact hh
theorem lc_6 (hci : ci_A B c) (hB : B < 2 ^ 28) (x0 : 0 < x) (x1 : x < 12) (hx : ac_th c x ≠ 0) (hk : kk < 48) (hv : ac_op c kk = 6) : ∃ c' o oy, lc_ B x kk c c' o oy := by
  refine ⟨rm_ (rm_S (ac_pa c) x) c, 1, 0, ci_up (rm_Sci hci) (by omega), rm_wk _ _, Or.inr ⟨rfl, rfl⟩, fun w post h K => ?_, fun w post h K => ?_⟩
  · refine xr_el (P := fun w => wpX_act post w (nI x) (nI kk)) h ?_
    intro f_front f_back f_waiting a_second a_eldest a_youngest a_younger a_older a_children a_kind a_value a_sender a_head a_mails a_next a_before a_queued a_failedAt a_failedHead a_failedCount a_put aA aT aM aQ aF aO
    refine And.intro (i48_ hk) (nm_r (e' := ac_as c kk) (by rw [n48_ hk]) ⟨i48_ hk, nm_r (e' := 6) (by rw [n48_ hk]; exact hv) ?_⟩)
    refine br_f (by decide) (br_f (by decide) (br_f (by decide) (br_f (by decide) (br_f (by decide) (br_f (by decide) (br_f (by decide) (br_t rfl (?_))))))))
    refine xe_end (xr_in aA aT aM aQ aF aO) hci x0 x1 hx (fun w' hw' => ?_)
    have hh := K w' hw'
    revert hh
    revert hw'
    revert w'
    refine xt_el ?_
    intro f_front f_back f_waiting f_limit f_window f_puts f_steps f_lost f_failures f_anew f_melted f_working f_heldValue f_heldSender a_op a_first a_second a_there a_parent a_behaviour a_born a_strategy a_state a_eldest a_youngest a_younger a_older a_children a_kind a_value a_sender a_head a_mails a_next a_before a_queued a_failedAt a_failedHead a_failedCount a_put _ hh
    exact hh
  · refine yr_el (P := fun w => wpY_does post w (nI x) (nI kk) (ac_hv c) (ac_hs c)) h ?_
    intro a_goes s bt sd cm a_owner a_kinds a_values a_senders a_failed a_totals hs aT aM aQ aF aS hg
    refine And.intro (i48_ hk) (nm_r (e' := 6) (by rw [n48_ hk]; exact hv) ?_)
    refine br_f (by decide) (br_f (by decide) (br_f (by decide) (br_f (by decide) (br_f (by decide) (br_f (by decide) (br_f (by decide) (br_t rfl (?_))))))))
    refine ye_end (D := rm_S (ac_pa c) x) hg hci x1 (fun y y0 y1 hy => ?_) (fun w' hw' => ?_)
    · by_cases e : y = x
      · subst e
        rw [if_pos rfl]
        exact (bb_iff.mpr up_self).trans (decide_eq_true (by decide)).symm
      · rw [if_neg e]
        exact bb_eq ⟨fun q => ⟨q, e⟩, fun q => q.1⟩
    · have hh := K w' (yr_up hw' (by omega))
      revert hh
      revert hw'
      revert w'
      refine yt_el ?_
      intro f_stamps f_limit f_window f_acting f_outs a_ops a_as a_bs a_there a_parent a_birth a_behaviour a_first a_strategy a_state a_stands a_owner a_came a_kinds a_values a_senders a_failed a_last a_totals a_goes _ hh
      exact hh
theorem lc_7 (hci : ci_A B c) (hB : B < 2 ^ 28) (x0 : 0 < x) (x1 : x < 12) (hx : ac_th c x ≠ 0) (hk : kk < 48) (hv : ac_op c kk = 7) : ∃ c' o oy, lc_ B x kk c c' o oy := by
  obtain ⟨a, ha, ea⟩ := (hci.2.2.2.2.2.1 kk hk).2.2 hv
  refine ⟨ac_bex c x (nI a), 0, 1, ci_up (ac_bex_ci hci ha) (by omega), rfl, Or.inl ⟨rfl, rfl, fr_bex hx⟩, fun w post h K => ?_, fun w post h K => ?_⟩
  · refine xr_el (P := fun w => wpX_act post w (nI x) (nI kk)) h ?_
    intro f_front f_back f_waiting a_second a_eldest a_youngest a_younger a_older a_children a_kind a_value a_sender a_head a_mails a_next a_before a_queued a_failedAt a_failedHead a_failedCount a_put aA aT aM aQ aF aO
    refine And.intro (i48_ hk) (nm_r (e' := ac_as c kk) (by rw [n48_ hk]) ⟨i48_ hk, nm_r (e' := 7) (by rw [n48_ hk]; exact hv) ?_⟩)
    exact br_f (by decide) (br_f (by decide) (br_f (by decide) (br_f (by decide) (br_f (by decide) (br_f (by decide) (br_f (by decide) (br_f (by decide) (br_t rfl (⟨ni_ x1, nm_r (e' := upd (ac_be c) x (nI a)) (by rw [nc_ x1, ea, nb_1 (by omega)]) (K _ (xr_bex aA aT aM aQ aF aO))⟩)))))))))
  · refine yr_el (P := fun w => wpY_does post w (nI x) (nI kk) (ac_hv c) (ac_hs c)) h ?_
    intro a_goes s bt sd cm a_owner a_kinds a_values a_senders a_failed a_totals hs aT aM aQ aF aS hg
    refine And.intro (i48_ hk) (nm_r (e' := 7) (by rw [n48_ hk]; exact hv) ?_)
    exact br_f (by decide) (br_f (by decide) (br_f (by decide) (br_f (by decide) (br_f (by decide) (br_f (by decide) (br_f (by decide) (br_f (by decide) (br_t rfl (⟨i48_ hk, ni_ x1, nm_r (e' := upd (ac_be c) x (nI a)) (by rw [nc_ x1, n48_ hk, ea]) (K _ (yr_up ⟨a_goes, yg_bex hs aT aM aQ aF aS⟩ (by omega)))⟩)))))))))
theorem lc_8 (hci : ci_A B c) (hB : B < 2 ^ 28) (x0 : 0 < x) (x1 : x < 12) (hx : ac_th c x ≠ 0) (hk : kk < 48) (hv : ac_op c kk = 8) : ∃ c' o oy, lc_ B x kk c c' o oy := by
  refine ⟨ac_show c (ac_st c x), 0, 1, ci_up (ac_show_ci hci) (by omega), rfl, Or.inl ⟨rfl, rfl, fr_show hx⟩, fun w post h K => ?_, fun w post h K => ?_⟩
  · refine xr_el (P := fun w => wpX_act post w (nI x) (nI kk)) h ?_
    intro f_front f_back f_waiting a_second a_eldest a_youngest a_younger a_older a_children a_kind a_value a_sender a_head a_mails a_next a_before a_queued a_failedAt a_failedHead a_failedCount a_put aA aT aM aQ aF aO
    refine And.intro (i48_ hk) (nm_r (e' := ac_as c kk) (by rw [n48_ hk]) ⟨i48_ hk, nm_r (e' := 8) (by rw [n48_ hk]; exact hv) ?_⟩)
    refine br_f (by decide) (br_f (by decide) (br_f (by decide) (br_f (by decide) (br_f (by decide) (br_f (by decide) (br_f (by decide) (br_f (by decide) (br_f (by decide) (br_t rfl (⟨ni_ x1, ?_⟩))))))))))
    rw [nc_ x1]
    refine xs_show (xr_in aA aT aM aQ aF aO) hci (by omega) (fun w' hw' => ?_)
    have hh := K w' hw'
    revert hh
    revert hw'
    revert w'
    refine xt_el ?_
    intro f_front f_back f_waiting f_limit f_window f_puts f_steps f_lost f_failures f_anew f_melted f_working f_heldValue f_heldSender a_op a_first a_second a_there a_parent a_behaviour a_born a_strategy a_state a_eldest a_youngest a_younger a_older a_children a_kind a_value a_sender a_head a_mails a_next a_before a_queued a_failedAt a_failedHead a_failedCount a_put _ hh
    exact hh
  · refine yr_el (P := fun w => wpY_does post w (nI x) (nI kk) (ac_hv c) (ac_hs c)) h ?_
    intro a_goes s bt sd cm a_owner a_kinds a_values a_senders a_failed a_totals hs aT aM aQ aF aS hg
    refine And.intro (i48_ hk) (nm_r (e' := 8) (by rw [n48_ hk]; exact hv) ?_)
    refine br_f (by decide) (br_f (by decide) (br_f (by decide) (br_f (by decide) (br_f (by decide) (br_f (by decide) (br_f (by decide) (br_f (by decide) (br_f (by decide) (br_t rfl (⟨ni_ x1, ?_⟩))))))))))
    rw [nc_ x1]
    refine yw_put hg (fun w' hw' => ?_)
    have hh := K w' (yr_up ⟨a_goes, hw'⟩ (by omega))
    revert hh
    revert hw'
    revert w'
    refine yt_el ?_
    intro f_stamps f_limit f_window f_acting f_outs a_ops a_as a_bs a_there a_parent a_birth a_behaviour a_first a_strategy a_state a_stands a_owner a_came a_kinds a_values a_senders a_failed a_last a_totals a_goes _ hh
    exact hh
theorem lc_all (hci : ci_A B c) (hB : B < 2 ^ 28) (x0 : 0 < x) (x1 : x < 12) (hx : ac_th c x ≠ 0) (hk : kk < 48) : ∃ c' o oy, lc_ B x kk c c' o oy := by
  by_cases h1 : ac_op c kk < 1
  · exact lc_0 hci hB x0 x1 hx hk (Or.inl h1)
  · by_cases h8 : 8 < ac_op c kk
    · exact lc_0 hci hB x0 x1 hx hk (Or.inr h8)
    · have h0 : ¬ ac_op c kk < 0 := fun q => h1 (Int32.lt_trans q (by decide))
      obtain ⟨j, hj, e⟩ := nI_of2 (M := 8) (n := 8) (by decide) h0 (Int32.not_lt.mp h8)
      have hj0 : j ≠ 0 := fun q => h1 (by rw [e, q]; decide)
      have hj2 : j = 1 ∨ j = 2 ∨ j = 3 ∨ j = 4 ∨ j = 5 ∨ j = 6 ∨ j = 7 ∨ j = 8 := by omega
      rcases hj2 with q | q | q | q | q | q | q | q
      · exact lc_1 hci hB x0 x1 hx hk (by rw [e, q]; rfl)
      · exact lc_2 hci hB x0 x1 hx hk (by rw [e, q]; rfl)
      · exact lc_3 hci hB x0 x1 hx hk (by rw [e, q]; rfl)
      · exact lc_4 hci hB x0 x1 hx hk (by rw [e, q]; rfl)
      · exact lc_5 hci hB x0 x1 hx hk (by rw [e, q]; rfl)
      · exact lc_6 hci hB x0 x1 hx hk (by rw [e, q]; rfl)
      · exact lc_7 hci hB x0 x1 hx hk (by rw [e, q]; rfl)
      · exact lc_8 hci hB x0 x1 hx hk (by rw [e, q]; rfl)
end LC
end
section
/-! one step -/
theorem xr_beg {c : AC} {x : Nat} {v f fw : Int32} {f_front f_back f_waiting : Int32} {a_second a_eldest a_youngest a_younger a_older a_children a_kind a_value a_sender a_head a_mails a_next a_before a_queued a_failedAt a_failedHead a_failedCount a_put : Nat → Int32} (aA : xa_A (ac_op c) (ac_bs c) a_second) (aT : xa_T (ac_th c) (ac_ch c) a_eldest a_youngest a_younger a_older a_children)
  (aM : xa_M (fu_ (ac_ml c) x (ac_ml c x).tail) a_kind a_value a_sender a_head a_mails) (aQ : xa_Q ((ac_row c).filter (fun y => !decide (y = x))) f_front f_back f_waiting a_next a_before a_queued)
  (aF : xa_F (ac_fl c) a_failedAt a_failedHead a_failedCount) (aO : xa_O (ac_puts c) (ac_ou c) a_put) (hfw : fw = xr_w x) : xr_ (ac_beg c x v f) (f_front, f_back, f_waiting, ac_lim c, ac_win c, nI (ac_puts c), nI (ac_steps c + 1), nI (ac_lost c), nI (ac_fai c), nI (ac_ane c), nI (ac_mel c), fw, v, f, ac_op c, ac_as c, a_second, ac_th c, ac_pa c, ac_be c, ac_bo c, ac_sg c, ac_st c, a_eldest, a_youngest, a_younger, a_older, a_children, a_kind, a_value, a_sender, a_head, a_mails, a_next, a_before, a_queued, a_failedAt, a_failedHead, a_failedCount, a_put) := by
  subst hfw
  exact xr_in aA aT aM aQ aF aO
theorem xr_idle {c : AC} {f_front f_back f_waiting : Int32} {a_second a_eldest a_youngest a_younger a_older a_children a_kind a_value a_sender a_head a_mails a_next a_before a_queued a_failedAt a_failedHead a_failedCount a_put : Nat → Int32} (aA : xa_A (ac_op c) (ac_bs c) a_second) (aT : xa_T (ac_th c) (ac_ch c) a_eldest a_youngest a_younger a_older a_children)
  (aM : xa_M (ac_ml c) a_kind a_value a_sender a_head a_mails) (aQ : xa_Q (ac_row c) f_front f_back f_waiting a_next a_before a_queued)
  (aF : xa_F (ac_fl c) a_failedAt a_failedHead a_failedCount) (aO : xa_O (ac_puts c) (ac_ou c) a_put) : xr_ (ac_idle c) (f_front, f_back, f_waiting, ac_lim c, ac_win c, nI (ac_puts c), nI (ac_steps c), nI (ac_lost c), nI (ac_fai c), nI (ac_ane c), nI (ac_mel c), -1, ac_hv c, ac_hs c, ac_op c, ac_as c, a_second, ac_th c, ac_pa c, ac_be c, ac_bo c, ac_sg c, ac_st c, a_eldest, a_youngest, a_younger, a_older, a_children, a_kind, a_value, a_sender, a_head, a_mails, a_next, a_before, a_queued, a_failedAt, a_failedHead, a_failedCount, a_put) := xr_in aA aT aM aQ aF aO
theorem xr_app {c : AC} {x : Nat} {f_front f_back f_waiting : Int32} {a_second a_eldest a_youngest a_younger a_older a_children a_kind a_value a_sender a_head a_mails a_next a_before a_queued a_failedAt a_failedHead a_failedCount a_put : Nat → Int32} (aA : xa_A (ac_op c) (ac_bs c) a_second) (aT : xa_T (ac_th c) (ac_ch c) a_eldest a_youngest a_younger a_older a_children)
  (aM : xa_M (ac_ml c) a_kind a_value a_sender a_head a_mails) (aQ : xa_Q (ac_row c ++ [x]) f_front f_back f_waiting a_next a_before a_queued)
  (aF : xa_F (ac_fl c) a_failedAt a_failedHead a_failedCount) (aO : xa_O (ac_puts c) (ac_ou c) a_put) : xr_ (ac_app c x) (f_front, f_back, f_waiting, ac_lim c, ac_win c, nI (ac_puts c), nI (ac_steps c), nI (ac_lost c), nI (ac_fai c), nI (ac_ane c), nI (ac_mel c), xr_w (ac_wk c), ac_hv c, ac_hs c, ac_op c, ac_as c, a_second, ac_th c, ac_pa c, ac_be c, ac_bo c, ac_sg c, ac_st c, a_eldest, a_youngest, a_younger, a_older, a_children, a_kind, a_value, a_sender, a_head, a_mails, a_next, a_before, a_queued, a_failedAt, a_failedHead, a_failedCount, a_put) := xr_in aA aT aM aQ aF aO
theorem yg_beg {B : Nat} {c : AC} {x : Nat} {v f : Int32} {s : Nat} {bt sd cm : Nat → Nat} {a_goes a_owner a_kinds a_values a_senders a_failed a_totals : Nat → Int32} (h0 : s ≤ B)
  (h1 : ya_T (ac_ch c) bt s) (h2 : ya_M (fu_ (ac_ml c) x (ac_ml c x).tail) a_owner cm a_kinds a_values a_senders s) (h3 : ya_Q ((ac_row c).filter (fun y => !decide (y = x))) sd s) (h4 : ya_F (ac_th c) (ac_fl c) a_failed) (h5 : ya_S (ac_steps c + 1) (ac_lost c) (ac_fai c) (ac_ane c) (ac_mel c) a_totals) : yg_ B a_goes (ac_beg c x v f) (lN s, ac_lim c, ac_win c, nI x, nI (ac_puts c), ac_op c, ac_as c, ac_bs c, ac_th c, ac_pa c, (fun j => lN (bt j)), ac_be c, ac_bo c, ac_sg c, ac_st c, (fun j => lN (sd j)), a_owner, (fun j => lN (cm j)), a_kinds, a_values, a_senders, a_failed, ac_ou c, a_totals, a_goes) := yg_in h0 h1 h2 h3 h4 h5
theorem yg_idle {B : Nat} {c : AC} {s : Nat} {bt sd cm : Nat → Nat} {a_goes a_owner a_kinds a_values a_senders a_failed a_totals : Nat → Int32} (h0 : s ≤ B)
  (h1 : ya_T (ac_ch c) bt s) (h2 : ya_M (ac_ml c) a_owner cm a_kinds a_values a_senders s) (h3 : ya_Q (ac_row c) sd s) (h4 : ya_F (ac_th c) (ac_fl c) a_failed) (h5 : ya_S (ac_steps c) (ac_lost c) (ac_fai c) (ac_ane c) (ac_mel c) a_totals) : yg_ B a_goes (ac_idle c) (lN s, ac_lim c, ac_win c, 0, nI (ac_puts c), ac_op c, ac_as c, ac_bs c, ac_th c, ac_pa c, (fun j => lN (bt j)), ac_be c, ac_bo c, ac_sg c, ac_st c, (fun j => lN (sd j)), a_owner, (fun j => lN (cm j)), a_kinds, a_values, a_senders, a_failed, ac_ou c, a_totals, a_goes) := yg_in h0 h1 h2 h3 h4 h5
theorem yg_app {B : Nat} {c : AC} {x : Nat} {s : Nat} {bt sd cm : Nat → Nat} {a_goes a_owner a_kinds a_values a_senders a_failed a_totals : Nat → Int32} (h0 : s ≤ B)
  (h1 : ya_T (ac_ch c) bt s) (h2 : ya_M (ac_ml c) a_owner cm a_kinds a_values a_senders s) (h3 : ya_Q (ac_row c ++ [x]) sd s) (h4 : ya_F (ac_th c) (ac_fl c) a_failed) (h5 : ya_S (ac_steps c) (ac_lost c) (ac_fai c) (ac_ane c) (ac_mel c) a_totals) : yg_ B a_goes (ac_app c x) (lN s, ac_lim c, ac_win c, nI (ac_wk c), nI (ac_puts c), ac_op c, ac_as c, ac_bs c, ac_th c, ac_pa c, (fun j => lN (bt j)), ac_be c, ac_bo c, ac_sg c, ac_st c, (fun j => lN (sd j)), a_owner, (fun j => lN (cm j)), a_kinds, a_values, a_senders, a_failed, ac_ou c, a_totals, a_goes) := yg_in h0 h1 h2 h3 h4 h5
def ac_fin (c : AC) (x : Nat) : AC := if ac_th c x ≠ 0 ∧ ac_ml c x ≠ [] then ac_app (ac_idle c) x else ac_idle c
theorem id_th (c : AC) : ac_th (ac_idle c) = ac_th c := rfl
theorem id_ml (c : AC) : ac_ml (ac_idle c) = ac_ml c := rfl
theorem id_row (c : AC) : ac_row (ac_idle c) = ac_row c := rfl
theorem id_wk (c : AC) : ac_wk (ac_idle c) = 0 := rfl
theorem app_wk (c : AC) (a : Nat) : ac_wk (ac_app c a) = ac_wk c := rfl
theorem fin_wk (c : AC) (x : Nat) : ac_wk (ac_fin c x) = 0 := by
  unfold ac_fin
  split
  · rw [app_wk, id_wk]
  · rw [id_wk]
theorem fin_ci {B x : Nat} {c : AC} (h : ci_A B c) (x0 : 0 < x) (x1 : x < 12) (hw : ac_wk c = x) : ci_A B (ac_fin c x) := by
  have hr : x ∉ ac_row c := by
    have := h.2.2.2.1.2.2.1
    rw [hw] at this
    exact this
  unfold ac_fin
  split
  · rename_i hh
    exact ac_app_ci (ac_idle_ci h) x0 x1 (by rw [id_th]; exact hh.1) (by rw [id_ml]; exact hh.2) (by rw [id_row]; exact hr) (by rw [id_wk]; omega)
  · exact ac_idle_ci h
theorem x139 {B x : Nat} {c : AC} {w : SX} {post : SX → Prop} (h : xr_ c w) (hci : ci_A B c) (x1 : x < 12) (hw : ac_wk c = x) (K : ∀ w', xr_ (ac_fin c x) w' → post w') : xc_ (wX_step_139 post (nI x)) w := by
  have hr : x ∉ ac_row c := by
    have := hci.2.2.2.1.2.2.1
    rw [hw] at this
    exact this
  refine xr_el (P := fun w => xc_ (wX_step_139 post (nI x)) w) h ?_
  intro f_front f_back f_waiting a_second a_eldest a_youngest a_younger a_older a_children a_kind a_value a_sender a_head a_mails a_next a_before a_queued a_failedAt a_failedHead a_failedCount a_put aA aT aM aQ aF aO
  have hc := nc_ x1
  have hi := ni_ x1
  have hl := (hci.2.2.1 x).1 x1
  unfold ac_fin at K
  refine And.intro hi (br_c (fun ht => ?_) (fun ht => ⟨hi, br_c (fun hm => ?_) (fun hm => ?_)⟩))
  · rw [hc] at ht
    rw [if_neg (fun q => q.1 ht)] at K
    exact K _ (xr_idle aA aT aM aQ aF aO)
  · rw [hc, (aM x x1).1] at hm
    have hn : ac_ml c x = [] := by
      refine List.eq_nil_of_length_eq_zero ?_
      have := (nI_leI (b := 0) (by omega) (by omega)).mp hm
      omega
    rw [if_neg (fun q => q.2 hn)] at K
    exact K _ (xr_idle aA aT aM aQ aF aO)
  · rw [hc] at ht
    rw [hc, (aM x x1).1] at hm
    have hn : ac_ml c x ≠ [] := by
      intro e
      rw [e] at hm
      exact hm (Int32.le_refl 0)
    rw [if_pos ⟨ht, hn⟩] at K
    refine xu_append aQ hr (fun y hy => (hci.2.2.2.1.2.1 y hy).2.1) hci.2.2.2.1.1 x1 (fun fr bk wt nx bf qu hq' => ?_)
    exact K _ (xr_app (c := ac_idle c) aA aT aM hq' aF aO)
theorem y110 {B x : Nat} {c : AC} {w : SY} {post : SY → Prop} (h : yr_ B c w) (hci : ci_A B c) (hB : B < 2 ^ 28) (x0 : 0 < x) (x1 : x < 12) (hw : ac_wk c = x) (K : ∀ w', yr_ (B + 1) (ac_fin c x) w' → post w') : yc_ (wY_step_110 post (nI x)) w := by
  have hr : x ∉ ac_row c := by
    have := hci.2.2.2.1.2.2.1
    rw [hw] at this
    exact this
  refine yr_el (P := fun w => yc_ (wY_step_110 post (nI x)) w) h ?_
  intro a_goes s bt sd cm a_owner a_kinds a_values a_senders a_failed a_totals hs aT aM aQ aF aS hg
  have hc := nc_ x1
  have hi := ni_ x1
  have hl := (hci.2.2.1 x).1 x1
  have hgi := yg_idle (a_goes := a_goes) hs aT aM aQ aF aS
  unfold ac_fin at K
  refine And.intro hi (br_c (fun ht => ?_) (fun ht => ?_))
  · rw [hc] at ht
    rw [if_neg (fun q => q.1 ht)] at K
    exact K _ (yr_up ⟨a_goes, hgi⟩ (by omega))
  · rw [hc] at ht
    refine ym_mails hgi x0 x1 ?_
    rw [id_ml]
    refine br_c (fun hm => ?_) (fun hm => ?_)
    · have hn : ac_ml c x = [] := by
        refine List.eq_nil_of_length_eq_zero ?_
        have := (nI_leI (b := 0) (by omega) (by omega)).mp hm
        omega
      rw [if_neg (fun q => q.2 hn)] at K
      exact K _ (yr_up ⟨a_goes, hgi⟩ (by omega))
    · have hn : ac_ml c x ≠ [] := by
        intro e
        rw [e] at hm
        exact hm (Int32.le_refl 0)
      rw [if_pos ⟨ht, hn⟩] at K
      refine nm_r (e' := lN (s + 1)) (lN_1 s) ⟨hi, nm_r (e' := fun j => lN (fu_ sd x (s + 1) j)) (by rw [hc, lN_1]; exact ul_) ?_⟩
      exact K _ ⟨a_goes, yg_app (c := ac_idle c) (by omega) (yt_up aT (by omega)) (ym_up aM (by omega)) (yq_app aQ hr) aF aS⟩
theorem ls_acts {x k0 : Nat} {hv hs : Int32} (x0 : 0 < x) (x1 : x < 12) (hk0 : k0 + 3 ≤ 48) : ∀ (d i B : Nat) (c : AC), i + d = 3 → B + 24 * d < 2 ^ 28 → ci_A B c → ac_th c x ≠ 0 → ac_wk c = x → ac_hv c = hv → ac_hs c = hs →
    ∃ c' : AC, ci_A (B + 24 * d) c' ∧ ac_wk c' = x ∧
      (∀ (w : SX) (post : SX → Prop), xr_ c w → (∀ w', xr_ c' w' → xc_ (wX_step_139 post (nI x)) w') → xc_ (wX_step_111 post (nI x) (nI k0) (d + 1) 0 (nI i)) w) ∧
      (∀ (w : SY) (post : SY → Prop), yr_ B c w → (∀ w', yr_ (B + 24 * d) c' w' → yc_ (wY_step_110 post (nI x)) w') → yc_ (wY_step_78 post (nI x) hv hs (nI k0) (d + 1) 1 (nI (k0 + i))) w) := by
  intro d
  induction d with
  | zero =>
    intro i B c hi hB hci hx hw e1 e2
    have e : i = 3 := by omega
    subst e
    refine ⟨c, hci, hw, fun w post h K => ?_, fun w post h K => ?_⟩
    · have H := K w h
      revert H
      revert h
      revert w
      refine xt_el ?_
      intro f_front f_back f_waiting f_limit f_window f_puts f_steps f_lost f_failures f_anew f_melted f_working f_heldValue f_heldSender a_op a_first a_second a_there a_parent a_behaviour a_born a_strategy a_state a_eldest a_youngest a_younger a_older a_children a_kind a_value a_sender a_head a_mails a_next a_before a_queued a_failedAt a_failedHead a_failedCount a_put _ H
      exact br_t (nI_le (a := 3) (b := 3) (by omega) (by omega)) H
    · have H := K w h
      revert H
      revert h
      revert w
      refine yt_el ?_
      intro f_stamps f_limit f_window f_acting f_outs a_ops a_as a_bs a_there a_parent a_birth a_behaviour a_first a_strategy a_state a_stands a_owner a_came a_kinds a_values a_senders a_failed a_last a_totals a_goes _ H
      refine br_t ?_ H
      show nI k0 + nI 3 ≤ _
      rw [nI_add]
      exact Int32.le_refl _
  | succ d ih =>
    intro i B c hi hB hci hx hw e1 e2
    obtain ⟨c2, o, oy, hc1, hc2, hc3, hcX, hcY⟩ := lc_all (kk := k0 + i) hci (by omega) x0 x1 hx (by omega)
    have n3 : ¬ (3 : Int32) ≤ nI i := nI_ge (b := 3) (by omega) (by omega)
    have n3y : ¬ nI k0 + 3 ≤ nI (k0 + i) := by
      show ¬ nI k0 + nI 3 ≤ _
      rw [nI_add]
      exact nI_ge (by omega) (by omega)
    have ek : nI k0 + nI i = nI (k0 + i) := nI_add _ _
    have XS : ∀ (w : SX) (post : SX → Prop), xr_ c w → (∀ w', xr_ c2 w' → xc_ (wX_step_111 post (nI x) (nI k0) (d + 1) o (nI (i + 1))) w') → xc_ (wX_step_111 post (nI x) (nI k0) (d + 1 + 1) 0 (nI i)) w := by
      intro w post h K
      refine xr_lf (post := fun w => xc_ (wX_step_111 post (nI x) (nI k0) (d + 1 + 1) 0 (nI i)) w) h ?_
      intro f_front f_back f_waiting a_second a_eldest a_youngest a_younger a_older a_children a_kind a_value a_sender a_head a_mails a_next a_before a_queued a_failedAt a_failedHead a_failedCount a_put hxw
      refine br_f n3 (br_t rfl ?_)
      rw [ek]
      refine hcX _ _ hxw (fun w' hw' => ?_)
      have H := K w' hw'
      revert H
      revert hw'
      revert w'
      refine xt_el ?_
      intro f_front f_back f_waiting f_limit f_window f_puts f_steps f_lost f_failures f_anew f_melted f_working f_heldValue f_heldSender a_op a_first a_second a_there a_parent a_behaviour a_born a_strategy a_state a_eldest a_youngest a_younger a_older a_children a_kind a_value a_sender a_head a_mails a_next a_before a_queued a_failedAt a_failedHead a_failedCount a_put _ H
      exact nm_r (e' := nI (i + 1)) (nI_1 _) H
    have YS : ∀ (w : SY) (post : SY → Prop), yr_ B c w → (∀ w', yr_ (B + 24) c2 w' → yc_ (wY_step_78 post (nI x) hv hs (nI k0) (d + 1) oy (nI (k0 + (i + 1)))) w') → yc_ (wY_step_78 post (nI x) hv hs (nI k0) (d + 1 + 1) 1 (nI (k0 + i))) w := by
      intro w post h K
      refine yr_el (P := fun w => yc_ (wY_step_78 post (nI x) hv hs (nI k0) (d + 1 + 1) 1 (nI (k0 + i))) w) h ?_
      intro a_goes s bt sd cm a_owner a_kinds a_values a_senders a_failed a_totals _ _ _ _ _ _ hg
      refine br_f n3y (br_f (by decide) ?_)
      rw [← e1, ← e2]
      refine hcY _ _ ⟨a_goes, hg⟩ (fun w' hw' => ?_)
      have H := K w' hw'
      rw [← e1, ← e2] at H
      revert H
      revert hw'
      revert w'
      refine yt_el ?_
      intro f_stamps f_limit f_window f_acting f_outs a_ops a_as a_bs a_there a_parent a_birth a_behaviour a_first a_strategy a_state a_stands a_owner a_came a_kinds a_values a_senders a_failed a_last a_totals a_goes _ H
      exact nm_r (e' := nI (k0 + (i + 1))) (nI_1 _) H
    rcases hc3 with ⟨q1, q2, q3⟩ | ⟨q1, q2⟩
    · obtain ⟨c', g1, g2, gX, gY⟩ := ih (i + 1) (B + 24) c2 (by omega) (by omega) hc1 q3.1 (hc2.trans hw) (q3.2.2.1.trans e1) (q3.2.2.2.trans e2)
      have eB : B + 24 + 24 * d = B + 24 * (d + 1) := by omega
      rw [eB] at g1 gY
      refine ⟨c', g1, g2, fun w post h K => XS w post h (fun w' hw' => ?_), fun w post h K => YS w post h (fun w' hw' => ?_)⟩
      · rw [q1]
        exact gX w' post hw' K
      · rw [q2]
        exact gY w' post hw' K
    · refine ⟨c2, ci_up hc1 (by omega), hc2.trans hw, fun w post h K => XS w post h (fun w' hw' => ?_), fun w post h K => YS w post h (fun w' hw' => ?_)⟩
      · rw [q1]
        have H := K w' hw'
        revert H
        revert hw'
        revert w'
        refine xt_el ?_
        intro f_front f_back f_waiting f_limit f_window f_puts f_steps f_lost f_failures f_anew f_melted f_working f_heldValue f_heldSender a_op a_first a_second a_there a_parent a_behaviour a_born a_strategy a_state a_eldest a_youngest a_younger a_older a_children a_kind a_value a_sender a_head a_mails a_next a_before a_queued a_failedAt a_failedHead a_failedCount a_put _ H
        exact br_c (fun _ => H) (fun _ => br_f (by decide) H)
      · rw [q2]
        have H := K w' (yr_up hw' (by omega))
        revert H
        revert hw'
        revert w'
        refine yt_el ?_
        intro f_stamps f_limit f_window f_acting f_outs a_ops a_as a_bs a_there a_parent a_birth a_behaviour a_first a_strategy a_state a_stands a_owner a_came a_kinds a_values a_senders a_failed a_last a_totals a_goes _ H
        exact br_c (fun _ => H) (fun _ => br_t rfl H)
end
section
/-! a step, and many -/
theorem beg_th (c : AC) (x : Nat) (v f : Int32) : ac_th (ac_beg c x v f) = ac_th c := rfl
theorem beg_wk (c : AC) (x : Nat) (v f : Int32) : ac_wk (ac_beg c x v f) = x := rfl
theorem beg_hv (c : AC) (x : Nat) (v f : Int32) : ac_hv (ac_beg c x v f) = v := rfl
theorem beg_hs (c : AC) (x : Nat) (v f : Int32) : ac_hs (ac_beg c x v f) = f := rfl
theorem n12_ (b k : Nat) : (12 : Int32) * nI b + 3 * nI k = nI (12 * b + 3 * k) := by
  show nI 12 * nI b + nI 3 * nI k = _
  rw [pk_mul, pk_mul, nI_add]
theorem n8_ (x h : Nat) : (8 : Int32) * nI x + nI h = nI (8 * x + h) := by
  show nI 8 * nI x + _ = _
  rw [pk_mul, nI_add]
theorem ls_step {B x : Nat} {c : AC} {rest : List Nat} (hci : ci_A B c) (hB : B < 2 ^ 27) (hrow : ac_row c = x :: rest) : ∃ c' : AC, ci_A (B + 80) c' ∧ ac_wk c' = 0 ∧
    (∀ (w : SX) (post : SX → Prop), xr_ c w → (∀ w', xr_ c' w' → post w') → wpX_step post w) ∧ (∀ (w : SY) (post : SY → Prop), yr_ B c w → (∀ w', yr_ (B + 80) c' w' → post w') → wpY_step post w (nI x)) := by
  have hxr : x ∈ ac_row c := by rw [hrow]; simp
  obtain ⟨x0, x1, hx, hml⟩ := hci.2.2.2.1.2.1 x hxr
  obtain ⟨kvf, ms, hms⟩ : ∃ kvf ms, ac_ml c x = kvf :: ms := by
    cases hh : ac_ml c x with
    | nil => exact absurd hh hml
    | cons a t => exact ⟨a, t, rfl⟩
  obtain ⟨ki, v, fi⟩ := kvf
  obtain ⟨⟨k, hk3, ek⟩, ⟨f, hf, ef⟩⟩ := (hci.2.2.1 x).2.2 ki v fi (by rw [hms]; simp)
  subst ek ef
  obtain ⟨b, hb3, eb⟩ := (hci.2.1 x x1 hx).1
  have hlen := (hci.2.2.1 x).1 x1
  have ci1 := ac_beg_ci hci x0 x1 hms hf
  obtain ⟨c2, g1, g2, gX, gY⟩ := ls_acts (x := x) (k0 := 12 * b + 3 * k) (hv := v) (hs := nI f) x0 x1 (by omega) 3 0 (B + 1) (ac_beg c x v (nI f)) (by omega) (by omega) ci1 (by rw [beg_th]; exact hx) (beg_wk _ _ _ _) (beg_hv _ _ _ _) (beg_hs _ _ _ _)
  refine ⟨ac_fin c2 x, ci_up (fin_ci g1 x0 x1 g2) (by omega), fin_wk _ _, fun w post h K => ?_, fun w post h K => ?_⟩
  · refine xr_el (P := fun w => wpX_step post w) h ?_
    intro f_front f_back f_waiting a_second a_eldest a_youngest a_younger a_older a_children a_kind a_value a_sender a_head a_mails a_next a_before a_queued a_failedAt a_failedHead a_failedCount a_put aA aT aM aQ aF aO
    have hfr : f_front = nI x := by
      rw [aQ.1.1, hrow]
      rfl
    subst hfr
    have hc := nc_ x1
    have hi := ni_ x1
    obtain ⟨m1, hh, m2, m3, m4⟩ := aM x x1
    have hcell := m4 0 (nI k) v (nI f) (by rw [hms]; rfl)
    have e0 : 8 * x + (hh + 0) % 8 = 8 * x + hh := by omega
    rw [e0] at hcell
    have c96 : (nI (8 * x + hh)).toNatClampNeg = 8 * x + hh := nI_clamp (by omega)
    have i96 : vp_in (nI (8 * x + hh)) 96 := vp_in_nI (by omega) (by omega)
    have e7 : (nI hh + 1) &&& 7 = nI ((hh + 1) % 8) := by
      rw [nI_1]
      exact pk_andN (n := hh + 1) (by omega) (m := 7) 3 (by decide)
    have hpop := xm_pop aM x1 m3 m2
    refine nm_r (e' := nI (ac_steps c + 1)) (nI_1 _) ?_
    refine xu_unlink aQ hci.2.2.2.1.1 (fun y hy => (hci.2.2.2.1.2.1 y hy).2.1) hxr (fun fr bk wt nx bf qu hq' => ?_)
    refine And.intro hi (nm_r (e' := nI (8 * x + hh)) (by rw [hc, m3, n8_]) ⟨i96, nm_r (e' := v) (by rw [c96]; exact hcell.2.1) ⟨i96, nm_r (e' := nI f) (by rw [c96]; exact hcell.2.2) ⟨hi, i96, nm_r (e' := nI (12 * b + 3 * k)) (by rw [hc, c96, eb, hcell.1, n12_]) ⟨hi, hi, nm_r (e' := upd a_head x (nI ((hh + 1) % 8))) (by rw [hc, m3, e7, nb_1 (by omega)]) ⟨hi, hi, nm_r (e' := upd a_mails x (nI ((ac_ml c x).length - 1))) ?_ ⟨4, ?_⟩⟩⟩⟩⟩⟩)
    · have hl1 : (ac_ml c x).length = ((ac_ml c x).length - 1) + 1 := by
        rw [hms]
        rfl
      rw [hc, m1]
      generalize (ac_ml c x).length - 1 = n at *
      rw [hl1, nI_pred, nb_1 (by omega)]
    · exact gX _ post (xr_beg aA aT hpop hq' aF aO (by unfold xr_w; rw [if_neg (by omega)])) (fun w' hw' => x139 hw' g1 x1 g2 K)
  · refine yr_el (P := fun w => wpY_step post w (nI x)) h ?_
    intro a_goes s bt sd cm a_owner a_kinds a_values a_senders a_failed a_totals hs aT aM aQ aF aS hg
    have hc := nc_ x1
    have hi := ni_ x1
    obtain ⟨pl, p1, p2, p3⟩ := aM.2.2 x x0 x1
    obtain ⟨m, pt, hpl⟩ : ∃ m pt, pl = m :: pt := by
      cases hp : pl with
      | nil =>
        rw [hp, hms] at p3
        simp at p3
      | cons m pt => exact ⟨m, pt, rfl⟩
    subst hpl
    have p3' := p3
    rw [hms] at p3
    rw [List.map_cons] at p3
    have hkvf := (List.cons.inj p3).1
    have hkd : a_kinds m = nI k := (congrArg Prod.fst hkvf).symm
    have hva : a_values m = v := (congrArg (fun z => z.2.1) hkvf).symm
    have hsn : a_senders m = nI f := (congrArg (fun z => z.2.2) hkvf).symm
    have hm72 : m < 72 := ((p2 m).mp (by simp)).1
    have cm72 : (nI m).toNatClampNeg = m := nI_clamp (by omega)
    have i72 : vp_in (nI m) 72 := vp_in_nI hm72 (by omega)
    have aS' : ya_S (ac_steps c + 1) (ac_lost c) (ac_fai c) (ac_ane c) (ac_mel c) (upd a_totals 0 (a_totals 0 + 1)) := by
      obtain ⟨s0, s1, s2, s3, s4⟩ := aS
      refine ⟨?_, ?_, ?_, ?_, ?_⟩
      · rw [pk_us, s0, nI_1]
      · rw [pk_un (by omega)]; exact s1
      · rw [pk_un (by omega)]; exact s2
      · rw [pk_un (by omega)]; exact s3
      · rw [pk_un (by omega)]; exact s4
    refine nm_e (And.intro hi (nm_r (e' := fun j => lN (fu_ sd x 0 j)) (by rw [hc]; exact ul_) ?_))
    refine yp_place (a_came := fun _ => 0) (pl := m :: pt) p1 p2 (fun j => by have := aM.1 j; omega) (fun s' m' t' e he => ?_) (fun hno => ?_)
    · have hs0 : s' = [] := by
        have hl' : s'.length ≤ 6 := by
          have h1 : (m :: pt).length ≤ 6 := by
            have := hlen
            rw [p3', List.length_map] at this
            exact this
          rw [e] at h1
          simp at h1
          omega
        have := (nI_eq (a := 0) (b := s'.length) (by omega) (by omega)).mp he
        exact List.eq_nil_of_length_eq_zero this.symm
      subst hs0
      have hmm : m = m' := (List.cons.inj e).1
      subst hmm
      refine ⟨i72, nm_r (e' := v) (by rw [cm72]; exact hva) ⟨i72, nm_r (e' := nI f) (by rw [cm72]; exact hsn) ⟨hi, i72, nm_r (e' := nI (12 * b + 3 * k)) (by rw [hc, cm72, eb, hkd, n12_]) ⟨i72, nm_r (e' := upd a_owner m 0) (by rw [cm72]) ⟨4, ?_⟩⟩⟩⟩⟩
      refine gY _ post (yr_up ⟨a_goes, yg_beg hs aT (ym_pop aM x0 x1 ⟨p1, p2, p3'⟩) (yq_un aQ) aF aS'⟩ (by omega)) (fun w' hw' => ?_)
      exact y110 hw' g1 (by omega) x0 x1 g2 (fun w2 hw2 => K w2 (yr_up hw2 (by omega)))
    · exact absurd rfl (hno [] m pt rfl)
theorem ls_run {N : Nat} (hN : N ≤ 500) : ∀ (d i B : Nat) (c : AC), i + d = N → B + 80 * d < 2 ^ 27 → ci_A B c → ac_wk c = 0 → ∃ (c' : AC) (r : Int32), ci_A (B + 80 * d) c' ∧ ac_wk c' = 0 ∧
    (∀ (w : SX) (post : Int32 → SX → Prop), xr_ c w → (∀ w', xr_ c' w' → post r w') → xc_ (wX_run_24 post (nI N) (d + 1) (nI i)) w) ∧
    (∀ (w : SY) (post : Int32 → SY → Prop), yr_ B c w → (∀ w', yr_ (B + 80 * d) c' w' → post r w') → yc_ (wY_run_28 post (nI N) (d + 2) (nI i) 1) w) := by
  intro d
  induction d with
  | zero =>
    intro i B c hi hB hci hw
    have e : i = N := by omega
    subst e
    refine ⟨c, nI i, hci, hw, fun w post h K => ?_, fun w post h K => ?_⟩
    · have H := K w h
      revert H
      revert h
      revert w
      refine xt_el ?_
      intro f_front f_back f_waiting f_limit f_window f_puts f_steps f_lost f_failures f_anew f_melted f_working f_heldValue f_heldSender a_op a_first a_second a_there a_parent a_behaviour a_born a_strategy a_state a_eldest a_youngest a_younger a_older a_children a_kind a_value a_sender a_head a_mails a_next a_before a_queued a_failedAt a_failedHead a_failedCount a_put _ H
      exact br_t (Int32.le_refl _) H
    · have H := K w h
      revert H
      revert h
      revert w
      refine yt_el ?_
      intro f_stamps f_limit f_window f_acting f_outs a_ops a_as a_bs a_there a_parent a_birth a_behaviour a_first a_strategy a_state a_stands a_owner a_came a_kinds a_values a_senders a_failed a_last a_totals a_goes _ H
      exact br_t (Int32.le_refl _) H
  | succ d ih =>
    intro i B c hi hB hci hw
    have hn : ¬ nI N ≤ nI i := nI_ge (by omega) (by omega)
    cases hrow : ac_row c with
    | nil =>
      refine ⟨c, nI i, ci_up hci (by omega), hw, fun w post h K => ?_, fun w post h K => ?_⟩
      · refine xr_el (P := fun w => xc_ (wX_run_24 post (nI N) (d + 1 + 1) (nI i)) w) h ?_
        intro f_front f_back f_waiting a_second a_eldest a_youngest a_younger a_older a_children a_kind a_value a_sender a_head a_mails a_next a_before a_queued a_failedAt a_failedHead a_failedCount a_put aA aT aM aQ aF aO
        refine br_f hn (br_t ?_ (K _ (xr_in aA aT aM aQ aF aO)))
        rw [aQ.1.1, hrow]
        decide
      · refine yr_el (P := fun w => yc_ (wY_run_28 post (nI N) (d + 1 + 2) (nI i) 1) w) h ?_
        intro a_goes s bt sd cm a_owner a_kinds a_values a_senders a_failed a_totals _ _ _ _ _ _ hg
        refine br_f hn (br_f (by decide) (yx_next hg (by omega) hci (fun _ => ?_) (fun a t e => ?_)))
        · exact br_t (Int32.le_refl 0) (br_t rfl (br_f hn (br_t rfl (K _ (yr_up ⟨a_goes, hg⟩ (by omega))))))
        · rw [hrow] at e
          cases e
    | cons x rest =>
      obtain ⟨c2, h1, h2, hX, hY⟩ := ls_step hci (by omega) hrow
      obtain ⟨c', r, g1, g2, gX, gY⟩ := ih (i + 1) (B + 80) c2 (by omega) (by omega) h1 h2
      have eB : B + 80 + 80 * d = B + 80 * (d + 1) := by omega
      rw [eB] at g1 gY
      have hxr : x ∈ ac_row c := by rw [hrow]; simp
      obtain ⟨x0, x1, _, _⟩ := hci.2.2.2.1.2.1 x hxr
      refine ⟨c', r, g1, g2, fun w post h K => ?_, fun w post h K => ?_⟩
      · refine xr_el (P := fun w => xc_ (wX_run_24 post (nI N) (d + 1 + 1) (nI i)) w) h ?_
        intro f_front f_back f_waiting a_second a_eldest a_youngest a_younger a_older a_children a_kind a_value a_sender a_head a_mails a_next a_before a_queued a_failedAt a_failedHead a_failedCount a_put aA aT aM aQ aF aO
        refine br_f hn (br_f ?_ ?_)
        · rw [aQ.1.1, hrow]
          exact nI_pos (by omega)
        · refine hX _ _ (xr_in aA aT aM aQ aF aO) (fun w' hw' => ?_)
          have H := gX w' post hw' K
          revert H
          revert hw'
          revert w'
          refine xt_el ?_
          intro f_front f_back f_waiting f_limit f_window f_puts f_steps f_lost f_failures f_anew f_melted f_working f_heldValue f_heldSender a_op a_first a_second a_there a_parent a_behaviour a_born a_strategy a_state a_eldest a_youngest a_younger a_older a_children a_kind a_value a_sender a_head a_mails a_next a_before a_queued a_failedAt a_failedHead a_failedCount a_put _ H
          exact nm_r (e' := nI (i + 1)) (nI_1 _) H
      · refine yr_el (P := fun w => yc_ (wY_run_28 post (nI N) (d + 1 + 2) (nI i) 1) w) h ?_
        intro a_goes s bt sd cm a_owner a_kinds a_values a_senders a_failed a_totals _ _ _ _ _ _ hg
        refine br_f hn (br_f (by decide) (yx_next hg (by omega) hci (fun e => ?_) (fun a t e => ?_)))
        · rw [hrow] at e
          cases e
        · rw [hrow] at e
          have ea : x = a := (List.cons.inj e).1
          subst ea
          refine br_f (nI_nle x0 (by omega)) (br_f (by decide) ?_)
          refine hY _ _ ⟨a_goes, hg⟩ (fun w' hw' => ?_)
          have H := gY w' post hw' K
          revert H
          revert hw'
          revert w'
          refine yt_el ?_
          intro f_stamps f_limit f_window f_acting f_outs a_ops a_as a_bs a_there a_parent a_birth a_behaviour a_first a_strategy a_state a_stands a_owner a_came a_kinds a_values a_senders a_failed a_last a_totals a_goes _ H
          exact nm_r (e' := nI (i + 1)) (nI_1 _) H
end
section
/-! the relation, and the calls that change something -/
def i_Rel (k : Nat) (u : SX) (v : SY) : Prop := ∃ c : AC, ci_A (6000 * k) c ∧ ac_wk c = 0 ∧ xr_ c u ∧ yr_ (6000 * k) c v
theorem i_up {k : Nat} {u : SX} {v : SY} (h : i_Rel k u v) : i_Rel (k + 7) u v := by
  obtain ⟨c, h1, h2, h3, h4⟩ := h
  exact ⟨c, ci_up h1 (by omega), h2, h3, yr_up h4 (by omega)⟩
theorem ir_mk {k B : Nat} {c : AC} {u : SX} {v : SY} (h1 : ci_A B c) (h2 : ac_wk c = 0) (h3 : xr_ c u) (h4 : yr_ B c v) (hB : B ≤ 6000 * (k + 7)) : i_Rel (k + 7) u v :=
  ⟨c, ci_up h1 hB, h2, h3, yr_up h4 hB⟩
theorem ra_ {v : Int32} {n : Nat} (hn : n < 2 ^ 31) (h0 : 0 ≤ v) (h1 : v ≤ nI n) : ∃ j, j ≤ n ∧ v = nI j := by
  exact nI_of2 (M := nI n) (nI_toInt hn) (Int32.not_lt.mpr h0) h1
def ac_ini : AC := (1, 10, 0, 0, 0, 0, 0, 0, 0, 0, 0, fun _ => 0, fun _ => 0, fun _ => 0, upd (fun _ => 0) 0 1, fun _ => 0, fun _ => 0, fun _ => 0, fun _ => 0, fun _ => 0, fun _ => 0, fun _ => [], fun _ => [], fun _ => [], [])
theorem ini_th {x : Nat} (h : x ≠ 0) : ac_th ac_ini x = 0 := by
  show upd (fun _ => 0) 0 1 x = 0
  rw [pk_un h]
theorem ini_ci : ci_A 0 ac_ini := by
  refine ⟨⟨?_, rfl, fun x x0 x1 hx => absurd (ini_th (by omega)) hx, ⟨fun p x => ?_, fun p => List.Pairwise.nil⟩, fun _ => 0, 0, fun x _ => Nat.le_refl 0, fun x p x0 x1 hx => absurd (ini_th (by omega)) hx⟩, fun x x1 hx => ⟨⟨0, by omega, rfl⟩, ⟨0, by omega, rfl⟩, ⟨0, by omega, rfl⟩⟩, fun x => ⟨fun _ => Nat.zero_le _, fun _ _ _ => rfl, fun k v f hm => ?_⟩, ⟨List.Pairwise.nil, fun x hx => ?_, fun hx => ?_, ?_⟩, fun p => ⟨Nat.zero_le _, fun t ht => ?_, List.Pairwise.nil⟩, fun k hk => ⟨fun e => ?_, fun e => ?_, fun e => ?_⟩, ⟨1, by omega, rfl⟩, ⟨10, by omega, by omega, rfl⟩, ⟨0, by omega, rfl⟩, Nat.le_refl 0, Nat.le_refl 0⟩
  · show upd (fun _ => 0) 0 1 0 ≠ 0
    rw [pk_us]
    decide
  · constructor
    · intro h
      cases h
    · rintro ⟨_, x0, _, hx, _⟩
      exact absurd (ini_th (by omega)) hx
  · cases hm
  · cases hx
  · cases hx
  · show (0 : Nat) < 12
    omega
  · cases ht
  · exact absurd (show (0 : Int32) = 3 from e) (by decide)
  · exact absurd (show (0 : Int32) = 5 from e) (by decide)
  · exact absurd (show (0 : Int32) = 7 from e) (by decide)
theorem i_vc0 : wpX_init (fun u => wpY_init (fun v => i_Rel 0 u v)) := by
  refine nm_r (e' := upd (fun _ => 0) 0 1) rfl (nm_r (e' := upd (fun _ => 0) 0 (-1)) (by rw [nb_m]) (nm_r (e' := upd (fun _ => 0) 0 (-1)) (by rw [nb_m]) ?_))
  refine nm_r (e' := upd (fun _ => 0) 0 1) rfl ?_
  refine yf_forget (p := 0) (by omega) (fun fa g1 g2 => ?_)
  refine ⟨ac_ini, ini_ci, rfl, ?_, fun _ => 0, ?_⟩
  · refine xr_in (c := ac_ini) (fun k hk e => ?_) (fun p hp htp => ?_) (fun x hx => ⟨rfl, 0, by omega, rfl, fun i k v f hi => ?_⟩) ⟨dl_nil _ _, rfl, fun x hx => ?_⟩ (fun p hp => ⟨rfl, 0, by omega, rfl, fun j t hj => ?_⟩) (fun k hk hp => ?_)
    · rfl
    · by_cases e : p = 0
      · subst e
        exact ⟨⟨rfl, rfl, fun s a t h => by cases s <;> cases h⟩, rfl⟩
      · exact absurd (ini_th e) htp
    · cases i <;> cases hi
    · rw [if_neg]
      intro h
      cases h
    · cases j <;> cases hj
    · exact absurd hp (Nat.not_lt_zero _)
  · refine yg_in (c := ac_ini) (s := 0) (bt := fun _ => 0) (sd := fun _ => 0) (cm := fun _ => 0) (Nat.le_refl 0) ⟨fun _ => Nat.le_refl 0, fun p => List.Pairwise.nil⟩ ⟨fun _ => Nat.le_refl 0, fun m hm => ⟨0, by omega, rfl⟩, fun x x0 x1 => ⟨[], List.Pairwise.nil, fun m => ?_, rfl⟩⟩ ⟨fun _ => Nat.le_refl 0, List.Pairwise.nil, fun x x0 x1 => ?_⟩ (fun p hp htp j hj => ?_) ⟨rfl, rfl, rfl, rfl, rfl⟩
    · constructor
      · intro h
        cases h
      · rintro ⟨_, h⟩
        exact absurd h.symm (nI_ne0 x0 (by omega))
    · constructor
      · intro h
        cases h
      · intro h
        exact absurd rfl h
    · by_cases e : p = 0
      · subst e
        rw [g1 j hj]
        rfl
      · exact absurd (ini_th e) htp
theorem xr_lmx {c : AC} {l W : Int32} {f_front f_back f_waiting : Int32} {a_second a_eldest a_youngest a_younger a_older a_children a_kind a_value a_sender a_head a_mails a_next a_before a_queued a_failedAt a_failedHead a_failedCount a_put : Nat → Int32} (aA : xa_A (ac_op c) (ac_bs c) a_second) (aT : xa_T (ac_th c) (ac_ch c) a_eldest a_youngest a_younger a_older a_children)
  (aM : xa_M (ac_ml c) a_kind a_value a_sender a_head a_mails) (aQ : xa_Q (ac_row c) f_front f_back f_waiting a_next a_before a_queued)
  (aF : xa_F (ac_fl c) a_failedAt a_failedHead a_failedCount) (aO : xa_O (ac_puts c) (ac_ou c) a_put) : xr_ (ac_lmx c l W) (f_front, f_back, f_waiting, l, W, nI (ac_puts c), nI (ac_steps c), nI (ac_lost c), nI (ac_fai c), nI (ac_ane c), nI (ac_mel c), xr_w (ac_wk c), ac_hv c, ac_hs c, ac_op c, ac_as c, a_second, ac_th c, ac_pa c, ac_be c, ac_bo c, ac_sg c, ac_st c, a_eldest, a_youngest, a_younger, a_older, a_children, a_kind, a_value, a_sender, a_head, a_mails, a_next, a_before, a_queued, a_failedAt, a_failedHead, a_failedCount, a_put) := xr_in aA aT aM aQ aF aO
theorem yg_lmx {B : Nat} {c : AC} {l W : Int32} {s : Nat} {bt sd cm : Nat → Nat} {a_goes a_owner a_kinds a_values a_senders a_failed a_totals : Nat → Int32} (h0 : s ≤ B)
  (h1 : ya_T (ac_ch c) bt s) (h2 : ya_M (ac_ml c) a_owner cm a_kinds a_values a_senders s) (h3 : ya_Q (ac_row c) sd s) (h4 : ya_F (ac_th c) (ac_fl c) a_failed) (h5 : ya_S (ac_steps c) (ac_lost c) (ac_fai c) (ac_ane c) (ac_mel c) a_totals) : yg_ B a_goes (ac_lmx c l W) (lN s, l, W, nI (ac_wk c), nI (ac_puts c), ac_op c, ac_as c, ac_bs c, ac_th c, ac_pa c, (fun j => lN (bt j)), ac_be c, ac_bo c, ac_sg c, ac_st c, (fun j => lN (sd j)), a_owner, (fun j => lN (cm j)), a_kinds, a_values, a_senders, a_failed, ac_ou c, a_totals, a_goes) := yg_in h0 h1 h2 h3 h4 h5
theorem xr_sgx {c : AC} {x : Nat} {g : Int32} {f_front f_back f_waiting : Int32} {a_second a_eldest a_youngest a_younger a_older a_children a_kind a_value a_sender a_head a_mails a_next a_before a_queued a_failedAt a_failedHead a_failedCount a_put : Nat → Int32} (aA : xa_A (ac_op c) (ac_bs c) a_second) (aT : xa_T (ac_th c) (ac_ch c) a_eldest a_youngest a_younger a_older a_children)
  (aM : xa_M (ac_ml c) a_kind a_value a_sender a_head a_mails) (aQ : xa_Q (ac_row c) f_front f_back f_waiting a_next a_before a_queued)
  (aF : xa_F (ac_fl c) a_failedAt a_failedHead a_failedCount) (aO : xa_O (ac_puts c) (ac_ou c) a_put) : xr_ (ac_sgx c x g) (f_front, f_back, f_waiting, ac_lim c, ac_win c, nI (ac_puts c), nI (ac_steps c), nI (ac_lost c), nI (ac_fai c), nI (ac_ane c), nI (ac_mel c), xr_w (ac_wk c), ac_hv c, ac_hs c, ac_op c, ac_as c, a_second, ac_th c, ac_pa c, ac_be c, ac_bo c, upd (ac_sg c) x g, ac_st c, a_eldest, a_youngest, a_younger, a_older, a_children, a_kind, a_value, a_sender, a_head, a_mails, a_next, a_before, a_queued, a_failedAt, a_failedHead, a_failedCount, a_put) := xr_in aA aT aM aQ aF aO
theorem yg_sgx {B : Nat} {c : AC} {x : Nat} {g : Int32} {s : Nat} {bt sd cm : Nat → Nat} {a_goes a_owner a_kinds a_values a_senders a_failed a_totals : Nat → Int32} (h0 : s ≤ B)
  (h1 : ya_T (ac_ch c) bt s) (h2 : ya_M (ac_ml c) a_owner cm a_kinds a_values a_senders s) (h3 : ya_Q (ac_row c) sd s) (h4 : ya_F (ac_th c) (ac_fl c) a_failed) (h5 : ya_S (ac_steps c) (ac_lost c) (ac_fai c) (ac_ane c) (ac_mel c) a_totals) : yg_ B a_goes (ac_sgx c x g) (lN s, ac_lim c, ac_win c, nI (ac_wk c), nI (ac_puts c), ac_op c, ac_as c, ac_bs c, ac_th c, ac_pa c, (fun j => lN (bt j)), ac_be c, ac_bo c, upd (ac_sg c) x g, ac_st c, (fun j => lN (sd j)), a_owner, (fun j => lN (cm j)), a_kinds, a_values, a_senders, a_failed, ac_ou c, a_totals, a_goes) := yg_in h0 h1 h2 h3 h4 h5
theorem xr_rul {c : AC} {x : Nat} {ro ra rb : Int32} {f_front f_back f_waiting : Int32} {a_second a_eldest a_youngest a_younger a_older a_children a_kind a_value a_sender a_head a_mails a_next a_before a_queued a_failedAt a_failedHead a_failedCount a_put : Nat → Int32} (aA : xa_A (upd (ac_op c) x ro) (upd (ac_bs c) x rb) a_second) (aT : xa_T (ac_th c) (ac_ch c) a_eldest a_youngest a_younger a_older a_children)
  (aM : xa_M (ac_ml c) a_kind a_value a_sender a_head a_mails) (aQ : xa_Q (ac_row c) f_front f_back f_waiting a_next a_before a_queued)
  (aF : xa_F (ac_fl c) a_failedAt a_failedHead a_failedCount) (aO : xa_O (ac_puts c) (ac_ou c) a_put) : xr_ (ac_rule c x ro ra rb) (f_front, f_back, f_waiting, ac_lim c, ac_win c, nI (ac_puts c), nI (ac_steps c), nI (ac_lost c), nI (ac_fai c), nI (ac_ane c), nI (ac_mel c), xr_w (ac_wk c), ac_hv c, ac_hs c, upd (ac_op c) x ro, upd (ac_as c) x ra, a_second, ac_th c, ac_pa c, ac_be c, ac_bo c, ac_sg c, ac_st c, a_eldest, a_youngest, a_younger, a_older, a_children, a_kind, a_value, a_sender, a_head, a_mails, a_next, a_before, a_queued, a_failedAt, a_failedHead, a_failedCount, a_put) := xr_in aA aT aM aQ aF aO
theorem yg_rul {B : Nat} {c : AC} {x : Nat} {ro ra rb : Int32} {s : Nat} {bt sd cm : Nat → Nat} {a_goes a_owner a_kinds a_values a_senders a_failed a_totals : Nat → Int32} (h0 : s ≤ B)
  (h1 : ya_T (ac_ch c) bt s) (h2 : ya_M (ac_ml c) a_owner cm a_kinds a_values a_senders s) (h3 : ya_Q (ac_row c) sd s) (h4 : ya_F (ac_th c) (ac_fl c) a_failed) (h5 : ya_S (ac_steps c) (ac_lost c) (ac_fai c) (ac_ane c) (ac_mel c) a_totals) : yg_ B a_goes (ac_rule c x ro ra rb) (lN s, ac_lim c, ac_win c, nI (ac_wk c), nI (ac_puts c), upd (ac_op c) x ro, upd (ac_as c) x ra, upd (ac_bs c) x rb, ac_th c, ac_pa c, (fun j => lN (bt j)), ac_be c, ac_bo c, ac_sg c, ac_st c, (fun j => lN (sd j)), a_owner, (fun j => lN (cm j)), a_kinds, a_values, a_senders, a_failed, ac_ou c, a_totals, a_goes) := yg_in h0 h1 h2 h3 h4 h5
def vc_o (B B' : Nat) (c : AC) (wX : (Int32 → SX → Prop) → SX → Prop) (wY : (Int32 → SY → Prop) → SY → Prop) : Prop := ∃ (c' : AC) (r : Int32), ci_A B' c' ∧ ac_wk c' = 0 ∧
  (∀ (w : SX) (post : Int32 → SX → Prop), xr_ c w → (∀ w', xr_ c' w' → post r w') → wX post w) ∧ (∀ (w : SY) (post : Int32 → SY → Prop), yr_ B c w → (∀ w', yr_ B' c' w' → post r w') → wY post w)
theorem vc_mk {k : Nat} {u : SX} {v : SY} {wX : (Int32 → SX → Prop) → SX → Prop} {wY : (Int32 → SY → Prop) → SY → Prop} (I : i_Rel k u v) (H : ∀ c, ci_A (6000 * k) c → ac_wk c = 0 → vc_o (6000 * k) (6000 * k + 42000) c wX wY) : wX (fun r u' => wY (fun r' v' => r' = r ∧ i_Rel (k + 7) u' v') v) u := by
  obtain ⟨c, hci, hw, hx, hy⟩ := I
  obtain ⟨c', r, h1, h2, h3, h4⟩ := H c hci hw
  exact h3 u _ hx (fun u' hu' => h4 v _ hy (fun v' hv' => ⟨rfl, ir_mk h1 h2 hu' hv' (by omega)⟩))
theorem vc_same {B : Nat} {c : AC} {wX : (Int32 → SX → Prop) → SX → Prop} {wY : (Int32 → SY → Prop) → SY → Prop} (hci : ci_A B c) (hw : ac_wk c = 0) (r : Int32) (hX : ∀ (w : SX) (post : Int32 → SX → Prop), xr_ c w → (∀ w', xr_ c w' → post r w') → wX post w) (hY : ∀ (w : SY) (post : Int32 → SY → Prop), yr_ B c w → (∀ w', yr_ B c w' → post r w') → wY post w) : vc_o B (B + 42000) c wX wY :=
  ⟨c, r, ci_up hci (by omega), hw, hX, fun w post h K => hY w post h (fun w' hw' => K w' (yr_up hw' (by omega)))⟩
theorem vr_mk {k : Nat} {u : SX} {v : SY} {wX : (Int32 → Prop) → SX → Prop} {wY : (Int32 → Prop) → SY → Prop} (I : i_Rel k u v) (H : ∀ c, ci_A (6000 * k) c → ∃ r : Int32, (∀ (w : SX) (post : Int32 → Prop), xr_ c w → post r → wX post w) ∧ (∀ (w : SY) (post : Int32 → Prop), yr_ (6000 * k) c w → post r → wY post w)) : wX (fun r => wY (fun r' => r' = r ∧ i_Rel (k + 7) u v) v) u := by
  have I' := i_up I
  obtain ⟨c, hci, hw, hx, hy⟩ := I
  obtain ⟨r, h3, h4⟩ := H c hci
  exact h3 u _ hx (h4 v _ hy ⟨rfl, I'⟩)
theorem i_vc_limit {k : Nat} {u : SX} {v : SY} (I : i_Rel k u v) (hk : k + 7 ≤ 3584) (v1 : Int32) (v2 : Int32) : wpX_limit (fun r u' => wpY_limit (fun r' v' => r' = r ∧ i_Rel (k + 7) u' v') v v1 v2) u v1 v2 := by
  refine vc_mk (wX := fun post w => wpX_limit post w v1 v2) (wY := fun post w => wpY_limit post w v1 v2) I (fun c hci hw => ?_)
  by_cases ok : (0 ≤ v1 ∧ v1 ≤ 3) ∧ (1 ≤ v2 ∧ v2 ≤ 100)
  · obtain ⟨⟨a1, a2⟩, b1, b2⟩ := ok
    obtain ⟨l, hl, rfl⟩ := ra_ (n := 3) (by omega) a1 a2
    obtain ⟨W, hW, rfl⟩ := ra_ (n := 100) (by omega) (Int32.le_trans (by decide) b1) b2
    have hW1 : 1 ≤ W := (nI_leI (a := 1) (by omega) (by omega)).mp b1
    refine ⟨ac_lmx c (nI l) (nI W), 1, ci_up (ac_lmx_ci hci hl hW1 hW) (by omega), hw, fun w post h K => ?_, fun w post h K => ?_⟩
    · refine xr_el (P := fun w => wpX_limit post w (nI l) (nI W)) h ?_
      intro f_front f_back f_waiting a_second a_eldest a_youngest a_younger a_older a_children a_kind a_value a_sender a_head a_mails a_next a_before a_queued a_failedAt a_failedHead a_failedCount a_put aA aT aM aQ aF aO
      have hxw : xr_ c (f_front, f_back, f_waiting, ac_lim c, ac_win c, nI (ac_puts c), nI (ac_steps c), nI (ac_lost c), nI (ac_fai c), nI (ac_ane c), nI (ac_mel c), xr_w (ac_wk c), ac_hv c, ac_hs c, ac_op c, ac_as c, a_second, ac_th c, ac_pa c, ac_be c, ac_bo c, ac_sg c, ac_st c, a_eldest, a_youngest, a_younger, a_older, a_children, a_kind, a_value, a_sender, a_head, a_mails, a_next, a_before, a_queued, a_failedAt, a_failedHead, a_failedCount, a_put) := xr_in aA aT aM aQ aF aO
      show wpX_limit _ _ _ _
      unfold wpX_limit
      exact xo_c (fun _ _ => br_t rfl (xo_c (fun _ _ => br_t rfl (K _ (xr_lmx aA aT aM aQ aF aO))) (fun hn => absurd ⟨b1, b2⟩ hn))) (fun hn => absurd ⟨a1, a2⟩ hn)
    · refine yr_el (P := fun w => wpY_limit post w (nI l) (nI W)) h ?_
      intro a_goes s bt sd cm a_owner a_kinds a_values a_senders a_failed a_totals hs aT aM aQ aF aS hg
      show wpY_limit _ _ _ _
      unfold wpY_limit
      exact yo_c (fun _ _ => br_f (by decide) (yo_c (fun _ _ => br_f (by decide) (K _ (yr_up ⟨a_goes, yg_lmx hs aT aM aQ aF aS⟩ (by omega)))) (fun hn => absurd ⟨b1, b2⟩ hn))) (fun hn => absurd ⟨a1, a2⟩ hn)
  · refine vc_same hci hw 0 (fun w post h K => ?_) (fun w post h K => ?_)
    · refine xr_el (P := fun w => wpX_limit post w v1 v2) h ?_
      intro f_front f_back f_waiting a_second a_eldest a_youngest a_younger a_older a_children a_kind a_value a_sender a_head a_mails a_next a_before a_queued a_failedAt a_failedHead a_failedCount a_put aA aT aM aQ aF aO
      have hxw : xr_ c (f_front, f_back, f_waiting, ac_lim c, ac_win c, nI (ac_puts c), nI (ac_steps c), nI (ac_lost c), nI (ac_fai c), nI (ac_ane c), nI (ac_mel c), xr_w (ac_wk c), ac_hv c, ac_hs c, ac_op c, ac_as c, a_second, ac_th c, ac_pa c, ac_be c, ac_bo c, ac_sg c, ac_st c, a_eldest, a_youngest, a_younger, a_older, a_children, a_kind, a_value, a_sender, a_head, a_mails, a_next, a_before, a_queued, a_failedAt, a_failedHead, a_failedCount, a_put) := xr_in aA aT aM aQ aF aO
      have hr := K _ hxw
      show wpX_limit _ _ _ _
      unfold wpX_limit
      exact xo_c (fun p1 p2 => br_t rfl (xo_c (fun p3 p4 => absurd ⟨⟨p1, p2⟩, p3, p4⟩ ok) (fun _ => br_f (by decide) hr))) (fun _ => br_f (by decide) hr)
    · refine yr_el (P := fun w => wpY_limit post w v1 v2) h ?_
      intro a_goes s bt sd cm a_owner a_kinds a_values a_senders a_failed a_totals hs aT aM aQ aF aS hg
      have hr := K _ ⟨a_goes, hg⟩
      show wpY_limit _ _ _ _
      unfold wpY_limit
      exact yo_c (fun p1 p2 => br_f (by decide) (yo_c (fun p3 p4 => absurd ⟨⟨p1, p2⟩, p3, p4⟩ ok) (fun _ => br_t rfl hr))) (fun _ => br_t rfl hr)
end
section
/-! further calls that change something -/
theorem i_vc_bear {k : Nat} {u : SX} {v : SY} (I : i_Rel k u v) (hk : k + 7 ≤ 3584) (v1 : Int32) (v2 : Int32) : wpX_bear (fun r u' => wpY_bear (fun r' v' => r' = r ∧ i_Rel (k + 7) u' v') v v1 v2) u v1 v2 := by
  refine vc_mk (wX := fun post w => wpX_bear post w v1 v2) (wY := fun post w => wpY_bear post w v1 v2) I (fun c hci hw => ?_)
  by_cases ok : (0 ≤ v1 ∧ v1 ≤ 3) ∧ (0 ≤ v2 ∧ v2 ≤ 2)
  · obtain ⟨⟨a1, a2⟩, b1, b2⟩ := ok
    obtain ⟨b, hb, rfl⟩ := ra_ (n := 3) (by omega) a1 a2
    obtain ⟨g, hg2, rfl⟩ := ra_ (n := 2) (by omega) b1 b2
    obtain ⟨c', r, h1, h2, hX, hY⟩ := lb_ (p := 0) hci (by omega) hci.1.1 hb hg2
    refine ⟨c', r, ci_up h1 (by omega), (h2 0 hci.1.1).2.1.trans hw, fun w post h K => ?_, fun w post h K => ?_⟩
    · refine xr_el (P := fun w => wpX_bear post w (nI b) (nI g)) h ?_
      intro f_front f_back f_waiting a_second a_eldest a_youngest a_younger a_older a_children a_kind a_value a_sender a_head a_mails a_next a_before a_queued a_failedAt a_failedHead a_failedCount a_put aA aT aM aQ aF aO
      have hxw : xr_ c (f_front, f_back, f_waiting, ac_lim c, ac_win c, nI (ac_puts c), nI (ac_steps c), nI (ac_lost c), nI (ac_fai c), nI (ac_ane c), nI (ac_mel c), xr_w (ac_wk c), ac_hv c, ac_hs c, ac_op c, ac_as c, a_second, ac_th c, ac_pa c, ac_be c, ac_bo c, ac_sg c, ac_st c, a_eldest, a_youngest, a_younger, a_older, a_children, a_kind, a_value, a_sender, a_head, a_mails, a_next, a_before, a_queued, a_failedAt, a_failedHead, a_failedCount, a_put) := xr_in aA aT aM aQ aF aO
      show wpX_bear _ _ _ _
      unfold wpX_bear
      refine xo_c (fun _ _ => br_t rfl (xo_c (fun _ _ => br_t rfl (hX _ _ hxw (fun w' hw' => ?_))) (fun hn => absurd ⟨b1, b2⟩ hn))) (fun hn => absurd ⟨a1, a2⟩ hn)
      have hh := K w' hw'
      revert hh
      revert hw'
      revert w'
      refine xt_el ?_
      intro f_front f_back f_waiting f_limit f_window f_puts f_steps f_lost f_failures f_anew f_melted f_working f_heldValue f_heldSender a_op a_first a_second a_there a_parent a_behaviour a_born a_strategy a_state a_eldest a_youngest a_younger a_older a_children a_kind a_value a_sender a_head a_mails a_next a_before a_queued a_failedAt a_failedHead a_failedCount a_put _ hh
      exact hh
    · refine yr_el (P := fun w => wpY_bear post w (nI b) (nI g)) h ?_
      intro a_goes s bt sd cm a_owner a_kinds a_values a_senders a_failed a_totals hs aT aM aQ aF aS hg
      show wpY_bear _ _ _ _
      unfold wpY_bear
      refine yo_c (fun _ _ => br_f (by decide) (yo_c (fun _ _ => br_f (by decide) (hY _ _ ⟨a_goes, hg⟩ (fun w' hw' => ?_))) (fun hn => absurd ⟨b1, b2⟩ hn))) (fun hn => absurd ⟨a1, a2⟩ hn)
      have hh := K w' (yr_up hw' (by omega))
      revert hh
      revert hw'
      revert w'
      refine yt_el ?_
      intro f_stamps f_limit f_window f_acting f_outs a_ops a_as a_bs a_there a_parent a_birth a_behaviour a_first a_strategy a_state a_stands a_owner a_came a_kinds a_values a_senders a_failed a_last a_totals a_goes _ hh
      exact hh
  · refine vc_same hci hw (-1) (fun w post h K => ?_) (fun w post h K => ?_)
    · refine xr_el (P := fun w => wpX_bear post w v1 v2) h ?_
      intro f_front f_back f_waiting a_second a_eldest a_youngest a_younger a_older a_children a_kind a_value a_sender a_head a_mails a_next a_before a_queued a_failedAt a_failedHead a_failedCount a_put aA aT aM aQ aF aO
      have hxw : xr_ c (f_front, f_back, f_waiting, ac_lim c, ac_win c, nI (ac_puts c), nI (ac_steps c), nI (ac_lost c), nI (ac_fai c), nI (ac_ane c), nI (ac_mel c), xr_w (ac_wk c), ac_hv c, ac_hs c, ac_op c, ac_as c, a_second, ac_th c, ac_pa c, ac_be c, ac_bo c, ac_sg c, ac_st c, a_eldest, a_youngest, a_younger, a_older, a_children, a_kind, a_value, a_sender, a_head, a_mails, a_next, a_before, a_queued, a_failedAt, a_failedHead, a_failedCount, a_put) := xr_in aA aT aM aQ aF aO
      have hr := K _ hxw
      show wpX_bear _ _ _ _
      unfold wpX_bear
      exact xo_c (fun p1 p2 => br_t rfl (xo_c (fun p3 p4 => absurd ⟨⟨p1, p2⟩, p3, p4⟩ ok) (fun _ => br_f (by decide) hr))) (fun _ => br_f (by decide) hr)
    · refine yr_el (P := fun w => wpY_bear post w v1 v2) h ?_
      intro a_goes s bt sd cm a_owner a_kinds a_values a_senders a_failed a_totals hs aT aM aQ aF aS hg
      have hr := K _ ⟨a_goes, hg⟩
      show wpY_bear _ _ _ _
      unfold wpY_bear
      exact yo_c (fun p1 p2 => br_f (by decide) (yo_c (fun p3 p4 => absurd ⟨⟨p1, p2⟩, p3, p4⟩ ok) (fun _ => br_t rfl hr))) (fun _ => br_t rfl hr)
theorem i_vc_stop {k : Nat} {u : SX} {v : SY} (I : i_Rel k u v) (hk : k + 7 ≤ 3584) (v1 : Int32) : wpX_stop (fun r u' => wpY_stop (fun r' v' => r' = r ∧ i_Rel (k + 7) u' v') v v1) u v1 := by
  refine vc_mk (wX := fun post w => wpX_stop post w v1) (wY := fun post w => wpY_stop post w v1) I (fun c hci hw => ?_)
  by_cases ok : ∃ x, 0 < x ∧ x < 12 ∧ v1 = nI x ∧ ac_th c x ≠ 0
  · obtain ⟨x, x0, x1, rfl, hx⟩ := ok
    refine ⟨rm_ (rm_S (ac_pa c) x) c, 1, ci_up (rm_Sci hci) (by omega), (rm_wk _ _).trans hw, fun w post h K => ?_, fun w post h K => ?_⟩
    · refine xr_el (P := fun w => wpX_stop post w (nI x)) h ?_
      intro f_front f_back f_waiting a_second a_eldest a_youngest a_younger a_older a_children a_kind a_value a_sender a_head a_mails a_next a_before a_queued a_failedAt a_failedHead a_failedCount a_put aA aT aM aQ aF aO
      have hxw : xr_ c (f_front, f_back, f_waiting, ac_lim c, ac_win c, nI (ac_puts c), nI (ac_steps c), nI (ac_lost c), nI (ac_fai c), nI (ac_ane c), nI (ac_mel c), xr_w (ac_wk c), ac_hv c, ac_hs c, ac_op c, ac_as c, a_second, ac_th c, ac_pa c, ac_be c, ac_bo c, ac_sg c, ac_st c, a_eldest, a_youngest, a_younger, a_older, a_children, a_kind, a_value, a_sender, a_head, a_mails, a_next, a_before, a_queued, a_failedAt, a_failedHead, a_failedCount, a_put) := xr_in aA aT aM aQ aF aO
      show wpX_stop _ _ _
      unfold wpX_stop
      refine xi_t hxw x0 x1 hx (br_f (by decide) (xe_end hxw hci x0 x1 hx (fun w' hw' => ?_)))
      have hh := K w' hw'
      revert hh
      revert hw'
      revert w'
      refine xt_el ?_
      intro f_front f_back f_waiting f_limit f_window f_puts f_steps f_lost f_failures f_anew f_melted f_working f_heldValue f_heldSender a_op a_first a_second a_there a_parent a_behaviour a_born a_strategy a_state a_eldest a_youngest a_younger a_older a_children a_kind a_value a_sender a_head a_mails a_next a_before a_queued a_failedAt a_failedHead a_failedCount a_put _ hh
      exact hh
    · refine yr_el (P := fun w => wpY_stop post w (nI x)) h ?_
      intro a_goes s bt sd cm a_owner a_kinds a_values a_senders a_failed a_totals hs aT aM aQ aF aS hg
      show wpY_stop _ _ _
      unfold wpY_stop
      refine yi_t hg x0 x1 hx (br_f (by decide) (ye_end (D := rm_S (ac_pa c) x) hg hci x1 (fun y y0 y1 hy => ?_) (fun w' hw' => ?_)))
      · by_cases e : y = x
        · subst e
          rw [if_pos rfl]
          exact (bb_iff.mpr up_self).trans (decide_eq_true (by decide)).symm
        · rw [if_neg e]
          exact bb_eq ⟨fun q => ⟨q, e⟩, fun q => q.1⟩
      · have hh := K w' (yr_up hw' (by omega))
        revert hh
        revert hw'
        revert w'
        refine yt_el ?_
        intro f_stamps f_limit f_window f_acting f_outs a_ops a_as a_bs a_there a_parent a_birth a_behaviour a_first a_strategy a_state a_stands a_owner a_came a_kinds a_values a_senders a_failed a_last a_totals a_goes _ hh
        exact hh
  · refine vc_same hci hw 0 (fun w post h K => ?_) (fun w post h K => ?_)
    · refine xr_el (P := fun w => wpX_stop post w v1) h ?_
      intro f_front f_back f_waiting a_second a_eldest a_youngest a_younger a_older a_children a_kind a_value a_sender a_head a_mails a_next a_before a_queued a_failedAt a_failedHead a_failedCount a_put aA aT aM aQ aF aO
      have hxw : xr_ c (f_front, f_back, f_waiting, ac_lim c, ac_win c, nI (ac_puts c), nI (ac_steps c), nI (ac_lost c), nI (ac_fai c), nI (ac_ane c), nI (ac_mel c), xr_w (ac_wk c), ac_hv c, ac_hs c, ac_op c, ac_as c, a_second, ac_th c, ac_pa c, ac_be c, ac_bo c, ac_sg c, ac_st c, a_eldest, a_youngest, a_younger, a_older, a_children, a_kind, a_value, a_sender, a_head, a_mails, a_next, a_before, a_queued, a_failedAt, a_failedHead, a_failedCount, a_put) := xr_in aA aT aM aQ aF aO
      show wpX_stop _ _ _
      unfold wpX_stop
      exact xi_f hxw ok (br_t rfl (K _ hxw))
    · refine yr_el (P := fun w => wpY_stop post w v1) h ?_
      intro a_goes s bt sd cm a_owner a_kinds a_values a_senders a_failed a_totals hs aT aM aQ aF aS hg
      show wpY_stop _ _ _
      unfold wpY_stop
      exact yi_f hg ok (br_t rfl (K _ ⟨a_goes, hg⟩))
theorem rb_ {a : Int32} (h0 : 0 ≤ a) (h1 : a ≤ 11) : ∃ x, x < 12 ∧ a = nI x := by
  obtain ⟨j, hj, e⟩ := ra_ (n := 11) (by omega) h0 h1
  exact ⟨j, by omega, e⟩
theorem rb_in {x : Nat} (x1 : x < 12) : (0 : Int32) ≤ nI x ∧ nI x ≤ 11 := ⟨nI_pos' (by omega), nI_le (a := x) (b := 11) (by omega) (by omega)⟩
theorem i_vc_strategy {k : Nat} {u : SX} {v : SY} (I : i_Rel k u v) (hk : k + 7 ≤ 3584) (v1 : Int32) (v2 : Int32) : wpX_strategy (fun r u' => wpY_strategy (fun r' v' => r' = r ∧ i_Rel (k + 7) u' v') v v1 v2) u v1 v2 := by
  refine vc_mk (wX := fun post w => wpX_strategy post w v1 v2) (wY := fun post w => wpY_strategy post w v1 v2) I (fun c hci hw => ?_)
  by_cases ok : (∃ x, x < 12 ∧ v1 = nI x ∧ ac_th c x ≠ 0) ∧ (0 ≤ v2 ∧ v2 ≤ 2)
  · obtain ⟨⟨x, x1, rfl, hx⟩, b1, b2⟩ := ok
    obtain ⟨g, hg2, rfl⟩ := ra_ (n := 2) (by omega) b1 b2
    refine ⟨ac_sgx c x (nI g), 1, ci_up (ac_sgx_ci hci hg2) (by omega), hw, fun w post h K => ?_, fun w post h K => ?_⟩
    · refine xr_el (P := fun w => wpX_strategy post w (nI x) (nI g)) h ?_
      intro f_front f_back f_waiting a_second a_eldest a_youngest a_younger a_older a_children a_kind a_value a_sender a_head a_mails a_next a_before a_queued a_failedAt a_failedHead a_failedCount a_put aA aT aM aQ aF aO
      have hxw : xr_ c (f_front, f_back, f_waiting, ac_lim c, ac_win c, nI (ac_puts c), nI (ac_steps c), nI (ac_lost c), nI (ac_fai c), nI (ac_ane c), nI (ac_mel c), xr_w (ac_wk c), ac_hv c, ac_hs c, ac_op c, ac_as c, a_second, ac_th c, ac_pa c, ac_be c, ac_bo c, ac_sg c, ac_st c, a_eldest, a_youngest, a_younger, a_older, a_children, a_kind, a_value, a_sender, a_head, a_mails, a_next, a_before, a_queued, a_failedAt, a_failedHead, a_failedCount, a_put) := xr_in aA aT aM aQ aF aO
      show wpX_strategy _ _ _ _
      unfold wpX_strategy
      refine xo_c (fun _ _ => br_t rfl ⟨ni_ x1, br_f (by rw [nc_ x1]; exact hx) (xo_c (fun _ _ => br_t rfl ⟨ni_ x1, nm_r (e' := upd (ac_sg c) x (nI g)) ?_ (K _ (xr_sgx aA aT aM aQ aF aO))⟩) (fun hn => absurd ⟨b1, b2⟩ hn))⟩) (fun hn => absurd (rb_in x1) hn)
      rw [nc_ x1, nb_1 (by omega)]
    · refine yr_el (P := fun w => wpY_strategy post w (nI x) (nI g)) h ?_
      intro a_goes s bt sd cm a_owner a_kinds a_values a_senders a_failed a_totals hs aT aM aQ aF aS hg
      have E : wY_strategy_12 post (nI x) (nI g) (lN s) (ac_lim c) (ac_win c) (nI (ac_wk c)) (nI (ac_puts c)) (ac_op c) (ac_as c) (ac_bs c) (ac_th c) (ac_pa c) (fun j => lN (bt j)) (ac_be c) (ac_bo c) (ac_sg c) (ac_st c) (fun j => lN (sd j)) a_owner (fun j => lN (cm j)) a_kinds a_values a_senders a_failed (ac_ou c) a_totals a_goes := by
        unfold wY_strategy_12
        refine yo_c (fun _ _ => br_f (by decide) ⟨ni_ x1, nm_r (e' := upd (ac_sg c) x (nI g)) (by rw [nc_ x1]) (K _ (yr_up ⟨a_goes, yg_sgx hs aT aM aQ aF aS⟩ (by omega)))⟩) (fun hn => absurd ⟨b1, b2⟩ hn)
      by_cases x0 : x = 0
      · subst x0
        exact br_t rfl E
      · exact br_f (nI_ne0 (by omega) (by omega)) (yi_t hg (by omega) x1 hx (br_f (by decide) E))
  · refine vc_same hci hw 0 (fun w post h K => ?_) (fun w post h K => ?_)
    · refine xr_el (P := fun w => wpX_strategy post w v1 v2) h ?_
      intro f_front f_back f_waiting a_second a_eldest a_youngest a_younger a_older a_children a_kind a_value a_sender a_head a_mails a_next a_before a_queued a_failedAt a_failedHead a_failedCount a_put aA aT aM aQ aF aO
      have hxw : xr_ c (f_front, f_back, f_waiting, ac_lim c, ac_win c, nI (ac_puts c), nI (ac_steps c), nI (ac_lost c), nI (ac_fai c), nI (ac_ane c), nI (ac_mel c), xr_w (ac_wk c), ac_hv c, ac_hs c, ac_op c, ac_as c, a_second, ac_th c, ac_pa c, ac_be c, ac_bo c, ac_sg c, ac_st c, a_eldest, a_youngest, a_younger, a_older, a_children, a_kind, a_value, a_sender, a_head, a_mails, a_next, a_before, a_queued, a_failedAt, a_failedHead, a_failedCount, a_put) := xr_in aA aT aM aQ aF aO
      have hr := K _ hxw
      show wpX_strategy _ _ _ _
      unfold wpX_strategy
      refine xo_c (fun p1 p2 => br_t rfl ?_) (fun _ => br_f (by decide) hr)
      obtain ⟨x, x1, rfl⟩ := rb_ p1 p2
      refine ⟨ni_ x1, br_c (fun _ => hr) (fun ht => xo_c (fun p3 p4 => ?_) (fun _ => br_f (by decide) hr))⟩
      rw [nc_ x1] at ht
      exact absurd ⟨⟨x, x1, rfl, ht⟩, p3, p4⟩ ok
    · refine yr_el (P := fun w => wpY_strategy post w v1 v2) h ?_
      intro a_goes s bt sd cm a_owner a_kinds a_values a_senders a_failed a_totals hs aT aM aQ aF aS hg
      have hr := K _ ⟨a_goes, hg⟩
      have E : (∃ x, x < 12 ∧ v1 = nI x ∧ ac_th c x ≠ 0) → wY_strategy_12 post v1 v2 (lN s) (ac_lim c) (ac_win c) (nI (ac_wk c)) (nI (ac_puts c)) (ac_op c) (ac_as c) (ac_bs c) (ac_th c) (ac_pa c) (fun j => lN (bt j)) (ac_be c) (ac_bo c) (ac_sg c) (ac_st c) (fun j => lN (sd j)) a_owner (fun j => lN (cm j)) a_kinds a_values a_senders a_failed (ac_ou c) a_totals a_goes := by
        intro ex
        unfold wY_strategy_12
        exact yo_c (fun p3 p4 => absurd ⟨ex, p3, p4⟩ ok) (fun _ => br_t rfl hr)
      refine br_c (fun e => E ⟨0, by omega, e, hci.1.1⟩) (fun e => ?_)
      by_cases ex : ∃ x, 0 < x ∧ x < 12 ∧ v1 = nI x ∧ ac_th c x ≠ 0
      · obtain ⟨x, x0, x1, rfl, hx⟩ := ex
        exact yi_t hg x0 x1 hx (br_f (by decide) (E ⟨x, x1, rfl, hx⟩))
      · exact yi_f hg ex (br_t rfl hr)
theorem i_vc_tell {k : Nat} {u : SX} {v : SY} (I : i_Rel k u v) (hk : k + 7 ≤ 3584) (v1 : Int32) (v2 : Int32) (v3 : Int32) : wpX_tell (fun r u' => wpY_tell (fun r' v' => r' = r ∧ i_Rel (k + 7) u' v') v v1 v2 v3) u v1 v2 v3 := by
  refine vc_mk (wX := fun post w => wpX_tell post w v1 v2 v3) (wY := fun post w => wpY_tell post w v1 v2 v3) I (fun c hci hw => ?_)
  by_cases ok : (∃ x, 0 < x ∧ x < 12 ∧ v1 = nI x ∧ ac_th c x ≠ 0) ∧ (0 ≤ v2 ∧ v2 ≤ 3)
  · obtain ⟨⟨x, x0, x1, rfl, hx⟩, b1, b2⟩ := ok
    obtain ⟨q, hq, rfl⟩ := ra_ (n := 3) (by omega) b1 b2
    refine ⟨ac_post c x (nI q) v3 (nI 0), if (ac_ml c x).length = 6 then 0 else 1, ci_up (ac_post_ci hci x0 x1 hx hq (by omega)) (by omega), ac_post_fr.2.2.2.2.1.trans hw, fun w post h K => ?_, fun w post h K => ?_⟩
    · refine xr_el (P := fun w => wpX_tell post w (nI x) (nI q) v3) h ?_
      intro f_front f_back f_waiting a_second a_eldest a_youngest a_younger a_older a_children a_kind a_value a_sender a_head a_mails a_next a_before a_queued a_failedAt a_failedHead a_failedCount a_put aA aT aM aQ aF aO
      have hxw : xr_ c (f_front, f_back, f_waiting, ac_lim c, ac_win c, nI (ac_puts c), nI (ac_steps c), nI (ac_lost c), nI (ac_fai c), nI (ac_ane c), nI (ac_mel c), xr_w (ac_wk c), ac_hv c, ac_hs c, ac_op c, ac_as c, a_second, ac_th c, ac_pa c, ac_be c, ac_bo c, ac_sg c, ac_st c, a_eldest, a_youngest, a_younger, a_older, a_children, a_kind, a_value, a_sender, a_head, a_mails, a_next, a_before, a_queued, a_failedAt, a_failedHead, a_failedCount, a_put) := xr_in aA aT aM aQ aF aO
      show wpX_tell _ _ _ _ _
      unfold wpX_tell
      refine xi_t hxw x0 x1 hx (br_f (by decide) (xo_c (fun _ _ => br_t rfl (xp_post (f := 0) hxw hci x0 x1 hq (by omega) (fun w' hw' => ?_))) (fun hn => absurd ⟨b1, b2⟩ hn)))
      have hh := K w' hw'
      revert hh
      generalize hr : (if (ac_ml c x).length = 6 then (0 : Int32) else 1) = r
      intro hh
      have hn : narrow .boolean (.int r) = .int r := by
        rw [← hr]
        split
        · exact narrow_b0
        · exact narrow_b1
      revert hh
      revert hw'
      revert w'
      refine xt_el ?_
      intro f_front f_back f_waiting f_limit f_window f_puts f_steps f_lost f_failures f_anew f_melted f_working f_heldValue f_heldSender a_op a_first a_second a_there a_parent a_behaviour a_born a_strategy a_state a_eldest a_youngest a_younger a_older a_children a_kind a_value a_sender a_head a_mails a_next a_before a_queued a_failedAt a_failedHead a_failedCount a_put _ hh
      exact And.intro hn hh
    · refine yr_el (P := fun w => wpY_tell post w (nI x) (nI q) v3) h ?_
      intro a_goes s bt sd cm a_owner a_kinds a_values a_senders a_failed a_totals hs aT aM aQ aF aS hg
      show wpY_tell _ _ _ _ _
      unfold wpY_tell
      refine yi_t hg x0 x1 hx (br_f (by decide) (yo_c (fun _ _ => br_f (by decide) (yd_deliver hg hci (by omega) x0 x1 (fun w' hw' => ?_))) (fun hn => absurd ⟨b1, b2⟩ hn)))
      have hh := K w' (yr_up ⟨a_goes, hw'⟩ (by omega))
      revert hh
      by_cases h6 : (ac_ml c x).length = 6
      · rw [if_pos h6]
        intro hh
        revert hh
        revert hw'
        revert w'
        refine yt_el ?_
        intro f_stamps f_limit f_window f_acting f_outs a_ops a_as a_bs a_there a_parent a_birth a_behaviour a_first a_strategy a_state a_stands a_owner a_came a_kinds a_values a_senders a_failed a_last a_totals a_goes _ hh
        exact br_t rfl hh
      · rw [if_neg h6]
        intro hh
        revert hh
        revert hw'
        revert w'
        refine yt_el ?_
        intro f_stamps f_limit f_window f_acting f_outs a_ops a_as a_bs a_there a_parent a_birth a_behaviour a_first a_strategy a_state a_stands a_owner a_came a_kinds a_values a_senders a_failed a_last a_totals a_goes _ hh
        exact br_f (by decide) hh
  · refine vc_same hci hw 0 (fun w post h K => ?_) (fun w post h K => ?_)
    · refine xr_el (P := fun w => wpX_tell post w v1 v2 v3) h ?_
      intro f_front f_back f_waiting a_second a_eldest a_youngest a_younger a_older a_children a_kind a_value a_sender a_head a_mails a_next a_before a_queued a_failedAt a_failedHead a_failedCount a_put aA aT aM aQ aF aO
      have hxw : xr_ c (f_front, f_back, f_waiting, ac_lim c, ac_win c, nI (ac_puts c), nI (ac_steps c), nI (ac_lost c), nI (ac_fai c), nI (ac_ane c), nI (ac_mel c), xr_w (ac_wk c), ac_hv c, ac_hs c, ac_op c, ac_as c, a_second, ac_th c, ac_pa c, ac_be c, ac_bo c, ac_sg c, ac_st c, a_eldest, a_youngest, a_younger, a_older, a_children, a_kind, a_value, a_sender, a_head, a_mails, a_next, a_before, a_queued, a_failedAt, a_failedHead, a_failedCount, a_put) := xr_in aA aT aM aQ aF aO
      have hr := K _ hxw
      show wpX_tell _ _ _ _ _
      unfold wpX_tell
      by_cases ex : ∃ x, 0 < x ∧ x < 12 ∧ v1 = nI x ∧ ac_th c x ≠ 0
      · obtain ⟨x, x0, x1, rfl, hx⟩ := ex
        exact xi_t hxw x0 x1 hx (br_f (by decide) (xo_c (fun p3 p4 => absurd ⟨⟨x, x0, x1, rfl, hx⟩, p3, p4⟩ ok) (fun _ => br_f (by decide) hr)))
      · exact xi_f hxw ex (br_t rfl hr)
    · refine yr_el (P := fun w => wpY_tell post w v1 v2 v3) h ?_
      intro a_goes s bt sd cm a_owner a_kinds a_values a_senders a_failed a_totals hs aT aM aQ aF aS hg
      have hr := K _ ⟨a_goes, hg⟩
      show wpY_tell _ _ _ _ _
      unfold wpY_tell
      by_cases ex : ∃ x, 0 < x ∧ x < 12 ∧ v1 = nI x ∧ ac_th c x ≠ 0
      · obtain ⟨x, x0, x1, rfl, hx⟩ := ex
        exact yi_t hg x0 x1 hx (br_f (by decide) (yo_c (fun p3 p4 => absurd ⟨⟨x, x0, x1, rfl, hx⟩, p3, p4⟩ ok) (fun _ => br_t rfl hr)))
      · exact yi_f hg ex (br_t rfl hr)
theorem i_vc_run {k : Nat} {u : SX} {v : SY} (I : i_Rel k u v) (hk : k + 7 ≤ 3584) (v1 : Int32) : wpX_run (fun r u' => wpY_run (fun r' v' => r' = r ∧ i_Rel (k + 7) u' v') v v1) u v1 := by
  refine vc_mk (wX := fun post w => wpX_run post w v1) (wY := fun post w => wpY_run post w v1) I (fun c hci hw => ?_)
  by_cases ok : (0 ≤ v1 ∧ v1 ≤ 500) ∧ nI (ac_steps c) < 10000000
  · obtain ⟨⟨a1, a2⟩, b1⟩ := ok
    obtain ⟨N, hN, rfl⟩ := ra_ (n := 500) (by omega) a1 a2
    obtain ⟨c', r, g1, g2, gX, gY⟩ := ls_run hN N 0 (6000 * k) c (by omega) (by omega) hci hw
    refine ⟨c', r, ci_up g1 (by omega), g2, fun w post h K => ?_, fun w post h K => ?_⟩
    · have H := gX w post h K
      revert H
      refine xr_el (P := fun w => xc_ (wX_run_24 post (nI N) (N + 1) (nI 0)) w → wpX_run post w (nI N)) h ?_
      intro f_front f_back f_waiting a_second a_eldest a_youngest a_younger a_older a_children a_kind a_value a_sender a_head a_mails a_next a_before a_queued a_failedAt a_failedHead a_failedCount a_put aA aT aM aQ aF aO
      have hxw : xr_ c (f_front, f_back, f_waiting, ac_lim c, ac_win c, nI (ac_puts c), nI (ac_steps c), nI (ac_lost c), nI (ac_fai c), nI (ac_ane c), nI (ac_mel c), xr_w (ac_wk c), ac_hv c, ac_hs c, ac_op c, ac_as c, a_second, ac_th c, ac_pa c, ac_be c, ac_bo c, ac_sg c, ac_st c, a_eldest, a_youngest, a_younger, a_older, a_children, a_kind, a_value, a_sender, a_head, a_mails, a_next, a_before, a_queued, a_failedAt, a_failedHead, a_failedCount, a_put) := xr_in aA aT aM aQ aF aO
      intro H
      show wpX_run _ _ _
      unfold wpX_run
      exact xo_c (fun _ _ => br_t rfl (br_t b1 ⟨N + 1, H⟩)) (fun hn => absurd ⟨a1, a2⟩ hn)
    · have H := gY w post h (fun w' hw' => K w' (yr_up hw' (by omega)))
      revert H
      refine yr_el (P := fun w => yc_ (wY_run_28 post (nI N) (N + 2) (nI 0) 1) w → wpY_run post w (nI N)) h ?_
      intro a_goes s bt sd cm a_owner a_kinds a_values a_senders a_failed a_totals hs aT aM aQ aF aS hg
      intro H
      show wpY_run _ _ _
      unfold wpY_run
      exact yo_c (fun _ _ => br_f (by decide) (br_t (by rw [aS.1]; exact b1) ⟨N + 2, H⟩)) (fun hn => absurd ⟨a1, a2⟩ hn)
  · refine vc_same hci hw (-1) (fun w post h K => ?_) (fun w post h K => ?_)
    · refine xr_el (P := fun w => wpX_run post w v1) h ?_
      intro f_front f_back f_waiting a_second a_eldest a_youngest a_younger a_older a_children a_kind a_value a_sender a_head a_mails a_next a_before a_queued a_failedAt a_failedHead a_failedCount a_put aA aT aM aQ aF aO
      have hxw : xr_ c (f_front, f_back, f_waiting, ac_lim c, ac_win c, nI (ac_puts c), nI (ac_steps c), nI (ac_lost c), nI (ac_fai c), nI (ac_ane c), nI (ac_mel c), xr_w (ac_wk c), ac_hv c, ac_hs c, ac_op c, ac_as c, a_second, ac_th c, ac_pa c, ac_be c, ac_bo c, ac_sg c, ac_st c, a_eldest, a_youngest, a_younger, a_older, a_children, a_kind, a_value, a_sender, a_head, a_mails, a_next, a_before, a_queued, a_failedAt, a_failedHead, a_failedCount, a_put) := xr_in aA aT aM aQ aF aO
      have hr := K _ hxw
      show wpX_run _ _ _
      unfold wpX_run
      exact xo_c (fun p1 p2 => br_t rfl (br_f (fun q => ok ⟨⟨p1, p2⟩, q⟩) hr)) (fun _ => br_f (by decide) hr)
    · refine yr_el (P := fun w => wpY_run post w v1) h ?_
      intro a_goes s bt sd cm a_owner a_kinds a_values a_senders a_failed a_totals hs aT aM aQ aF aS hg
      have hr := K _ ⟨a_goes, hg⟩
      show wpY_run _ _ _
      unfold wpY_run
      exact yo_c (fun p1 p2 => br_f (by decide) (br_f (fun q => ok ⟨⟨p1, p2⟩, by rw [aS.1] at q; exact q⟩) hr)) (fun _ => br_t rfl hr)
end
section
/-! rules, and the answers -/
def ru_7 (v4 v5 : Int32) : Prop := v4 = 7 → (0 ≤ v5 ∧ v5 ≤ 3)
def ru_5 (v4 v5 v6 : Int32) : Prop := v4 = 5 → (0 ≤ v5 ∧ v5 ≤ 3) ∧ (0 ≤ v6 ∧ v6 ≤ 2)
def ru_3 (v4 v5 v6 : Int32) : Prop := v4 = 3 → (0 ≤ v5 ∧ v5 ≤ 5) ∧ (0 ≤ v6 ∧ v6 ≤ 3)
def ru_ok (v1 v2 v3 v4 v5 v6 : Int32) : Prop := (0 ≤ v1 ∧ v1 ≤ 3) ∧ (0 ≤ v2 ∧ v2 ≤ 3) ∧ (0 ≤ v3 ∧ v3 ≤ 2) ∧ (0 ≤ v4 ∧ v4 ≤ 8) ∧ ru_3 v4 v5 v6 ∧ ru_5 v4 v5 v6 ∧ ru_7 v4 v5
theorem xr_92 {f_front f_back f_waiting f_limit f_window f_puts f_steps f_lost f_failures f_anew f_melted f_working f_heldValue f_heldSender : Int32} {a_op a_first a_second a_there a_parent a_behaviour a_born a_strategy a_state a_eldest a_youngest a_younger a_older a_children a_kind a_value a_sender a_head a_mails a_next a_before a_queued a_failedAt a_failedHead a_failedCount a_put : Nat → Int32} {post : Int32 → SX → Prop} {v1 v2 v3 v4 v5 v6 : Int32} (f : ru_7 v4 v5 → wX_rule_111 post v1 v2 v3 v4 v5 v6 f_front f_back f_waiting f_limit f_window f_puts f_steps f_lost f_failures f_anew f_melted f_working f_heldValue f_heldSender a_op a_first a_second a_there a_parent a_behaviour a_born a_strategy a_state a_eldest a_youngest a_younger a_older a_children a_kind a_value a_sender a_head a_mails a_next a_before a_queued a_failedAt a_failedHead a_failedCount a_put) (g : ¬ ru_7 v4 v5 → post 0 (f_front, f_back, f_waiting, f_limit, f_window, f_puts, f_steps, f_lost, f_failures, f_anew, f_melted, f_working, f_heldValue, f_heldSender, a_op, a_first, a_second, a_there, a_parent, a_behaviour, a_born, a_strategy, a_state, a_eldest, a_youngest, a_younger, a_older, a_children, a_kind, a_value, a_sender, a_head, a_mails, a_next, a_before, a_queued, a_failedAt, a_failedHead, a_failedCount, a_put)) : wX_rule_92 post v1 v2 v3 v4 v5 v6 f_front f_back f_waiting f_limit f_window f_puts f_steps f_lost f_failures f_anew f_melted f_working f_heldValue f_heldSender a_op a_first a_second a_there a_parent a_behaviour a_born a_strategy a_state a_eldest a_youngest a_younger a_older a_children a_kind a_value a_sender a_head a_mails a_next a_before a_queued a_failedAt a_failedHead a_failedCount a_put := by
  unfold wX_rule_92
  exact br_c (fun e => xo_c (fun a b => br_t rfl (f (fun _ => ⟨a, b⟩))) (fun hn => br_f (by decide) (g (fun q => hn (q e))))) (fun e => f (fun e' => absurd e' e))
theorem xr_66 {f_front f_back f_waiting f_limit f_window f_puts f_steps f_lost f_failures f_anew f_melted f_working f_heldValue f_heldSender : Int32} {a_op a_first a_second a_there a_parent a_behaviour a_born a_strategy a_state a_eldest a_youngest a_younger a_older a_children a_kind a_value a_sender a_head a_mails a_next a_before a_queued a_failedAt a_failedHead a_failedCount a_put : Nat → Int32} {post : Int32 → SX → Prop} {v1 v2 v3 v4 v5 v6 : Int32} (f : ru_5 v4 v5 v6 → wX_rule_92 post v1 v2 v3 v4 v5 v6 f_front f_back f_waiting f_limit f_window f_puts f_steps f_lost f_failures f_anew f_melted f_working f_heldValue f_heldSender a_op a_first a_second a_there a_parent a_behaviour a_born a_strategy a_state a_eldest a_youngest a_younger a_older a_children a_kind a_value a_sender a_head a_mails a_next a_before a_queued a_failedAt a_failedHead a_failedCount a_put) (g : ¬ ru_5 v4 v5 v6 → post 0 (f_front, f_back, f_waiting, f_limit, f_window, f_puts, f_steps, f_lost, f_failures, f_anew, f_melted, f_working, f_heldValue, f_heldSender, a_op, a_first, a_second, a_there, a_parent, a_behaviour, a_born, a_strategy, a_state, a_eldest, a_youngest, a_younger, a_older, a_children, a_kind, a_value, a_sender, a_head, a_mails, a_next, a_before, a_queued, a_failedAt, a_failedHead, a_failedCount, a_put)) : wX_rule_66 post v1 v2 v3 v4 v5 v6 f_front f_back f_waiting f_limit f_window f_puts f_steps f_lost f_failures f_anew f_melted f_working f_heldValue f_heldSender a_op a_first a_second a_there a_parent a_behaviour a_born a_strategy a_state a_eldest a_youngest a_younger a_older a_children a_kind a_value a_sender a_head a_mails a_next a_before a_queued a_failedAt a_failedHead a_failedCount a_put := by
  unfold wX_rule_66
  exact br_c (fun e => xo_c (fun a b => br_t rfl (xo_c (fun a2 b2 => br_t rfl (f (fun _ => ⟨⟨a, b⟩, a2, b2⟩))) (fun hn => br_f (by decide) (g (fun q => hn (q e).2))))) (fun hn => br_f (by decide) (g (fun q => hn (q e).1)))) (fun e => f (fun e' => absurd e' e))
theorem xr_rule {f_front f_back f_waiting f_limit f_window f_puts f_steps f_lost f_failures f_anew f_melted f_working f_heldValue f_heldSender : Int32} {a_op a_first a_second a_there a_parent a_behaviour a_born a_strategy a_state a_eldest a_youngest a_younger a_older a_children a_kind a_value a_sender a_head a_mails a_next a_before a_queued a_failedAt a_failedHead a_failedCount a_put : Nat → Int32} {post : Int32 → SX → Prop} {v1 v2 v3 v4 v5 v6 : Int32} (f : ru_ok v1 v2 v3 v4 v5 v6 → wX_rule_111 post v1 v2 v3 v4 v5 v6 f_front f_back f_waiting f_limit f_window f_puts f_steps f_lost f_failures f_anew f_melted f_working f_heldValue f_heldSender a_op a_first a_second a_there a_parent a_behaviour a_born a_strategy a_state a_eldest a_youngest a_younger a_older a_children a_kind a_value a_sender a_head a_mails a_next a_before a_queued a_failedAt a_failedHead a_failedCount a_put) (g : ¬ ru_ok v1 v2 v3 v4 v5 v6 → post 0 (f_front, f_back, f_waiting, f_limit, f_window, f_puts, f_steps, f_lost, f_failures, f_anew, f_melted, f_working, f_heldValue, f_heldSender, a_op, a_first, a_second, a_there, a_parent, a_behaviour, a_born, a_strategy, a_state, a_eldest, a_youngest, a_younger, a_older, a_children, a_kind, a_value, a_sender, a_head, a_mails, a_next, a_before, a_queued, a_failedAt, a_failedHead, a_failedCount, a_put)) : wpX_rule post (f_front, f_back, f_waiting, f_limit, f_window, f_puts, f_steps, f_lost, f_failures, f_anew, f_melted, f_working, f_heldValue, f_heldSender, a_op, a_first, a_second, a_there, a_parent, a_behaviour, a_born, a_strategy, a_state, a_eldest, a_youngest, a_younger, a_older, a_children, a_kind, a_value, a_sender, a_head, a_mails, a_next, a_before, a_queued, a_failedAt, a_failedHead, a_failedCount, a_put) v1 v2 v3 v4 v5 v6 := by
  unfold wpX_rule
  refine xo_c (fun a1 b1 => br_t rfl (xo_c (fun a2 b2 => br_t rfl (xo_c (fun a3 b3 => br_t rfl (xo_c (fun a4 b4 => br_t rfl ?_) (fun hn => br_f (by decide) (g (fun q => hn q.2.2.2.1))))) (fun hn => br_f (by decide) (g (fun q => hn q.2.2.1))))) (fun hn => br_f (by decide) (g (fun q => hn q.2.1))))) (fun hn => br_f (by decide) (g (fun q => hn q.1)))
  have H : ru_3 v4 v5 v6 → wX_rule_66 post v1 v2 v3 v4 v5 v6 f_front f_back f_waiting f_limit f_window f_puts f_steps f_lost f_failures f_anew f_melted f_working f_heldValue f_heldSender a_op a_first a_second a_there a_parent a_behaviour a_born a_strategy a_state a_eldest a_youngest a_younger a_older a_children a_kind a_value a_sender a_head a_mails a_next a_before a_queued a_failedAt a_failedHead a_failedCount a_put := by
    intro h3
    exact xr_66 (fun h5 => xr_92 (fun h7 => f ⟨⟨a1, b1⟩, ⟨a2, b2⟩, ⟨a3, b3⟩, ⟨a4, b4⟩, h3, h5, h7⟩) (fun h7 => g (fun q => h7 q.2.2.2.2.2.2))) (fun h5 => g (fun q => h5 q.2.2.2.2.2.1))
  exact br_c (fun e => xo_c (fun a b => br_t rfl (xo_c (fun a2 b2 => br_t rfl (H (fun _ => ⟨⟨a, b⟩, a2, b2⟩))) (fun hn => br_f (by decide) (g (fun q => hn (q.2.2.2.2.1 e).2))))) (fun hn => br_f (by decide) (g (fun q => hn (q.2.2.2.2.1 e).1)))) (fun e => H (fun e' => absurd e' e))
theorem yr_92 {f_stamps : Int64} {f_limit f_window f_acting f_outs : Int32} {a_ops a_as a_bs a_there a_parent a_behaviour a_first a_strategy a_state a_owner a_kinds a_values a_senders a_failed a_last a_totals a_goes : Nat → Int32} {a_birth a_stands a_came : Nat → Int64} {post : Int32 → SY → Prop} {v1 v2 v3 v4 v5 v6 : Int32} (f : ru_7 v4 v5 → wY_rule_111 post v1 v2 v3 v4 v5 v6 f_stamps f_limit f_window f_acting f_outs a_ops a_as a_bs a_there a_parent a_birth a_behaviour a_first a_strategy a_state a_stands a_owner a_came a_kinds a_values a_senders a_failed a_last a_totals a_goes) (g : ¬ ru_7 v4 v5 → post 0 (f_stamps, f_limit, f_window, f_acting, f_outs, a_ops, a_as, a_bs, a_there, a_parent, a_birth, a_behaviour, a_first, a_strategy, a_state, a_stands, a_owner, a_came, a_kinds, a_values, a_senders, a_failed, a_last, a_totals, a_goes)) : wY_rule_92 post v1 v2 v3 v4 v5 v6 f_stamps f_limit f_window f_acting f_outs a_ops a_as a_bs a_there a_parent a_birth a_behaviour a_first a_strategy a_state a_stands a_owner a_came a_kinds a_values a_senders a_failed a_last a_totals a_goes := by
  unfold wY_rule_92
  exact br_c (fun e => yo_c (fun a b => br_f (by decide) (f (fun _ => ⟨a, b⟩))) (fun hn => br_t rfl (g (fun q => hn (q e))))) (fun e => f (fun e' => absurd e' e))
theorem yr_66 {f_stamps : Int64} {f_limit f_window f_acting f_outs : Int32} {a_ops a_as a_bs a_there a_parent a_behaviour a_first a_strategy a_state a_owner a_kinds a_values a_senders a_failed a_last a_totals a_goes : Nat → Int32} {a_birth a_stands a_came : Nat → Int64} {post : Int32 → SY → Prop} {v1 v2 v3 v4 v5 v6 : Int32} (f : ru_5 v4 v5 v6 → wY_rule_92 post v1 v2 v3 v4 v5 v6 f_stamps f_limit f_window f_acting f_outs a_ops a_as a_bs a_there a_parent a_birth a_behaviour a_first a_strategy a_state a_stands a_owner a_came a_kinds a_values a_senders a_failed a_last a_totals a_goes) (g : ¬ ru_5 v4 v5 v6 → post 0 (f_stamps, f_limit, f_window, f_acting, f_outs, a_ops, a_as, a_bs, a_there, a_parent, a_birth, a_behaviour, a_first, a_strategy, a_state, a_stands, a_owner, a_came, a_kinds, a_values, a_senders, a_failed, a_last, a_totals, a_goes)) : wY_rule_66 post v1 v2 v3 v4 v5 v6 f_stamps f_limit f_window f_acting f_outs a_ops a_as a_bs a_there a_parent a_birth a_behaviour a_first a_strategy a_state a_stands a_owner a_came a_kinds a_values a_senders a_failed a_last a_totals a_goes := by
  unfold wY_rule_66
  exact br_c (fun e => yo_c (fun a b => br_f (by decide) (yo_c (fun a2 b2 => br_f (by decide) (f (fun _ => ⟨⟨a, b⟩, a2, b2⟩))) (fun hn => br_t rfl (g (fun q => hn (q e).2))))) (fun hn => br_t rfl (g (fun q => hn (q e).1)))) (fun e => f (fun e' => absurd e' e))
theorem yr_rule {f_stamps : Int64} {f_limit f_window f_acting f_outs : Int32} {a_ops a_as a_bs a_there a_parent a_behaviour a_first a_strategy a_state a_owner a_kinds a_values a_senders a_failed a_last a_totals a_goes : Nat → Int32} {a_birth a_stands a_came : Nat → Int64} {post : Int32 → SY → Prop} {v1 v2 v3 v4 v5 v6 : Int32} (f : ru_ok v1 v2 v3 v4 v5 v6 → wY_rule_111 post v1 v2 v3 v4 v5 v6 f_stamps f_limit f_window f_acting f_outs a_ops a_as a_bs a_there a_parent a_birth a_behaviour a_first a_strategy a_state a_stands a_owner a_came a_kinds a_values a_senders a_failed a_last a_totals a_goes) (g : ¬ ru_ok v1 v2 v3 v4 v5 v6 → post 0 (f_stamps, f_limit, f_window, f_acting, f_outs, a_ops, a_as, a_bs, a_there, a_parent, a_birth, a_behaviour, a_first, a_strategy, a_state, a_stands, a_owner, a_came, a_kinds, a_values, a_senders, a_failed, a_last, a_totals, a_goes)) : wpY_rule post (f_stamps, f_limit, f_window, f_acting, f_outs, a_ops, a_as, a_bs, a_there, a_parent, a_birth, a_behaviour, a_first, a_strategy, a_state, a_stands, a_owner, a_came, a_kinds, a_values, a_senders, a_failed, a_last, a_totals, a_goes) v1 v2 v3 v4 v5 v6 := by
  unfold wpY_rule
  refine yo_c (fun a1 b1 => br_f (by decide) (yo_c (fun a2 b2 => br_f (by decide) (yo_c (fun a3 b3 => br_f (by decide) (yo_c (fun a4 b4 => br_f (by decide) ?_) (fun hn => br_t rfl (g (fun q => hn q.2.2.2.1))))) (fun hn => br_t rfl (g (fun q => hn q.2.2.1))))) (fun hn => br_t rfl (g (fun q => hn q.2.1))))) (fun hn => br_t rfl (g (fun q => hn q.1)))
  have H : ru_3 v4 v5 v6 → wY_rule_66 post v1 v2 v3 v4 v5 v6 f_stamps f_limit f_window f_acting f_outs a_ops a_as a_bs a_there a_parent a_birth a_behaviour a_first a_strategy a_state a_stands a_owner a_came a_kinds a_values a_senders a_failed a_last a_totals a_goes := by
    intro h3
    exact yr_66 (fun h5 => yr_92 (fun h7 => f ⟨⟨a1, b1⟩, ⟨a2, b2⟩, ⟨a3, b3⟩, ⟨a4, b4⟩, h3, h5, h7⟩) (fun h7 => g (fun q => h7 q.2.2.2.2.2.2))) (fun h5 => g (fun q => h5 q.2.2.2.2.2.1))
  exact br_c (fun e => yo_c (fun a b => br_f (by decide) (yo_c (fun a2 b2 => br_f (by decide) (H (fun _ => ⟨⟨a, b⟩, a2, b2⟩))) (fun hn => br_t rfl (g (fun q => hn (q.2.2.2.2.1 e).2))))) (fun hn => br_t rfl (g (fun q => hn (q.2.2.2.2.1 e).1)))) (fun e => H (fun e' => absurd e' e))
theorem nk_ (a b d : Nat) : ((12 : Int32) * nI a + 3 * nI b) + nI d = nI (12 * a + 3 * b + d) := by
  rw [n12_, nI_add]
theorem i_vc_rule {k : Nat} {u : SX} {v : SY} (I : i_Rel k u v) (hk : k + 7 ≤ 3584) (v1 : Int32) (v2 : Int32) (v3 : Int32) (v4 : Int32) (v5 : Int32) (v6 : Int32) : wpX_rule (fun r u' => wpY_rule (fun r' v' => r' = r ∧ i_Rel (k + 7) u' v') v v1 v2 v3 v4 v5 v6) u v1 v2 v3 v4 v5 v6 := by
  refine vc_mk (wX := fun post w => wpX_rule post w v1 v2 v3 v4 v5 v6) (wY := fun post w => wpY_rule post w v1 v2 v3 v4 v5 v6) I (fun c hci hw => ?_)
  by_cases ok : ru_ok v1 v2 v3 v4 v5 v6
  · have ok' := ok
    obtain ⟨⟨a1, b1⟩, ⟨a2, b2⟩, ⟨a3, b3⟩, ⟨a4, b4⟩, h3, h5, h7⟩ := ok
    obtain ⟨p, hp, rfl⟩ := ra_ (n := 3) (by omega) a1 b1
    obtain ⟨q, hq, rfl⟩ := ra_ (n := 3) (by omega) a2 b2
    obtain ⟨t, ht, rfl⟩ := ra_ (n := 2) (by omega) a3 b3
    obtain ⟨e, he, rfl⟩ := ra_ (n := 8) (by omega) a4 b4
    have i48 := i48_ (k := 12 * p + 3 * q + t) (by omega)
    have c48 := n48_ (k := 12 * p + 3 * q + t) (by omega)
    refine ⟨ac_rule c (12 * p + 3 * q + t) (nI e) v5 v6, 1, ci_up (ac_rule_ci hci (fun z => ⟨ra_ (by omega) (h3 z).1.1 (h3 z).1.2, ra_ (by omega) (h3 z).2.1 (h3 z).2.2⟩) (fun z => ⟨ra_ (by omega) (h5 z).1.1 (h5 z).1.2, ra_ (by omega) (h5 z).2.1 (h5 z).2.2⟩) (fun z => ra_ (by omega) (h7 z).1 (h7 z).2)) (by omega), hw, fun w post h K => ?_, fun w post h K => ?_⟩
    · refine xr_el (P := fun w => wpX_rule post w (nI p) (nI q) (nI t) (nI e) v5 v6) h ?_
      intro f_front f_back f_waiting a_second a_eldest a_youngest a_younger a_older a_children a_kind a_value a_sender a_head a_mails a_next a_before a_queued a_failedAt a_failedHead a_failedCount a_put aA aT aM aQ aF aO
      have hxw : xr_ c (f_front, f_back, f_waiting, ac_lim c, ac_win c, nI (ac_puts c), nI (ac_steps c), nI (ac_lost c), nI (ac_fai c), nI (ac_ane c), nI (ac_mel c), xr_w (ac_wk c), ac_hv c, ac_hs c, ac_op c, ac_as c, a_second, ac_th c, ac_pa c, ac_be c, ac_bo c, ac_sg c, ac_st c, a_eldest, a_youngest, a_younger, a_older, a_children, a_kind, a_value, a_sender, a_head, a_mails, a_next, a_before, a_queued, a_failedAt, a_failedHead, a_failedCount, a_put) := xr_in aA aT aM aQ aF aO
      have hse : xa_A (upd (ac_op c) (12 * p + 3 * q + t) (nI e)) (upd (ac_bs c) (12 * p + 3 * q + t) v6) (upd a_second (12 * p + 3 * q + t) (vp_nar .byte v6.toInt8.toInt32)) := by
        intro j hj hop
        by_cases ej : j = 12 * p + 3 * q + t
        · subst ej
          rw [pk_us] at hop
          rw [pk_us, pk_us]
          have : ∃ y, y ≤ 3 ∧ v6 = nI y := by
            rcases hop with z | z
            · exact ra_ (by omega) (h3 z).2.1 (h3 z).2.2
            · obtain ⟨y, hy, ey⟩ := ra_ (n := 2) (by omega) (h5 z).2.1 (h5 z).2.2
              exact ⟨y, by omega, ey⟩
          obtain ⟨y, hy, ey⟩ := this
          rw [ey, nb_1 (by omega)]
        · rw [pk_un ej] at hop
          rw [pk_un ej, pk_un ej]
          exact aA j hj hop
      refine xr_rule (fun _ => ?_) (fun hn => absurd ok' hn)
      exact nm_r (e' := nI (12 * p + 3 * q + t)) (nk_ p q t) ⟨i48, nm_r (e' := upd (ac_op c) (12 * p + 3 * q + t) (nI e)) (by rw [c48, nb_1 (by omega)]) ⟨i48, nm_r (e' := upd (ac_as c) (12 * p + 3 * q + t) v5) (by rw [c48]) ⟨i48, nm_r (e' := upd a_second (12 * p + 3 * q + t) (vp_nar .byte v6.toInt8.toInt32)) (by rw [c48]) (K _ (xr_rul hse aT aM aQ aF aO))⟩⟩⟩
    · refine yr_el (P := fun w => wpY_rule post w (nI p) (nI q) (nI t) (nI e) v5 v6) h ?_
      intro a_goes s bt sd cm a_owner a_kinds a_values a_senders a_failed a_totals hs aT aM aQ aF aS hg
      refine yr_rule (fun _ => ?_) (fun hn => absurd ok' hn)
      exact nm_r (e' := nI (12 * p + 3 * q + t)) (nk_ p q t) ⟨i48, nm_r (e' := upd (ac_op c) (12 * p + 3 * q + t) (nI e)) (by rw [c48]) ⟨i48, nm_r (e' := upd (ac_as c) (12 * p + 3 * q + t) v5) (by rw [c48]) ⟨i48, nm_r (e' := upd (ac_bs c) (12 * p + 3 * q + t) v6) (by rw [c48]) (K _ (yr_up ⟨a_goes, yg_rul hs aT aM aQ aF aS⟩ (by omega)))⟩⟩⟩
  · refine vc_same hci hw 0 (fun w post h K => ?_) (fun w post h K => ?_)
    · refine xr_el (P := fun w => wpX_rule post w v1 v2 v3 v4 v5 v6) h ?_
      intro f_front f_back f_waiting a_second a_eldest a_youngest a_younger a_older a_children a_kind a_value a_sender a_head a_mails a_next a_before a_queued a_failedAt a_failedHead a_failedCount a_put aA aT aM aQ aF aO
      have hxw : xr_ c (f_front, f_back, f_waiting, ac_lim c, ac_win c, nI (ac_puts c), nI (ac_steps c), nI (ac_lost c), nI (ac_fai c), nI (ac_ane c), nI (ac_mel c), xr_w (ac_wk c), ac_hv c, ac_hs c, ac_op c, ac_as c, a_second, ac_th c, ac_pa c, ac_be c, ac_bo c, ac_sg c, ac_st c, a_eldest, a_youngest, a_younger, a_older, a_children, a_kind, a_value, a_sender, a_head, a_mails, a_next, a_before, a_queued, a_failedAt, a_failedHead, a_failedCount, a_put) := xr_in aA aT aM aQ aF aO
      exact xr_rule (fun q => absurd q ok) (fun _ => K _ hxw)
    · refine yr_el (P := fun w => wpY_rule post w v1 v2 v3 v4 v5 v6) h ?_
      intro a_goes s bt sd cm a_owner a_kinds a_values a_senders a_failed a_totals hs aT aM aQ aF aS hg
      exact yr_rule (fun q => absurd q ok) (fun _ => K _ ⟨a_goes, hg⟩)
theorem i_vc_total {k : Nat} {u : SX} {v : SY} (I : i_Rel k u v) (hk : k + 7 ≤ 3584) (v1 : Int32) : wpX_total (fun r => wpY_total (fun r' => r' = r ∧ i_Rel (k + 7) u v) v v1) u v1 := by
  refine vr_mk (wX := fun post w => wpX_total post w v1) (wY := fun post w => wpY_total post w v1) I (fun c hci => ?_)
  by_cases ok : 0 ≤ v1 ∧ v1 ≤ 4
  · obtain ⟨a1, a2⟩ := ok
    obtain ⟨j, hj, rfl⟩ := ra_ (n := 4) (by omega) a1 a2
    refine ⟨if j = 0 then nI (ac_steps c) else if j = 1 then nI (ac_lost c) else if j = 2 then nI (ac_fai c) else if j = 3 then nI (ac_ane c) else nI (ac_mel c), fun w post h K => ?_, fun w post h K => ?_⟩
    · refine xr_el (P := fun w => wpX_total post w (nI j)) h ?_
      intro f_front f_back f_waiting a_second a_eldest a_youngest a_younger a_older a_children a_kind a_value a_sender a_head a_mails a_next a_before a_queued a_failedAt a_failedHead a_failedCount a_put aA aT aM aQ aF aO
      have hxw : xr_ c (f_front, f_back, f_waiting, ac_lim c, ac_win c, nI (ac_puts c), nI (ac_steps c), nI (ac_lost c), nI (ac_fai c), nI (ac_ane c), nI (ac_mel c), xr_w (ac_wk c), ac_hv c, ac_hs c, ac_op c, ac_as c, a_second, ac_th c, ac_pa c, ac_be c, ac_bo c, ac_sg c, ac_st c, a_eldest, a_youngest, a_younger, a_older, a_children, a_kind, a_value, a_sender, a_head, a_mails, a_next, a_before, a_queued, a_failedAt, a_failedHead, a_failedCount, a_put) := xr_in aA aT aM aQ aF aO
      have h0 : ¬ nI j < 0 := nI_pos (by omega)
      have h4 : ¬ (4 : Int32) < nI j := nI_nlt (a := 4) (b := j) hj (by omega)
      have hjj : j = 0 ∨ j = 1 ∨ j = 2 ∨ j = 3 ∨ j = 4 := by omega
      rcases hjj with e | e | e | e | e <;> subst e
      · exact br_f h0 (br_f h4 (br_t rfl K))
      · exact br_f h0 (br_f h4 (br_f (by decide) (br_t rfl K)))
      · exact br_f h0 (br_f h4 (br_f (by decide) (br_f (by decide) (br_t rfl K))))
      · exact br_f h0 (br_f h4 (br_f (by decide) (br_f (by decide) (br_f (by decide) (br_t rfl K)))))
      · exact br_f h0 (br_f h4 (br_f (by decide) (br_f (by decide) (br_f (by decide) (br_f (by decide) (br_t rfl K))))))
    · refine yr_el (P := fun w => wpY_total post w (nI j)) h ?_
      intro a_goes s bt sd cm a_owner a_kinds a_values a_senders a_failed a_totals hs aT aM aQ aF aS hg
      show wpY_total _ _ _
      unfold wpY_total
      refine yo_c (fun _ _ => br_f (by decide) ⟨vp_in_nI (by omega) (by omega), ?_⟩) (fun hn => absurd ⟨a1, a2⟩ hn)
      rw [nI_clamp (by omega)]
      obtain ⟨s0, s1, s2, s3, s4⟩ := aS
      have hjj : j = 0 ∨ j = 1 ∨ j = 2 ∨ j = 3 ∨ j = 4 := by omega
      rcases hjj with e | e | e | e | e <;> subst e
      · rw [s0]; exact K
      · rw [s1]; exact K
      · rw [s2]; exact K
      · rw [s3]; exact K
      · rw [s4]; exact K
  · refine ⟨-1, fun w post h K => ?_, fun w post h K => ?_⟩
    · refine xr_el (P := fun w => wpX_total post w v1) h ?_
      intro f_front f_back f_waiting a_second a_eldest a_youngest a_younger a_older a_children a_kind a_value a_sender a_head a_mails a_next a_before a_queued a_failedAt a_failedHead a_failedCount a_put aA aT aM aQ aF aO
      have hxw : xr_ c (f_front, f_back, f_waiting, ac_lim c, ac_win c, nI (ac_puts c), nI (ac_steps c), nI (ac_lost c), nI (ac_fai c), nI (ac_ane c), nI (ac_mel c), xr_w (ac_wk c), ac_hv c, ac_hs c, ac_op c, ac_as c, a_second, ac_th c, ac_pa c, ac_be c, ac_bo c, ac_sg c, ac_st c, a_eldest, a_youngest, a_younger, a_older, a_children, a_kind, a_value, a_sender, a_head, a_mails, a_next, a_before, a_queued, a_failedAt, a_failedHead, a_failedCount, a_put) := xr_in aA aT aM aQ aF aO
      refine br_c (fun _ => K) (fun h0 => br_t ?_ K)
      exact Int32.not_le.mp (fun q => ok ⟨Int32.not_lt.mp h0, q⟩)
    · refine yr_el (P := fun w => wpY_total post w v1) h ?_
      intro a_goes s bt sd cm a_owner a_kinds a_values a_senders a_failed a_totals hs aT aM aQ aF aS hg
      show wpY_total _ _ _
      unfold wpY_total
      exact yo_c (fun p1 p2 => absurd ⟨p1, p2⟩ ok) (fun _ => br_t rfl K)
theorem i_vc_out {k : Nat} {u : SX} {v : SY} (I : i_Rel k u v) (hk : k + 7 ≤ 3584) (v1 : Int32) : wpX_out (fun r => wpY_out (fun r' => r' = r ∧ i_Rel (k + 7) u v) v v1) u v1 := by
  refine vr_mk (wX := fun post w => wpX_out post w v1) (wY := fun post w => wpY_out post w v1) I (fun c hci => ?_)
  have hpu : ac_puts c < 2 ^ 30 := by
    have := hci.2.2.2.2.2.2.2.2.2.2
    omega
  by_cases hm : v1 = -1
  · refine ⟨nI (ac_puts c), fun w post h K => ?_, fun w post h K => ?_⟩
    · refine xr_el (P := fun w => wpX_out post w v1) h ?_
      intro f_front f_back f_waiting a_second a_eldest a_youngest a_younger a_older a_children a_kind a_value a_sender a_head a_mails a_next a_before a_queued a_failedAt a_failedHead a_failedCount a_put aA aT aM aQ aF aO
      have hxw : xr_ c (f_front, f_back, f_waiting, ac_lim c, ac_win c, nI (ac_puts c), nI (ac_steps c), nI (ac_lost c), nI (ac_fai c), nI (ac_ane c), nI (ac_mel c), xr_w (ac_wk c), ac_hv c, ac_hs c, ac_op c, ac_as c, a_second, ac_th c, ac_pa c, ac_be c, ac_bo c, ac_sg c, ac_st c, a_eldest, a_youngest, a_younger, a_older, a_children, a_kind, a_value, a_sender, a_head, a_mails, a_next, a_before, a_queued, a_failedAt, a_failedHead, a_failedCount, a_put) := xr_in aA aT aM aQ aF aO
      exact br_t hm K
    · refine yr_el (P := fun w => wpY_out post w v1) h ?_
      intro a_goes s bt sd cm a_owner a_kinds a_values a_senders a_failed a_totals hs aT aM aQ aF aS hg
      exact br_t hm K
  · by_cases ok : 0 ≤ v1 ∧ v1 ≤ 15
    · obtain ⟨a1, a2⟩ := ok
      obtain ⟨j, hj, rfl⟩ := ra_ (n := 15) (by omega) a1 a2
      by_cases hlt : j < ac_puts c
      · refine ⟨ac_ou c j, fun w post h K => ?_, fun w post h K => ?_⟩
        · refine xr_el (P := fun w => wpX_out post w (nI j)) h ?_
          intro f_front f_back f_waiting a_second a_eldest a_youngest a_younger a_older a_children a_kind a_value a_sender a_head a_mails a_next a_before a_queued a_failedAt a_failedHead a_failedCount a_put aA aT aM aQ aF aO
          have hxw : xr_ c (f_front, f_back, f_waiting, ac_lim c, ac_win c, nI (ac_puts c), nI (ac_steps c), nI (ac_lost c), nI (ac_fai c), nI (ac_ane c), nI (ac_mel c), xr_w (ac_wk c), ac_hv c, ac_hs c, ac_op c, ac_as c, a_second, ac_th c, ac_pa c, ac_be c, ac_bo c, ac_sg c, ac_st c, a_eldest, a_youngest, a_younger, a_older, a_children, a_kind, a_value, a_sender, a_head, a_mails, a_next, a_before, a_queued, a_failedAt, a_failedHead, a_failedCount, a_put) := xr_in aA aT aM aQ aF aO
          have e1 : ((nI (ac_puts c) - 1) - nI j) &&& 15 = nI ((ac_puts c - 1 - j) % 16) := by
            show ((nI (ac_puts c) - nI 1) - nI j) &&& 15 = _
            rw [pk_sub (by omega), pk_sub (by omega)]
            exact pk_andN (n := ac_puts c - 1 - j) (by omega) (m := 15) 4 (by decide)
          refine br_f hm (xo_c (fun _ _ => br_t rfl (br_t (nI_lt hlt (by omega)) ⟨?_, ?_⟩)) (fun hn => absurd ⟨a1, a2⟩ hn))
          · rw [e1]
            exact vp_in_nI (by omega) (by omega)
          · rw [e1, nI_clamp (by omega), aO j (by omega) hlt]
            exact K
        · refine yr_el (P := fun w => wpY_out post w (nI j)) h ?_
          intro a_goes s bt sd cm a_owner a_kinds a_values a_senders a_failed a_totals hs aT aM aQ aF aS hg
          refine br_f hm (yo_c (fun _ _ => br_f (by decide) (br_f (nI_ge hlt (by omega)) ⟨vp_in_nI (by omega) (by omega), ?_⟩)) (fun hn => absurd ⟨a1, a2⟩ hn))
          rw [nI_clamp (by omega)]
          exact K
      · refine ⟨0, fun w post h K => ?_, fun w post h K => ?_⟩
        · refine xr_el (P := fun w => wpX_out post w (nI j)) h ?_
          intro f_front f_back f_waiting a_second a_eldest a_youngest a_younger a_older a_children a_kind a_value a_sender a_head a_mails a_next a_before a_queued a_failedAt a_failedHead a_failedCount a_put aA aT aM aQ aF aO
          have hxw : xr_ c (f_front, f_back, f_waiting, ac_lim c, ac_win c, nI (ac_puts c), nI (ac_steps c), nI (ac_lost c), nI (ac_fai c), nI (ac_ane c), nI (ac_mel c), xr_w (ac_wk c), ac_hv c, ac_hs c, ac_op c, ac_as c, a_second, ac_th c, ac_pa c, ac_be c, ac_bo c, ac_sg c, ac_st c, a_eldest, a_youngest, a_younger, a_older, a_children, a_kind, a_value, a_sender, a_head, a_mails, a_next, a_before, a_queued, a_failedAt, a_failedHead, a_failedCount, a_put) := xr_in aA aT aM aQ aF aO
          exact br_f hm (xo_c (fun _ _ => br_t rfl (br_f (nI_nlt (by omega) (by omega)) K)) (fun hn => absurd ⟨a1, a2⟩ hn))
        · refine yr_el (P := fun w => wpY_out post w (nI j)) h ?_
          intro a_goes s bt sd cm a_owner a_kinds a_values a_senders a_failed a_totals hs aT aM aQ aF aS hg
          exact br_f hm (yo_c (fun _ _ => br_f (by decide) (br_t (nI_le (by omega) (by omega)) K)) (fun hn => absurd ⟨a1, a2⟩ hn))
    · refine ⟨0, fun w post h K => ?_, fun w post h K => ?_⟩
      · refine xr_el (P := fun w => wpX_out post w v1) h ?_
        intro f_front f_back f_waiting a_second a_eldest a_youngest a_younger a_older a_children a_kind a_value a_sender a_head a_mails a_next a_before a_queued a_failedAt a_failedHead a_failedCount a_put aA aT aM aQ aF aO
        have hxw : xr_ c (f_front, f_back, f_waiting, ac_lim c, ac_win c, nI (ac_puts c), nI (ac_steps c), nI (ac_lost c), nI (ac_fai c), nI (ac_ane c), nI (ac_mel c), xr_w (ac_wk c), ac_hv c, ac_hs c, ac_op c, ac_as c, a_second, ac_th c, ac_pa c, ac_be c, ac_bo c, ac_sg c, ac_st c, a_eldest, a_youngest, a_younger, a_older, a_children, a_kind, a_value, a_sender, a_head, a_mails, a_next, a_before, a_queued, a_failedAt, a_failedHead, a_failedCount, a_put) := xr_in aA aT aM aQ aF aO
        exact br_f hm (xo_c (fun p1 p2 => absurd ⟨p1, p2⟩ ok) (fun _ => br_f (by decide) K))
      · refine yr_el (P := fun w => wpY_out post w v1) h ?_
        intro a_goes s bt sd cm a_owner a_kinds a_values a_senders a_failed a_totals hs aT aM aQ aF aS hg
        exact br_f hm (yo_c (fun p1 p2 => absurd ⟨p1, p2⟩ ok) (fun _ => br_t rfl K))
end
section
/-! answers that look along lists -/
theorem sp_at : ∀ (l : List Nat) (j : Nat), j < l.length → ∃ s y t, l = s ++ y :: t ∧ s.length = j := by
  intro l
  induction l with
  | nil => intro j hj; exact absurd hj (Nat.not_lt_zero _)
  | cons a l ih =>
    intro j hj
    cases j with
    | zero => exact ⟨[], a, l, rfl, rfl⟩
    | succ j =>
      obtain ⟨s, y, t, e, hs⟩ := ih j (by simpa using hj)
      exact ⟨a :: s, y, t, by rw [e]; rfl, by simp [hs]⟩
theorem ou_in {n : Nat} {z : Int32} (hn : n < 100) (h0 : 0 ≤ z) (h1 : z ≤ nI n - 1) : ∃ j, j < n ∧ z = nI j := by
  cases n with
  | zero =>
    exact absurd (Int32.le_trans h0 h1) (by decide)
  | succ n =>
    rw [nI_pred] at h1
    obtain ⟨j, hj, e⟩ := ra_ (by omega) h0 h1
    exact ⟨j, by omega, e⟩
theorem ou_ok {n j : Nat} (hn : n < 100) (hj : j < n) : (0 : Int32) ≤ nI j ∧ nI j ≤ nI n - 1 := by
  obtain ⟨m, rfl⟩ : ∃ m, n = m + 1 := ⟨n - 1, by omega⟩
  rw [nI_pred]
  exact ⟨nI_pos' (by omega), nI_le (by omega) (by omega)⟩
def of_b (c : AC) (x : Nat) (q : Int32) : Int32 := if q = 0 then ac_pa c x else if q = 1 then ac_st c x else if q = 2 then ac_be c x else if q = 3 then ac_sg c x else if q = 4 then nI (ac_ml c x).length else if q = 5 then nI (ac_ch c x).length else -1
theorem of_no {c : AC} {x : Nat} {q : Int32} (h : ¬ (0 ≤ q ∧ q ≤ 5)) : of_b c x q = -1 := by
  unfold of_b
  rw [if_neg (fun e => h (by rw [e]; decide)), if_neg (fun e => h (by rw [e]; decide)), if_neg (fun e => h (by rw [e]; decide)), if_neg (fun e => h (by rw [e]; decide)), if_neg (fun e => h (by rw [e]; decide)), if_neg (fun e => h (by rw [e]; decide))]
theorem xf_35 {c : AC} {x : Nat} {q : Int32} {post : Int32 → Prop} {f_front f_back f_waiting f_limit f_window f_puts f_steps f_lost f_failures f_anew f_melted f_working f_heldValue f_heldSender : Int32} {a_op a_first a_second a_there a_parent a_behaviour a_born a_strategy a_state a_eldest a_youngest a_younger a_older a_children a_kind a_value a_sender a_head a_mails a_next a_before a_queued a_failedAt a_failedHead a_failedCount a_put : Nat → Int32} (x1 : x < 12) (K : post (of_b c x q)) (hpa : a_parent = ac_pa c) (hst : a_state = ac_st c) (hbe : a_behaviour = ac_be c) (hsg : a_strategy = ac_sg c) (hma : a_mails x = nI (ac_ml c x).length) (hcn : a_children x = nI (ac_ch c x).length) : wX_of_35 post (nI x) q f_front f_back f_waiting f_limit f_window f_puts f_steps f_lost f_failures f_anew f_melted f_working f_heldValue f_heldSender a_op a_first a_second a_there a_parent a_behaviour a_born a_strategy a_state a_eldest a_youngest a_younger a_older a_children a_kind a_value a_sender a_head a_mails a_next a_before a_queued a_failedAt a_failedHead a_failedCount a_put := by
  subst hpa hst hbe hsg
  by_cases ok : 0 ≤ q ∧ q ≤ 5
  · obtain ⟨j, hj, rfl⟩ := ra_ (n := 5) (by omega) ok.1 ok.2
    have h0 : ¬ nI j < 0 := nI_pos (by omega)
    have h5 : ¬ (5 : Int32) < nI j := nI_nlt (a := 5) (b := j) hj (by omega)
    have hi := ni_ x1
    have hc := nc_ x1
    have hjj : j = 0 ∨ j = 1 ∨ j = 2 ∨ j = 3 ∨ j = 4 ∨ j = 5 := by omega
    refine br_f h0 (br_f h5 ?_)
    rw [hc]
    rcases hjj with e | e | e | e | e | e <;> subst e
    · exact br_t rfl ⟨hi, K⟩
    · exact br_f (by decide) (br_t rfl ⟨hi, K⟩)
    · exact br_f (by decide) (br_f (by decide) (br_t rfl ⟨hi, K⟩))
    · exact br_f (by decide) (br_f (by decide) (br_f (by decide) (br_t rfl ⟨hi, K⟩)))
    · refine br_f (by decide) (br_f (by decide) (br_f (by decide) (br_f (by decide) (br_t rfl ⟨hi, ?_⟩))))
      rw [hma]
      exact K
    · refine br_f (by decide) (br_f (by decide) (br_f (by decide) (br_f (by decide) (br_f (by decide) (br_t rfl ⟨hi, ?_⟩)))))
      rw [hcn]
      exact K
  · rw [of_no ok] at K
    refine br_c (fun _ => K) (fun h0 => br_t ?_ K)
    exact Int32.not_le.mp (fun q => ok ⟨Int32.not_lt.mp h0, q⟩)
theorem i_vc_of {k : Nat} {u : SX} {v : SY} (I : i_Rel k u v) (hk : k + 7 ≤ 3584) (v1 : Int32) (v2 : Int32) : wpX_of (fun r => wpY_of (fun r' => r' = r ∧ i_Rel (k + 7) u v) v v1 v2) u v1 v2 := by
  refine vr_mk (wX := fun post w => wpX_of post w v1 v2) (wY := fun post w => wpY_of post w v1 v2) I (fun c hci => ?_)
  by_cases ok : ∃ x, x < 12 ∧ v1 = nI x ∧ ac_th c x ≠ 0
  · obtain ⟨x, x1, rfl, hx⟩ := ok
    refine ⟨if x = 0 ∧ v2 ≠ 3 ∧ v2 ≠ 5 then -1 else of_b c x v2, fun w post h K => ?_, fun w post h K => ?_⟩
    · refine xr_el (P := fun w => wpX_of post w (nI x) v2) h ?_
      intro f_front f_back f_waiting a_second a_eldest a_youngest a_younger a_older a_children a_kind a_value a_sender a_head a_mails a_next a_before a_queued a_failedAt a_failedHead a_failedCount a_put aA aT aM aQ aF aO
      have hxw : xr_ c (f_front, f_back, f_waiting, ac_lim c, ac_win c, nI (ac_puts c), nI (ac_steps c), nI (ac_lost c), nI (ac_fai c), nI (ac_ane c), nI (ac_mel c), xr_w (ac_wk c), ac_hv c, ac_hs c, ac_op c, ac_as c, a_second, ac_th c, ac_pa c, ac_be c, ac_bo c, ac_sg c, ac_st c, a_eldest, a_youngest, a_younger, a_older, a_children, a_kind, a_value, a_sender, a_head, a_mails, a_next, a_before, a_queued, a_failedAt, a_failedHead, a_failedCount, a_put) := xr_in aA aT aM aQ aF aO
      show wpX_of _ _ _ _
      unfold wpX_of
      refine xo_c (fun _ _ => br_t rfl ⟨ni_ x1, br_f (by rw [nc_ x1]; exact hx) ?_⟩) (fun hn => absurd (rb_in x1) hn)
      have E : ¬ (x = 0 ∧ v2 ≠ 3 ∧ v2 ≠ 5) → wX_of_35 post (nI x) v2 f_front f_back f_waiting (ac_lim c) (ac_win c) (nI (ac_puts c)) (nI (ac_steps c)) (nI (ac_lost c)) (nI (ac_fai c)) (nI (ac_ane c)) (nI (ac_mel c)) (xr_w (ac_wk c)) (ac_hv c) (ac_hs c) (ac_op c) (ac_as c) a_second (ac_th c) (ac_pa c) (ac_be c) (ac_bo c) (ac_sg c) (ac_st c) a_eldest a_youngest a_younger a_older a_children a_kind a_value a_sender a_head a_mails a_next a_before a_queued a_failedAt a_failedHead a_failedCount a_put := by
        intro hn
        rw [if_neg hn] at K
        exact xf_35 x1 K rfl rfl rfl rfl (aM x x1).1 (aT x x1 hx).2
      refine br_c (fun e => br_c (fun e3 => E (fun q => q.2.1 e3)) (fun e3 => br_c (fun e5 => E (fun q => q.2.2 e5)) (fun e5 => ?_))) (fun e => E (fun q => e (by rw [q.1]; rfl)))
      have x0 : x = 0 := (nI_eq (b := 0) (by omega) (by omega)).mp e
      rw [if_pos ⟨x0, e3, e5⟩] at K
      exact K
    · refine yr_el (P := fun w => wpY_of post w (nI x) v2) h ?_
      intro a_goes s bt sd cm a_owner a_kinds a_values a_senders a_failed a_totals hs aT aM aQ aF aS hg
      by_cases x0 : x = 0
      · subst x0
        refine br_t rfl (br_c (fun e3 => ?_) (fun e3 => br_c (fun e5 => ?_) (fun e5 => ?_)))
        · rw [if_neg (fun q => q.2.1 e3), e3] at K
          exact K
        · rw [if_neg (fun q => q.2.2 e5), e5] at K
          exact yk_kids (p := 0) hg hci (by omega) K
        · rw [if_pos ⟨rfl, e3, e5⟩] at K
          exact K
      · rw [if_neg (fun q => x0 q.1)] at K
        refine br_f (nI_ne0 (by omega) (by omega)) (yi_t hg (by omega) x1 hx (br_f (by decide) ?_))
        by_cases ok : 0 ≤ v2 ∧ v2 ≤ 5
        · obtain ⟨j, hj, rfl⟩ := ra_ (n := 5) (by omega) ok.1 ok.2
          have h0 : ¬ nI j < 0 := nI_pos (by omega)
          have h5 : ¬ (5 : Int32) < nI j := nI_nlt (a := 5) (b := j) hj (by omega)
          have hi := ni_ x1
          have hjj : j = 0 ∨ j = 1 ∨ j = 2 ∨ j = 3 ∨ j = 4 ∨ j = 5 := by omega
          refine br_f h0 (br_f h5 ?_)
          rw [nc_ x1]
          rcases hjj with e | e | e | e | e | e <;> subst e
          · exact br_t rfl ⟨hi, K⟩
          · exact br_f (by decide) (br_t rfl ⟨hi, K⟩)
          · exact br_f (by decide) (br_f (by decide) (br_t rfl ⟨hi, K⟩))
          · exact br_f (by decide) (br_f (by decide) (br_f (by decide) (br_t rfl ⟨hi, K⟩)))
          · exact br_f (by decide) (br_f (by decide) (br_f (by decide) (br_f (by decide) (br_t rfl (ym_mails hg (by omega) x1 K)))))
          · exact br_f (by decide) (br_f (by decide) (br_f (by decide) (br_f (by decide) (br_f (by decide) (br_t rfl (yk_kids hg hci x1 K))))))
        · rw [of_no ok] at K
          refine br_c (fun _ => K) (fun h0 => br_t ?_ K)
          exact Int32.not_le.mp (fun q => ok ⟨Int32.not_lt.mp h0, q⟩)
  · refine ⟨-1, fun w post h K => ?_, fun w post h K => ?_⟩
    · refine xr_el (P := fun w => wpX_of post w v1 v2) h ?_
      intro f_front f_back f_waiting a_second a_eldest a_youngest a_younger a_older a_children a_kind a_value a_sender a_head a_mails a_next a_before a_queued a_failedAt a_failedHead a_failedCount a_put aA aT aM aQ aF aO
      have hxw : xr_ c (f_front, f_back, f_waiting, ac_lim c, ac_win c, nI (ac_puts c), nI (ac_steps c), nI (ac_lost c), nI (ac_fai c), nI (ac_ane c), nI (ac_mel c), xr_w (ac_wk c), ac_hv c, ac_hs c, ac_op c, ac_as c, a_second, ac_th c, ac_pa c, ac_be c, ac_bo c, ac_sg c, ac_st c, a_eldest, a_youngest, a_younger, a_older, a_children, a_kind, a_value, a_sender, a_head, a_mails, a_next, a_before, a_queued, a_failedAt, a_failedHead, a_failedCount, a_put) := xr_in aA aT aM aQ aF aO
      show wpX_of _ _ _ _
      unfold wpX_of
      refine xo_c (fun p1 p2 => br_t rfl ?_) (fun _ => br_f (by decide) K)
      obtain ⟨x, x1, rfl⟩ := rb_ p1 p2
      refine ⟨ni_ x1, br_t ?_ K⟩
      rw [nc_ x1]
      exact Classical.byContradiction (fun q => ok ⟨x, x1, rfl, q⟩)
    · refine yr_el (P := fun w => wpY_of post w v1 v2) h ?_
      intro a_goes s bt sd cm a_owner a_kinds a_values a_senders a_failed a_totals hs aT aM aQ aF aS hg
      refine br_f (fun e => ok ⟨0, by omega, e, hci.1.1⟩) (yi_f hg (fun ⟨x, x0, x1, e, hx⟩ => ok ⟨x, x1, e, hx⟩) (br_t rfl K))
theorem i_vc_child {k : Nat} {u : SX} {v : SY} (I : i_Rel k u v) (hk : k + 7 ≤ 3584) (v1 : Int32) (v2 : Int32) : wpX_child (fun r => wpY_child (fun r' => r' = r ∧ i_Rel (k + 7) u v) v v1 v2) u v1 v2 := by
  refine vr_mk (wX := fun post w => wpX_child post w v1 v2) (wY := fun post w => wpY_child post w v1 v2) I (fun c hci => ?_)
  have tC := hci.1.2.2.2.1
  by_cases ok : ∃ x, x < 12 ∧ v1 = nI x ∧ ac_th c x ≠ 0
  · obtain ⟨x, x1, rfl, hx⟩ := ok
    have hlen := ch_len tC x
    have Y : ∀ (w : SY) (post : Int32 → Prop), yr_ (6000 * k) c w → (∀ s y t, ac_ch c x = s ++ y :: t → v2 = nI s.length → post (nI y)) → ((∀ s y t, ac_ch c x = s ++ y :: t → v2 ≠ nI s.length) → post (-1)) → wpY_child post w (nI x) v2 := by
      intro w post h K1 K0
      refine yr_el (P := fun w => wpY_child post w (nI x) v2) h ?_
      intro a_goes s bt sd cm a_owner a_kinds a_values a_senders a_failed a_totals hs aT aM aQ aF aS hg
      have E : wY_child_14 post (nI x) v2 (lN s) (ac_lim c) (ac_win c) (nI (ac_wk c)) (nI (ac_puts c)) (ac_op c) (ac_as c) (ac_bs c) (ac_th c) (ac_pa c) (fun j => lN (bt j)) (ac_be c) (ac_bo c) (ac_sg c) (ac_st c) (fun j => lN (sd j)) a_owner (fun j => lN (cm j)) a_kinds a_values a_senders a_failed (ac_ou c) a_totals a_goes := by
        unfold wY_child_14
        refine yk_kid hg (by omega) hci x1 (fun s y t e he => br_f ?_ (K1 s y t e he)) (fun hno => br_t rfl (K0 hno))
        have hy := (tC.1 x y).mp (by rw [e]; simp)
        exact nI_ne0 hy.2.1 (by omega)
      by_cases x0 : x = 0
      · subst x0
        exact br_t rfl E
      · exact br_f (nI_ne0 (by omega) (by omega)) (yi_t hg (by omega) x1 hx (br_f (by decide) E))
    by_cases ex : ∃ s y t, ac_ch c x = s ++ y :: t ∧ v2 = nI s.length
    · obtain ⟨s0, y, t0, hst, rfl⟩ := ex
      have hsl : s0.length + (t0.length + 1) ≤ 11 := by
        have := hlen
        rw [hst] at this
        simpa using this
      have hl2 : (ac_ch c x).length = s0.length + (t0.length + 1) := by rw [hst]; simp
      refine ⟨nI y, fun w post h K => ?_, fun w post h K => Y w post h (fun s' y' t' e he => ?_) (fun hno => absurd rfl (hno s0 y t0 hst))⟩
      · refine xr_el (P := fun w => wpX_child post w (nI x) (nI s0.length)) h ?_
        intro f_front f_back f_waiting a_second a_eldest a_youngest a_younger a_older a_children a_kind a_value a_sender a_head a_mails a_next a_before a_queued a_failedAt a_failedHead a_failedCount a_put aA aT aM aQ aF aO
        have hxw : xr_ c (f_front, f_back, f_waiting, ac_lim c, ac_win c, nI (ac_puts c), nI (ac_steps c), nI (ac_lost c), nI (ac_fai c), nI (ac_ane c), nI (ac_mel c), xr_w (ac_wk c), ac_hv c, ac_hs c, ac_op c, ac_as c, a_second, ac_th c, ac_pa c, ac_be c, ac_bo c, ac_sg c, ac_st c, a_eldest, a_youngest, a_younger, a_older, a_children, a_kind, a_value, a_sender, a_head, a_mails, a_next, a_before, a_queued, a_failedAt, a_failedHead, a_failedCount, a_put) := xr_in aA aT aM aQ aF aO
        have L : ∀ d i s' y' t', s'.length = i → ac_ch c x = s' ++ y' :: t' → i + d = s0.length → wX_child_47 post (nI s0.length) f_front f_back f_waiting (ac_lim c) (ac_win c) (nI (ac_puts c)) (nI (ac_steps c)) (nI (ac_lost c)) (nI (ac_fai c)) (nI (ac_ane c)) (nI (ac_mel c)) (xr_w (ac_wk c)) (ac_hv c) (ac_hs c) (ac_op c) (ac_as c) a_second (ac_th c) (ac_pa c) (ac_be c) (ac_bo c) (ac_sg c) (ac_st c) a_eldest a_youngest a_younger a_older a_children a_kind a_value a_sender a_head a_mails a_next a_before a_queued a_failedAt a_failedHead a_failedCount a_put (d + 1) (nI y') (nI i) := by
          intro d
          induction d with
          | zero =>
            intro i s' y' t' hl e hi
            have hyy : y = y' := so_uniq hst e (by omega)
            subst hyy
            exact br_t (nI_le (by omega) (by omega)) K
          | succ d ih =>
            intro i s' y' t' hl e hi
            have hy1 : y' < 12 := ci_chlt tC (by rw [e]; simp)
            have hy := ((aT x x1 hx).1.2.2 s' y' t' e).1
            cases t' with
            | nil =>
              exfalso
              rw [e] at hl2
              simp at hl2
              omega
            | cons z t'' =>
              exact br_f (nI_ge (by omega) (by omega)) ⟨ni_ hy1, nm_r (e' := nI z) (by rw [nc_ hy1]; exact hy) (nm_r (e' := nI (i + 1)) (nI_1 _) (ih (i + 1) (s' ++ [y']) z t'' (by simp [hl]) (by rw [e]; simp) (by omega)))⟩
        show wpX_child _ _ _ _
        unfold wpX_child
        have hcn : a_children (nI x).toNatClampNeg = nI (ac_ch c x).length := by rw [nc_ x1]; exact (aT x x1 hx).2
        refine xo_c (fun _ _ => br_t rfl ⟨ni_ x1, br_f (by rw [nc_ x1]; exact hx) ⟨ni_ x1, ?_⟩⟩) (fun hn => absurd (rb_in x1) hn)
        rw [hcn]
        refine xo_c (fun _ _ => br_t rfl ⟨ni_ x1, ?_⟩) (fun hn => absurd (ou_ok (by omega) (by omega)) hn)
        cases hcc : ac_ch c x with
        | nil =>
          rw [hcc] at hst
          simp at hst
        | cons z t'' =>
          refine nm_r (e' := nI z) ?_ ⟨s0.length + 1, L s0.length 0 [] z t'' rfl hcc (by omega)⟩
          rw [nc_ x1, (aT x x1 hx).1.1, hcc]
          rfl
      · have hl' : s'.length ≤ 11 := by
          have := hlen
          rw [e] at this
          simp at this
          omega
        have hll : s0.length = s'.length := (nI_eq (by omega) (by omega)).mp he
        have hyy : y = y' := so_uniq hst e hll
        rw [← hyy]
        exact K
    · refine ⟨-1, fun w post h K => ?_, fun w post h K => Y w post h (fun s' y' t' e he => absurd ⟨s', y', t', e, he⟩ ex) (fun _ => K)⟩
      refine xr_el (P := fun w => wpX_child post w (nI x) v2) h ?_
      intro f_front f_back f_waiting a_second a_eldest a_youngest a_younger a_older a_children a_kind a_value a_sender a_head a_mails a_next a_before a_queued a_failedAt a_failedHead a_failedCount a_put aA aT aM aQ aF aO
      have hxw : xr_ c (f_front, f_back, f_waiting, ac_lim c, ac_win c, nI (ac_puts c), nI (ac_steps c), nI (ac_lost c), nI (ac_fai c), nI (ac_ane c), nI (ac_mel c), xr_w (ac_wk c), ac_hv c, ac_hs c, ac_op c, ac_as c, a_second, ac_th c, ac_pa c, ac_be c, ac_bo c, ac_sg c, ac_st c, a_eldest, a_youngest, a_younger, a_older, a_children, a_kind, a_value, a_sender, a_head, a_mails, a_next, a_before, a_queued, a_failedAt, a_failedHead, a_failedCount, a_put) := xr_in aA aT aM aQ aF aO
      show wpX_child _ _ _ _
      unfold wpX_child
      have hcn : a_children (nI x).toNatClampNeg = nI (ac_ch c x).length := by rw [nc_ x1]; exact (aT x x1 hx).2
      refine xo_c (fun _ _ => br_t rfl ⟨ni_ x1, br_f (by rw [nc_ x1]; exact hx) ⟨ni_ x1, ?_⟩⟩) (fun hn => absurd (rb_in x1) hn)
      rw [hcn]
      refine xo_c (fun p1 p2 => ?_) (fun _ => br_f (by decide) K)
      obtain ⟨j, hj, e⟩ := ou_in (by omega) p1 p2
      obtain ⟨s', y', t', e2, hs'⟩ := sp_at _ j hj
      exact absurd ⟨s', y', t', e2, by rw [e, hs']⟩ ex
  · refine ⟨-1, fun w post h K => ?_, fun w post h K => ?_⟩
    · refine xr_el (P := fun w => wpX_child post w v1 v2) h ?_
      intro f_front f_back f_waiting a_second a_eldest a_youngest a_younger a_older a_children a_kind a_value a_sender a_head a_mails a_next a_before a_queued a_failedAt a_failedHead a_failedCount a_put aA aT aM aQ aF aO
      have hxw : xr_ c (f_front, f_back, f_waiting, ac_lim c, ac_win c, nI (ac_puts c), nI (ac_steps c), nI (ac_lost c), nI (ac_fai c), nI (ac_ane c), nI (ac_mel c), xr_w (ac_wk c), ac_hv c, ac_hs c, ac_op c, ac_as c, a_second, ac_th c, ac_pa c, ac_be c, ac_bo c, ac_sg c, ac_st c, a_eldest, a_youngest, a_younger, a_older, a_children, a_kind, a_value, a_sender, a_head, a_mails, a_next, a_before, a_queued, a_failedAt, a_failedHead, a_failedCount, a_put) := xr_in aA aT aM aQ aF aO
      show wpX_child _ _ _ _
      unfold wpX_child
      refine xo_c (fun p1 p2 => br_t rfl ?_) (fun _ => br_f (by decide) K)
      obtain ⟨x, x1, rfl⟩ := rb_ p1 p2
      refine ⟨ni_ x1, br_t ?_ K⟩
      rw [nc_ x1]
      exact Classical.byContradiction (fun q => ok ⟨x, x1, rfl, q⟩)
    · refine yr_el (P := fun w => wpY_child post w v1 v2) h ?_
      intro a_goes s bt sd cm a_owner a_kinds a_values a_senders a_failed a_totals hs aT aM aQ aF aS hg
      refine br_f (fun e => ok ⟨0, by omega, e, hci.1.1⟩) (yi_f hg (fun ⟨x, x0, x1, e, hx⟩ => ok ⟨x, x1, e, hx⟩) (br_t rfl K))
end
section
/-! mails, and the row -/
def ma_q (q : Nat) (m : Int32 × Int32 × Int32) : Int32 := if q = 0 then m.1 else if q = 1 then m.2.1 else m.2.2
theorem i_vc_mail {k : Nat} {u : SX} {v : SY} (I : i_Rel k u v) (hk : k + 7 ≤ 3584) (v1 : Int32) (v2 : Int32) (v3 : Int32) : wpX_mail (fun r => wpY_mail (fun r' => r' = r ∧ i_Rel (k + 7) u v) v v1 v2 v3) u v1 v2 v3 := by
  refine vr_mk (wX := fun post w => wpX_mail post w v1 v2 v3) (wY := fun post w => wpY_mail post w v1 v2 v3) I (fun c hci => ?_)
  by_cases ok : ∃ x, 0 < x ∧ x < 12 ∧ v1 = nI x ∧ ac_th c x ≠ 0
  · obtain ⟨x, x0, x1, rfl, hx⟩ := ok
    have hlen := (hci.2.2.1 x).1 x1
    by_cases ok2 : 0 ≤ v3 ∧ v3 ≤ 2
    · obtain ⟨b1, b2⟩ := ok2
      obtain ⟨q, hq, rfl⟩ := ra_ (n := 2) (by omega) b1 b2
      have hqq : q = 0 ∨ q = 1 ∨ q = 2 := by omega
      by_cases ex : ∃ i, i < (ac_ml c x).length ∧ v2 = nI i
      · obtain ⟨i, hi, rfl⟩ := ex
        obtain ⟨kvf, hg0⟩ : ∃ kvf, (ac_ml c x)[i]? = some kvf := ⟨_, List.getElem?_eq_getElem hi⟩
        obtain ⟨ki, va, fi⟩ := kvf
        refine ⟨ma_q q (ki, va, fi), fun w post h K => ?_, fun w post h K => ?_⟩
        · refine xr_el (P := fun w => wpX_mail post w (nI x) (nI i) (nI q)) h ?_
          intro f_front f_back f_waiting a_second a_eldest a_youngest a_younger a_older a_children a_kind a_value a_sender a_head a_mails a_next a_before a_queued a_failedAt a_failedHead a_failedCount a_put aA aT aM aQ aF aO
          have hxw : xr_ c (f_front, f_back, f_waiting, ac_lim c, ac_win c, nI (ac_puts c), nI (ac_steps c), nI (ac_lost c), nI (ac_fai c), nI (ac_ane c), nI (ac_mel c), xr_w (ac_wk c), ac_hv c, ac_hs c, ac_op c, ac_as c, a_second, ac_th c, ac_pa c, ac_be c, ac_bo c, ac_sg c, ac_st c, a_eldest, a_youngest, a_younger, a_older, a_children, a_kind, a_value, a_sender, a_head, a_mails, a_next, a_before, a_queued, a_failedAt, a_failedHead, a_failedCount, a_put) := xr_in aA aT aM aQ aF aO
          obtain ⟨m1, hh, m2, m3, m4⟩ := aM x x1
          obtain ⟨r1, r2, r3⟩ := m4 i ki va fi hg0
          have c96 : (nI (8 * x + (hh + i) % 8)).toNatClampNeg = 8 * x + (hh + i) % 8 := nI_clamp (by omega)
          have i96 : vp_in (nI (8 * x + (hh + i) % 8)) 96 := vp_in_nI (by omega) (by omega)
          show wpX_mail _ _ _ _ _
          unfold wpX_mail
          refine xi_t hxw x0 x1 hx (br_f (by decide) ⟨ni_ x1, ?_⟩)
          rw [nc_ x1, m1, m3]
          refine xo_c (fun _ _ => br_t rfl (xo_c (fun _ _ => br_t rfl ⟨ni_ x1, nm_r (e' := nI (8 * x + (hh + i) % 8)) (xc_cell x1 m2 (by omega)) ?_⟩) (fun hn => absurd ⟨b1, b2⟩ hn))) (fun hn => absurd (ou_ok (by omega) hi) hn)
          rw [c96]
          rcases hqq with e | e | e <;> subst e
          · refine br_t rfl ⟨i96, ?_⟩
            rw [r1]
            exact K
          · refine br_f (by decide) (br_t rfl ⟨i96, ?_⟩)
            rw [r2]
            exact K
          · refine br_f (by decide) (br_f (by decide) ⟨i96, ?_⟩)
            rw [r3]
            exact K
        · refine yr_el (P := fun w => wpY_mail post w (nI x) (nI i) (nI q)) h ?_
          intro a_goes s bt sd cm a_owner a_kinds a_values a_senders a_failed a_totals hs aT aM aQ aF aS hg
          obtain ⟨pl, p1, p2, p3⟩ := aM.2.2 x x0 x1
          have hpl : pl.length = (ac_ml c x).length := by rw [p3, List.length_map]
          show wpY_mail _ _ _ _ _
          unfold wpY_mail
          refine yi_t hg x0 x1 hx (br_f (by decide) (yo_c (fun _ _ => br_f (by decide) ?_) (fun hn => absurd ⟨b1, b2⟩ hn)))
          refine yp_place (a_came := fun _ => 0) (pl := pl) p1 p2 (fun j => by have := aM.1 j; omega) (fun s' m t' e he => ?_) (fun hno => ?_)
          · have hl' : s'.length < pl.length := by rw [e]; simp
            have hll : i = s'.length := (nI_eq (by omega) (by omega)).mp he
            have hm72 : m < 72 := ((p2 m).mp (by rw [e]; simp)).1
            have c72 : (nI m).toNatClampNeg = m := nI_clamp (by omega)
            have i72 : vp_in (nI m) 72 := vp_in_nI hm72 (by omega)
            have hat : (ac_ml c x)[i]? = some (a_kinds m, a_values m, a_senders m) := by
              rw [p3, e, hll, List.map_append, List.map_cons, List.getElem?_append_right (by simp)]
              simp
            have hkv : (ki, va, fi) = (a_kinds m, a_values m, a_senders m) := Option.some.inj (hg0.symm.trans hat)
            rw [hkv] at K
            refine br_t (nI_pos' (by omega)) ?_
            rw [c72]
            rcases hqq with e | e | e <;> subst e
            · exact br_t rfl ⟨i72, K⟩
            · exact br_f (by decide) (br_t rfl ⟨i72, K⟩)
            · exact br_f (by decide) (br_f (by decide) ⟨i72, K⟩)
          · obtain ⟨s', m, t', e, hs'⟩ := sp_at pl i (by omega)
            exact absurd (by rw [hs']) (hno s' m t' e)
      · refine ⟨-1, fun w post h K => ?_, fun w post h K => ?_⟩
        · refine xr_el (P := fun w => wpX_mail post w (nI x) v2 (nI q)) h ?_
          intro f_front f_back f_waiting a_second a_eldest a_youngest a_younger a_older a_children a_kind a_value a_sender a_head a_mails a_next a_before a_queued a_failedAt a_failedHead a_failedCount a_put aA aT aM aQ aF aO
          have hxw : xr_ c (f_front, f_back, f_waiting, ac_lim c, ac_win c, nI (ac_puts c), nI (ac_steps c), nI (ac_lost c), nI (ac_fai c), nI (ac_ane c), nI (ac_mel c), xr_w (ac_wk c), ac_hv c, ac_hs c, ac_op c, ac_as c, a_second, ac_th c, ac_pa c, ac_be c, ac_bo c, ac_sg c, ac_st c, a_eldest, a_youngest, a_younger, a_older, a_children, a_kind, a_value, a_sender, a_head, a_mails, a_next, a_before, a_queued, a_failedAt, a_failedHead, a_failedCount, a_put) := xr_in aA aT aM aQ aF aO
          show wpX_mail _ _ _ _ _
          unfold wpX_mail
          refine xi_t hxw x0 x1 hx (br_f (by decide) ⟨ni_ x1, ?_⟩)
          rw [nc_ x1, (aM x x1).1]
          exact xo_c (fun p1 p2 => absurd (ou_in (by omega) p1 p2) ex) (fun _ => br_f (by decide) K)
        · refine yr_el (P := fun w => wpY_mail post w (nI x) v2 (nI q)) h ?_
          intro a_goes s bt sd cm a_owner a_kinds a_values a_senders a_failed a_totals hs aT aM aQ aF aS hg
          obtain ⟨pl, p1, p2, p3⟩ := aM.2.2 x x0 x1
          have hpl : pl.length = (ac_ml c x).length := by rw [p3, List.length_map]
          show wpY_mail _ _ _ _ _
          unfold wpY_mail
          refine yi_t hg x0 x1 hx (br_f (by decide) (yo_c (fun _ _ => br_f (by decide) ?_) (fun hn => absurd ⟨b1, b2⟩ hn)))
          refine yp_place (a_came := fun _ => 0) (pl := pl) p1 p2 (fun j => by have := aM.1 j; omega) (fun s' m t' e he => ?_) (fun hno => ?_)
          · refine absurd ⟨s'.length, ?_, he⟩ ex
            rw [← hpl, e]
            simp
          · exact br_f (by decide) K
    · refine ⟨-1, fun w post h K => ?_, fun w post h K => ?_⟩
      · refine xr_el (P := fun w => wpX_mail post w (nI x) v2 v3) h ?_
        intro f_front f_back f_waiting a_second a_eldest a_youngest a_younger a_older a_children a_kind a_value a_sender a_head a_mails a_next a_before a_queued a_failedAt a_failedHead a_failedCount a_put aA aT aM aQ aF aO
        have hxw : xr_ c (f_front, f_back, f_waiting, ac_lim c, ac_win c, nI (ac_puts c), nI (ac_steps c), nI (ac_lost c), nI (ac_fai c), nI (ac_ane c), nI (ac_mel c), xr_w (ac_wk c), ac_hv c, ac_hs c, ac_op c, ac_as c, a_second, ac_th c, ac_pa c, ac_be c, ac_bo c, ac_sg c, ac_st c, a_eldest, a_youngest, a_younger, a_older, a_children, a_kind, a_value, a_sender, a_head, a_mails, a_next, a_before, a_queued, a_failedAt, a_failedHead, a_failedCount, a_put) := xr_in aA aT aM aQ aF aO
        show wpX_mail _ _ _ _ _
        unfold wpX_mail
        refine xi_t hxw x0 x1 hx (br_f (by decide) ⟨ni_ x1, ?_⟩)
        exact xo_c (fun p1 p2 => br_t rfl (xo_c (fun p3 p4 => absurd ⟨p3, p4⟩ ok2) (fun _ => br_f (by decide) K))) (fun _ => br_f (by decide) K)
      · refine yr_el (P := fun w => wpY_mail post w (nI x) v2 v3) h ?_
        intro a_goes s bt sd cm a_owner a_kinds a_values a_senders a_failed a_totals hs aT aM aQ aF aS hg
        show wpY_mail _ _ _ _ _
        unfold wpY_mail
        exact yi_t hg x0 x1 hx (br_f (by decide) (yo_c (fun p3 p4 => absurd ⟨p3, p4⟩ ok2) (fun _ => br_t rfl (br_f (by decide) K))))
  · refine ⟨-1, fun w post h K => ?_, fun w post h K => ?_⟩
    · refine xr_el (P := fun w => wpX_mail post w v1 v2 v3) h ?_
      intro f_front f_back f_waiting a_second a_eldest a_youngest a_younger a_older a_children a_kind a_value a_sender a_head a_mails a_next a_before a_queued a_failedAt a_failedHead a_failedCount a_put aA aT aM aQ aF aO
      have hxw : xr_ c (f_front, f_back, f_waiting, ac_lim c, ac_win c, nI (ac_puts c), nI (ac_steps c), nI (ac_lost c), nI (ac_fai c), nI (ac_ane c), nI (ac_mel c), xr_w (ac_wk c), ac_hv c, ac_hs c, ac_op c, ac_as c, a_second, ac_th c, ac_pa c, ac_be c, ac_bo c, ac_sg c, ac_st c, a_eldest, a_youngest, a_younger, a_older, a_children, a_kind, a_value, a_sender, a_head, a_mails, a_next, a_before, a_queued, a_failedAt, a_failedHead, a_failedCount, a_put) := xr_in aA aT aM aQ aF aO
      show wpX_mail _ _ _ _ _
      unfold wpX_mail
      exact xi_f hxw ok (br_t rfl K)
    · refine yr_el (P := fun w => wpY_mail post w v1 v2 v3) h ?_
      intro a_goes s bt sd cm a_owner a_kinds a_values a_senders a_failed a_totals hs aT aM aQ aF aS hg
      show wpY_mail _ _ _ _ _
      unfold wpY_mail
      exact yi_f hg ok (br_t rfl (br_f (by decide) K))
theorem yw_row {post : Int32 → Prop} {B B' : Nat} {go : Nat → Int32} {c : AC} {w : SY} {z : Int32} (h : yg_ B go c w) (hB : B < 2 ^ 30) (hci : ci_A B' c)
    (K1 : ∀ s y t, ac_row c = s ++ y :: t → z = nI s.length → post (nI y)) (K0 : (∀ s y t, ac_row c = s ++ y :: t → z ≠ nI s.length) → post (if z = -1 then nI (ac_row c).length else -1)) : wpY_row post w z := by
  obtain ⟨hT, hV, hM, ⟨q1, q2, q3, q4⟩, hF, hR, hB'⟩ := hci
  refine yg_el (P := fun w => wpY_row post w z) h ?_
  intro s bt sd cm a_owner a_kinds a_values a_senders a_failed a_totals hs aT aM aQ aF aS
  have hb : ∀ m, sd m < 2 ^ 31 := fun m => by have := aQ.1 m; omega
  have hpos : ∀ m, lN (sd m) ≤ 0 ↔ sd m = 0 := by
    intro m
    have := lN_le (a := sd m) (b := 0) (hb m) (by omega)
    rw [show (0 : Int64) = lN 0 from rfl, this]
    omega
  have heq : ∀ m, lN (sd m) = 0 ↔ sd m = 0 := by
    intro m
    have := lN_eq (a := sd m) (b := 0) (hb m) (by omega)
    rw [show (0 : Int64) = lN 0 from rfl, this]
  have hmm : ∀ j, j ∈ ac_row c ↔ 1 ≤ j ∧ j < 1 + 11 ∧ (decide (sd j ≠ 0)) = true := by
    intro j
    constructor
    · intro hj
      obtain ⟨j0, j1, _⟩ := q2 j hj
      exact ⟨by omega, by omega, decide_eq_true ((aQ.2.2 j j0 j1).mp hj)⟩
    · rintro ⟨j0, j1, j2⟩
      exact (aQ.2.2 j (by omega) (by omega)).mpr (of_decide_eq_true j2)
  have hcnt : (ac_row c).length = cn_c (fun j => decide (sd j ≠ 0)) 1 11 := cn_len 11 1 _ q1 hmm
  have L30 : ∀ (J : Int32 → Int32 → Prop) (n2 m : Nat), m < 12 → ∀ d i n, i + d = 12 → (nI (n + cn_c (fun j => decide (sd j ≠ 0) && decide (sd j < sd m)) i d) = z → post (nI m)) → (¬ nI (n + cn_c (fun j => decide (sd j ≠ 0) && decide (sd j < sd m)) i d) = z → J (nI (n2 + 1)) (nI (m + 1))) →
      wY_row_30 post J z (nI n2) (nI m) (lN s) (ac_lim c) (ac_win c) (nI (ac_wk c)) (nI (ac_puts c)) (ac_op c) (ac_as c) (ac_bs c) (ac_th c) (ac_pa c) (fun j => lN (bt j)) (ac_be c) (ac_bo c) (ac_sg c) (ac_st c) (fun j => lN (sd j)) a_owner (fun j => lN (cm j)) a_kinds a_values a_senders a_failed (ac_ou c) a_totals go (d + 1) (nI n) (nI i) := by
    intro J n2 m hm12 d
    have cm12 : (nI m).toNatClampNeg = m := nI_clamp (by omega)
    induction d with
    | zero =>
      intro i n hi h1 h2
      have e : i = 12 := by omega
      subst e
      exact br_t (nI_le (a := 12) (b := 12) (by omega) (by omega)) (br_c h1 (fun hn => nm_r (e' := nI (n2 + 1)) (nI_1 _) (nm_r (e' := nI (m + 1)) (nI_1 _) (h2 hn))))
    | succ d ih =>
      intro i n hi h1 h2
      have ci : (nI i).toNatClampNeg = i := nI_clamp (by omega)
      have ii : vp_in (nI i) 12 := vp_in_nI (by omega) (by omega)
      unfold cn_c at h1 h2
      refine br_f (nI_ge (b := 12) (by omega) (by omega)) ⟨ii, br_c (fun ho => ?_) (fun ho => ⟨ii, vp_in_nI hm12 (by omega), br_c (fun hle => ?_) (fun hle => ?_)⟩)⟩
      · rw [ci] at ho
        have ho' := (hpos i).mp ho
        rw [if_neg (by simp [ho']), Nat.zero_add] at h1 h2
        exact nm_r (e' := nI (i + 1)) (nI_1 _) (ih (i + 1) n (by omega) h1 h2)
      · rw [ci, cm12] at hle
        have hle' : sd m ≤ sd i := (lN_le (hb m) (hb i)).mp hle
        rw [if_neg (by simp; intro _; omega), Nat.zero_add] at h1 h2
        exact nm_r (e' := nI (i + 1)) (nI_1 _) (ih (i + 1) n (by omega) h1 h2)
      · rw [ci] at ho
        have ho' : sd i ≠ 0 := fun q => ho ((hpos i).mpr q)
        rw [ci, cm12] at hle
        have hle' : ¬ sd m ≤ sd i := fun q => hle ((lN_le (hb m) (hb i)).mpr q)
        rw [if_pos (by simp [ho']; omega), ← Nat.add_assoc] at h1 h2
        exact nm_r (e' := nI (n + 1)) (nI_1 _) (nm_r (e' := nI (i + 1)) (nI_1 _) (ih (i + 1) (n + 1) (by omega) h1 h2))
  have L4 : ∀ d i n, 0 < i → i + d = 12 → n + cn_c (fun j => decide (sd j ≠ 0)) i d = (ac_row c).length → (∀ s m t, ac_row c = s ++ m :: t → m < i → z ≠ nI s.length) → wY_row_4 post z (lN s) (ac_lim c) (ac_win c) (nI (ac_wk c)) (nI (ac_puts c)) (ac_op c) (ac_as c) (ac_bs c) (ac_th c) (ac_pa c) (fun j => lN (bt j)) (ac_be c) (ac_bo c) (ac_sg c) (ac_st c) (fun j => lN (sd j)) a_owner (fun j => lN (cm j)) a_kinds a_values a_senders a_failed (ac_ou c) a_totals go (d + 1) (nI n) (nI i) := by
    intro d
    induction d with
    | zero =>
      intro i n i0 hi hn hinv
      have e : i = 12 := by omega
      subst e
      have hn' : n = (ac_row c).length := hn
      have HK := K0 (fun s m t e => hinv s m t e (q2 m (by rw [e]; simp)).2.1)
      refine br_t (nI_le (a := 12) (b := 12) (by omega) (by omega)) (br_c (fun e => ?_) (fun e => ?_))
      · rw [if_pos e, ← hn'] at HK
        exact HK
      · rw [if_neg e] at HK
        exact HK
    | succ d ih =>
      intro i n i0 hi hn hinv
      have ci : (nI i).toNatClampNeg = i := nI_clamp (by omega)
      have ii : vp_in (nI i) 12 := vp_in_nI (by omega) (by omega)
      unfold cn_c at hn
      refine br_f (nI_ge (b := 12) (by omega) (by omega)) ⟨ii, br_c (fun ho => ?_) (fun ho => ?_)⟩
      · rw [ci] at ho
        have ho' := (heq i).mp ho
        rw [if_neg (by simp [ho']), Nat.zero_add] at hn
        refine nm_r (e' := nI (i + 1)) (nI_1 _) (ih (i + 1) n (by omega) (by omega) hn (fun s' m t' e' hm' => ?_))
        by_cases hmi : m = i
        · subst hmi
          have hmem : m ∈ ac_row c := by rw [e']; simp
          exact absurd ho' ((aQ.2.2 m (q2 m hmem).1 (q2 m hmem).2.1).mp hmem)
        · exact hinv s' m t' e' (by omega)
      · rw [ci] at ho
        have ho' : sd i ≠ 0 := fun q => ho ((heq i).mpr q)
        rw [if_pos (decide_eq_true ho'), ← Nat.add_assoc] at hn
        obtain ⟨s0, t0, e⟩ := List.append_of_mem ((aQ.2.2 i i0 (by omega)).mpr ho')
        have hr := so_rank aQ.2.1 hmm e
        refine ⟨12, L30 _ n i (by omega) 11 1 0 (by omega) (fun hz => ?_) (fun hz => ?_)⟩
        · rw [Nat.zero_add, hr] at hz
          exact K1 s0 i t0 e hz.symm
        · rw [Nat.zero_add, hr] at hz
          refine ih (i + 1) (n + 1) (by omega) (by omega) hn (fun s' m t' e' hm' => ?_)
          by_cases hmi : m = i
          · subst hmi
            have hr' := so_rank aQ.2.1 hmm e'
            rw [hr] at hr'
            rw [← hr']
            exact fun q => hz q.symm
          · exact hinv s' m t' e' (by omega)
  exact ⟨12, L4 11 1 0 (by omega) (by omega) (by rw [Nat.zero_add]; exact hcnt.symm) (fun s m t e hh => by
    have := (q2 m (by rw [e]; simp)).1
    omega)⟩
theorem i_vc_row {k : Nat} {u : SX} {v : SY} (I : i_Rel k u v) (hk : k + 7 ≤ 3584) (v1 : Int32) : wpX_row (fun r => wpY_row (fun r' => r' = r ∧ i_Rel (k + 7) u v) v v1) u v1 := by
  refine vr_mk (wX := fun post w => wpX_row post w v1) (wY := fun post w => wpY_row post w v1) I (fun c hci => ?_)
  have q2 := hci.2.2.2.1.2.1
  have hlen : (ac_row c).length ≤ 11 := by
    have h1 : (ac_row c).length ≤ (List.range' 1 11).length := by
      refine List.Nodup.length_le_of_subset hci.2.2.2.1.1 (fun x hx => ?_)
      have := q2 x hx
      rw [List.mem_range'_1]
      omega
    rw [List.length_range'] at h1
    exact h1
  by_cases hm : v1 = -1
  · refine ⟨nI (ac_row c).length, fun w post h K => ?_, fun w post h K => ?_⟩
    · refine xr_el (P := fun w => wpX_row post w v1) h ?_
      intro f_front f_back f_waiting a_second a_eldest a_youngest a_younger a_older a_children a_kind a_value a_sender a_head a_mails a_next a_before a_queued a_failedAt a_failedHead a_failedCount a_put aA aT aM aQ aF aO
      have hxw : xr_ c (f_front, f_back, f_waiting, ac_lim c, ac_win c, nI (ac_puts c), nI (ac_steps c), nI (ac_lost c), nI (ac_fai c), nI (ac_ane c), nI (ac_mel c), xr_w (ac_wk c), ac_hv c, ac_hs c, ac_op c, ac_as c, a_second, ac_th c, ac_pa c, ac_be c, ac_bo c, ac_sg c, ac_st c, a_eldest, a_youngest, a_younger, a_older, a_children, a_kind, a_value, a_sender, a_head, a_mails, a_next, a_before, a_queued, a_failedAt, a_failedHead, a_failedCount, a_put) := xr_in aA aT aM aQ aF aO
      refine br_t hm ?_
      rw [aQ.2.1]
      exact K
    · obtain ⟨go, h⟩ := h
      refine yw_row h (by omega) hci (fun s y t e he => ?_) (fun _ => ?_)
      · have hl' : s.length ≤ 11 := by
          rw [e] at hlen
          simp at hlen
          omega
        have : nI s.length < 0 := by rw [← he, hm]; decide
        exact absurd this (nI_pos (by omega))
      · rw [if_pos hm]
        exact K
  · by_cases ex : ∃ s y t, ac_row c = s ++ y :: t ∧ v1 = nI s.length
    · obtain ⟨s0, y, t0, hst, rfl⟩ := ex
      have hl2 : (ac_row c).length = s0.length + (t0.length + 1) := by rw [hst]; simp
      refine ⟨nI y, fun w post h K => ?_, fun w post h K => ?_⟩
      · refine xr_el (P := fun w => wpX_row post w (nI s0.length)) h ?_
        intro f_front f_back f_waiting a_second a_eldest a_youngest a_younger a_older a_children a_kind a_value a_sender a_head a_mails a_next a_before a_queued a_failedAt a_failedHead a_failedCount a_put aA aT aM aQ aF aO
        have hxw : xr_ c (f_front, f_back, f_waiting, ac_lim c, ac_win c, nI (ac_puts c), nI (ac_steps c), nI (ac_lost c), nI (ac_fai c), nI (ac_ane c), nI (ac_mel c), xr_w (ac_wk c), ac_hv c, ac_hs c, ac_op c, ac_as c, a_second, ac_th c, ac_pa c, ac_be c, ac_bo c, ac_sg c, ac_st c, a_eldest, a_youngest, a_younger, a_older, a_children, a_kind, a_value, a_sender, a_head, a_mails, a_next, a_before, a_queued, a_failedAt, a_failedHead, a_failedCount, a_put) := xr_in aA aT aM aQ aF aO
        have L : ∀ d i s' y' t', s'.length = i → ac_row c = s' ++ y' :: t' → i + d = s0.length → wX_row_33 post (nI s0.length) f_front f_back f_waiting (ac_lim c) (ac_win c) (nI (ac_puts c)) (nI (ac_steps c)) (nI (ac_lost c)) (nI (ac_fai c)) (nI (ac_ane c)) (nI (ac_mel c)) (xr_w (ac_wk c)) (ac_hv c) (ac_hs c) (ac_op c) (ac_as c) a_second (ac_th c) (ac_pa c) (ac_be c) (ac_bo c) (ac_sg c) (ac_st c) a_eldest a_youngest a_younger a_older a_children a_kind a_value a_sender a_head a_mails a_next a_before a_queued a_failedAt a_failedHead a_failedCount a_put (d + 1) (nI y') (nI i) := by
          intro d
          induction d with
          | zero =>
            intro i s' y' t' hl e hi
            have hyy : y = y' := so_uniq hst e (by omega)
            subst hyy
            exact br_t (nI_le (by omega) (by omega)) K
          | succ d ih =>
            intro i s' y' t' hl e hi
            have hy1 : y' < 12 := (q2 y' (by rw [e]; simp)).2.1
            have hy := (aQ.1.2.2 s' y' t' e).1
            cases t' with
            | nil =>
              exfalso
              rw [e] at hl2
              simp at hl2
              omega
            | cons z t'' =>
              exact br_f (nI_ge (by omega) (by omega)) ⟨ni_ hy1, nm_r (e' := nI z) (by rw [nc_ hy1]; exact hy) (nm_r (e' := nI (i + 1)) (nI_1 _) (ih (i + 1) (s' ++ [y']) z t'' (by simp [hl]) (by rw [e]; simp) (by omega)))⟩
        show wpX_row _ _ _
        unfold wpX_row
        refine br_f hm ?_
        rw [aQ.2.1]
        refine xo_c (fun _ _ => br_t rfl ⟨s0.length + 1, ?_⟩) (fun hn => absurd (ou_ok (by omega) (by omega)) hn)
        cases hcc : ac_row c with
        | nil =>
          rw [hcc] at hst
          simp at hst
        | cons z t'' =>
          have hf : f_front = nI z := by
            rw [aQ.1.1, hcc]
            rfl
          have LL := L s0.length 0 [] z t'' rfl hcc (by omega)
          rw [aQ.2.1, hcc] at LL
          rw [← hf] at LL
          exact LL
      · obtain ⟨go, h⟩ := h
        refine yw_row h (by omega) hci (fun s' y' t' e he => ?_) (fun hno => absurd rfl (hno s0 y t0 hst))
        have hl' : s'.length ≤ 11 := by
          rw [e] at hlen
          simp at hlen
          omega
        have hll : s0.length = s'.length := (nI_eq (by omega) (by omega)).mp he
        have hyy : y = y' := so_uniq hst e hll
        rw [← hyy]
        exact K
    · refine ⟨-1, fun w post h K => ?_, fun w post h K => ?_⟩
      · refine xr_el (P := fun w => wpX_row post w v1) h ?_
        intro f_front f_back f_waiting a_second a_eldest a_youngest a_younger a_older a_children a_kind a_value a_sender a_head a_mails a_next a_before a_queued a_failedAt a_failedHead a_failedCount a_put aA aT aM aQ aF aO
        have hxw : xr_ c (f_front, f_back, f_waiting, ac_lim c, ac_win c, nI (ac_puts c), nI (ac_steps c), nI (ac_lost c), nI (ac_fai c), nI (ac_ane c), nI (ac_mel c), xr_w (ac_wk c), ac_hv c, ac_hs c, ac_op c, ac_as c, a_second, ac_th c, ac_pa c, ac_be c, ac_bo c, ac_sg c, ac_st c, a_eldest, a_youngest, a_younger, a_older, a_children, a_kind, a_value, a_sender, a_head, a_mails, a_next, a_before, a_queued, a_failedAt, a_failedHead, a_failedCount, a_put) := xr_in aA aT aM aQ aF aO
        show wpX_row _ _ _
        unfold wpX_row
        refine br_f hm ?_
        rw [aQ.2.1]
        refine xo_c (fun p1 p2 => ?_) (fun _ => br_f (by decide) K)
        obtain ⟨j, hj, e⟩ := ou_in (by omega) p1 p2
        obtain ⟨s', y', t', e2, hs'⟩ := sp_at _ j hj
        exact absurd ⟨s', y', t', e2, by rw [e, hs']⟩ ex
      · obtain ⟨go, h⟩ := h
        refine yw_row h (by omega) hci (fun s' y' t' e he => absurd ⟨s', y', t', e, he⟩ ex) (fun _ => ?_)
        rw [if_neg hm]
        exact K
end
