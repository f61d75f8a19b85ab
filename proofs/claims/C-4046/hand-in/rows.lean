section
/-! pure rows to paste: stores, nI and lN arithmetic, masks, shifts, narrowing, branches by naturals (pk_le, pk_lt, pk_eq), loops (lp1 .. lp16: the measure of the state; rp1 ..: recursion), negatives. Take what you need -/
theorem pk_us {f : Nat → Int32} {k : Nat} {x : Int32} : upd f k x k = x := if_pos rfl
theorem pk_un {f : Nat → Int32} {k j : Nat} {x : Int32} (h : j ≠ k) : upd f k x j = f j := if_neg h
theorem pk_uLs {f : Nat → Int64} {k : Nat} {x : Int64} : vp_updL f k x k = x := if_pos rfl
theorem pk_uLn {f : Nat → Int64} {k j : Nat} {x : Int64} (h : j ≠ k) : vp_updL f k x j = f j := if_neg h
theorem pk_sub {a b : Nat} (h : b ≤ a) : nI a - nI b = nI (a - b) := by
  obtain ⟨c, rfl⟩ : ∃ c, a = c + b := ⟨a - b, by omega⟩
  rw [← nI_add, Int32.add_sub_cancel, Nat.add_sub_cancel]
theorem pk_m1 (n : Nat) : nI (n + 1) + (-1) = nI n := by
  rw [← nI_1, Int32.add_assoc, show (1 : Int32) + (-1) = 0 from rfl, Int32.add_zero]
theorem pk_mul (a b : Nat) : nI a * nI b = nI (a * b) := (Int32.ofNat_mul a b).symm
theorem pk_div {a d : Nat} (ha : a < 2 ^ 31) (h0 : 0 < d) (hd : d < 2 ^ 31) : nI a / nI d = nI (a / d) := by
  apply Int32.toInt_inj.mp
  rw [lg_idiv_nonneg (by rw [nI_toInt ha]; omega) (by rw [nI_toInt hd]; omega), nI_toInt ha, nI_toInt hd, nI_toInt (Nat.lt_of_le_of_lt (Nat.div_le_self a d) ha)]
  first | rfl | exact (Int.natCast_ediv _ _).symm
theorem pk_rem {a d : Nat} (ha : a < 2 ^ 31) (h0 : 0 < d) (hd : d < 2 ^ 31) : nI a - nI a / nI d * nI d = nI (a % d) := by
  rw [pk_div ha h0 hd, pk_mul, pk_sub (Nat.div_mul_le_self a d)]
  exact congrArg nI (by have := Nat.div_add_mod' a d; omega)
theorem pk_sub_toInt {a b : Nat} (ha : a < 2 ^ 30) (hb : b < 2 ^ 30) : (nI a - nI b).toInt = (a : Int) - b := by
  rw [Int32.toInt_sub, nI_toInt (by omega), nI_toInt (by omega)]
  exact Int.bmod_eq_of_le (by omega) (by omega)
theorem pk_sneg {a b : Nat} (hb : b < 2 ^ 30) (h : a < b) : nI a - nI b < 0 := by
  rw [Int32.lt_iff_toInt_lt, pk_sub_toInt (by omega) hb, show (0 : Int32).toInt = 0 from by decide]
  omega
theorem pk_ix (x : Int32) {n : Nat} (hn : n < 2 ^ 31) : x < 0 ∨ nI n ≤ x ∨ ∃ j : Nat, j < n ∧ x = nI j := by
  by_cases h : x < 0
  · exact Or.inl h
  · obtain ⟨j, hj, rfl⟩ := nI_of h
    by_cases h2 : j < n
    · exact Or.inr (Or.inr ⟨j, h2, rfl⟩)
    · exact Or.inr (Or.inl (nI_le (by omega) hj))
theorem pk_le {x y : Int32} {A B : Prop} (a b : Nat) (f : a ≤ b → A) (g : b < a → B) (hx : x = nI a := by rfl) (hy : y = nI b := by rfl) (ha : a < 2 ^ 31 := by omega) (hb : b < 2 ^ 31 := by omega) : (x ≤ y → A) ∧ (¬ x ≤ y → B) := by
  subst hx hy
  rw [nI_leI ha hb]
  exact ⟨f, fun z => g (by omega)⟩
theorem pk_lt {x y : Int32} {A B : Prop} (a b : Nat) (f : a < b → A) (g : b ≤ a → B) (hx : x = nI a := by rfl) (hy : y = nI b := by rfl) (ha : a < 2 ^ 31 := by omega) (hb : b < 2 ^ 31 := by omega) : (x < y → A) ∧ (¬ x < y → B) := by
  subst hx hy
  rw [nI_ltI ha hb]
  exact ⟨f, fun z => g (by omega)⟩
theorem pk_eq {x y : Int32} {A B : Prop} (a b : Nat) (f : a = b → A) (g : a ≠ b → B) (hx : x = nI a := by rfl) (hy : y = nI b := by rfl) (ha : a < 2 ^ 31 := by omega) (hb : b < 2 ^ 31 := by omega) : (x = y → A) ∧ (¬ x = y → B) := by
  subst hx hy
  rw [nI_eq ha hb]
  exact ⟨f, g⟩
theorem pk_in {x : Int32} (n N : Nat) (h : n < N) (hx : x = nI n := by rfl) (hN : N < 2 ^ 31 := by omega) : vp_in x N := by
  subst hx
  exact vp_in_nI h hN
theorem pk_cl {x : Int32} (n : Nat) (hx : x = nI n := by rfl) (h : n < 2 ^ 31 := by omega) : x.toNatClampNeg = n := by
  subst hx
  exact nI_clamp h
theorem pk_tn {n : Nat} (h : n < 2 ^ 32) : (nI n).toBitVec.toNat = n := Nat.mod_eq_of_lt h
theorem pk_and (x : Int32) {m : Int32} (k : Nat) (hm : m.toBitVec.toNat = 2 ^ k - 1) : x &&& m = nI (x.toBitVec.toNat % 2 ^ k) := by
  apply Int32.toBitVec_inj.mp
  apply BitVec.eq_of_toNat_eq
  rw [Int32.toBitVec_and, BitVec.toNat_and, hm, Nat.and_two_pow_sub_one_eq_mod]
  show _ = (BitVec.ofNat 32 _).toNat
  rw [BitVec.toNat_ofNat]
  exact (Nat.mod_eq_of_lt (Nat.lt_of_le_of_lt (Nat.mod_le _ _) x.toBitVec.isLt)).symm
theorem pk_andN {n : Nat} (h : n < 2 ^ 32) {m : Int32} (k : Nat) (hm : m.toBitVec.toNat = 2 ^ k - 1) : nI n &&& m = nI (n % 2 ^ k) := by
  rw [pk_and _ k hm, pk_tn h]
theorem pk_andE (x : Int32) {m : Int32} (k : Nat) (hm : m.toBitVec.toNat = 2 ^ k - 1) : ∃ j : Nat, j < 2 ^ k ∧ x &&& m = nI j := ⟨_, Nat.mod_lt _ (Nat.two_pow_pos k), pk_and x k hm⟩
theorem pk_andIn (x : Int32) {m : Int32} (k : Nat) (hm : m.toBitVec.toNat = 2 ^ k - 1) (hk : k ≤ 30) : vp_in (x &&& m) (2 ^ k) := by
  obtain ⟨j, hj, e⟩ := pk_andE x k hm
  rw [e]
  exact vp_in_nI hj (Nat.lt_of_le_of_lt (Nat.pow_le_pow_right (by decide) hk) (by decide))
theorem pk_shl (a s : Int32) (k : Nat) (hs : (s.toBitVec.smod 32).toNat = k) : (a <<< s).toBitVec.toNat = a.toBitVec.toNat * 2 ^ k % 2 ^ 32 := by
  show (a.toBitVec <<< (s.toBitVec.smod 32).toNat).toNat = _
  rw [hs, BitVec.toNat_shiftLeft, Nat.shiftLeft_eq]
theorem pk_shlN {n : Nat} (s : Int32) (k : Nat) (hs : (s.toBitVec.smod 32).toNat = k) (h : n * 2 ^ k < 2 ^ 32) : nI n <<< s = nI (n * 2 ^ k) := by
  apply Int32.toBitVec_inj.mp
  apply BitVec.eq_of_toNat_eq
  have hn : n < 2 ^ 32 := Nat.lt_of_le_of_lt (Nat.le_mul_of_pos_right n (Nat.two_pow_pos k)) h
  rw [pk_shl _ _ k hs, pk_tn hn, pk_tn h, Nat.mod_eq_of_lt h]
theorem pk_shr (a s : Int32) (k : Nat) (hs : (s.toBitVec.smod 32).toNat = k) : (a >>> s).toInt = a.toInt >>> k := by
  show (a.toBitVec.sshiftRight (s.toBitVec.smod 32).toNat).toInt = _
  rw [hs, BitVec.toInt_sshiftRight]
  rfl
theorem pk_shrN {n : Nat} (h : n < 2 ^ 31) (s : Int32) (k : Nat) (hs : (s.toBitVec.smod 32).toNat = k) : nI n >>> s = nI (n / 2 ^ k) := by
  apply Int32.toInt_inj.mp
  have h2 : n / 2 ^ k ≤ n := Nat.div_le_self _ _
  rw [pk_shr _ _ k hs, nI_toInt h, nI_toInt (by omega), Int.shiftRight_eq_div_pow]
  rfl
theorem pk_ushr (x s : Int32) (k : Nat) (hs : ((s.toUInt32 &&& Int32.toUInt32 31).toBitVec % 32).toNat = k) : (x.toUInt32 >>> (s.toUInt32 &&& Int32.toUInt32 31)).toInt32.toBitVec.toNat = x.toBitVec.toNat / 2 ^ k := by
  have e : (x.toUInt32 >>> (s.toUInt32 &&& Int32.toUInt32 31)).toInt32.toBitVec = x.toBitVec >>> k := by
    rw [← hs]
    exact UInt32.toBitVec_shiftRight _ _
  rw [e, BitVec.toNat_ushiftRight, Nat.shiftRight_eq_div_pow]
theorem pk_ushrN {n : Nat} (hn : n < 2 ^ 32) (s : Int32) (k : Nat) (hs : ((s.toUInt32 &&& Int32.toUInt32 31).toBitVec % 32).toNat = k) : ((nI n).toUInt32 >>> (s.toUInt32 &&& Int32.toUInt32 31)).toInt32 = nI (n / 2 ^ k) := by
  apply Int32.toBitVec_inj.mp
  apply BitVec.eq_of_toNat_eq
  rw [pk_ushr _ s k hs, pk_tn hn, pk_tn (Nat.lt_of_le_of_lt (Nat.div_le_self _ _) hn)]
theorem pk_nb (z : Int32) : narrow .byte (.int z.toInt8.toInt32) = .int z.toInt8.toInt32 := congrArg Value.int (by simp)
theorem pk_ns (z : Int32) : narrow .short (.int z.toInt16.toInt32) = .int z.toInt16.toInt32 := congrArg Value.int (by simp)
theorem pk_fb (r : Int32) : fits .byte (.int r.toInt8.toInt32) = true := by
  have ⟨a, b⟩ := lg_i2b_range r
  have h1 : (-128 : Int32).toInt = -128 := by decide
  have h2 : (127 : Int32).toInt = 127 := by decide
  simp only [fits, Bool.and_eq_true, decide_eq_true_eq, Int32.le_iff_toInt_le, h1, h2]
  omega
theorem pk_fs (r : Int32) : fits .short (.int r.toInt16.toInt32) = true := by
  have ⟨a, b⟩ := lg_i2s_range r
  have h1 : (-32768 : Int32).toInt = -32768 := by decide
  have h2 : (32767 : Int32).toInt = 32767 := by decide
  simp only [fits, Bool.and_eq_true, decide_eq_true_eq, Int32.le_iff_toInt_le, h1, h2]
  omega
theorem pk_charN {q : Nat} (hq : q < 65536) : narrow .char (.int (nI q)) = .int (nI q) ∧ fits .char (.int (nI q)) = true := by
  constructor
  · have e : (nI q).toUInt32.toUInt16.toUInt32.toInt32 = nI q := by
      apply Int32.toBitVec_inj.mp
      apply BitVec.eq_of_toNat_eq
      show (nI q).toUInt32.toUInt16.toUInt32.toNat = q % 2 ^ 32
      rw [UInt16.toNat_toUInt32, UInt32.toNat_toUInt16, show (nI q).toUInt32.toNat = q % 2 ^ 32 from rfl]
      omega
    exact congrArg Value.int e
  · have a : (0 : Int32) ≤ nI q := nI_pos' (by omega)
    have b : nI q ≤ 65535 := nI_le (b := 65535) (by omega) (by decide)
    show (decide ((0 : Int32) ≤ nI q) && decide (nI q ≤ 65535)) = true
    rw [decide_eq_true a, decide_eq_true b]
    rfl
theorem pk_char (x : Int32) : (x.toUInt32 % 65536).toInt32 = nI (x.toBitVec.toNat % 65536) := by
  apply Int32.toBitVec_inj.mp
  apply BitVec.eq_of_toNat_eq
  rw [pk_tn (by omega)]
  show (x.toUInt32 % 65536).toNat = _
  rw [UInt32.toNat_mod]
  rfl
theorem pk_nc (x : Int32) : narrow .char (.int (x.toUInt32 % 65536).toInt32) = .int (x.toUInt32 % 65536).toInt32 := by
  rw [pk_char]
  exact (pk_charN (Nat.mod_lt _ (by decide))).1
theorem pk_fc (x : Int32) : fits .char (.int (x.toUInt32 % 65536).toInt32) = true := by
  rw [pk_char]
  exact (pk_charN (Nat.mod_lt _ (by decide))).2
theorem pk_vb (z : Int32) : vp_nar .byte z.toInt8.toInt32 = z.toInt8.toInt32 := by rw [vp_nar_byte]; simp
theorem pk_vs (z : Int32) : vp_nar .short z.toInt16.toInt32 = z.toInt16.toInt32 := by rw [vp_nar_short]; simp
theorem pk_vc (z : Int32) : vp_nar .char (z.toUInt32 % 65536).toInt32 = (z.toUInt32 % 65536).toInt32 := Value.int.inj (pk_nc z)
theorem pk_lT {n : Nat} (h : n < 2 ^ 63) : (lN n).toInt = (n : Int) := lg_ofNat_toInt h
theorem pk_lLT {a b : Nat} (ha : a < 2 ^ 63) (hb : b < 2 ^ 63) : lN a < lN b ↔ a < b := by
  rw [Int64.lt_iff_toInt_lt, pk_lT ha, pk_lT hb]; omega
theorem pk_lLE {a b : Nat} (ha : a < 2 ^ 63) (hb : b < 2 ^ 63) : lN a ≤ lN b ↔ a ≤ b := by
  rw [Int64.le_iff_toInt_le, pk_lT ha, pk_lT hb]; omega
theorem pk_lEQ {a b : Nat} (ha : a < 2 ^ 63) (hb : b < 2 ^ 63) : lN a = lN b ↔ a = b := by
  rw [← Int64.toInt_inj, pk_lT ha, pk_lT hb]; omega
theorem pk_lOf {x : Int64} (h : ¬ x < 0) : ∃ k : Nat, k < 2 ^ 63 ∧ x = lN k := by
  rw [Int64.lt_iff_toInt_lt] at h
  have h0 : (0 : Int64).toInt = 0 := by decide
  have hx := Int64.toInt_lt x
  refine ⟨x.toInt.toNat, by omega, Int64.toInt_inj.mp ?_⟩
  rw [pk_lT (by omega)]
  omega
theorem pk_lDiv {a b : Nat} (ha : a < 2 ^ 63) (h0 : 0 < b) (hb : b < 2 ^ 63) : lN a / lN b = lN (a / b) := by
  apply Int64.toInt_inj.mp
  rw [lg_ldiv_nonneg (by rw [pk_lT ha]; omega) (by rw [pk_lT hb]; omega), pk_lT ha, pk_lT hb, pk_lT (Nat.lt_of_le_of_lt (Nat.div_le_self a b) ha)]
  rfl
theorem pk_lRem {a b : Nat} (ha : a < 2 ^ 63) (h0 : 0 < b) (hb : b < 2 ^ 63) : lN a - lN a / lN b * lN b = lN (a % b) := by
  rw [pk_lDiv ha h0 hb, lN_mul, lN_sub (Nat.div_mul_le_self a b)]
  exact congrArg lN (by have := Nat.div_add_mod' a b; omega)
theorem pk_loop {σ : Type} (W : Nat → Nat → σ → Prop) (I : Nat → σ → Prop) (e i0 : Nat) (s : σ) (hi : i0 ≤ e) (h0 : I i0 s) (hx : ∀ n s, I e s → W (n + 1) e s)
    (hs : ∀ n i s, i < e → I i s → (∀ s', I (i + 1) s' → W n (i + 1) s') → W (n + 1) i s) : ∃ n, W n i0 s :=
  ⟨e + 1, loop_i W I e hx hs (e + 1) i0 s hi (by omega) h0⟩
theorem pk_loopD {σ : Type} (W : Nat → Nat → σ → Prop) (I : Nat → σ → Prop) (hx : ∀ n s, I 0 s → W (n + 1) 0 s)
    (hs : ∀ n i s, I (i + 1) s → (∀ s', I i s' → W n i s') → W (n + 1) (i + 1) s) : ∀ (e : Nat) (s : σ), I e s → W (e + 1) e s := by
  intro e
  induction e with
  | zero => exact fun s h => hx 0 s h
  | succ e ih => exact fun s h => hs (e + 1) e s h (fun s' h' => ih s' h')
theorem lp1 {A1 : Type} (W : Nat → A1 → Prop) (I : A1 → Prop) (μ : A1 → Nat) (hs : ∀ (n : Nat) (a1 : A1), I a1 → (∀ (b1 : A1), I b1 → μ b1 < μ a1 → W n b1) → W (n + 1) a1) (a1 : A1) (h : I a1) : ∃ n, W n a1 :=
  loop_m (σ := A1) (fun n s => W n s) (fun s => I s) (fun s => μ s) (fun n s hI hk => hs n s hI (fun b1 h9 hm => hk b1 h9 hm)) a1 h
theorem lp2 {A1 A2 : Type} (W : Nat → A1 → A2 → Prop) (I : A1 → A2 → Prop) (μ : A1 → A2 → Nat) (hs : ∀ (n : Nat) (a1 : A1) (a2 : A2), I a1 a2 → (∀ (b1 : A1) (b2 : A2), I b1 b2 → μ b1 b2 < μ a1 a2 → W n b1 b2) → W (n + 1) a1 a2) (a1 : A1) (a2 : A2) (h : I a1 a2) : ∃ n, W n a1 a2 :=
  loop_m (σ := A1 × A2) (fun n s => W n s.1 s.2) (fun s => I s.1 s.2) (fun s => μ s.1 s.2) (fun n s hI hk => hs n s.1 s.2 hI (fun b1 b2 h9 hm => hk (b1, b2) h9 hm)) (a1, a2) h
theorem lp3 {A1 A2 A3 : Type} (W : Nat → A1 → A2 → A3 → Prop) (I : A1 → A2 → A3 → Prop) (μ : A1 → A2 → A3 → Nat) (hs : ∀ (n : Nat) (a1 : A1) (a2 : A2) (a3 : A3), I a1 a2 a3 → (∀ (b1 : A1) (b2 : A2) (b3 : A3), I b1 b2 b3 → μ b1 b2 b3 < μ a1 a2 a3 → W n b1 b2 b3) → W (n + 1) a1 a2 a3) (a1 : A1) (a2 : A2) (a3 : A3) (h : I a1 a2 a3) : ∃ n, W n a1 a2 a3 :=
  loop_m (σ := A1 × A2 × A3) (fun n s => W n s.1 s.2.1 s.2.2) (fun s => I s.1 s.2.1 s.2.2) (fun s => μ s.1 s.2.1 s.2.2) (fun n s hI hk => hs n s.1 s.2.1 s.2.2 hI (fun b1 b2 b3 h9 hm => hk (b1, b2, b3) h9 hm)) (a1, a2, a3) h
theorem lp4 {A1 A2 A3 A4 : Type} (W : Nat → A1 → A2 → A3 → A4 → Prop) (I : A1 → A2 → A3 → A4 → Prop) (μ : A1 → A2 → A3 → A4 → Nat) (hs : ∀ (n : Nat) (a1 : A1) (a2 : A2) (a3 : A3) (a4 : A4), I a1 a2 a3 a4 → (∀ (b1 : A1) (b2 : A2) (b3 : A3) (b4 : A4), I b1 b2 b3 b4 → μ b1 b2 b3 b4 < μ a1 a2 a3 a4 → W n b1 b2 b3 b4) → W (n + 1) a1 a2 a3 a4) (a1 : A1) (a2 : A2) (a3 : A3) (a4 : A4) (h : I a1 a2 a3 a4) : ∃ n, W n a1 a2 a3 a4 :=
  loop_m (σ := A1 × A2 × A3 × A4) (fun n s => W n s.1 s.2.1 s.2.2.1 s.2.2.2) (fun s => I s.1 s.2.1 s.2.2.1 s.2.2.2) (fun s => μ s.1 s.2.1 s.2.2.1 s.2.2.2) (fun n s hI hk => hs n s.1 s.2.1 s.2.2.1 s.2.2.2 hI (fun b1 b2 b3 b4 h9 hm => hk (b1, b2, b3, b4) h9 hm)) (a1, a2, a3, a4) h
theorem lp5 {A1 A2 A3 A4 A5 : Type} (W : Nat → A1 → A2 → A3 → A4 → A5 → Prop) (I : A1 → A2 → A3 → A4 → A5 → Prop) (μ : A1 → A2 → A3 → A4 → A5 → Nat) (hs : ∀ (n : Nat) (a1 : A1) (a2 : A2) (a3 : A3) (a4 : A4) (a5 : A5), I a1 a2 a3 a4 a5 → (∀ (b1 : A1) (b2 : A2) (b3 : A3) (b4 : A4) (b5 : A5), I b1 b2 b3 b4 b5 → μ b1 b2 b3 b4 b5 < μ a1 a2 a3 a4 a5 → W n b1 b2 b3 b4 b5) → W (n + 1) a1 a2 a3 a4 a5) (a1 : A1) (a2 : A2) (a3 : A3) (a4 : A4) (a5 : A5) (h : I a1 a2 a3 a4 a5) : ∃ n, W n a1 a2 a3 a4 a5 :=
  loop_m (σ := A1 × A2 × A3 × A4 × A5) (fun n s => W n s.1 s.2.1 s.2.2.1 s.2.2.2.1 s.2.2.2.2) (fun s => I s.1 s.2.1 s.2.2.1 s.2.2.2.1 s.2.2.2.2) (fun s => μ s.1 s.2.1 s.2.2.1 s.2.2.2.1 s.2.2.2.2) (fun n s hI hk => hs n s.1 s.2.1 s.2.2.1 s.2.2.2.1 s.2.2.2.2 hI (fun b1 b2 b3 b4 b5 h9 hm => hk (b1, b2, b3, b4, b5) h9 hm)) (a1, a2, a3, a4, a5) h
theorem lp6 {A1 A2 A3 A4 A5 A6 : Type} (W : Nat → A1 → A2 → A3 → A4 → A5 → A6 → Prop) (I : A1 → A2 → A3 → A4 → A5 → A6 → Prop) (μ : A1 → A2 → A3 → A4 → A5 → A6 → Nat) (hs : ∀ (n : Nat) (a1 : A1) (a2 : A2) (a3 : A3) (a4 : A4) (a5 : A5) (a6 : A6), I a1 a2 a3 a4 a5 a6 → (∀ (b1 : A1) (b2 : A2) (b3 : A3) (b4 : A4) (b5 : A5) (b6 : A6), I b1 b2 b3 b4 b5 b6 → μ b1 b2 b3 b4 b5 b6 < μ a1 a2 a3 a4 a5 a6 → W n b1 b2 b3 b4 b5 b6) → W (n + 1) a1 a2 a3 a4 a5 a6) (a1 : A1) (a2 : A2) (a3 : A3) (a4 : A4) (a5 : A5) (a6 : A6) (h : I a1 a2 a3 a4 a5 a6) : ∃ n, W n a1 a2 a3 a4 a5 a6 :=
  loop_m (σ := A1 × A2 × A3 × A4 × A5 × A6) (fun n s => W n s.1 s.2.1 s.2.2.1 s.2.2.2.1 s.2.2.2.2.1 s.2.2.2.2.2) (fun s => I s.1 s.2.1 s.2.2.1 s.2.2.2.1 s.2.2.2.2.1 s.2.2.2.2.2) (fun s => μ s.1 s.2.1 s.2.2.1 s.2.2.2.1 s.2.2.2.2.1 s.2.2.2.2.2) (fun n s hI hk => hs n s.1 s.2.1 s.2.2.1 s.2.2.2.1 s.2.2.2.2.1 s.2.2.2.2.2 hI (fun b1 b2 b3 b4 b5 b6 h9 hm => hk (b1, b2, b3, b4, b5, b6) h9 hm)) (a1, a2, a3, a4, a5, a6) h
theorem lp7 {A1 A2 A3 A4 A5 A6 A7 : Type} (W : Nat → A1 → A2 → A3 → A4 → A5 → A6 → A7 → Prop) (I : A1 → A2 → A3 → A4 → A5 → A6 → A7 → Prop) (μ : A1 → A2 → A3 → A4 → A5 → A6 → A7 → Nat) (hs : ∀ (n : Nat) (a1 : A1) (a2 : A2) (a3 : A3) (a4 : A4) (a5 : A5) (a6 : A6) (a7 : A7), I a1 a2 a3 a4 a5 a6 a7 → (∀ (b1 : A1) (b2 : A2) (b3 : A3) (b4 : A4) (b5 : A5) (b6 : A6) (b7 : A7), I b1 b2 b3 b4 b5 b6 b7 → μ b1 b2 b3 b4 b5 b6 b7 < μ a1 a2 a3 a4 a5 a6 a7 → W n b1 b2 b3 b4 b5 b6 b7) → W (n + 1) a1 a2 a3 a4 a5 a6 a7) (a1 : A1) (a2 : A2) (a3 : A3) (a4 : A4) (a5 : A5) (a6 : A6) (a7 : A7) (h : I a1 a2 a3 a4 a5 a6 a7) : ∃ n, W n a1 a2 a3 a4 a5 a6 a7 :=
  loop_m (σ := A1 × A2 × A3 × A4 × A5 × A6 × A7) (fun n s => W n s.1 s.2.1 s.2.2.1 s.2.2.2.1 s.2.2.2.2.1 s.2.2.2.2.2.1 s.2.2.2.2.2.2) (fun s => I s.1 s.2.1 s.2.2.1 s.2.2.2.1 s.2.2.2.2.1 s.2.2.2.2.2.1 s.2.2.2.2.2.2) (fun s => μ s.1 s.2.1 s.2.2.1 s.2.2.2.1 s.2.2.2.2.1 s.2.2.2.2.2.1 s.2.2.2.2.2.2) (fun n s hI hk => hs n s.1 s.2.1 s.2.2.1 s.2.2.2.1 s.2.2.2.2.1 s.2.2.2.2.2.1 s.2.2.2.2.2.2 hI (fun b1 b2 b3 b4 b5 b6 b7 h9 hm => hk (b1, b2, b3, b4, b5, b6, b7) h9 hm)) (a1, a2, a3, a4, a5, a6, a7) h
theorem lp8 {A1 A2 A3 A4 A5 A6 A7 A8 : Type} (W : Nat → A1 → A2 → A3 → A4 → A5 → A6 → A7 → A8 → Prop) (I : A1 → A2 → A3 → A4 → A5 → A6 → A7 → A8 → Prop) (μ : A1 → A2 → A3 → A4 → A5 → A6 → A7 → A8 → Nat) (hs : ∀ (n : Nat) (a1 : A1) (a2 : A2) (a3 : A3) (a4 : A4) (a5 : A5) (a6 : A6) (a7 : A7) (a8 : A8), I a1 a2 a3 a4 a5 a6 a7 a8 → (∀ (b1 : A1) (b2 : A2) (b3 : A3) (b4 : A4) (b5 : A5) (b6 : A6) (b7 : A7) (b8 : A8), I b1 b2 b3 b4 b5 b6 b7 b8 → μ b1 b2 b3 b4 b5 b6 b7 b8 < μ a1 a2 a3 a4 a5 a6 a7 a8 → W n b1 b2 b3 b4 b5 b6 b7 b8) → W (n + 1) a1 a2 a3 a4 a5 a6 a7 a8) (a1 : A1) (a2 : A2) (a3 : A3) (a4 : A4) (a5 : A5) (a6 : A6) (a7 : A7) (a8 : A8) (h : I a1 a2 a3 a4 a5 a6 a7 a8) : ∃ n, W n a1 a2 a3 a4 a5 a6 a7 a8 :=
  loop_m (σ := A1 × A2 × A3 × A4 × A5 × A6 × A7 × A8) (fun n s => W n s.1 s.2.1 s.2.2.1 s.2.2.2.1 s.2.2.2.2.1 s.2.2.2.2.2.1 s.2.2.2.2.2.2.1 s.2.2.2.2.2.2.2) (fun s => I s.1 s.2.1 s.2.2.1 s.2.2.2.1 s.2.2.2.2.1 s.2.2.2.2.2.1 s.2.2.2.2.2.2.1 s.2.2.2.2.2.2.2) (fun s => μ s.1 s.2.1 s.2.2.1 s.2.2.2.1 s.2.2.2.2.1 s.2.2.2.2.2.1 s.2.2.2.2.2.2.1 s.2.2.2.2.2.2.2) (fun n s hI hk => hs n s.1 s.2.1 s.2.2.1 s.2.2.2.1 s.2.2.2.2.1 s.2.2.2.2.2.1 s.2.2.2.2.2.2.1 s.2.2.2.2.2.2.2 hI (fun b1 b2 b3 b4 b5 b6 b7 b8 h9 hm => hk (b1, b2, b3, b4, b5, b6, b7, b8) h9 hm)) (a1, a2, a3, a4, a5, a6, a7, a8) h
theorem lp9 {A1 A2 A3 A4 A5 A6 A7 A8 A9 : Type} (W : Nat → A1 → A2 → A3 → A4 → A5 → A6 → A7 → A8 → A9 → Prop) (I : A1 → A2 → A3 → A4 → A5 → A6 → A7 → A8 → A9 → Prop) (μ : A1 → A2 → A3 → A4 → A5 → A6 → A7 → A8 → A9 → Nat) (hs : ∀ (n : Nat) (a1 : A1) (a2 : A2) (a3 : A3) (a4 : A4) (a5 : A5) (a6 : A6) (a7 : A7) (a8 : A8) (a9 : A9), I a1 a2 a3 a4 a5 a6 a7 a8 a9 → (∀ (b1 : A1) (b2 : A2) (b3 : A3) (b4 : A4) (b5 : A5) (b6 : A6) (b7 : A7) (b8 : A8) (b9 : A9), I b1 b2 b3 b4 b5 b6 b7 b8 b9 → μ b1 b2 b3 b4 b5 b6 b7 b8 b9 < μ a1 a2 a3 a4 a5 a6 a7 a8 a9 → W n b1 b2 b3 b4 b5 b6 b7 b8 b9) → W (n + 1) a1 a2 a3 a4 a5 a6 a7 a8 a9) (a1 : A1) (a2 : A2) (a3 : A3) (a4 : A4) (a5 : A5) (a6 : A6) (a7 : A7) (a8 : A8) (a9 : A9) (h : I a1 a2 a3 a4 a5 a6 a7 a8 a9) : ∃ n, W n a1 a2 a3 a4 a5 a6 a7 a8 a9 :=
  loop_m (σ := A1 × A2 × A3 × A4 × A5 × A6 × A7 × A8 × A9) (fun n s => W n s.1 s.2.1 s.2.2.1 s.2.2.2.1 s.2.2.2.2.1 s.2.2.2.2.2.1 s.2.2.2.2.2.2.1 s.2.2.2.2.2.2.2.1 s.2.2.2.2.2.2.2.2) (fun s => I s.1 s.2.1 s.2.2.1 s.2.2.2.1 s.2.2.2.2.1 s.2.2.2.2.2.1 s.2.2.2.2.2.2.1 s.2.2.2.2.2.2.2.1 s.2.2.2.2.2.2.2.2) (fun s => μ s.1 s.2.1 s.2.2.1 s.2.2.2.1 s.2.2.2.2.1 s.2.2.2.2.2.1 s.2.2.2.2.2.2.1 s.2.2.2.2.2.2.2.1 s.2.2.2.2.2.2.2.2) (fun n s hI hk => hs n s.1 s.2.1 s.2.2.1 s.2.2.2.1 s.2.2.2.2.1 s.2.2.2.2.2.1 s.2.2.2.2.2.2.1 s.2.2.2.2.2.2.2.1 s.2.2.2.2.2.2.2.2 hI (fun b1 b2 b3 b4 b5 b6 b7 b8 b9 h9 hm => hk (b1, b2, b3, b4, b5, b6, b7, b8, b9) h9 hm)) (a1, a2, a3, a4, a5, a6, a7, a8, a9) h
theorem lp10 {A1 A2 A3 A4 A5 A6 A7 A8 A9 A10 : Type} (W : Nat → A1 → A2 → A3 → A4 → A5 → A6 → A7 → A8 → A9 → A10 → Prop) (I : A1 → A2 → A3 → A4 → A5 → A6 → A7 → A8 → A9 → A10 → Prop) (μ : A1 → A2 → A3 → A4 → A5 → A6 → A7 → A8 → A9 → A10 → Nat) (hs : ∀ (n : Nat) (a1 : A1) (a2 : A2) (a3 : A3) (a4 : A4) (a5 : A5) (a6 : A6) (a7 : A7) (a8 : A8) (a9 : A9) (a10 : A10), I a1 a2 a3 a4 a5 a6 a7 a8 a9 a10 → (∀ (b1 : A1) (b2 : A2) (b3 : A3) (b4 : A4) (b5 : A5) (b6 : A6) (b7 : A7) (b8 : A8) (b9 : A9) (b10 : A10), I b1 b2 b3 b4 b5 b6 b7 b8 b9 b10 → μ b1 b2 b3 b4 b5 b6 b7 b8 b9 b10 < μ a1 a2 a3 a4 a5 a6 a7 a8 a9 a10 → W n b1 b2 b3 b4 b5 b6 b7 b8 b9 b10) → W (n + 1) a1 a2 a3 a4 a5 a6 a7 a8 a9 a10) (a1 : A1) (a2 : A2) (a3 : A3) (a4 : A4) (a5 : A5) (a6 : A6) (a7 : A7) (a8 : A8) (a9 : A9) (a10 : A10) (h : I a1 a2 a3 a4 a5 a6 a7 a8 a9 a10) : ∃ n, W n a1 a2 a3 a4 a5 a6 a7 a8 a9 a10 :=
  loop_m (σ := A1 × A2 × A3 × A4 × A5 × A6 × A7 × A8 × A9 × A10) (fun n s => W n s.1 s.2.1 s.2.2.1 s.2.2.2.1 s.2.2.2.2.1 s.2.2.2.2.2.1 s.2.2.2.2.2.2.1 s.2.2.2.2.2.2.2.1 s.2.2.2.2.2.2.2.2.1 s.2.2.2.2.2.2.2.2.2) (fun s => I s.1 s.2.1 s.2.2.1 s.2.2.2.1 s.2.2.2.2.1 s.2.2.2.2.2.1 s.2.2.2.2.2.2.1 s.2.2.2.2.2.2.2.1 s.2.2.2.2.2.2.2.2.1 s.2.2.2.2.2.2.2.2.2) (fun s => μ s.1 s.2.1 s.2.2.1 s.2.2.2.1 s.2.2.2.2.1 s.2.2.2.2.2.1 s.2.2.2.2.2.2.1 s.2.2.2.2.2.2.2.1 s.2.2.2.2.2.2.2.2.1 s.2.2.2.2.2.2.2.2.2) (fun n s hI hk => hs n s.1 s.2.1 s.2.2.1 s.2.2.2.1 s.2.2.2.2.1 s.2.2.2.2.2.1 s.2.2.2.2.2.2.1 s.2.2.2.2.2.2.2.1 s.2.2.2.2.2.2.2.2.1 s.2.2.2.2.2.2.2.2.2 hI (fun b1 b2 b3 b4 b5 b6 b7 b8 b9 b10 h9 hm => hk (b1, b2, b3, b4, b5, b6, b7, b8, b9, b10) h9 hm)) (a1, a2, a3, a4, a5, a6, a7, a8, a9, a10) h
theorem lp11 {A1 A2 A3 A4 A5 A6 A7 A8 A9 A10 A11 : Type} (W : Nat → A1 → A2 → A3 → A4 → A5 → A6 → A7 → A8 → A9 → A10 → A11 → Prop) (I : A1 → A2 → A3 → A4 → A5 → A6 → A7 → A8 → A9 → A10 → A11 → Prop) (μ : A1 → A2 → A3 → A4 → A5 → A6 → A7 → A8 → A9 → A10 → A11 → Nat) (hs : ∀ (n : Nat) (a1 : A1) (a2 : A2) (a3 : A3) (a4 : A4) (a5 : A5) (a6 : A6) (a7 : A7) (a8 : A8) (a9 : A9) (a10 : A10) (a11 : A11), I a1 a2 a3 a4 a5 a6 a7 a8 a9 a10 a11 → (∀ (b1 : A1) (b2 : A2) (b3 : A3) (b4 : A4) (b5 : A5) (b6 : A6) (b7 : A7) (b8 : A8) (b9 : A9) (b10 : A10) (b11 : A11), I b1 b2 b3 b4 b5 b6 b7 b8 b9 b10 b11 → μ b1 b2 b3 b4 b5 b6 b7 b8 b9 b10 b11 < μ a1 a2 a3 a4 a5 a6 a7 a8 a9 a10 a11 → W n b1 b2 b3 b4 b5 b6 b7 b8 b9 b10 b11) → W (n + 1) a1 a2 a3 a4 a5 a6 a7 a8 a9 a10 a11) (a1 : A1) (a2 : A2) (a3 : A3) (a4 : A4) (a5 : A5) (a6 : A6) (a7 : A7) (a8 : A8) (a9 : A9) (a10 : A10) (a11 : A11) (h : I a1 a2 a3 a4 a5 a6 a7 a8 a9 a10 a11) : ∃ n, W n a1 a2 a3 a4 a5 a6 a7 a8 a9 a10 a11 :=
  loop_m (σ := A1 × A2 × A3 × A4 × A5 × A6 × A7 × A8 × A9 × A10 × A11) (fun n s => W n s.1 s.2.1 s.2.2.1 s.2.2.2.1 s.2.2.2.2.1 s.2.2.2.2.2.1 s.2.2.2.2.2.2.1 s.2.2.2.2.2.2.2.1 s.2.2.2.2.2.2.2.2.1 s.2.2.2.2.2.2.2.2.2.1 s.2.2.2.2.2.2.2.2.2.2) (fun s => I s.1 s.2.1 s.2.2.1 s.2.2.2.1 s.2.2.2.2.1 s.2.2.2.2.2.1 s.2.2.2.2.2.2.1 s.2.2.2.2.2.2.2.1 s.2.2.2.2.2.2.2.2.1 s.2.2.2.2.2.2.2.2.2.1 s.2.2.2.2.2.2.2.2.2.2) (fun s => μ s.1 s.2.1 s.2.2.1 s.2.2.2.1 s.2.2.2.2.1 s.2.2.2.2.2.1 s.2.2.2.2.2.2.1 s.2.2.2.2.2.2.2.1 s.2.2.2.2.2.2.2.2.1 s.2.2.2.2.2.2.2.2.2.1 s.2.2.2.2.2.2.2.2.2.2) (fun n s hI hk => hs n s.1 s.2.1 s.2.2.1 s.2.2.2.1 s.2.2.2.2.1 s.2.2.2.2.2.1 s.2.2.2.2.2.2.1 s.2.2.2.2.2.2.2.1 s.2.2.2.2.2.2.2.2.1 s.2.2.2.2.2.2.2.2.2.1 s.2.2.2.2.2.2.2.2.2.2 hI (fun b1 b2 b3 b4 b5 b6 b7 b8 b9 b10 b11 h9 hm => hk (b1, b2, b3, b4, b5, b6, b7, b8, b9, b10, b11) h9 hm)) (a1, a2, a3, a4, a5, a6, a7, a8, a9, a10, a11) h
theorem lp12 {A1 A2 A3 A4 A5 A6 A7 A8 A9 A10 A11 A12 : Type} (W : Nat → A1 → A2 → A3 → A4 → A5 → A6 → A7 → A8 → A9 → A10 → A11 → A12 → Prop) (I : A1 → A2 → A3 → A4 → A5 → A6 → A7 → A8 → A9 → A10 → A11 → A12 → Prop) (μ : A1 → A2 → A3 → A4 → A5 → A6 → A7 → A8 → A9 → A10 → A11 → A12 → Nat) (hs : ∀ (n : Nat) (a1 : A1) (a2 : A2) (a3 : A3) (a4 : A4) (a5 : A5) (a6 : A6) (a7 : A7) (a8 : A8) (a9 : A9) (a10 : A10) (a11 : A11) (a12 : A12), I a1 a2 a3 a4 a5 a6 a7 a8 a9 a10 a11 a12 → (∀ (b1 : A1) (b2 : A2) (b3 : A3) (b4 : A4) (b5 : A5) (b6 : A6) (b7 : A7) (b8 : A8) (b9 : A9) (b10 : A10) (b11 : A11) (b12 : A12), I b1 b2 b3 b4 b5 b6 b7 b8 b9 b10 b11 b12 → μ b1 b2 b3 b4 b5 b6 b7 b8 b9 b10 b11 b12 < μ a1 a2 a3 a4 a5 a6 a7 a8 a9 a10 a11 a12 → W n b1 b2 b3 b4 b5 b6 b7 b8 b9 b10 b11 b12) → W (n + 1) a1 a2 a3 a4 a5 a6 a7 a8 a9 a10 a11 a12) (a1 : A1) (a2 : A2) (a3 : A3) (a4 : A4) (a5 : A5) (a6 : A6) (a7 : A7) (a8 : A8) (a9 : A9) (a10 : A10) (a11 : A11) (a12 : A12) (h : I a1 a2 a3 a4 a5 a6 a7 a8 a9 a10 a11 a12) : ∃ n, W n a1 a2 a3 a4 a5 a6 a7 a8 a9 a10 a11 a12 :=
  loop_m (σ := A1 × A2 × A3 × A4 × A5 × A6 × A7 × A8 × A9 × A10 × A11 × A12) (fun n s => W n s.1 s.2.1 s.2.2.1 s.2.2.2.1 s.2.2.2.2.1 s.2.2.2.2.2.1 s.2.2.2.2.2.2.1 s.2.2.2.2.2.2.2.1 s.2.2.2.2.2.2.2.2.1 s.2.2.2.2.2.2.2.2.2.1 s.2.2.2.2.2.2.2.2.2.2.1 s.2.2.2.2.2.2.2.2.2.2.2) (fun s => I s.1 s.2.1 s.2.2.1 s.2.2.2.1 s.2.2.2.2.1 s.2.2.2.2.2.1 s.2.2.2.2.2.2.1 s.2.2.2.2.2.2.2.1 s.2.2.2.2.2.2.2.2.1 s.2.2.2.2.2.2.2.2.2.1 s.2.2.2.2.2.2.2.2.2.2.1 s.2.2.2.2.2.2.2.2.2.2.2) (fun s => μ s.1 s.2.1 s.2.2.1 s.2.2.2.1 s.2.2.2.2.1 s.2.2.2.2.2.1 s.2.2.2.2.2.2.1 s.2.2.2.2.2.2.2.1 s.2.2.2.2.2.2.2.2.1 s.2.2.2.2.2.2.2.2.2.1 s.2.2.2.2.2.2.2.2.2.2.1 s.2.2.2.2.2.2.2.2.2.2.2) (fun n s hI hk => hs n s.1 s.2.1 s.2.2.1 s.2.2.2.1 s.2.2.2.2.1 s.2.2.2.2.2.1 s.2.2.2.2.2.2.1 s.2.2.2.2.2.2.2.1 s.2.2.2.2.2.2.2.2.1 s.2.2.2.2.2.2.2.2.2.1 s.2.2.2.2.2.2.2.2.2.2.1 s.2.2.2.2.2.2.2.2.2.2.2 hI (fun b1 b2 b3 b4 b5 b6 b7 b8 b9 b10 b11 b12 h9 hm => hk (b1, b2, b3, b4, b5, b6, b7, b8, b9, b10, b11, b12) h9 hm)) (a1, a2, a3, a4, a5, a6, a7, a8, a9, a10, a11, a12) h
theorem lp13 {A1 A2 A3 A4 A5 A6 A7 A8 A9 A10 A11 A12 A13 : Type} (W : Nat → A1 → A2 → A3 → A4 → A5 → A6 → A7 → A8 → A9 → A10 → A11 → A12 → A13 → Prop) (I : A1 → A2 → A3 → A4 → A5 → A6 → A7 → A8 → A9 → A10 → A11 → A12 → A13 → Prop) (μ : A1 → A2 → A3 → A4 → A5 → A6 → A7 → A8 → A9 → A10 → A11 → A12 → A13 → Nat) (hs : ∀ (n : Nat) (a1 : A1) (a2 : A2) (a3 : A3) (a4 : A4) (a5 : A5) (a6 : A6) (a7 : A7) (a8 : A8) (a9 : A9) (a10 : A10) (a11 : A11) (a12 : A12) (a13 : A13), I a1 a2 a3 a4 a5 a6 a7 a8 a9 a10 a11 a12 a13 → (∀ (b1 : A1) (b2 : A2) (b3 : A3) (b4 : A4) (b5 : A5) (b6 : A6) (b7 : A7) (b8 : A8) (b9 : A9) (b10 : A10) (b11 : A11) (b12 : A12) (b13 : A13), I b1 b2 b3 b4 b5 b6 b7 b8 b9 b10 b11 b12 b13 → μ b1 b2 b3 b4 b5 b6 b7 b8 b9 b10 b11 b12 b13 < μ a1 a2 a3 a4 a5 a6 a7 a8 a9 a10 a11 a12 a13 → W n b1 b2 b3 b4 b5 b6 b7 b8 b9 b10 b11 b12 b13) → W (n + 1) a1 a2 a3 a4 a5 a6 a7 a8 a9 a10 a11 a12 a13) (a1 : A1) (a2 : A2) (a3 : A3) (a4 : A4) (a5 : A5) (a6 : A6) (a7 : A7) (a8 : A8) (a9 : A9) (a10 : A10) (a11 : A11) (a12 : A12) (a13 : A13) (h : I a1 a2 a3 a4 a5 a6 a7 a8 a9 a10 a11 a12 a13) : ∃ n, W n a1 a2 a3 a4 a5 a6 a7 a8 a9 a10 a11 a12 a13 :=
  loop_m (σ := A1 × A2 × A3 × A4 × A5 × A6 × A7 × A8 × A9 × A10 × A11 × A12 × A13) (fun n s => W n s.1 s.2.1 s.2.2.1 s.2.2.2.1 s.2.2.2.2.1 s.2.2.2.2.2.1 s.2.2.2.2.2.2.1 s.2.2.2.2.2.2.2.1 s.2.2.2.2.2.2.2.2.1 s.2.2.2.2.2.2.2.2.2.1 s.2.2.2.2.2.2.2.2.2.2.1 s.2.2.2.2.2.2.2.2.2.2.2.1 s.2.2.2.2.2.2.2.2.2.2.2.2) (fun s => I s.1 s.2.1 s.2.2.1 s.2.2.2.1 s.2.2.2.2.1 s.2.2.2.2.2.1 s.2.2.2.2.2.2.1 s.2.2.2.2.2.2.2.1 s.2.2.2.2.2.2.2.2.1 s.2.2.2.2.2.2.2.2.2.1 s.2.2.2.2.2.2.2.2.2.2.1 s.2.2.2.2.2.2.2.2.2.2.2.1 s.2.2.2.2.2.2.2.2.2.2.2.2) (fun s => μ s.1 s.2.1 s.2.2.1 s.2.2.2.1 s.2.2.2.2.1 s.2.2.2.2.2.1 s.2.2.2.2.2.2.1 s.2.2.2.2.2.2.2.1 s.2.2.2.2.2.2.2.2.1 s.2.2.2.2.2.2.2.2.2.1 s.2.2.2.2.2.2.2.2.2.2.1 s.2.2.2.2.2.2.2.2.2.2.2.1 s.2.2.2.2.2.2.2.2.2.2.2.2) (fun n s hI hk => hs n s.1 s.2.1 s.2.2.1 s.2.2.2.1 s.2.2.2.2.1 s.2.2.2.2.2.1 s.2.2.2.2.2.2.1 s.2.2.2.2.2.2.2.1 s.2.2.2.2.2.2.2.2.1 s.2.2.2.2.2.2.2.2.2.1 s.2.2.2.2.2.2.2.2.2.2.1 s.2.2.2.2.2.2.2.2.2.2.2.1 s.2.2.2.2.2.2.2.2.2.2.2.2 hI (fun b1 b2 b3 b4 b5 b6 b7 b8 b9 b10 b11 b12 b13 h9 hm => hk (b1, b2, b3, b4, b5, b6, b7, b8, b9, b10, b11, b12, b13) h9 hm)) (a1, a2, a3, a4, a5, a6, a7, a8, a9, a10, a11, a12, a13) h
theorem lp14 {A1 A2 A3 A4 A5 A6 A7 A8 A9 A10 A11 A12 A13 A14 : Type} (W : Nat → A1 → A2 → A3 → A4 → A5 → A6 → A7 → A8 → A9 → A10 → A11 → A12 → A13 → A14 → Prop) (I : A1 → A2 → A3 → A4 → A5 → A6 → A7 → A8 → A9 → A10 → A11 → A12 → A13 → A14 → Prop) (μ : A1 → A2 → A3 → A4 → A5 → A6 → A7 → A8 → A9 → A10 → A11 → A12 → A13 → A14 → Nat) (hs : ∀ (n : Nat) (a1 : A1) (a2 : A2) (a3 : A3) (a4 : A4) (a5 : A5) (a6 : A6) (a7 : A7) (a8 : A8) (a9 : A9) (a10 : A10) (a11 : A11) (a12 : A12) (a13 : A13) (a14 : A14), I a1 a2 a3 a4 a5 a6 a7 a8 a9 a10 a11 a12 a13 a14 → (∀ (b1 : A1) (b2 : A2) (b3 : A3) (b4 : A4) (b5 : A5) (b6 : A6) (b7 : A7) (b8 : A8) (b9 : A9) (b10 : A10) (b11 : A11) (b12 : A12) (b13 : A13) (b14 : A14), I b1 b2 b3 b4 b5 b6 b7 b8 b9 b10 b11 b12 b13 b14 → μ b1 b2 b3 b4 b5 b6 b7 b8 b9 b10 b11 b12 b13 b14 < μ a1 a2 a3 a4 a5 a6 a7 a8 a9 a10 a11 a12 a13 a14 → W n b1 b2 b3 b4 b5 b6 b7 b8 b9 b10 b11 b12 b13 b14) → W (n + 1) a1 a2 a3 a4 a5 a6 a7 a8 a9 a10 a11 a12 a13 a14) (a1 : A1) (a2 : A2) (a3 : A3) (a4 : A4) (a5 : A5) (a6 : A6) (a7 : A7) (a8 : A8) (a9 : A9) (a10 : A10) (a11 : A11) (a12 : A12) (a13 : A13) (a14 : A14) (h : I a1 a2 a3 a4 a5 a6 a7 a8 a9 a10 a11 a12 a13 a14) : ∃ n, W n a1 a2 a3 a4 a5 a6 a7 a8 a9 a10 a11 a12 a13 a14 :=
  loop_m (σ := A1 × A2 × A3 × A4 × A5 × A6 × A7 × A8 × A9 × A10 × A11 × A12 × A13 × A14) (fun n s => W n s.1 s.2.1 s.2.2.1 s.2.2.2.1 s.2.2.2.2.1 s.2.2.2.2.2.1 s.2.2.2.2.2.2.1 s.2.2.2.2.2.2.2.1 s.2.2.2.2.2.2.2.2.1 s.2.2.2.2.2.2.2.2.2.1 s.2.2.2.2.2.2.2.2.2.2.1 s.2.2.2.2.2.2.2.2.2.2.2.1 s.2.2.2.2.2.2.2.2.2.2.2.2.1 s.2.2.2.2.2.2.2.2.2.2.2.2.2) (fun s => I s.1 s.2.1 s.2.2.1 s.2.2.2.1 s.2.2.2.2.1 s.2.2.2.2.2.1 s.2.2.2.2.2.2.1 s.2.2.2.2.2.2.2.1 s.2.2.2.2.2.2.2.2.1 s.2.2.2.2.2.2.2.2.2.1 s.2.2.2.2.2.2.2.2.2.2.1 s.2.2.2.2.2.2.2.2.2.2.2.1 s.2.2.2.2.2.2.2.2.2.2.2.2.1 s.2.2.2.2.2.2.2.2.2.2.2.2.2) (fun s => μ s.1 s.2.1 s.2.2.1 s.2.2.2.1 s.2.2.2.2.1 s.2.2.2.2.2.1 s.2.2.2.2.2.2.1 s.2.2.2.2.2.2.2.1 s.2.2.2.2.2.2.2.2.1 s.2.2.2.2.2.2.2.2.2.1 s.2.2.2.2.2.2.2.2.2.2.1 s.2.2.2.2.2.2.2.2.2.2.2.1 s.2.2.2.2.2.2.2.2.2.2.2.2.1 s.2.2.2.2.2.2.2.2.2.2.2.2.2) (fun n s hI hk => hs n s.1 s.2.1 s.2.2.1 s.2.2.2.1 s.2.2.2.2.1 s.2.2.2.2.2.1 s.2.2.2.2.2.2.1 s.2.2.2.2.2.2.2.1 s.2.2.2.2.2.2.2.2.1 s.2.2.2.2.2.2.2.2.2.1 s.2.2.2.2.2.2.2.2.2.2.1 s.2.2.2.2.2.2.2.2.2.2.2.1 s.2.2.2.2.2.2.2.2.2.2.2.2.1 s.2.2.2.2.2.2.2.2.2.2.2.2.2 hI (fun b1 b2 b3 b4 b5 b6 b7 b8 b9 b10 b11 b12 b13 b14 h9 hm => hk (b1, b2, b3, b4, b5, b6, b7, b8, b9, b10, b11, b12, b13, b14) h9 hm)) (a1, a2, a3, a4, a5, a6, a7, a8, a9, a10, a11, a12, a13, a14) h
theorem lp15 {A1 A2 A3 A4 A5 A6 A7 A8 A9 A10 A11 A12 A13 A14 A15 : Type} (W : Nat → A1 → A2 → A3 → A4 → A5 → A6 → A7 → A8 → A9 → A10 → A11 → A12 → A13 → A14 → A15 → Prop) (I : A1 → A2 → A3 → A4 → A5 → A6 → A7 → A8 → A9 → A10 → A11 → A12 → A13 → A14 → A15 → Prop) (μ : A1 → A2 → A3 → A4 → A5 → A6 → A7 → A8 → A9 → A10 → A11 → A12 → A13 → A14 → A15 → Nat) (hs : ∀ (n : Nat) (a1 : A1) (a2 : A2) (a3 : A3) (a4 : A4) (a5 : A5) (a6 : A6) (a7 : A7) (a8 : A8) (a9 : A9) (a10 : A10) (a11 : A11) (a12 : A12) (a13 : A13) (a14 : A14) (a15 : A15), I a1 a2 a3 a4 a5 a6 a7 a8 a9 a10 a11 a12 a13 a14 a15 → (∀ (b1 : A1) (b2 : A2) (b3 : A3) (b4 : A4) (b5 : A5) (b6 : A6) (b7 : A7) (b8 : A8) (b9 : A9) (b10 : A10) (b11 : A11) (b12 : A12) (b13 : A13) (b14 : A14) (b15 : A15), I b1 b2 b3 b4 b5 b6 b7 b8 b9 b10 b11 b12 b13 b14 b15 → μ b1 b2 b3 b4 b5 b6 b7 b8 b9 b10 b11 b12 b13 b14 b15 < μ a1 a2 a3 a4 a5 a6 a7 a8 a9 a10 a11 a12 a13 a14 a15 → W n b1 b2 b3 b4 b5 b6 b7 b8 b9 b10 b11 b12 b13 b14 b15) → W (n + 1) a1 a2 a3 a4 a5 a6 a7 a8 a9 a10 a11 a12 a13 a14 a15) (a1 : A1) (a2 : A2) (a3 : A3) (a4 : A4) (a5 : A5) (a6 : A6) (a7 : A7) (a8 : A8) (a9 : A9) (a10 : A10) (a11 : A11) (a12 : A12) (a13 : A13) (a14 : A14) (a15 : A15) (h : I a1 a2 a3 a4 a5 a6 a7 a8 a9 a10 a11 a12 a13 a14 a15) : ∃ n, W n a1 a2 a3 a4 a5 a6 a7 a8 a9 a10 a11 a12 a13 a14 a15 :=
  loop_m (σ := A1 × A2 × A3 × A4 × A5 × A6 × A7 × A8 × A9 × A10 × A11 × A12 × A13 × A14 × A15) (fun n s => W n s.1 s.2.1 s.2.2.1 s.2.2.2.1 s.2.2.2.2.1 s.2.2.2.2.2.1 s.2.2.2.2.2.2.1 s.2.2.2.2.2.2.2.1 s.2.2.2.2.2.2.2.2.1 s.2.2.2.2.2.2.2.2.2.1 s.2.2.2.2.2.2.2.2.2.2.1 s.2.2.2.2.2.2.2.2.2.2.2.1 s.2.2.2.2.2.2.2.2.2.2.2.2.1 s.2.2.2.2.2.2.2.2.2.2.2.2.2.1 s.2.2.2.2.2.2.2.2.2.2.2.2.2.2) (fun s => I s.1 s.2.1 s.2.2.1 s.2.2.2.1 s.2.2.2.2.1 s.2.2.2.2.2.1 s.2.2.2.2.2.2.1 s.2.2.2.2.2.2.2.1 s.2.2.2.2.2.2.2.2.1 s.2.2.2.2.2.2.2.2.2.1 s.2.2.2.2.2.2.2.2.2.2.1 s.2.2.2.2.2.2.2.2.2.2.2.1 s.2.2.2.2.2.2.2.2.2.2.2.2.1 s.2.2.2.2.2.2.2.2.2.2.2.2.2.1 s.2.2.2.2.2.2.2.2.2.2.2.2.2.2) (fun s => μ s.1 s.2.1 s.2.2.1 s.2.2.2.1 s.2.2.2.2.1 s.2.2.2.2.2.1 s.2.2.2.2.2.2.1 s.2.2.2.2.2.2.2.1 s.2.2.2.2.2.2.2.2.1 s.2.2.2.2.2.2.2.2.2.1 s.2.2.2.2.2.2.2.2.2.2.1 s.2.2.2.2.2.2.2.2.2.2.2.1 s.2.2.2.2.2.2.2.2.2.2.2.2.1 s.2.2.2.2.2.2.2.2.2.2.2.2.2.1 s.2.2.2.2.2.2.2.2.2.2.2.2.2.2) (fun n s hI hk => hs n s.1 s.2.1 s.2.2.1 s.2.2.2.1 s.2.2.2.2.1 s.2.2.2.2.2.1 s.2.2.2.2.2.2.1 s.2.2.2.2.2.2.2.1 s.2.2.2.2.2.2.2.2.1 s.2.2.2.2.2.2.2.2.2.1 s.2.2.2.2.2.2.2.2.2.2.1 s.2.2.2.2.2.2.2.2.2.2.2.1 s.2.2.2.2.2.2.2.2.2.2.2.2.1 s.2.2.2.2.2.2.2.2.2.2.2.2.2.1 s.2.2.2.2.2.2.2.2.2.2.2.2.2.2 hI (fun b1 b2 b3 b4 b5 b6 b7 b8 b9 b10 b11 b12 b13 b14 b15 h9 hm => hk (b1, b2, b3, b4, b5, b6, b7, b8, b9, b10, b11, b12, b13, b14, b15) h9 hm)) (a1, a2, a3, a4, a5, a6, a7, a8, a9, a10, a11, a12, a13, a14, a15) h
theorem lp16 {A1 A2 A3 A4 A5 A6 A7 A8 A9 A10 A11 A12 A13 A14 A15 A16 : Type} (W : Nat → A1 → A2 → A3 → A4 → A5 → A6 → A7 → A8 → A9 → A10 → A11 → A12 → A13 → A14 → A15 → A16 → Prop) (I : A1 → A2 → A3 → A4 → A5 → A6 → A7 → A8 → A9 → A10 → A11 → A12 → A13 → A14 → A15 → A16 → Prop) (μ : A1 → A2 → A3 → A4 → A5 → A6 → A7 → A8 → A9 → A10 → A11 → A12 → A13 → A14 → A15 → A16 → Nat) (hs : ∀ (n : Nat) (a1 : A1) (a2 : A2) (a3 : A3) (a4 : A4) (a5 : A5) (a6 : A6) (a7 : A7) (a8 : A8) (a9 : A9) (a10 : A10) (a11 : A11) (a12 : A12) (a13 : A13) (a14 : A14) (a15 : A15) (a16 : A16), I a1 a2 a3 a4 a5 a6 a7 a8 a9 a10 a11 a12 a13 a14 a15 a16 → (∀ (b1 : A1) (b2 : A2) (b3 : A3) (b4 : A4) (b5 : A5) (b6 : A6) (b7 : A7) (b8 : A8) (b9 : A9) (b10 : A10) (b11 : A11) (b12 : A12) (b13 : A13) (b14 : A14) (b15 : A15) (b16 : A16), I b1 b2 b3 b4 b5 b6 b7 b8 b9 b10 b11 b12 b13 b14 b15 b16 → μ b1 b2 b3 b4 b5 b6 b7 b8 b9 b10 b11 b12 b13 b14 b15 b16 < μ a1 a2 a3 a4 a5 a6 a7 a8 a9 a10 a11 a12 a13 a14 a15 a16 → W n b1 b2 b3 b4 b5 b6 b7 b8 b9 b10 b11 b12 b13 b14 b15 b16) → W (n + 1) a1 a2 a3 a4 a5 a6 a7 a8 a9 a10 a11 a12 a13 a14 a15 a16) (a1 : A1) (a2 : A2) (a3 : A3) (a4 : A4) (a5 : A5) (a6 : A6) (a7 : A7) (a8 : A8) (a9 : A9) (a10 : A10) (a11 : A11) (a12 : A12) (a13 : A13) (a14 : A14) (a15 : A15) (a16 : A16) (h : I a1 a2 a3 a4 a5 a6 a7 a8 a9 a10 a11 a12 a13 a14 a15 a16) : ∃ n, W n a1 a2 a3 a4 a5 a6 a7 a8 a9 a10 a11 a12 a13 a14 a15 a16 :=
  loop_m (σ := A1 × A2 × A3 × A4 × A5 × A6 × A7 × A8 × A9 × A10 × A11 × A12 × A13 × A14 × A15 × A16) (fun n s => W n s.1 s.2.1 s.2.2.1 s.2.2.2.1 s.2.2.2.2.1 s.2.2.2.2.2.1 s.2.2.2.2.2.2.1 s.2.2.2.2.2.2.2.1 s.2.2.2.2.2.2.2.2.1 s.2.2.2.2.2.2.2.2.2.1 s.2.2.2.2.2.2.2.2.2.2.1 s.2.2.2.2.2.2.2.2.2.2.2.1 s.2.2.2.2.2.2.2.2.2.2.2.2.1 s.2.2.2.2.2.2.2.2.2.2.2.2.2.1 s.2.2.2.2.2.2.2.2.2.2.2.2.2.2.1 s.2.2.2.2.2.2.2.2.2.2.2.2.2.2.2) (fun s => I s.1 s.2.1 s.2.2.1 s.2.2.2.1 s.2.2.2.2.1 s.2.2.2.2.2.1 s.2.2.2.2.2.2.1 s.2.2.2.2.2.2.2.1 s.2.2.2.2.2.2.2.2.1 s.2.2.2.2.2.2.2.2.2.1 s.2.2.2.2.2.2.2.2.2.2.1 s.2.2.2.2.2.2.2.2.2.2.2.1 s.2.2.2.2.2.2.2.2.2.2.2.2.1 s.2.2.2.2.2.2.2.2.2.2.2.2.2.1 s.2.2.2.2.2.2.2.2.2.2.2.2.2.2.1 s.2.2.2.2.2.2.2.2.2.2.2.2.2.2.2) (fun s => μ s.1 s.2.1 s.2.2.1 s.2.2.2.1 s.2.2.2.2.1 s.2.2.2.2.2.1 s.2.2.2.2.2.2.1 s.2.2.2.2.2.2.2.1 s.2.2.2.2.2.2.2.2.1 s.2.2.2.2.2.2.2.2.2.1 s.2.2.2.2.2.2.2.2.2.2.1 s.2.2.2.2.2.2.2.2.2.2.2.1 s.2.2.2.2.2.2.2.2.2.2.2.2.1 s.2.2.2.2.2.2.2.2.2.2.2.2.2.1 s.2.2.2.2.2.2.2.2.2.2.2.2.2.2.1 s.2.2.2.2.2.2.2.2.2.2.2.2.2.2.2) (fun n s hI hk => hs n s.1 s.2.1 s.2.2.1 s.2.2.2.1 s.2.2.2.2.1 s.2.2.2.2.2.1 s.2.2.2.2.2.2.1 s.2.2.2.2.2.2.2.1 s.2.2.2.2.2.2.2.2.1 s.2.2.2.2.2.2.2.2.2.1 s.2.2.2.2.2.2.2.2.2.2.1 s.2.2.2.2.2.2.2.2.2.2.2.1 s.2.2.2.2.2.2.2.2.2.2.2.2.1 s.2.2.2.2.2.2.2.2.2.2.2.2.2.1 s.2.2.2.2.2.2.2.2.2.2.2.2.2.2.1 s.2.2.2.2.2.2.2.2.2.2.2.2.2.2.2 hI (fun b1 b2 b3 b4 b5 b6 b7 b8 b9 b10 b11 b12 b13 b14 b15 b16 h9 hm => hk (b1, b2, b3, b4, b5, b6, b7, b8, b9, b10, b11, b12, b13, b14, b15, b16) h9 hm)) (a1, a2, a3, a4, a5, a6, a7, a8, a9, a10, a11, a12, a13, a14, a15, a16) h
theorem pk_least (P : Nat → Prop) (h : ∃ k, P k) : ∃ k, P k ∧ ∀ j, j < k → ¬ P j := by
  obtain ⟨k, hk⟩ := h
  induction k using Nat.strongRecOn with
  | ind k ih =>
    by_cases e : ∃ j, j < k ∧ P j
    · obtain ⟨j, hj, pj⟩ := e
      exact ih j hj pj
    · exact ⟨k, hk, fun j hj pj => e ⟨j, hj, pj⟩⟩
theorem rp1 {ρ A1 : Type} (W : Nat → (ρ → Prop) → A1 → Prop) (ok : A1 → Prop) (μ : A1 → Nat) (val : A1 → ρ)
    (hs : ∀ (d : Nat) (post : ρ → Prop) (a1 : A1), ok a1 → post (val a1) → (∀ (post' : ρ → Prop) (b1 : A1), ok b1 → μ b1 < μ a1 → post' (val b1) → W d post' b1) → W (d + 1) post a1) :
    ∀ (d : Nat) (post : ρ → Prop) (a1 : A1), ok a1 → μ a1 < d → post (val a1) → W d post a1 := by
  intro d
  induction d with
  | zero => intro post a1 _ h; omega
  | succ d ih =>
    intro post a1 ho hm hp
    exact hs d post a1 ho hp (fun post' b1 ho' hm' hp' => ih post' b1 ho' (by omega) hp')
theorem rp2 {ρ A1 A2 : Type} (W : Nat → (ρ → Prop) → A1 → A2 → Prop) (ok : A1 → A2 → Prop) (μ : A1 → A2 → Nat) (val : A1 → A2 → ρ)
    (hs : ∀ (d : Nat) (post : ρ → Prop) (a1 : A1) (a2 : A2), ok a1 a2 → post (val a1 a2) → (∀ (post' : ρ → Prop) (b1 : A1) (b2 : A2), ok b1 b2 → μ b1 b2 < μ a1 a2 → post' (val b1 b2) → W d post' b1 b2) → W (d + 1) post a1 a2) :
    ∀ (d : Nat) (post : ρ → Prop) (a1 : A1) (a2 : A2), ok a1 a2 → μ a1 a2 < d → post (val a1 a2) → W d post a1 a2 := by
  intro d
  induction d with
  | zero => intro post a1 a2 _ h; omega
  | succ d ih =>
    intro post a1 a2 ho hm hp
    exact hs d post a1 a2 ho hp (fun post' b1 b2 ho' hm' hp' => ih post' b1 b2 ho' (by omega) hp')
theorem rp3 {ρ A1 A2 A3 : Type} (W : Nat → (ρ → Prop) → A1 → A2 → A3 → Prop) (ok : A1 → A2 → A3 → Prop) (μ : A1 → A2 → A3 → Nat) (val : A1 → A2 → A3 → ρ)
    (hs : ∀ (d : Nat) (post : ρ → Prop) (a1 : A1) (a2 : A2) (a3 : A3), ok a1 a2 a3 → post (val a1 a2 a3) → (∀ (post' : ρ → Prop) (b1 : A1) (b2 : A2) (b3 : A3), ok b1 b2 b3 → μ b1 b2 b3 < μ a1 a2 a3 → post' (val b1 b2 b3) → W d post' b1 b2 b3) → W (d + 1) post a1 a2 a3) :
    ∀ (d : Nat) (post : ρ → Prop) (a1 : A1) (a2 : A2) (a3 : A3), ok a1 a2 a3 → μ a1 a2 a3 < d → post (val a1 a2 a3) → W d post a1 a2 a3 := by
  intro d
  induction d with
  | zero => intro post a1 a2 a3 _ h; omega
  | succ d ih =>
    intro post a1 a2 a3 ho hm hp
    exact hs d post a1 a2 a3 ho hp (fun post' b1 b2 b3 ho' hm' hp' => ih post' b1 b2 b3 ho' (by omega) hp')
theorem rp4 {ρ A1 A2 A3 A4 : Type} (W : Nat → (ρ → Prop) → A1 → A2 → A3 → A4 → Prop) (ok : A1 → A2 → A3 → A4 → Prop) (μ : A1 → A2 → A3 → A4 → Nat) (val : A1 → A2 → A3 → A4 → ρ)
    (hs : ∀ (d : Nat) (post : ρ → Prop) (a1 : A1) (a2 : A2) (a3 : A3) (a4 : A4), ok a1 a2 a3 a4 → post (val a1 a2 a3 a4) → (∀ (post' : ρ → Prop) (b1 : A1) (b2 : A2) (b3 : A3) (b4 : A4), ok b1 b2 b3 b4 → μ b1 b2 b3 b4 < μ a1 a2 a3 a4 → post' (val b1 b2 b3 b4) → W d post' b1 b2 b3 b4) → W (d + 1) post a1 a2 a3 a4) :
    ∀ (d : Nat) (post : ρ → Prop) (a1 : A1) (a2 : A2) (a3 : A3) (a4 : A4), ok a1 a2 a3 a4 → μ a1 a2 a3 a4 < d → post (val a1 a2 a3 a4) → W d post a1 a2 a3 a4 := by
  intro d
  induction d with
  | zero => intro post a1 a2 a3 a4 _ h; omega
  | succ d ih =>
    intro post a1 a2 a3 a4 ho hm hp
    exact hs d post a1 a2 a3 a4 ho hp (fun post' b1 b2 b3 b4 ho' hm' hp' => ih post' b1 b2 b3 b4 ho' (by omega) hp')
theorem rp5 {ρ A1 A2 A3 A4 A5 : Type} (W : Nat → (ρ → Prop) → A1 → A2 → A3 → A4 → A5 → Prop) (ok : A1 → A2 → A3 → A4 → A5 → Prop) (μ : A1 → A2 → A3 → A4 → A5 → Nat) (val : A1 → A2 → A3 → A4 → A5 → ρ)
    (hs : ∀ (d : Nat) (post : ρ → Prop) (a1 : A1) (a2 : A2) (a3 : A3) (a4 : A4) (a5 : A5), ok a1 a2 a3 a4 a5 → post (val a1 a2 a3 a4 a5) → (∀ (post' : ρ → Prop) (b1 : A1) (b2 : A2) (b3 : A3) (b4 : A4) (b5 : A5), ok b1 b2 b3 b4 b5 → μ b1 b2 b3 b4 b5 < μ a1 a2 a3 a4 a5 → post' (val b1 b2 b3 b4 b5) → W d post' b1 b2 b3 b4 b5) → W (d + 1) post a1 a2 a3 a4 a5) :
    ∀ (d : Nat) (post : ρ → Prop) (a1 : A1) (a2 : A2) (a3 : A3) (a4 : A4) (a5 : A5), ok a1 a2 a3 a4 a5 → μ a1 a2 a3 a4 a5 < d → post (val a1 a2 a3 a4 a5) → W d post a1 a2 a3 a4 a5 := by
  intro d
  induction d with
  | zero => intro post a1 a2 a3 a4 a5 _ h; omega
  | succ d ih =>
    intro post a1 a2 a3 a4 a5 ho hm hp
    exact hs d post a1 a2 a3 a4 a5 ho hp (fun post' b1 b2 b3 b4 b5 ho' hm' hp' => ih post' b1 b2 b3 b4 b5 ho' (by omega) hp')
theorem rp6 {ρ A1 A2 A3 A4 A5 A6 : Type} (W : Nat → (ρ → Prop) → A1 → A2 → A3 → A4 → A5 → A6 → Prop) (ok : A1 → A2 → A3 → A4 → A5 → A6 → Prop) (μ : A1 → A2 → A3 → A4 → A5 → A6 → Nat) (val : A1 → A2 → A3 → A4 → A5 → A6 → ρ)
    (hs : ∀ (d : Nat) (post : ρ → Prop) (a1 : A1) (a2 : A2) (a3 : A3) (a4 : A4) (a5 : A5) (a6 : A6), ok a1 a2 a3 a4 a5 a6 → post (val a1 a2 a3 a4 a5 a6) → (∀ (post' : ρ → Prop) (b1 : A1) (b2 : A2) (b3 : A3) (b4 : A4) (b5 : A5) (b6 : A6), ok b1 b2 b3 b4 b5 b6 → μ b1 b2 b3 b4 b5 b6 < μ a1 a2 a3 a4 a5 a6 → post' (val b1 b2 b3 b4 b5 b6) → W d post' b1 b2 b3 b4 b5 b6) → W (d + 1) post a1 a2 a3 a4 a5 a6) :
    ∀ (d : Nat) (post : ρ → Prop) (a1 : A1) (a2 : A2) (a3 : A3) (a4 : A4) (a5 : A5) (a6 : A6), ok a1 a2 a3 a4 a5 a6 → μ a1 a2 a3 a4 a5 a6 < d → post (val a1 a2 a3 a4 a5 a6) → W d post a1 a2 a3 a4 a5 a6 := by
  intro d
  induction d with
  | zero => intro post a1 a2 a3 a4 a5 a6 _ h; omega
  | succ d ih =>
    intro post a1 a2 a3 a4 a5 a6 ho hm hp
    exact hs d post a1 a2 a3 a4 a5 a6 ho hp (fun post' b1 b2 b3 b4 b5 b6 ho' hm' hp' => ih post' b1 b2 b3 b4 b5 b6 ho' (by omega) hp')
theorem rec_p {σ ρ : Type} (W : Nat → (ρ → Prop) → σ → Prop) (ok : σ → Prop) (μ : σ → Nat) (val : σ → ρ)
    (hs : ∀ d s post, ok s → post (val s) → (∀ s' post', ok s' → μ s' < μ s → post' (val s') → W d post' s') → W (d + 1) post s) :
    ∀ d s post, ok s → μ s < d → post (val s) → W d post s := by
  intro d
  induction d with
  | zero => intro s post _ h; omega
  | succ d ih =>
    intro s post ho hm hp
    exact hs d s post ho hp (fun s' post' ho' hm' hp' => ih s' post' ho' (by omega) hp')
theorem rec_q {σ ρ : Type} (W : Nat → (ρ → Prop) → σ → Prop) (ok : σ → Prop) (μ : σ → Nat) (Q : σ → ρ → Prop)
    (hs : ∀ d s post, ok s → (∀ r, Q s r → post r) → (∀ s' post', ok s' → μ s' < μ s → (∀ r, Q s' r → post' r) → W d post' s') → W (d + 1) post s) :
    ∀ d s post, ok s → μ s < d → (∀ r, Q s r → post r) → W d post s := by
  intro d
  induction d with
  | zero => intro s post _ h; omega
  | succ d ih =>
    intro s post ho hm hp
    exact hs d s post ho hp (fun s' post' ho' hm' hp' => ih s' post' ho' (by omega) hp')
def bx_sum (f : Nat → Int32) : Nat → Int32
  | 0 => 0
  | n + 1 => bx_sum f n + f n
theorem ek_u {A : Prop} {B : Nat → Prop} {k N : Nat} (hk : k < N) (h : B k) : (some k = none → A) ∧ (∀ y : Nat, some k = some y → (y < N ∧ B y)) :=
  ⟨fun z => absurd z (Option.some_ne_none k), fun _ e => (by cases e; exact ⟨hk, h⟩)⟩
theorem ek_nu {A : Prop} {B : Nat → Prop} (h : A) : ((none : Option Nat) = none → A) ∧ (∀ y : Nat, (none : Option Nat) = some y → B y) :=
  ⟨fun _ => h, fun _ e => (by cases e)⟩
theorem ek_if {c d A B : Prop} (e : c ↔ d) (f : d → A) (g : ¬ d → B) : (c → A) ∧ (¬ c → B) :=
  ⟨fun z => f (e.mp z), fun z => g (fun y => z (e.mpr y))⟩
theorem ek_v {α : Sort _} {P : α → Prop} {a b : α} (e : a = b) (h : P b) : P a := e ▸ h
theorem co_some {x : Option Nat} {A : Prop} {B : Nat → Prop} (i : Nat) (h : B i) (hx : x = some i := by rfl) : (x = none → A) ∧ (∀ y : Nat, x = some y → B y) := by
  subst hx
  exact ⟨fun e => (nomatch e), fun y e => Option.some.inj e ▸ h⟩
theorem co_none {x : Option Nat} {A : Prop} {B : Nat → Prop} (h : A) (hx : x = none := by rfl) : (x = none → A) ∧ (∀ y : Nat, x = some y → B y) := by
  subst hx
  exact ⟨fun _ => h, fun y e => (nomatch e)⟩
theorem co_any {x : Option Nat} {A : Prop} {B : Nat → Prop} (hn : x = none → A) (hs : ∀ i : Nat, x = some i → B i) : (x = none → A) ∧ (∀ y : Nat, x = some y → B y) := ⟨hn, hs⟩
theorem co_2 {P : Nat → Prop} (h0 : P 0) (h1 : P 1) {i : Nat} (hi : i < 2) : P i :=
  match i, hi with
  | 0, _ => h0
  | 1, _ => h1
theorem co_3 {P : Nat → Prop} (h0 : P 0) (h1 : P 1) (h2 : P 2) {i : Nat} (hi : i < 3) : P i :=
  match i, hi with
  | 0, _ => h0
  | 1, _ => h1
  | 2, _ => h2
theorem co_4 {P : Nat → Prop} (h0 : P 0) (h1 : P 1) (h2 : P 2) (h3 : P 3) {i : Nat} (hi : i < 4) : P i :=
  match i, hi with
  | 0, _ => h0
  | 1, _ => h1
  | 2, _ => h2
  | 3, _ => h3
theorem co_dec {N : Nat} {P : Nat → Prop} [DecidablePred P] (h : (List.range N).all (fun i => decide (P i)) = true) {i : Nat} (hi : i < N) : P i := by
  have := List.all_eq_true.mp h i (List.mem_range.mpr hi)
  exact of_decide_eq_true this
theorem co_tab {α : Type} {l : List α} {d : α} {P : α → Prop} (h : ∀ a, a ∈ l → P a) {i : Nat} (hi : i < l.length) : P (l.getD i d) := by
  rw [List.getD_eq_getElem?_getD, List.getElem?_eq_getElem hi]
  exact h _ (List.getElem_mem hi)
theorem pk_mu {x : Int32} {L : Nat} (h0 : ¬ x < 0) (h : ¬ nI L ≤ x) (hL : L < 2 ^ 31) : ∃ j : Nat, j < L ∧ x = nI j ∧ x + 1 = nI (j + 1) ∧ x.toNatClampNeg = j ∧ L - (x + 1).toNatClampNeg < L - x.toNatClampNeg := by
  obtain ⟨j, hj, rfl⟩ := nI_of h0
  have hl : j < L := Nat.not_le.mp fun q => h (nI_le q hj)
  refine ⟨j, hl, rfl, nI_1 j, nI_clamp hj, ?_⟩
  rw [nI_1, nI_clamp (by omega), nI_clamp hj]
  omega
theorem op_s {α : Type} {r : Option α} {A : Prop} {B : α → Prop} {y : α} (h : r = some y) (b : B y) : (r = none → A) ∧ ∀ z, r = some z → B z :=
  ⟨fun e => (by rw [h] at e; cases e), fun z e => (by rw [h] at e; cases e; exact b)⟩
def l_holds {α : Type} (a : Nat → Option Nat) (LP : List Nat) (p : Nat → α) (c : Nat) (b : Nat → α) : Prop :=
  ∀ j, j < c → ∃ y, a j = some y ∧ y ∈ LP ∧ p y = b j
theorem l_holds_0 {α : Type} {a : Nat → Option Nat} {LP : List Nat} {p b : Nat → α} : l_holds a LP p 0 b := fun j h => absurd h (Nat.not_lt_zero j)
theorem l_in_new (LP : List Nat) (q : Nat) : q ∈ LP ++ [q] := List.mem_append.mpr (Or.inr (List.mem_singleton.mpr rfl))
def l_sum (b : Nat → Int32) : Nat → Int32
  | 0 => 0
  | k + 1 => l_sum b k + b k
theorem sb_shr0 (x : Int32) : x >>> ((0 : Int32) &&& 31) = x := by
  rw [show ((0 : Int32) &&& 31) = 0 by decide]
  simp
theorem sb_shl0 (x : Int32) : x <<< ((0 : Int32) &&& 31) = x := by
  rw [show ((0 : Int32) &&& 31) = 0 by decide]
  simp
theorem sb_cl0 : (0 : Int32).toNatClampNeg = 0 := by decide
theorem sb_m1 {p : Nat} (h : 0 < p) : nI p + (-1) = nI (p - 1) := by
  obtain ⟨q, rfl⟩ : ∃ q, p = q + 1 := ⟨p - 1, by omega⟩
  exact pk_m1 q
def sb_b (c : Nat) : Int32 := (nI c).toInt8.toInt32
theorem sb_byte : ∀ c, c < 256 → sb_b c &&& 255 = nI c ∧ ((nI c).toUInt32 % 65536).toInt32 = nI c ∧ nI c ≤ 255 := by decide +kernel
def sb_Fit (a : Nat → Int32) : Prop := ∀ j, fits .byte (.int (a j)) = true
def sb_Lat (t : Nat → Nat) (n : Nat) (a : Nat → Int32) : Prop := ∀ j, j < n → t j < 256 ∧ a j = sb_b (t j)
theorem sb_fitB (c : Nat) : fits .byte (.int (sb_b c)) = true := pk_fb _
theorem sb_fit0 : sb_Fit (fun _ => 0) := fun _ => by
  show fits .byte (.int 0) = true
  decide
theorem sb_fitU {a : Nat → Int32} {k : Nat} {x : Int32} (h : sb_Fit a) (hx : fits .byte (.int x) = true) : sb_Fit (upd a k x) := by
  intro j
  by_cases e : j = k
  · subst e
    rw [pk_us]
    exact hx
  · rw [pk_un e]
    exact h j
def sb_cat (t : Nat → Nat) (n : Nat) (s : Nat → Nat) : Nat → Nat := fun j => if j < n then t j else s (j - n)
theorem sb_cat_lo {t s : Nat → Nat} {n j : Nat} (h : j < n) : sb_cat t n s j = t j := if_pos h
theorem sb_cat_hi {t s : Nat → Nat} {n j : Nat} : sb_cat t n s (n + j) = s j := by
  show (if n + j < n then t (n + j) else s (n + j - n)) = s j
  rw [if_neg (by omega), Nat.add_sub_cancel_left]
theorem sb_latPut {t s : Nat → Nat} {n w : Nat} {a a' : Nat → Int32} (h : sb_Lat t n a) (hk : ∀ j, j < n → a' j = a j) (hs : ∀ i, i < w → s i < 256 ∧ a' (n + i) = sb_b (s i)) : sb_Lat (sb_cat t n s) (n + w) a' := by
  intro j hj
  by_cases e : j < n
  · rw [sb_cat_lo e, hk j e]
    exact h j e
  · obtain ⟨i, rfl⟩ : ∃ i, j = n + i := ⟨j - n, by omega⟩
    rw [sb_cat_hi]
    exact hs i (by omega)
theorem sb_latKeep {t : Nat → Nat} {n : Nat} {a a' : Nat → Int32} (h : sb_Lat t n a) (hk : ∀ j, j < n → a' j = a j) : sb_Lat t n a' := fun j hj => by
  rw [hk j hj]
  exact h j hj
def sb_cap (q m : Nat) : Nat := if q ≤ m then m else if 2 * m + 2 < q then q else 2 * m + 2
def sb_Room (q m mc ms : Nat) : Prop := q ≤ m ∨ (1 ≤ mc ∧ sb_cap q m ≤ ms ∧ sb_cap q m ≤ 65536)
theorem sb_cap_ge (q m : Nat) : q ≤ sb_cap q m := by
  unfold sb_cap
  split
  · omega
  · split <;> omega
theorem sb_cap_gem (q m : Nat) : m ≤ sb_cap q m := by
  unfold sb_cap
  split
  · omega
  · split <;> omega
theorem sb_cap_le {q m mc ms : Nat} (hm : m ≤ 65536) (hr : sb_Room q m mc ms) : sb_cap q m ≤ 65536 := by
  rcases hr with h | h
  · rw [sb_cap, if_pos h]
    exact hm
  · exact h.2.2
theorem sb_at {P : Int32 → Prop} {x y : Int32} (e : x = y) (h : P y) : P x := e ▸ h
def sb_dg (w : Nat) : Nat := if w < 10 then 1 else if w < 100 then 2 else if w < 1000 then 3 else if w < 10000 then 4 else if w < 100000 then 5 else if w < 1000000 then 6 else if w < 10000000 then 7 else if w < 100000000 then 8 else if w < 1000000000 then 9 else 10
def sb_dec (v : Nat) : Nat → Nat := fun i => 48 + v / 10 ^ (sb_dg v - 1 - i) % 10
theorem sb_dg_in (w : Nat) : 1 ≤ sb_dg w ∧ sb_dg w ≤ 10 := by
  unfold sb_dg
  constructor <;> (repeat' split) <;> omega
theorem sb_dg100 {w : Nat} (h : 100 ≤ w) (hw : w < 2 ^ 31) : sb_dg w = sb_dg (w / 100) + 2 := by
  rw [sb_dg, sb_dg, if_neg (show ¬ w < 10 by omega), if_neg (show ¬ w < 100 by omega)]
  by_cases h3 : w < 1000
  · rw [if_pos h3, if_pos (show w / 100 < 10 by omega)]
  rw [if_neg h3, if_neg (show ¬ w / 100 < 10 by omega)]
  by_cases h4 : w < 10000
  · rw [if_pos h4, if_pos (show w / 100 < 100 by omega)]
  rw [if_neg h4, if_neg (show ¬ w / 100 < 100 by omega)]
  by_cases h5 : w < 100000
  · rw [if_pos h5, if_pos (show w / 100 < 1000 by omega)]
  rw [if_neg h5, if_neg (show ¬ w / 100 < 1000 by omega)]
  by_cases h6 : w < 1000000
  · rw [if_pos h6, if_pos (show w / 100 < 10000 by omega)]
  rw [if_neg h6, if_neg (show ¬ w / 100 < 10000 by omega)]
  by_cases h7 : w < 10000000
  · rw [if_pos h7, if_pos (show w / 100 < 100000 by omega)]
  rw [if_neg h7, if_neg (show ¬ w / 100 < 100000 by omega)]
  by_cases h8 : w < 100000000
  · rw [if_pos h8, if_pos (show w / 100 < 1000000 by omega)]
  rw [if_neg h8, if_neg (show ¬ w / 100 < 1000000 by omega)]
  by_cases h9 : w < 1000000000
  · rw [if_pos h9, if_pos (show w / 100 < 10000000 by omega)]
  rw [if_neg h9, if_neg (show ¬ w / 100 < 10000000 by omega)]
  rw [if_pos (show w / 100 < 100000000 by omega)]
theorem sb_negT {w : Nat} (h : w < 2 ^ 31) : (-nI w).toInt = -(w : Int) := by
  rw [Int32.toInt_neg, nI_toInt h]
  exact Int.bmod_eq_of_le (by omega) (by omega)
theorem sb_nle {a b : Nat} (ha : a < 2 ^ 31) (hb : b < 2 ^ 31) : -nI a ≤ -nI b ↔ b ≤ a := by
  rw [Int32.le_iff_toInt_le, sb_negT ha, sb_negT hb]
  omega
theorem sb_nlt {a b : Nat} (ha : a < 2 ^ 31) (hb : b < 2 ^ 31) : -nI a < -nI b ↔ b < a := by
  rw [Int32.lt_iff_toInt_lt, sb_negT ha, sb_negT hb]
  omega
theorem sb_cmp {A B : Prop} {x : Int32} (v c : Nat) (f : c ≤ v → A) (g : v < c → B) (hv : v < 2 ^ 31) (hx : x = -nI c := by rfl) (hc : c < 2 ^ 31 := by omega) : (-nI v ≤ x → A) ∧ (¬ -nI v ≤ x → B) := by
  subst hx
  rw [sb_nle hv hc]
  exact ⟨f, fun z => g (by omega)⟩
theorem sb_ndiv {w : Nat} (hw : w < 2 ^ 31) : (-nI w) / 100 = -nI (w / 100) := by
  apply Int32.toInt_inj.mp
  have h100 : (100 : Int32).toInt = 100 := by decide
  rw [Int32.toInt_div, sb_negT hw, h100, sb_negT (by omega), Int.neg_tdiv, Int.tdiv_eq_ediv_of_nonneg (by omega), Int.bmod_eq_of_le (by omega) (by omega)]
  omega
theorem sb_nrem {w : Nat} (hw : w < 2 ^ 31) : (-nI (w / 100)) * 100 - (-nI w) = nI (w % 100) := by
  have h := pk_rem (a := w) (d := 100) hw (by decide) (by decide)
  rw [pk_div hw (by decide) (by decide)] at h
  rw [← h]
  show (-nI (w / 100)) * nI 100 - (-nI w) = nI w - nI (w / 100) * nI 100
  rw [Int32.neg_mul, Int32.sub_neg, Int32.add_comm, ← Int32.sub_eq_add_neg]
end
section
/-! rows on bits, shifts and unsigned numbers, to paste: each family out of a closed proof of our own, whole with what it rests on; each by itself clean at Lean in its own claim (generation 39, form 5). Take a family whole -/
/-! ===== Int32 by its bits: bt x i ===== -/
def bt (x : Int32) (i : Nat) : Bool := x.toBitVec.getLsbD i
theorem b_ext {x y : Int32} (h : ∀ i, i < 32 → bt x i = bt y i) : x = y := Int32.toBitVec_inj.mp (BitVec.eq_of_getLsbD_eq (fun i hi => h i hi))
theorem b_or (x y : Int32) (i : Nat) : bt (x ||| y) i = (bt x i || bt y i) := by unfold bt; rw [Int32.toBitVec_or, BitVec.getLsbD_or]
theorem b_and (x y : Int32) (i : Nat) : bt (x &&& y) i = (bt x i && bt y i) := by unfold bt; rw [Int32.toBitVec_and, BitVec.getLsbD_and]
theorem b_xor (x y : Int32) (i : Nat) : bt (x ^^^ y) i = (bt x i ^^ bt y i) := by unfold bt; rw [Int32.toBitVec_xor, BitVec.getLsbD_xor]
theorem b_big {x : Int32} {i : Nat} (h : 32 ≤ i) : bt x i = false := BitVec.getLsbD_of_ge _ _ h
theorem b_255 (i : Nat) : bt 255 i = decide (i < 8) := by
  rcases Nat.lt_or_ge i 32 with h | h
  · exact (by decide +kernel : ∀ i, i < 32 → bt 255 i = decide (i < 8)) i h
  · rw [b_big h, decide_eq_false (by omega)]
theorem b_65535 (i : Nat) : bt 65535 i = decide (i < 16) := by
  rcases Nat.lt_or_ge i 32 with h | h
  · exact (by decide +kernel : ∀ i, i < 32 → bt 65535 i = decide (i < 16)) i h
  · rw [b_big h, decide_eq_false (by omega)]
theorem b_m1 : ∀ i, i < 32 → bt (-1) i = true := by decide +kernel
theorem b_0 (i : Nat) : bt 0 i = false := BitVec.getLsbD_zero
theorem s_l : ∀ n, n < 32 → ((nI n &&& 31).toBitVec.smod 32).toNat = n := by decide +kernel
theorem s_u : ∀ n, n < 32 → (((nI n).toUInt32 &&& Int32.toUInt32 31).toBitVec % 32).toNat = n := by decide +kernel
theorem b_shl (n : Nat) (hn : n < 32) (x : Int32) {i : Nat} (hi : i < 32) : bt (x <<< (nI n &&& 31)) i = (decide (n ≤ i) && bt x (i - n)) := by
  unfold bt
  rw [Int32.toBitVec_shiftLeft]
  show (x.toBitVec <<< ((nI n &&& 31).toBitVec.smod 32).toNat).getLsbD i = _
  rw [s_l n hn, BitVec.getLsbD_shiftLeft]
  rcases Nat.lt_or_ge i n with h | h
  · simp [h, Nat.not_le.mpr h]
  · simp [hi, h, Nat.not_lt.mpr h]
theorem b_ushr (n : Nat) (hn : n < 32) (x : Int32) (i : Nat) : bt ((x.toUInt32 >>> ((nI n).toUInt32 &&& Int32.toUInt32 31)).toInt32) i = bt x (n + i) := by
  show (x.toUInt32 >>> ((nI n).toUInt32 &&& Int32.toUInt32 31)).toBitVec.getLsbD i = x.toUInt32.toBitVec.getLsbD (n + i)
  rw [UInt32.toBitVec_shiftRight]
  show (x.toUInt32.toBitVec >>> (((nI n).toUInt32 &&& Int32.toUInt32 31).toBitVec % 32).toNat).getLsbD i = _
  rw [s_u n hn, BitVec.getLsbD_ushiftRight]
theorem b_sshr (n : Nat) (hn : n < 32) (x : Int32) {i : Nat} (hi : i < 32) : bt (x >>> (nI n &&& 31)) i = if n + i < 32 then bt x (n + i) else bt x 31 := by
  unfold bt
  rw [Int32.toBitVec_shiftRight]
  show (x.toBitVec.sshiftRight ((nI n &&& 31).toBitVec.smod 32).toNat).getLsbD i = _
  rw [s_l n hn, BitVec.getLsbD_sshiftRight, BitVec.msb_eq_getLsbD_last]
  simp [hi]
theorem b_shl8 (x : Int32) {i : Nat} (hi : i < 32) : bt (x <<< ((8 : Int32) &&& 31)) i = (decide (8 ≤ i) && bt x (i - 8)) := b_shl 8 (by omega) x hi
theorem b_shl16 (x : Int32) {i : Nat} (hi : i < 32) : bt (x <<< ((16 : Int32) &&& 31)) i = (decide (16 ≤ i) && bt x (i - 16)) := b_shl 16 (by omega) x hi
theorem b_shl24 (x : Int32) {i : Nat} (hi : i < 32) : bt (x <<< ((24 : Int32) &&& 31)) i = (decide (24 ≤ i) && bt x (i - 24)) := b_shl 24 (by omega) x hi
theorem b_sshr8 (x : Int32) {i : Nat} (hi : i < 32) : bt (x >>> ((8 : Int32) &&& 31)) i = if 8 + i < 32 then bt x (8 + i) else bt x 31 := b_sshr 8 (by omega) x hi
end
section
/-- the length of a way, the towns listed from its end back to its start -/
def zp_pl (d : Nat → Nat → Nat) : List Nat → Nat
  | [] => 0
  | [_] => 0
  | b :: a :: l => d a b + zp_pl d (a :: l)
/-- the lengths of its steps -/
def zp_ed (d : Nat → Nat → Nat) : List Nat → List Nat
  | [] => []
  | [_] => []
  | b :: a :: l => d a b :: zp_ed d (a :: l)
theorem zp_pl0 (d : Nat → Nat → Nat) : zp_pl d [] = 0 := rfl
theorem zp_pl1 (d : Nat → Nat → Nat) (a : Nat) : zp_pl d [a] = 0 := rfl
theorem zp_pl2 (d : Nat → Nat → Nat) (a b : Nat) (l : List Nat) : zp_pl d (b :: a :: l) = d a b + zp_pl d (a :: l) := rfl
theorem zp_ed1 (d : Nat → Nat → Nat) (a : Nat) : zp_ed d [a] = [] := rfl
theorem zp_ed2 (d : Nat → Nat → Nat) (a b : Nat) (l : List Nat) : zp_ed d (b :: a :: l) = d a b :: zp_ed d (a :: l) := rfl
theorem zp_plsum (d : Nat → Nat → Nat) : ∀ l : List Nat, (zp_ed d l).sum = zp_pl d l := by
  intro l
  induction l with
  | nil => rfl
  | cons b l ih =>
    cases l with
    | nil => rfl
    | cons a l => rw [zp_ed2, zp_pl2, List.sum_cons, ih]
theorem zp_split (d : Nat → Nat → Nat) (x : Nat) (B : List Nat) : ∀ A : List Nat, zp_pl d (A ++ x :: B) = zp_pl d (A ++ [x]) + zp_pl d (x :: B) := by
  intro A
  induction A with
  | nil => show zp_pl d (x :: B) = zp_pl d [x] + _; rw [zp_pl1]; omega
  | cons a A ih =>
    cases A with
    | nil =>
      show zp_pl d (a :: x :: B) = zp_pl d (a :: x :: []) + _
      rw [zp_pl2, zp_pl2, zp_pl1]; omega
    | cons b A =>
      show zp_pl d (a :: b :: (A ++ x :: B)) = zp_pl d (a :: b :: (A ++ [x])) + _
      rw [zp_pl2, zp_pl2]
      have e1 : b :: (A ++ x :: B) = b :: A ++ x :: B := rfl
      have e2 : b :: (A ++ [x]) = b :: A ++ [x] := rfl
      rw [e1, e2, ih]; omega
theorem zp_rev (d : Nat → Nat → Nat) (hs : ∀ a b, d a b = d b a) : ∀ l : List Nat, zp_pl d l.reverse = zp_pl d l := by
  intro l
  induction l with
  | nil => rfl
  | cons b l ih =>
    cases l with
    | nil => rfl
    | cons a l =>
      have e : (b :: a :: l).reverse = l.reverse ++ a :: [b] := by simp
      have e2 : (a :: l).reverse = l.reverse ++ [a] := by simp
      rw [e, zp_split, ← e2, ih, zp_pl2, zp_pl2, zp_pl1, hs b a]; omega
/-- joined by steps of at most k within T -/
def zp_cn (T : Nat → Prop) (d : Nat → Nat → Nat) (k a b : Nat) : Prop :=
  ∀ S : Nat → Prop, (∀ x y, T x → T y → d x y ≤ k → (S x ↔ S y)) → (S a ↔ S b)
theorem zp_cn_r {T : Nat → Prop} {d : Nat → Nat → Nat} {k a : Nat} : zp_cn T d k a a := fun _ _ => Iff.rfl
theorem zp_cn_s {T : Nat → Prop} {d : Nat → Nat → Nat} {k a b : Nat} (h : zp_cn T d k a b) : zp_cn T d k b a := fun S hS => (h S hS).symm
theorem zp_cn_t {T : Nat → Prop} {d : Nat → Nat → Nat} {k a b c : Nat} (h : zp_cn T d k a b) (h2 : zp_cn T d k b c) : zp_cn T d k a c := fun S hS => (h S hS).trans (h2 S hS)
theorem zp_cn_e {T : Nat → Prop} {d : Nat → Nat → Nat} {k a b : Nat} (ha : T a) (hb : T b) (h : d a b ≤ k) : zp_cn T d k a b := fun _ hS => hS a b ha hb h
theorem zp_pig (R : Nat → Nat → Prop) (sym : ∀ a b, R a b → R b a) (tr : ∀ a b c, R a b → R b c → R a c) :
    ∀ A B : List Nat, A.Pairwise (fun a b => ¬ R a b) → (∀ a, a ∈ A → ∃ b, b ∈ B ∧ R a b) → A.length ≤ B.length := by
  intro A
  induction A with
  | nil => intro B _ _; exact Nat.zero_le _
  | cons a A ih =>
    intro B hp hc
    obtain ⟨b, hb, hab⟩ := hc a List.mem_cons_self
    obtain ⟨B1, B2, rfl⟩ := List.append_of_mem hb
    have hp' := List.pairwise_cons.mp hp
    have h := ih (B1 ++ B2) hp'.2 (fun a' ha' => by
      obtain ⟨b', hb', hab'⟩ := hc a' (List.mem_cons_of_mem _ ha')
      refine ⟨b', ?_, hab'⟩
      rcases List.mem_append.mp hb' with h1 | h1
      · exact List.mem_append.mpr (Or.inl h1)
      · rcases List.mem_cons.mp h1 with h2 | h2
        · subst h2
          exact absurd (tr _ _ _ hab (sym _ _ hab')) (hp'.1 a' ha')
        · exact List.mem_append.mpr (Or.inr h2))
    simp only [List.length_cons, List.length_append] at h ⊢
    omega
/-- how many of the numbers are above k -/
def zp_bg (k : Nat) (ws : List Nat) : Nat := ws.countP (fun w => decide (k < w))
theorem zp_bg_c (k w : Nat) (ws : List Nat) : zp_bg k (w :: ws) = zp_bg k ws + (if k < w then 1 else 0) := by
  unfold zp_bg
  rw [List.countP_cons]
  by_cases h : k < w <;> simp [h]
theorem zp_bg_n (k : Nat) : zp_bg k [] = 0 := rfl
def zp_sm (f : Nat → Nat) : Nat → Nat
  | 0 => 0
  | K + 1 => zp_sm f K + f K
theorem zp_sm_add (f g : Nat → Nat) : ∀ K, zp_sm (fun k => f k + g k) K = zp_sm f K + zp_sm g K := by
  intro K
  induction K with
  | zero => rfl
  | succ K ih => show zp_sm (fun k => f k + g k) K + (f K + g K) = (zp_sm f K + f K) + (zp_sm g K + g K); rw [ih]; omega
theorem zp_sm_le {f g : Nat → Nat} : ∀ K, (∀ k, k < K → f k ≤ g k) → zp_sm f K ≤ zp_sm g K := by
  intro K
  induction K with
  | zero => intro _; exact Nat.le_refl _
  | succ K ih => intro h; exact Nat.add_le_add (ih fun k hk => h k (by omega)) (h K (by omega))
theorem zp_sm_eq {f g : Nat → Nat} : ∀ K, (∀ k, k < K → f k = g k) → zp_sm f K = zp_sm g K := by
  intro K
  induction K with
  | zero => intro _; rfl
  | succ K ih => intro h; show zp_sm f K + f K = zp_sm g K + g K; rw [ih fun k hk => h k (by omega), h K (by omega)]
theorem zp_sm_i (w : Nat) : ∀ K, zp_sm (fun k => if k < w then 1 else 0) K = if w ≤ K then w else K := by
  intro K
  induction K with
  | zero => show 0 = _; by_cases h : w ≤ 0; rw [if_pos h]; omega; rw [if_neg h]
  | succ K ih =>
    show zp_sm (fun k => if k < w then 1 else 0) K + (if K < w then 1 else 0) = _
    rw [ih]
    by_cases h1 : w ≤ K
    · rw [if_pos h1, if_neg (by omega), if_pos (by omega), Nat.add_zero]
    · rw [if_neg h1, if_pos (by omega)]
      by_cases h2 : w ≤ K + 1
      · rw [if_pos h2]; omega
      · rw [if_neg h2]
theorem zp_sm_0 : ∀ K, zp_sm (fun _ => 0) K = 0 := by
  intro K
  induction K with
  | zero => rfl
  | succ K ih => show zp_sm (fun _ => 0) K + 0 = 0; rw [ih]
theorem zp_sm_w (K : Nat) : ∀ ws : List Nat, (∀ w, w ∈ ws → w ≤ K) → zp_sm (fun k => zp_bg k ws) K = ws.sum := by
  intro ws
  induction ws with
  | nil => intro _; exact zp_sm_0 K
  | cons w ws ih =>
    intro h
    have e : zp_sm (fun k => zp_bg k (w :: ws)) K = zp_sm (fun k => zp_bg k ws + (if k < w then 1 else 0)) K := zp_sm_eq K fun k _ => zp_bg_c k w ws
    rw [e, zp_sm_add, ih fun x hx => h x (List.mem_cons_of_mem _ hx), zp_sm_i, if_pos (h w List.mem_cons_self), List.sum_cons]
    omega
theorem zp_sm_v (K : Nat) : ∀ ws : List Nat, zp_sm (fun k => zp_bg k ws) K ≤ ws.sum := by
  intro ws
  induction ws with
  | nil => exact Nat.le_of_eq (zp_sm_0 K)
  | cons w ws ih =>
    have e : zp_sm (fun k => zp_bg k (w :: ws)) K = zp_sm (fun k => zp_bg k ws + (if k < w then 1 else 0)) K := zp_sm_eq K fun k _ => zp_bg_c k w ws
    rw [e, zp_sm_add, zp_sm_i, List.sum_cons]
    by_cases h : w ≤ K
    · rw [if_pos h]; omega
    · rw [if_neg h]; omega
theorem zp_le_sum : ∀ (ws : List Nat) (w : Nat), w ∈ ws → w ≤ ws.sum := by
  intro ws
  induction ws with
  | nil => intro w h; cases h
  | cons a ws ih =>
    intro w h
    rw [List.sum_cons]
    rcases List.mem_cons.mp h with h | h
    · omega
    · have := ih w h; omega
/-- heads of the stretches into which steps above k cut a way -/
theorem zp_heads {T : Nat → Prop} {d : Nat → Nat → Nat} (k : Nat) : ∀ m : List Nat, m ≠ [] → (∀ x, x ∈ m → T x) →
    ∃ B : List Nat, B.length = 1 + zp_bg k (zp_ed d m) ∧ ∀ x, x ∈ m → ∃ b, b ∈ B ∧ zp_cn T d k x b := by
  intro m
  induction m with
  | nil => intro h; exact absurd rfl h
  | cons b l ih =>
    intro _ hT
    cases l with
    | nil =>
      refine ⟨[b], rfl, fun x hx => ⟨b, List.mem_cons_self, ?_⟩⟩
      rw [List.mem_singleton.mp hx]; exact zp_cn_r
    | cons a l =>
      obtain ⟨B, hB, hc⟩ := ih (by simp) (fun x hx => hT x (List.mem_cons_of_mem _ hx))
      have ha : T a := hT a (List.mem_cons_of_mem _ List.mem_cons_self)
      have hb : T b := hT b List.mem_cons_self
      rw [zp_ed2, zp_bg_c]
      by_cases h : k < d a b
      · rw [if_pos h]
        refine ⟨b :: B, by rw [List.length_cons, hB]; omega, fun x hx => ?_⟩
        rcases List.mem_cons.mp hx with rfl | hx
        · exact ⟨x, List.mem_cons_self, zp_cn_r⟩
        · obtain ⟨c, hc1, hc2⟩ := hc x hx
          exact ⟨c, List.mem_cons_of_mem _ hc1, hc2⟩
      · rw [if_neg h]
        refine ⟨B, hB, fun x hx => ?_⟩
        rcases List.mem_cons.mp hx with rfl | hx
        · obtain ⟨c, hc1, hc2⟩ := hc a List.mem_cons_self
          exact ⟨c, hc1, zp_cn_t (zp_cn_s (zp_cn_e ha hb (by omega))) hc2⟩
        · exact hc x hx
/-- what a grown net knows: for each k one town of each part, as many as steps above k and one -/
def zp_fin (T : Nat → Prop) (d : Nat → Nat → Nat) (ws : List Nat) : Prop :=
  ∀ k, ∃ A : List Nat, A.length = 1 + zp_bg k ws ∧ (∀ a, a ∈ A → T a) ∧ A.Pairwise (fun a b => ¬ zp_cn T d k a b) ∧ ∀ i, T i → ∃ a, a ∈ A ∧ zp_cn T d k a i
theorem zp_low {T : Nat → Prop} {d : Nat → Nat → Nat} {ws : List Nat} (h : zp_fin T d ws) {m : List Nat} (h0 : m ≠ []) (hT : ∀ x, x ∈ m → T x) (hc : ∀ x, T x → x ∈ m) : ws.sum ≤ zp_pl d m := by
  have e := zp_sm_w ws.sum ws (zp_le_sum ws)
  rw [← e, ← zp_plsum]
  refine Nat.le_trans ?_ (zp_sm_v ws.sum (zp_ed d m))
  refine zp_sm_le _ fun k _ => ?_
  obtain ⟨A, hA, hAT, hp, _⟩ := h k
  obtain ⟨B, hB, hBc⟩ := zp_heads (T := T) (d := d) k m h0 hT
  have := zp_pig (zp_cn T d k) (fun _ _ => zp_cn_s) (fun _ _ _ => zp_cn_t) A B hp (fun a ha => hBc a (hc a (hAT a ha)))
  omega
/-- the net while it grows -/
def zp_inv (T : Nat → Prop) (d : Nat → Nat → Nat) (I : Nat → Prop) (near : Nat → Nat) (ws : List Nat) : Prop :=
  (∀ i, I i → T i) ∧
  (∀ v, T v → ¬ I v → (∃ i, I i ∧ near v = d i v) ∧ ∀ i, I i → near v ≤ d i v) ∧
  ∀ k, ∃ A : List Nat, A.length = 1 + zp_bg k ws ∧ (∀ a, a ∈ A → I a) ∧ A.Pairwise (fun a b => ¬ zp_cn T d k a b) ∧ ∀ i, I i → ∃ a, a ∈ A ∧ zp_cn T d k a i
theorem zp_inv0 {T : Nat → Prop} {d : Nat → Nat → Nat} {f : Nat} (hf : T f) {near : Nat → Nat} (hn : ∀ v, T v → near v = d f v) : zp_inv T d (fun x => x = f) near [] := by
  refine ⟨fun i hi => hi ▸ hf, fun v hv _ => ⟨⟨f, rfl, hn v hv⟩, fun i hi => ?_⟩, fun k => ⟨[f], rfl, fun a ha => List.mem_singleton.mp ha, ?_, fun i hi => ⟨f, List.mem_cons_self, ?_⟩⟩⟩
  · rw [hi, hn v hv]; exact Nat.le_refl _
  · exact List.pairwise_singleton _ _
  · rw [hi]; exact zp_cn_r
theorem zp_inv1 {T : Nat → Prop} {d : Nat → Nat → Nat} (hs : ∀ a b, T a → T b → d a b = d b a) {I : Nat → Prop} {near near' : Nat → Nat} {ws : List Nat} (h : zp_inv T d I near ws) {v : Nat} (hv : T v) (hI : ¬ I v)
    (hm : ∀ x, T x → ¬ I x → near v ≤ near x) (hn : ∀ x, T x → near' x = if d v x < near x then d v x else near x) : zp_inv T d (fun x => I x ∨ x = v) near' (near v :: ws) := by
  obtain ⟨h1, h2, h3⟩ := h
  refine ⟨fun i hi => ?_, fun x hx hxI => ?_, fun k => ?_⟩
  · rcases hi with hi | hi
    · exact h1 i hi
    · rw [hi]; exact hv
  · have hxI' : ¬ I x := fun z => hxI (Or.inl z)
    obtain ⟨⟨i, hi, ei⟩, hl⟩ := h2 x hx hxI'
    rw [hn x hx]
    by_cases hd : d v x < near x
    · rw [if_pos hd]
      refine ⟨⟨v, Or.inr rfl, rfl⟩, fun j hj => ?_⟩
      rcases hj with hj | hj
      · have := hl j hj; omega
      · rw [hj]; exact Nat.le_refl _
    · rw [if_neg hd]
      refine ⟨⟨i, Or.inl hi, ei⟩, fun j hj => ?_⟩
      rcases hj with hj | hj
      · exact hl j hj
      · rw [hj]; omega
  · obtain ⟨A, hA, hAI, hp, hc⟩ := h3 k
    obtain ⟨⟨i, hi, ei⟩, _⟩ := h2 v hv hI
    rw [zp_bg_c]
    by_cases hk : k < near v
    · rw [if_pos hk]
      refine ⟨v :: A, by rw [List.length_cons, hA]; omega, fun a ha => ?_, List.pairwise_cons.mpr ⟨fun a ha hcn => ?_, hp⟩, fun j hj => ?_⟩
      · rcases List.mem_cons.mp ha with ha | ha
        · exact Or.inr ha
        · exact Or.inl (hAI a ha)
      · have key : ∀ x y, T x → T y → d x y ≤ k → (I x → I y) := by
          intro x y hx hy hxy hix
          by_cases hiy : I y
          · exact hiy
          · have a1 := (h2 y hy hiy).2 x hix
            have a2 := hm y hy hiy
            omega
        have := hcn I (fun x y hx hy hxy => ⟨key x y hx hy hxy, key y x hy hx (by rw [hs y x hy hx]; exact hxy)⟩)
        exact hI (this.mpr (hAI a ha))
      · rcases hj with hj | hj
        · obtain ⟨a, ha, hca⟩ := hc j hj
          exact ⟨a, List.mem_cons_of_mem _ ha, hca⟩
        · rw [hj]; exact ⟨v, List.mem_cons_self, zp_cn_r⟩
    · rw [if_neg hk]
      refine ⟨A, hA, fun a ha => Or.inl (hAI a ha), hp, fun j hj => ?_⟩
      rcases hj with hj | hj
      · exact hc j hj
      · obtain ⟨a, ha, hca⟩ := hc i hi
        refine ⟨a, ha, zp_cn_t hca ?_⟩
        rw [hj]; exact zp_cn_e (h1 i hi) hv (by omega)
theorem zp_inv_fin {T : Nat → Prop} {d : Nat → Nat → Nat} {I : Nat → Prop} {near : Nat → Nat} {ws : List Nat} (h : zp_inv T d I near ws) (hI : ∀ x, T x → I x) : zp_fin T d ws := by
  intro k
  obtain ⟨A, hA, hAI, hp, hc⟩ := h.2.2 k
  exact ⟨A, hA, fun a ha => h.1 a (hAI a ha), hp, fun i hi => hc i (hI i hi)⟩
end
section
def zl_ct (p : Nat → Bool) : Nat → Nat
  | 0 => 0
  | n + 1 => zl_ct p n + (if p n = true then 1 else 0)
theorem zl_ct_s (p : Nat → Bool) (n : Nat) : zl_ct p (n + 1) = zl_ct p n + (if p n = true then 1 else 0) := rfl
theorem zl_ct_eq {p q : Nat → Bool} : ∀ n, (∀ i, i < n → p i = q i) → zl_ct p n = zl_ct q n := by
  intro n
  induction n with
  | zero => intro _; rfl
  | succ n ih => intro h; rw [zl_ct_s, zl_ct_s, ih fun i hi => h i (by omega), h n (by omega)]
theorem zl_ct_le (p : Nat → Bool) : ∀ n, zl_ct p n ≤ n := by
  intro n
  induction n with
  | zero => exact Nat.le_refl _
  | succ n ih => rw [zl_ct_s]; by_cases h : p n = true; rw [if_pos h]; omega; rw [if_neg h]; omega
theorem zl_ct_mono {p q : Nat → Bool} : ∀ n, (∀ i, i < n → p i = true → q i = true) → zl_ct p n ≤ zl_ct q n := by
  intro n
  induction n with
  | zero => intro _; exact Nat.le_refl _
  | succ n ih =>
    intro h
    have := ih fun i hi => h i (by omega)
    rw [zl_ct_s, zl_ct_s]
    by_cases h1 : p n = true
    · rw [if_pos h1, if_pos (h n (by omega) h1)]; omega
    · rw [if_neg h1]; omega
theorem zl_ct_lt {p q : Nat → Bool} {v : Nat} : ∀ n, (∀ i, i < n → p i = true → q i = true) → v < n → q v = true → p v = false → zl_ct p n < zl_ct q n := by
  intro n
  induction n with
  | zero => intro _ h; omega
  | succ n ih =>
    intro h hv hq hp
    rw [zl_ct_s, zl_ct_s]
    by_cases e : v = n
    · subst e
      have := zl_ct_mono v fun i hi => h i (by omega)
      rw [if_pos hq, if_neg (by rw [hp]; decide)]; omega
    · have := ih (fun i hi => h i (by omega)) (by omega) hq hp
      by_cases h1 : p n = true
      · rw [if_pos h1, if_pos (h n (by omega) h1)]; omega
      · rw [if_neg h1]; omega
theorem zl_ct_clr {p : Nat → Bool} {v : Nat} : ∀ n, v < n → p v = true → zl_ct (fun i => p i && i != v) n + 1 = zl_ct p n := by
  intro n
  induction n with
  | zero => intro h; omega
  | succ n ih =>
    intro hv hp
    rw [zl_ct_s, zl_ct_s]
    by_cases e : v = n
    · subst e
      have h1 : zl_ct (fun i => p i && i != v) v = zl_ct p v := zl_ct_eq v fun i hi => by
        have : (i != v) = true := by simp; omega
        simp [this]
      rw [h1, if_pos hp, if_neg (by simp)]
    · have h1 := ih (by omega) hp
      have h2 : (p n && n != v) = p n := by
        have : (n != v) = true := by simp; omega
        simp [this]
      rw [h2]; omega
theorem zl_ct_p {p : Nat → Bool} {v n : Nat} (hv : v < n) (hp : p v = true) : 0 < zl_ct p n := by
  have := zl_ct_clr n hv hp; omega
theorem zl_ct_0 {p : Nat → Bool} {n : Nat} (h : zl_ct p n = 0) : ∀ i, i < n → p i = false := by
  intro i hi
  cases e : p i with
  | false => rfl
  | true => have := zl_ct_p hi e; omega
theorem zl_ct_f (p : Nat → Bool) : ∀ n, ((List.range n).filter p).length = zl_ct p n := by
  intro n
  induction n with
  | zero => rfl
  | succ n ih =>
    rw [List.range_succ, List.filter_append, List.length_append, ih, zl_ct_s]
    by_cases h : p n = true
    · rw [if_pos h]; simp [h]
    · rw [if_neg h]; simp [h]
theorem zl_cov {N r : Nat} {S : Nat → Bool} {m : List Nat} (hn : m.Nodup) (hm : ∀ x, x ∈ m → x < N ∧ S x = true) (hl : m.length = r) (hc : zl_ct S N = r) : ∀ i, i < N → S i = true → i ∈ m := by
  intro i hi hS
  by_cases h : i ∈ m
  · exact h
  · have h1 : (i :: m).Nodup := List.nodup_cons.mpr ⟨h, hn⟩
    have h2 : (i :: m) ⊆ (List.range N).filter S := by
      intro x hx
      rcases List.mem_cons.mp hx with hx | hx
      · rw [hx]; exact List.mem_filter.mpr ⟨List.mem_range.mpr hi, hS⟩
      · exact List.mem_filter.mpr ⟨List.mem_range.mpr (hm x hx).1, (hm x hx).2⟩
    have h3 := List.Nodup.length_le_of_subset h1 h2
    rw [zl_ct_f, List.length_cons] at h3
    omega
/-- towns still free: not the goal, not on the way -/
def zl_fr (g : Nat) (p : List Nat) (i : Nat) : Bool := decide (i ≠ g ∧ i ∉ p)
theorem zl_fr_t {g : Nat} {p : List Nat} {i : Nat} : zl_fr g p i = true ↔ i ≠ g ∧ i ∉ p := by unfold zl_fr; exact decide_eq_true_iff
theorem zl_fr_c (g : Nat) (p : List Nat) (v i : Nat) : zl_fr g (v :: p) i = (zl_fr g p i && i != v) := by
  unfold zl_fr
  by_cases h1 : i = g <;> by_cases h2 : i = v <;> by_cases h3 : i ∈ p <;> simp [h1, h2, h3]
def zl_kd (N g : Nat) (p : List Nat) (t : Nat) : List Nat := (List.range' t (N - t)).filter (zl_fr g p)
theorem zl_kd_m {N g : Nat} {p : List Nat} {t x : Nat} : x ∈ zl_kd N g p t ↔ t ≤ x ∧ x < N ∧ zl_fr g p x = true := by
  unfold zl_kd
  rw [List.mem_filter, List.mem_range'_1]
  constructor
  · intro h; exact ⟨h.1.1, by omega, h.2⟩
  · intro h; exact ⟨⟨h.1, by omega⟩, h.2.2⟩
theorem zl_kd_n {N g : Nat} {p : List Nat} {t : Nat} (h : ∀ j, t ≤ j → j < N → zl_fr g p j = false) : zl_kd N g p t = [] := by
  apply List.eq_nil_iff_forall_not_mem.mpr
  intro x hx
  have hx' := zl_kd_m.mp hx
  rw [h x hx'.1 hx'.2.1] at hx'
  exact absurd hx'.2.2 (by decide)
theorem zl_kd_c {N g : Nat} {p : List Nat} {t v : Nat} (htv : t ≤ v) (hv : v < N) (h : ∀ j, t ≤ j → j < v → zl_fr g p j = false) (hf : zl_fr g p v = true) : zl_kd N g p t = v :: zl_kd N g p (v + 1) := by
  have e : List.range' t (N - t) = List.range' t (v - t) ++ (v :: List.range' (v + 1) (N - (v + 1))) := by
    have e1 : N - t = (v - t) + (N - v) := by omega
    have e2 : N - v = (N - (v + 1)) + 1 := by omega
    have e3 : t + (v - t) = v := by omega
    rw [e1, ← List.range'_append_1, e3, e2, List.range'_succ]
  have e0 : (List.range' t (v - t)).filter (zl_fr g p) = [] := by
    apply List.eq_nil_iff_forall_not_mem.mpr
    intro x hx
    have hx' := List.mem_filter.mp hx
    have hr := List.mem_range'_1.mp hx'.1
    rw [h x hr.1 (by omega)] at hx'
    exact absurd hx'.2 (by decide)
  unfold zl_kd
  rw [e, List.filter_append, e0, List.filter_cons_of_pos hf]
  rfl
/-- all ways on from p by r more towns, in order -/
def zl_lv (N g : Nat) : Nat → List Nat → List (List Nat)
  | 0, p => [p]
  | r + 1, p => (zl_kd N g p 0).flatMap (fun v => zl_lv N g r (v :: p))
theorem zl_lv_s (N g r : Nat) (p : List Nat) : zl_lv N g (r + 1) p = (zl_kd N g p 0).flatMap (fun v => zl_lv N g r (v :: p)) := rfl
theorem zl_lv_0 (N g : Nat) (p : List Nat) : zl_lv N g 0 p = [p] := rfl
theorem zl_lv_m {N g : Nat} : ∀ (r : Nat) (p l : List Nat), l ∈ zl_lv N g r p → ∃ m : List Nat, l = m ++ p ∧ m.length = r ∧ (∀ x, x ∈ m → x < N ∧ zl_fr g p x = true) ∧ m.Nodup := by
  intro r
  induction r with
  | zero =>
    intro p l h
    exact ⟨[], List.mem_singleton.mp h, rfl, fun x hx => (by cases hx), List.nodup_nil⟩
  | succ r ih =>
    intro p l h
    rw [zl_lv_s] at h
    obtain ⟨v, hv, hl⟩ := List.mem_flatMap.mp h
    obtain ⟨m, e, hm, hx, hn⟩ := ih (v :: p) l hl
    have hv' := zl_kd_m.mp hv
    refine ⟨m ++ [v], ?_, ?_, fun x hxm => ?_, ?_⟩
    · rw [e]; simp
    · rw [List.length_append, hm]; rfl
    · rcases List.mem_append.mp hxm with h1 | h1
      · have h2 := hx x h1
        rw [zl_fr_c, Bool.and_eq_true] at h2
        exact ⟨h2.1, h2.2.1⟩
      · rw [List.mem_singleton.mp h1]; exact hv'.2
    · rw [List.nodup_append]
      refine ⟨hn, by simp, fun a ha b hb e1 => ?_⟩
      rw [List.mem_singleton.mp hb] at e1
      have h2 := hx a ha
      rw [zl_fr_c, e1] at h2
      simp at h2
theorem zl_lv_i {N g : Nat} : ∀ (r : Nat) (p m : List Nat), m.length = r → (∀ x, x ∈ m → x < N ∧ zl_fr g p x = true) → m.Nodup → m ++ p ∈ zl_lv N g r p := by
  intro r
  induction r with
  | zero =>
    intro p m hm _ _
    rw [List.length_eq_zero_iff.mp hm]
    exact List.mem_singleton.mpr rfl
  | succ r ih =>
    intro p m hm hx hn
    have hne : m ≠ [] := by intro e; rw [e] at hm; exact absurd hm (by simp)
    have e := List.dropLast_concat_getLast hne
    generalize m.dropLast = m1 at e
    generalize m.getLast hne = v at e
    subst e
    have hn' := List.nodup_append.mp hn
    have hv := hx v (List.mem_append.mpr (Or.inr (List.mem_singleton.mpr rfl)))
    rw [zl_lv_s]
    refine List.mem_flatMap.mpr ⟨v, zl_kd_m.mpr ⟨Nat.zero_le _, hv⟩, ?_⟩
    have e2 : m1 ++ [v] ++ p = m1 ++ v :: p := by simp
    rw [e2]
    refine ih (v :: p) m1 (by rw [List.length_append] at hm; simp at hm; exact hm) (fun x hxm => ?_) hn'.1
    have h1 := hx x (List.mem_append.mpr (Or.inl hxm))
    refine ⟨h1.1, ?_⟩
    rw [zl_fr_c, Bool.and_eq_true]
    refine ⟨h1.2, ?_⟩
    have := hn'.2.2 x hxm v (List.mem_singleton.mpr rfl)
    simp [this]
/-- one more town behind each, as the reference lists them -/
def zl_ex (N : Nat) (p : List Nat) : List (List Nat) := ((List.range N).filter (fun v => decide (v ∉ p))).map (fun v => v :: p)
theorem zl_kd_e {N : Nat} {p : List Nat} (h : 0 ∈ p) : zl_kd N 0 p 0 = (List.range N).filter (fun v => decide (v ∉ p)) := by
  unfold zl_kd
  rw [List.range_eq_range']
  apply List.filter_congr
  intro x _
  unfold zl_fr
  by_cases hx : x ∈ p
  · simp [hx]
  · have : x ≠ 0 := fun e => hx (e ▸ h)
    simp [hx, this]
theorem zl_lv_e {N : Nat} : ∀ (s : Nat) (p : List Nat), 0 ∈ p → zl_lv N 0 (s + 1) p = (zl_lv N 0 s p).flatMap (zl_ex N) := by
  intro s
  induction s with
  | zero =>
    intro p h
    rw [zl_lv_s, zl_kd_e h]
    show ((List.range N).filter (fun v => decide (v ∉ p))).flatMap (fun v => [v :: p]) = [p].flatMap (zl_ex N)
    rw [List.flatMap_singleton]
    unfold zl_ex
    exact (List.map_eq_flatMap).symm
  | succ s ih =>
    intro p h
    rw [zl_lv_s, zl_lv_s N 0 s p, List.flatMap_assoc]
    congr 1
    funext v
    exact ih (v :: p) (List.mem_cons_of_mem _ h)
def zl_nl (N : Nat) (L : List (List Nat)) : Nat → List (List Nat)
  | 0 => []
  | i + 1 => zl_nl N L i ++ (if (i % N) ∈ L.getD (i / N) [] then [] else [(i % N) :: L.getD (i / N) []])
theorem zl_nl_s (N : Nat) (L : List (List Nat)) (i : Nat) : zl_nl N L (i + 1) = zl_nl N L i ++ (if (i % N) ∈ L.getD (i / N) [] then [] else [(i % N) :: L.getD (i / N) []]) := rfl
theorem zl_nl_j {N : Nat} (h0 : 0 < N) (L : List (List Nat)) (t : Nat) : ∀ j, j ≤ N → zl_nl N L (t * N + j) = zl_nl N L (t * N) ++ ((List.range j).filter (fun v => decide (v ∉ L.getD t []))).map (fun v => v :: L.getD t []) := by
  intro j
  induction j with
  | zero => intro _; simp
  | succ j ih =>
    intro hj
    have e1 : (t * N + j) % N = j := by rw [Nat.mul_comm, Nat.mul_add_mod]; exact Nat.mod_eq_of_lt (by omega)
    have e2 : (t * N + j) / N = t := by rw [Nat.mul_comm, Nat.mul_add_div h0, Nat.div_eq_of_lt (by omega)]; omega
    rw [← Nat.add_assoc, zl_nl_s, e1, e2, ih (by omega), List.range_succ, List.filter_append, List.map_append, List.append_assoc]
    congr 1
    congr 1
    by_cases h : j ∈ L.getD t []
    · rw [if_pos h, List.filter_cons_of_neg (by simp only [h, not_true_eq_false, decide_false]; decide)]; rfl
    · rw [if_neg h, List.filter_cons_of_pos (by simp only [h, not_false_eq_true, decide_true])]; rfl
theorem zl_nl_t {N : Nat} (h0 : 0 < N) (L : List (List Nat)) : ∀ t, t ≤ L.length → zl_nl N L (t * N) = (L.take t).flatMap (zl_ex N) := by
  intro t
  induction t with
  | zero => intro _; rw [Nat.zero_mul]; rfl
  | succ t ih =>
    intro ht
    have hlt : t < L.length := by omega
    have e : (t + 1) * N = t * N + N := Nat.succ_mul t N
    have eg : L.getD t [] = L[t] := by simp [hlt]
    rw [e, zl_nl_j h0 L t N (Nat.le_refl _), ih (by omega), List.take_succ_eq_append_getElem hlt, List.flatMap_append, eg]
    congr 1
    show _ = zl_ex N L[t] ++ []
    rw [List.append_nil]; rfl
theorem zl_nl_f {N : Nat} (h0 : 0 < N) (L : List (List Nat)) : zl_nl N L (L.length * N) = L.flatMap (zl_ex N) := by
  rw [zl_nl_t h0 L _ (Nat.le_refl _), List.take_length]
theorem zl_nl_le (N : Nat) (L : List (List Nat)) (i : Nat) : ∀ j, (zl_nl N L i).length ≤ (zl_nl N L (i + j)).length := by
  intro j
  induction j with
  | zero => exact Nat.le_refl _
  | succ j ih => rw [← Nat.add_assoc, zl_nl_s, List.length_append]; omega
/-- an offer: shorter ones take the place, equal ones are counted -/
def zl_of (w : List Nat → Nat) (s : Nat × Nat × List Nat) (l : List Nat) : Nat × Nat × List Nat :=
  if s.1 < w l then s else if w l < s.1 then (w l, 1, l) else (s.1, s.2.1 + 1, s.2.2)
theorem zl_skip (w : List Nat → Nat) (s : Nat × Nat × List Nat) : ∀ L : List (List Nat), (∀ l, l ∈ L → s.1 < w l) → L.foldl (zl_of w) s = s := by
  intro L
  induction L with
  | nil => intro _; rfl
  | cons l L ih =>
    intro h
    have e : zl_of w s l = s := if_pos (h l List.mem_cons_self)
    rw [List.foldl_cons, e, ih fun x hx => h x (List.mem_cons_of_mem _ hx)]
def zl_Q (h : Nat → Nat) (L : List (List Nat)) (M i : Nat) (s : Nat × Nat × List Nat) : Prop :=
  (i = 0 ∧ s.1 = M ∧ s.2.1 = 0) ∨ ∃ f, f < i ∧ s.2.2 = L.getD f [] ∧ s.1 = h f ∧ (∀ j, j < i → s.1 ≤ h j) ∧ (∀ j, j < f → s.1 < h j) ∧ s.2.1 = zl_ct (fun j => decide (h j = s.1)) i
theorem zl_Q_s (w : List Nat → Nat) (L : List (List Nat)) (M i : Nat) (s : Nat × Nat × List Nat) (hM : w (L.getD i []) < M) (hQ : zl_Q (fun j => w (L.getD j [])) L M i s) : zl_Q (fun j => w (L.getD j [])) L M (i + 1) (zl_of w s (L.getD i [])) := by
  obtain ⟨b, c, P⟩ := s
  refine Or.inr ?_
  rcases hQ with ⟨h0, h1, h2⟩ | ⟨f, hf, hP, hb, hmin, hfst, hc⟩
  · subst h0
    simp only at h1 h2
    subst h1; subst h2
    have e : zl_of w (b, 0, P) (L.getD 0 []) = (w (L.getD 0 []), 1, L.getD 0 []) := by
      unfold zl_of
      rw [if_neg (by show ¬ b < _; omega), if_pos (by show _ < b; omega)]
    rw [e]
    refine ⟨0, by omega, rfl, rfl, fun j hj => ?_, fun j hj => absurd hj (by omega), ?_⟩
    · have : j = 0 := by omega
      rw [this]; exact Nat.le_refl _
    · show 1 = zl_ct _ (0 + 1)
      rw [zl_ct_s, if_pos (by simp)]; rfl
  · simp only at hP hb hmin hfst hc
    by_cases h1 : b < w (L.getD i [])
    · have e : zl_of w (b, c, P) (L.getD i []) = (b, c, P) := if_pos h1
      rw [e]
      refine ⟨f, by omega, hP, hb, fun j hj => ?_, hfst, ?_⟩
      · by_cases hji : j = i
        · rw [hji]; exact Nat.le_of_lt h1
        · exact hmin j (by omega)
      · show c = zl_ct _ (i + 1)
        rw [zl_ct_s, if_neg (fun z => by have z2 : w (L.getD i []) = b := of_decide_eq_true z; omega)]; exact hc
    · by_cases h2 : w (L.getD i []) < b
      · have e : zl_of w (b, c, P) (L.getD i []) = (w (L.getD i []), 1, L.getD i []) := by
          unfold zl_of; rw [if_neg h1, if_pos h2]
        rw [e]
        refine ⟨i, by omega, rfl, rfl, fun j hj => ?_, fun j hj => ?_, ?_⟩
        · show w (L.getD i []) ≤ w (L.getD j [])
          by_cases hji : j = i
          · rw [hji]; exact Nat.le_refl _
          · have := hmin j (by omega); omega
        · show w (L.getD i []) < w (L.getD j [])
          have := hmin j (by omega); omega
        · show 1 = zl_ct _ (i + 1)
          have e0 : zl_ct (fun j => decide (w (L.getD j []) = w (L.getD i []))) i = zl_ct (fun _ => false) i := zl_ct_eq i fun j hj => by
            have := hmin j hj
            apply decide_eq_false; omega
          have e1 : ∀ n, zl_ct (fun _ => false) n = 0 := by
            intro n
            induction n with
            | zero => rfl
            | succ n ih => rw [zl_ct_s, ih]; rfl
          rw [zl_ct_s, if_pos (by simp)]
          rw [e0, e1]
      · have hE : w (L.getD i []) = b := by omega
        have e : zl_of w (b, c, P) (L.getD i []) = (b, c + 1, P) := by
          unfold zl_of; rw [if_neg h1, if_neg h2]
        rw [e]
        refine ⟨f, by omega, hP, hb, fun j hj => ?_, hfst, ?_⟩
        · show b ≤ w (L.getD j [])
          by_cases hji : j = i
          · rw [hji]; omega
          · exact hmin j (by omega)
        · show c + 1 = zl_ct _ (i + 1)
          rw [zl_ct_s, if_pos (by simp; exact hE), hc]
theorem zl_Q_f (w : List Nat → Nat) (L : List (List Nat)) (M : Nat) (P0 : List Nat) (hM : ∀ l, l ∈ L → w l < M) : ∀ i, i ≤ L.length → zl_Q (fun j => w (L.getD j [])) L M i ((L.take i).foldl (zl_of w) (M, 0, P0)) := by
  intro i
  induction i with
  | zero => intro _; exact Or.inl ⟨rfl, rfl, rfl⟩
  | succ i ih =>
    intro hi
    have hlt : i < L.length := by omega
    have eg : L.getD i [] = L[i] := by simp [hlt]
    rw [List.take_succ_eq_append_getElem hlt, List.foldl_append, ← eg]
    exact zl_Q_s w L M i _ (by rw [eg]; exact hM _ (List.getElem_mem hlt)) (ih (by omega))
theorem zl_best (w : List Nat → Nat) (L : List (List Nat)) (M : Nat) (P0 : List Nat) (hM : ∀ l, l ∈ L → w l < M) (h0 : 0 < L.length) :
    ∃ f b c, L.foldl (zl_of w) (M, 0, P0) = (b, c, L.getD f []) ∧ f < L.length ∧ b = w (L.getD f []) ∧ (∀ j, j < L.length → b ≤ w (L.getD j [])) ∧ (∀ j, j < f → b < w (L.getD j [])) ∧ c = zl_ct (fun j => decide (w (L.getD j []) = b)) L.length := by
  have h := zl_Q_f w L M P0 hM L.length (Nat.le_refl _)
  rw [List.take_length] at h
  rcases h with ⟨h1, _⟩ | ⟨f, hf, hP, hb, hmin, hfst, hc⟩
  · omega
  · refine ⟨f, _, _, ?_, hf, hb, hmin, hfst, hc⟩
    rw [← hP]
end
section
/-- all trips from town 0, in order, each listed from its end back -/
def zt_tr (N : Nat) : List (List Nat) := zl_lv N 0 (N - 1) [0]
theorem zt_tr_m {N : Nat} {l : List Nat} (h : l ∈ zt_tr N) : ∃ m : List Nat, l = m ++ [0] ∧ m.length = N - 1 ∧ (∀ x, x ∈ m → x < N ∧ x ≠ 0) ∧ m.Nodup := by
  obtain ⟨m, e, hm, hx, hn⟩ := zl_lv_m _ _ _ h
  exact ⟨m, e, hm, fun x hxm => ⟨(hx x hxm).1, (zl_fr_t.mp (hx x hxm).2).1⟩, hn⟩
theorem zt_tr_i {N : Nat} {m : List Nat} (hm : m.length = N - 1) (hx : ∀ x, x ∈ m → x < N ∧ x ≠ 0) (hn : m.Nodup) : m ++ [0] ∈ zt_tr N :=
  zl_lv_i _ _ _ hm (fun x hxm => ⟨(hx x hxm).1, zl_fr_t.mpr ⟨(hx x hxm).2, fun z => (hx x hxm).2 (List.mem_singleton.mp z)⟩⟩) hn
/-- two towns stand side by side on a way -/
def zt_us (e : List Nat) (u v : Nat) : Prop := ∃ A x y B, e = A ++ x :: y :: B ∧ ((x = u ∧ y = v) ∨ (x = v ∧ y = u))
theorem zt_first {e : List Nat} (h : e ≠ []) : ∃ a l, e = a :: l := by
  cases e with
  | nil => exact absurd rfl h
  | cons a l => exact ⟨a, l, rfl⟩
theorem zt_last {e : List Nat} (h : e ≠ []) : ∃ l a, e = l ++ [a] := ⟨e.dropLast, e.getLast h, (List.dropLast_concat_getLast h).symm⟩
theorem zt_inj {A B : List Nat} {a b : Nat} (h : A ++ [a] = B ++ [b]) : A = B ∧ a = b := by
  have := List.append_inj' h rfl
  exact ⟨this.1, by have h2 := this.2; simp at h2; exact h2⟩
theorem zt_mid {N : Nat} {M : List Nat} {x y : Nat} (hl : (y :: (M ++ [x])).length = N) (hn : (y :: (M ++ [x])).Nodup) (hx : ∀ z, z ∈ y :: (M ++ [x]) → z < N) : M ++ [x] ∈ zl_lv N y (N - 2) [x] := by
  have hn1 := List.nodup_cons.mp hn
  have hn2 := List.nodup_append.mp hn1.2
  refine zl_lv_i _ _ _ (by simp at hl; omega) (fun z hz => ⟨hx z (List.mem_cons_of_mem _ (List.mem_append.mpr (Or.inl hz))), zl_fr_t.mpr ⟨fun e => ?_, fun e => ?_⟩⟩) hn2.1
  · exact hn1.1 (List.mem_append.mpr (Or.inl (e ▸ hz)))
  · exact hn2.2.2 z hz x (List.mem_singleton.mpr rfl) (List.mem_singleton.mp e)
/-- a trip that has x and y side by side, taken apart there: a way over all towns from x's side to y's -/
theorem zt_cut {N : Nat} (hN : 2 ≤ N) (d : Nat → Nat → Nat) {l A B : List Nat} {x y : Nat} (hl : l ∈ zt_tr N) (e : 0 :: l = A ++ x :: y :: B) (hxy : x ≠ y) :
    ∃ M : List Nat, (y :: (M ++ [x])).length = N ∧ (y :: (M ++ [x])).Nodup ∧ (∀ z, z ∈ y :: (M ++ [x]) → z < N) ∧ zp_pl d (0 :: l) = zp_pl d (y :: (M ++ [x])) + d y x := by
  obtain ⟨m, em, hm, hx, hn⟩ := zt_tr_m hl
  obtain ⟨h, A', eX⟩ := zt_first (e := A ++ [x]) (by simp)
  obtain ⟨B', z, eY⟩ := zt_last (e := y :: B) (by simp)
  have e1 : 0 :: (m ++ [0]) = (h :: A') ++ (B' ++ [z]) := by
    rw [← eX, ← eY, ← em, e]; simp
  have e2 : (0 :: m) ++ [0] = ((h :: A') ++ B') ++ [z] := by
    rw [List.append_assoc, ← e1]; rfl
  obtain ⟨e3, ez⟩ := zt_inj e2
  have eh : h = 0 := by
    have := (List.cons.inj e3).1; exact this.symm
  have em2 : m = A' ++ B' := (List.cons.inj e3).2
  subst eh
  rw [← ez] at eY
  -- the way
  have hj1 : B' ++ 0 :: A' = y :: (B ++ A') := by
    have : B' ++ 0 :: A' = (B' ++ [0]) ++ A' := by simp
    rw [this, ← eY]; rfl
  have hj2 : B' ++ 0 :: A' = (B' ++ A) ++ [x] := by
    rw [← eX]; simp
  have hlen : (B' ++ 0 :: A').length = N := by
    have := congrArg List.length em2
    rw [List.length_append] at this
    rw [List.length_append, List.length_cons]; omega
  have hperm : (B' ++ 0 :: A').Perm (0 :: m) := by
    rw [em2]
    have p1 : (B' ++ 0 :: A').Perm ((0 :: A') ++ B') := List.perm_append_comm
    exact p1
  have hn0 : (0 :: m).Nodup := List.nodup_cons.mpr ⟨fun z => (hx 0 z).2 rfl, hn⟩
  have hnj : (B' ++ 0 :: A').Nodup := hperm.symm.nodup hn0
  have hlt : ∀ z, z ∈ B' ++ 0 :: A' → z < N := by
    intro z hz
    rcases List.mem_cons.mp (hperm.mem_iff.mp hz) with h1 | h1
    · omega
    · exact (hx z h1).1
  have hne : B ++ A' ≠ [] := by
    intro h0
    rw [hj1, h0] at hlen
    simp at hlen; omega
  obtain ⟨M, x', eM⟩ := zt_last hne
  have hx' : x' = x := by
    have : (y :: M) ++ [x'] = (B' ++ A) ++ [x] := by
      rw [← hj2, hj1, eM]; rfl
    exact (zt_inj this).2
  subst hx'
  refine ⟨M, ?_, ?_, ?_, ?_⟩
  · rw [← eM, ← hj1]; exact hlen
  · rw [← eM, ← hj1]; exact hnj
  · rw [← eM, ← hj1]; exact hlt
  · rw [← eM, ← hj1, e, zp_split d x' (y :: B) A, zp_pl2, zp_split d 0 A' B', eX, ← eY]; omega
theorem zt_use1 {N : Nat} (hN : 2 ≤ N) {d : Nat → Nat → Nat} (hs : ∀ a b, d a b = d b a) {l : List Nat} {u v : Nat} (hl : l ∈ zt_tr N) (huv : u ≠ v) (hu : zt_us (0 :: l) u v) :
    ∃ l', l' ∈ zl_lv N v (N - 2) [u] ∧ zp_pl d (v :: l') + d u v = zp_pl d (0 :: l) := by
  obtain ⟨A, x, y, B, e, h⟩ := hu
  have hxy : x ≠ y := by rcases h with h | h <;> (rw [h.1, h.2]; first | exact huv | exact fun z => huv z.symm)
  obtain ⟨M, h1, h2, h3, h4⟩ := zt_cut hN d hl e hxy
  rcases h with ⟨rfl, rfl⟩ | ⟨rfl, rfl⟩
  · exact ⟨M ++ [x], zt_mid h1 h2 h3, by rw [h4, hs x y]⟩
  · have er : (y :: (M ++ [x])).reverse = x :: (M.reverse ++ [y]) := by simp
    refine ⟨M.reverse ++ [y], zt_mid ?_ ?_ ?_, ?_⟩
    · rw [← er, List.length_reverse]; exact h1
    · rw [← er]; exact (List.reverse_perm _).symm.nodup h2
    · rw [← er]; intro z hz; exact h3 z (List.mem_reverse.mp hz)
    · rw [← er, zp_rev d hs, h4]
theorem zt_use2 {N : Nat} (hN : 2 ≤ N) {d : Nat → Nat → Nat} (hs : ∀ a b, d a b = d b a) {l' : List Nat} {u v : Nat} (huN : u < N) (hvN : v < N) (huv : u ≠ v) (hl : l' ∈ zl_lv N v (N - 2) [u]) :
    ∃ l, l ∈ zt_tr N ∧ zt_us (0 :: l) u v ∧ zp_pl d (v :: l') + d u v = zp_pl d (0 :: l) := by
  obtain ⟨m, e, hm, hx, hn⟩ := zl_lv_m _ _ _ hl
  have hj : (v :: l').Nodup := by
    rw [e, List.nodup_cons, List.nodup_append]
    refine ⟨fun h => ?_, hn, by simp, fun a ha b hb eab => ?_⟩
    · rcases List.mem_append.mp h with h | h
      · exact (zl_fr_t.mp (hx v h).2).1 rfl
      · exact huv (List.mem_singleton.mp h).symm
    · rw [eab] at ha
      exact (zl_fr_t.mp (hx b ha).2).2 hb
  have hlt : ∀ z, z ∈ v :: l' → z < N := by
    intro z hz
    rw [e] at hz
    rcases List.mem_cons.mp hz with h | h
    · rw [h]; exact hvN
    · rcases List.mem_append.mp h with h | h
      · exact (hx z h).1
      · rw [List.mem_singleton.mp h]; exact huN
  have hlen : (v :: l').length = N := by rw [e]; simp; omega
  have h0 : 0 ∈ v :: l' := by
    refine zl_cov (N := N) (r := N) (S := fun _ => true) hj (fun z hz => ⟨hlt z hz, rfl⟩) hlen ?_ 0 (by omega) rfl
    have : ∀ n, zl_ct (fun _ => true) n = n := by
      intro n
      induction n with
      | zero => rfl
      | succ n ih => rw [zl_ct_s, ih]; rfl
    exact this N
  obtain ⟨B', A', ej⟩ := List.append_of_mem h0
  obtain ⟨A, x, eX⟩ := zt_last (e := 0 :: A') (by simp)
  obtain ⟨y, B, eY⟩ := zt_first (e := B' ++ [0]) (by simp)
  have hxu : x = u := by
    have : (v :: m) ++ [u] = (B' ++ A) ++ [x] := by
      rw [List.append_assoc, ← eX, ← ej, e]; rfl
    exact (zt_inj this).2.symm
  have hyv : y = v := by
    have : v :: l' = y :: (B ++ A') := by
      have h1 : B' ++ 0 :: A' = (B' ++ [0]) ++ A' := by simp
      rw [ej, h1, eY]; rfl
    exact (List.cons.inj this).1.symm
  subst hxu; subst hyv
  have hperm : (B' ++ 0 :: A').Perm ((0 :: A') ++ B') := List.perm_append_comm
  have hnp : (0 :: (A' ++ B')).Nodup := hperm.nodup (ej ▸ hj)
  have hn1 := List.nodup_cons.mp hnp
  refine ⟨(A' ++ B') ++ [0], zt_tr_i ?_ (fun z hz => ⟨?_, fun ez => hn1.1 (ez ▸ hz)⟩) hn1.2, ⟨A, x, y, B, ?_, Or.inl ⟨rfl, rfl⟩⟩, ?_⟩
  · rw [ej] at hlen
    rw [List.length_append, List.length_cons] at hlen
    rw [List.length_append]; omega
  · refine hlt z ?_
    rw [ej]
    exact hperm.mem_iff.mpr (List.mem_cons_of_mem _ hz)
  · have : 0 :: ((A' ++ B') ++ [0]) = (0 :: A') ++ (B' ++ [0]) := by simp
    rw [this, eX, eY]; simp
  · have : 0 :: ((A' ++ B') ++ [0]) = (0 :: A') ++ (B' ++ [0]) := by simp
    have h2 : A ++ [x] ++ y :: B = A ++ x :: y :: B := by simp
    rw [this, ej, zp_split d 0 A' B', eX, eY, h2, zp_split d x (y :: B) A, zp_pl2, hs x y]; omega
theorem zt_av {d d' : Nat → Nat → Nat} {u v : Nat} (hd : ∀ a b, ¬ ((a = u ∧ b = v) ∨ (a = v ∧ b = u)) → d' a b = d a b) : ∀ e : List Nat, ¬ zt_us e u v → zp_pl d' e = zp_pl d e := by
  intro e
  induction e with
  | nil => intro _; rfl
  | cons b l ih =>
    intro h
    cases l with
    | nil => rfl
    | cons a l =>
      rw [zp_pl2, zp_pl2, ih (fun ⟨A, x, y, B, e1, e2⟩ => h ⟨b :: A, x, y, B, by rw [e1]; rfl, e2⟩), hd a b (fun z => h ⟨[], b, a, l, rfl, ?_⟩)]
      rcases z with z | z
      · exact Or.inr ⟨z.2, z.1⟩
      · exact Or.inl ⟨z.2, z.1⟩
theorem zt_far {d' : Nat → Nat → Nat} {u v F : Nat} (h1 : d' u v = F) (h2 : d' v u = F) {e : List Nat} (h : zt_us e u v) : F ≤ zp_pl d' e := by
  obtain ⟨A, x, y, B, e1, h⟩ := h
  rw [e1, zp_split d' x (y :: B) A, zp_pl2]
  rcases h with ⟨rfl, rfl⟩ | ⟨rfl, rfl⟩ <;> omega
theorem zt_plle {d : Nat → Nat → Nat} {N F : Nat} (hd : ∀ a b, a < N → b < N → d a b ≤ F) : ∀ e : List Nat, (∀ x, x ∈ e → x < N) → zp_pl d e ≤ F * (e.length - 1) := by
  intro e
  induction e with
  | nil => intro _; exact Nat.zero_le _
  | cons b l ih =>
    intro h
    cases l with
    | nil => exact Nat.zero_le _
    | cons a l =>
      have h1 := ih fun x hx => h x (List.mem_cons_of_mem _ hx)
      have h2 := hd a b (h a (List.mem_cons_of_mem _ List.mem_cons_self)) (h b List.mem_cons_self)
      rw [zp_pl2]
      simp only [List.length_cons, Nat.add_sub_cancel] at h1 ⊢
      have : F * (l.length + 1) = F * l.length + F := Nat.mul_succ F l.length
      omega
/-- side by side, by places -/
theorem zt_us_i {e : List Nat} {u v i : Nat} (hi : i + 1 < e.length) (h : (e.getD i 0 = u ∧ e.getD (i + 1) 0 = v) ∨ (e.getD i 0 = v ∧ e.getD (i + 1) 0 = u)) : zt_us e u v := by
  have hi0 : i < e.length := by omega
  have e1 : e.getD i 0 = e[i] := by simp [hi0]
  have e2 : e.getD (i + 1) 0 = e[i + 1] := by simp [hi]
  refine ⟨e.take i, e[i], e[i + 1], e.drop (i + 2), ?_, ?_⟩
  · rw [← List.drop_eq_getElem_cons hi, ← List.drop_eq_getElem_cons hi0, List.take_append_drop]
  · rw [e1, e2] at h; exact h
theorem zt_us_n {e : List Nat} {u v : Nat} (h : ∀ i, i + 1 < e.length → ¬ ((e.getD i 0 = u ∧ e.getD (i + 1) 0 = v) ∨ (e.getD i 0 = v ∧ e.getD (i + 1) 0 = u))) : ¬ zt_us e u v := by
  rintro ⟨A, x, y, B, e1, h1⟩
  refine h A.length ?_ ?_
  · rw [e1]; simp
  · have ex : e.getD A.length 0 = x := by rw [e1]; simp
    have ey : e.getD (A.length + 1) 0 = y := by rw [e1]; simp
    rw [ex, ey]; exact h1
/-- trips by which each couple can be kept apart -/
def zt_ex (N : Nat) : List (List Nat) :=
  if N = 4 then [[1, 2, 3], [1, 3, 2], [2, 1, 3]]
  else if N = 5 then [[1, 2, 3, 4], [2, 4, 1, 3]]
  else if N = 6 then [[1, 2, 3, 4, 5], [2, 4, 1, 5, 3]]
  else [[1, 2, 3, 4, 5, 6], [2, 4, 6, 1, 3, 5]]
def zt_usb : List Nat → Nat → Nat → Bool
  | b :: a :: l, u, v => (decide (b = u) && decide (a = v)) || (decide (b = v) && decide (a = u)) || zt_usb (a :: l) u v
  | _, _, _ => false
theorem zt_usb_n {u v : Nat} : ∀ e : List Nat, zt_us e u v → zt_usb e u v = true := by
  intro e
  induction e with
  | nil => rintro ⟨A, x, y, B, e1, _⟩; simp at e1
  | cons b l ih =>
    rintro ⟨A, x, y, B, e1, h⟩
    cases l with
    | nil =>
      have := congrArg List.length e1
      simp at this; omega
    | cons a l =>
      cases A with
      | nil =>
        have e2 := List.cons.inj e1
        have e3 := List.cons.inj e2.2
        show ((decide (b = u) && decide (a = v)) || (decide (b = v) && decide (a = u)) || zt_usb (a :: l) u v) = true
        rw [e2.1, e3.1]
        rcases h with ⟨rfl, rfl⟩ | ⟨rfl, rfl⟩ <;> simp
      | cons c A =>
        have e2 := List.cons.inj e1
        have := ih ⟨A, x, y, B, e2.2, h⟩
        show ((decide (b = u) && decide (a = v)) || (decide (b = v) && decide (a = u)) || zt_usb (a :: l) u v) = true
        rw [this]; simp
theorem zt_ex_t : ∀ N, N < 8 → 4 ≤ N → ∀ m, m ∈ zt_ex N → m.length = N - 1 ∧ (∀ x, x ∈ m → x < N ∧ x ≠ 0) ∧ m.Nodup := by decide +kernel
theorem zt_ex_b : (List.range 8).all (fun N => (List.range 7).all fun u => (List.range 7).all fun v => decide (N < 4) || decide (u = v) || (zt_ex N).any (fun m => !zt_usb (0 :: (m ++ [0])) u v)) = true := by decide +kernel
theorem zt_ex_u {N u v : Nat} (h8 : N < 8) (h4 : 4 ≤ N) (hu : u < 7) (hv : v < 7) (huv : u ≠ v) : (zt_ex N).any (fun m => !zt_usb (0 :: (m ++ [0])) u v) = true := by
  have h1 := List.all_eq_true.mp zt_ex_b N (List.mem_range.mpr h8)
  have h2 := List.all_eq_true.mp h1 u (List.mem_range.mpr hu)
  have h3 := List.all_eq_true.mp h2 v (List.mem_range.mpr hv)
  rw [decide_eq_false (by omega : ¬ N < 4), decide_eq_false huv] at h3
  exact h3
theorem zt_avoid {N u v : Nat} (h4 : 4 ≤ N) (h7 : N ≤ 7) (hu : u < N) (hv : v < N) (huv : u ≠ v) : ∃ l, l ∈ zt_tr N ∧ ¬ zt_us (0 :: l) u v := by
  obtain ⟨m, hm, hn'⟩ := List.any_eq_true.mp (zt_ex_u (by omega) h4 (by omega) (by omega) huv)
  have hn : zt_usb (0 :: (m ++ [0])) u v = false := by
    cases e : zt_usb (0 :: (m ++ [0])) u v with
    | false => rfl
    | true => rw [e] at hn'; exact absurd hn' (by decide)
  obtain ⟨h1, h2, h3⟩ := zt_ex_t N (by omega) h4 m hm
  exact ⟨m ++ [0], zt_tr_i h1 h2 h3, fun h => by rw [zt_usb_n _ h] at hn; exact absurd hn (by decide)⟩
theorem zt_len7 : ∀ N, N < 8 → 3 ≤ N → ∀ s, s < N → (zl_lv N 0 s [0]).length ≤ 720 ∧ 0 < (zl_lv N 0 s [0]).length := by decide +kernel
end
section
/-- one round of lowering labels over steps of at most k -/
def zr_rd (N : Nat) (d : Nat → Nat → Nat) (k : Nat) (p p' : Nat → Nat) : Prop :=
  (∀ u, u < N → p' u ≤ p u) ∧ (∀ u v, u < N → v < N → u ≠ v → d u v ≤ k → p' u ≤ p v) ∧ (∀ u, u < N → ∃ v, v < N ∧ zp_cn (fun x => x < N) d k u v ∧ p' u = p v)
def zr_cl (N : Nat) (d : Nat → Nat → Nat) (k : Nat) (p : Nat → Nat) (m : Nat) : Prop :=
  ∀ x y, x < N → y < N → x ≠ y → d x y ≤ k → p x ≤ m → p y ≤ m
def zr_J (N : Nat) (d : Nat → Nat → Nat) (k r : Nat) (p : Nat → Nat) : Prop :=
  (∀ u, u < N → p u < N ∧ zp_cn (fun x => x < N) d k u (p u)) ∧ ∀ m, zr_cl N d k p m ∨ r + 1 ≤ zl_ct (fun u => decide (p u ≤ m)) N
theorem zr_J0 {N : Nat} (h0 : 0 < N) (d : Nat → Nat → Nat) (k : Nat) {p : Nat → Nat} (hp : ∀ u, u < N → p u = u) : zr_J N d k 0 p := by
  refine ⟨fun u hu => ⟨by rw [hp u hu]; exact hu, by rw [hp u hu]; exact zp_cn_r⟩, fun m => Or.inr ?_⟩
  have : 0 < zl_ct (fun u => decide (p u ≤ m)) N := zl_ct_p (v := 0) h0 (by rw [hp 0 h0]; exact decide_eq_true (Nat.zero_le _))
  omega
theorem zr_J1 {N : Nat} {d : Nat → Nat → Nat} (hs : ∀ a b, d a b = d b a) {k r : Nat} {p p' : Nat → Nat} (h : zr_J N d k r p) (hr : zr_rd N d k p p') : zr_J N d k (r + 1) p' := by
  obtain ⟨h1, h2⟩ := h
  obtain ⟨ra, rb, rc⟩ := hr
  refine ⟨fun u hu => ?_, fun m => ?_⟩
  · obtain ⟨v, hv, hc, e⟩ := rc u hu
    rw [e]
    exact ⟨(h1 v hv).1, zp_cn_t hc (h1 v hv).2⟩
  · by_cases hcl : zr_cl N d k p m
    · left
      have key : ∀ u, u < N → p' u ≤ m → p u ≤ m := by
        intro u hu hm
        obtain ⟨v, hv, hc, e⟩ := rc u hu
        have := hc (fun x => p x ≤ m) (fun x y hx hy hxy => by
          by_cases exy : x = y
          · rw [exy]
          · exact ⟨hcl x y hx hy exy hxy, hcl y x hy hx (fun z => exy z.symm) (by rw [hs y x]; exact hxy)⟩)
        exact this.mpr (by show p v ≤ m; omega)
      intro x y hx hy hxy hd hm
      have a1 := hcl x y hx hy hxy hd (key x hx hm)
      have a2 := ra y hy
      omega
    · right
      have hct : r + 1 ≤ zl_ct (fun u => decide (p u ≤ m)) N := by
        rcases h2 m with h | h
        · exact absurd h hcl
        · exact h
      have hex : ∃ x y, x < N ∧ y < N ∧ x ≠ y ∧ d x y ≤ k ∧ p x ≤ m ∧ ¬ p y ≤ m := by
        apply Classical.byContradiction
        intro hno
        apply hcl
        intro x y hx hy hxy hd hm
        apply Classical.byContradiction
        intro hy2
        exact hno ⟨x, y, hx, hy, hxy, hd, hm, hy2⟩
      obtain ⟨x, y, hx, hy, hxy, hd, hm, hy2⟩ := hex
      have a1 := rb y x hy hx (fun z => hxy z.symm) (by rw [hs y x]; exact hd)
      have hlt : zl_ct (fun u => decide (p u ≤ m)) N < zl_ct (fun u => decide (p' u ≤ m)) N := by
        refine zl_ct_lt (v := y) N (fun i hi hpi => ?_) hy ?_ ?_
        · have := of_decide_eq_true hpi
          have a2 := ra i hi
          exact decide_eq_true (by omega)
        · exact decide_eq_true (by omega)
        · exact decide_eq_false hy2
      omega
theorem zr_fin {N : Nat} {d : Nat → Nat → Nat} (hs : ∀ a b, d a b = d b a) {k : Nat} {p : Nat → Nat} (h : zr_J N d k N p) {ws : List Nat} (hf : zp_fin (fun x => x < N) d ws) : zl_ct (fun u => decide (p u = u)) N = 1 + zp_bg k ws := by
  obtain ⟨h1, h2⟩ := h
  have hcl : ∀ m, zr_cl N d k p m := by
    intro m
    rcases h2 m with h | h
    · exact h
    · have := zl_ct_le (fun u => decide (p u ≤ m)) N; omega
  have hedge : ∀ x y, x < N → y < N → d x y ≤ k → p x = p y := by
    intro x y hx hy hd
    by_cases exy : x = y
    · rw [exy]
    · have a1 := hcl (p x) x y hx hy exy hd (Nat.le_refl _)
      have a2 := hcl (p y) y x hy hx (fun z => exy z.symm) (by rw [hs y x]; exact hd) (Nat.le_refl _)
      omega
  have hcn : ∀ a b, zp_cn (fun x => x < N) d k a b → p a = p b := by
    intro a b hc
    have := (hc (fun x => p a = p x) (fun x y hx hy hd => by rw [hedge x y hx hy hd])).mp rfl
    exact this
  have hC := zl_ct_f (fun u => decide (p u = u)) N
  have hmem : ∀ x, x ∈ (List.range N).filter (fun u => decide (p u = u)) ↔ x < N ∧ p x = x := by
    intro x
    rw [List.mem_filter, List.mem_range]
    exact ⟨fun h => ⟨h.1, of_decide_eq_true h.2⟩, fun h => ⟨h.1, decide_eq_true h.2⟩⟩
  have hpw : ((List.range N).filter (fun u => decide (p u = u))).Pairwise (fun a b => ¬ zp_cn (fun x => x < N) d k a b) := by
    have hnd : ((List.range N).filter (fun u => decide (p u = u))).Nodup := List.Nodup.sublist List.filter_sublist List.nodup_range
    refine List.Pairwise.imp_of_mem ?_ hnd
    intro a b ha hb hab hc
    have e1 := ((hmem a).mp ha).2
    have e2 := ((hmem b).mp hb).2
    have e3 := hcn a b hc
    exact hab (by omega)
  obtain ⟨A, hA, hAT, hAp, hAc⟩ := hf k
  have l1 := zp_pig (zp_cn (fun x => x < N) d k) (fun _ _ => zp_cn_s) (fun _ _ _ => zp_cn_t) _ A hpw (fun a ha => by
    obtain ⟨b, hb, hc⟩ := hAc a ((hmem a).mp ha).1
    exact ⟨b, hb, zp_cn_s hc⟩)
  have l2 := zp_pig (zp_cn (fun x => x < N) d k) (fun _ _ => zp_cn_s) (fun _ _ _ => zp_cn_t) A ((List.range N).filter (fun u => decide (p u = u))) hAp (fun a ha => by
    have ha' := h1 a (hAT a ha)
    refine ⟨p a, (hmem _).mpr ⟨ha'.1, ?_⟩, ha'.2⟩
    exact (hcn a (p a) ha'.2).symm)
  omega
end
section
theorem zm_1 : ∀ i, i < 32 → bt 1 i = decide (i = 0) := by decide +kernel
/-- an int as a set of towns below N -/
def zm_ms (N : Nat) (x : Int32) (S : Nat → Bool) : Prop := ∀ i, i < 32 → bt x i = (decide (i < N) && S i)
theorem zm_pw {v i : Nat} (hv : v < 32) (hi : i < 32) : bt ((1 : Int32) <<< (nI v &&& 31)) i = decide (i = v) := by
  rw [b_shl v hv 1 hi]
  by_cases h : v ≤ i
  · rw [zm_1 (i - v) (by omega)]
    by_cases e : i = v
    · simp [e]
    · have : ¬ i - v = 0 := by omega
      simp [h, this, e]
  · have : ¬ i = v := by omega
    simp [h, this]
theorem zm_bit {N : Nat} {x : Int32} {S : Nat → Bool} (hN : N ≤ 7) (h : zm_ms N x S) {v : Nat} (hv : v < N) : ((x >>> (nI v &&& 31)) &&& 1) = 0 ↔ S v = false := by
  have e : bt ((x >>> (nI v &&& 31)) &&& 1) 0 = S v := by
    rw [b_and, zm_1 0 (by omega), b_sshr v (by omega) x (by omega : 0 < 32), if_pos (by omega), Nat.add_zero, h v (by omega)]
    simp [hv]
  constructor
  · intro h0; rw [← e, h0, b_0]
  · intro h0
    apply b_ext
    intro i hi
    by_cases e0 : i = 0
    · subst e0; rw [e, b_0]; exact h0
    · rw [b_0, b_and, zm_1 i hi]
      simp [e0]
theorem zm_clr {N : Nat} {x : Int32} {S : Nat → Bool} (hN : N ≤ 7) (h : zm_ms N x S) {v : Nat} (hv : v < N) : zm_ms N (x &&& (((1 : Int32) <<< (nI v &&& 31)) ^^^ (-1))) (fun i => S i && i != v) := by
  intro i hi
  rw [b_and, b_xor, zm_pw (by omega) hi, b_m1 i hi, h i hi]
  by_cases e : i = v
  · simp [e]
  · have e2 : (i != v) = true := bne_iff_ne.mpr e
    simp [e, e2]
theorem zm_res {N : Nat} {x : Int32} {S : Nat → Bool} (hN : N ≤ 7) (h : zm_ms N x S) {v : Nat} (hv : v < N) (hS : S v = true) : (x &&& (((1 : Int32) <<< (nI v &&& 31)) ^^^ (-1))) ||| ((1 : Int32) <<< (nI v &&& 31)) = x := by
  apply b_ext
  intro i hi
  rw [b_or, b_and, b_xor, zm_pw (by omega) hi, b_m1 i hi]
  by_cases e : i = v
  · subst e
    have h1 := h i hi
    rw [hS] at h1
    simp [hv] at h1
    simp [h1]
  · simp [e]
theorem zm_zero {N : Nat} {x : Int32} {S : Nat → Bool} (hN : N ≤ 7) (h : zm_ms N x S) : x = 0 ↔ ∀ i, i < N → S i = false := by
  constructor
  · intro e i hi
    have h1 := h i (by omega)
    rw [e, b_0] at h1
    simp [hi] at h1
    exact h1
  · intro hS
    apply b_ext
    intro i hi
    rw [h i hi, b_0]
    by_cases e : i < N
    · rw [hS i e]; simp
    · simp [e]
theorem zm_full0 : ∀ N, N < 8 → ∀ i, i < 32 → bt (((1 : Int32) <<< (nI N &&& 31)) - 1) i = decide (i < N) := by decide +kernel
theorem zm_full {N : Nat} (hN : N ≤ 7) : zm_ms N (((1 : Int32) <<< (nI N &&& 31)) - 1) (fun _ => true) := by
  intro i hi
  rw [zm_full0 N (by omega) i hi]; simp
theorem zm_cg {N : Nat} {x : Int32} {S S' : Nat → Bool} (h : zm_ms N x S) (e : ∀ i, i < N → S i = S' i) : zm_ms N x S' := by
  intro i hi
  rw [h i hi]
  by_cases hN : i < N
  · rw [e i hN]
  · simp [hN]
theorem zx_ix (a b : Nat) : (7 : Int32) * nI a + nI b = nI (7 * a + b) := by
  show nI 7 * nI a + nI b = _
  rw [pk_mul, nI_add]
theorem zx_rd (f : Nat → Int32) {a b : Nat} (ha : a < 1000000) (hb : b < 1000000) : f ((7 : Int32) * nI a + nI b).toNatClampNeg = f (7 * a + b) := by
  rw [zx_ix, nI_clamp (by omega)]
theorem zx_r1 (f : Nat → Int32) {a : Nat} (ha : a < 2 ^ 31) : f (nI a).toNatClampNeg = f a := by rw [nI_clamp ha]
theorem zx_in {a b : Nat} (ha : a < 7) (hb : b < 7) : vp_in ((7 : Int32) * nI a + nI b) 49 := by
  rw [zx_ix]; exact vp_in_nI (by omega) (by omega)
theorem zx_us {f g : Nat → Int32} {i : Nat} {x : Int32} (h : ∀ j, j < i → f j = g j) (hx : x = g i) : ∀ j, j < i + 1 → upd f i x j = g j := by
  intro j hj
  by_cases e : j = i
  · rw [e, pk_us, hx]
  · rw [pk_un e]; exact h j (by omega)
def zp_mx : List Nat → Nat
  | [] => 0
  | w :: ws => if zp_mx ws < w then w else zp_mx ws
theorem zp_mx_c (w : Nat) (ws : List Nat) : zp_mx (w :: ws) = if zp_mx ws < w then w else zp_mx ws := rfl
theorem zp_mx_le {F : Nat} : ∀ ws : List Nat, (∀ w, w ∈ ws → w ≤ F) → zp_mx ws ≤ F := by
  intro ws
  induction ws with
  | nil => intro _; exact Nat.zero_le _
  | cons w ws ih =>
    intro h
    have h1 := ih fun x hx => h x (List.mem_cons_of_mem _ hx)
    have h2 := h w List.mem_cons_self
    rw [zp_mx_c]
    by_cases e : zp_mx ws < w
    · rw [if_pos e]; exact h2
    · rw [if_neg e]; exact h1
theorem zp_mx_bg (k : Nat) : ∀ ws : List Nat, zp_bg k ws = 0 ↔ zp_mx ws ≤ k := by
  intro ws
  induction ws with
  | nil => exact ⟨fun _ => Nat.zero_le _, fun _ => rfl⟩
  | cons w ws ih =>
    rw [zp_bg_c, zp_mx_c]
    by_cases h1 : k < w
    · rw [if_pos h1]
      by_cases e : zp_mx ws < w
      · rw [if_pos e]; omega
      · rw [if_neg e]; omega
    · rw [if_neg h1]
      by_cases e : zp_mx ws < w
      · rw [if_pos e]
        constructor
        · intro _; omega
        · intro _
          have := ih.mpr (by omega); omega
      · rw [if_neg e]
        constructor
        · intro h; exact ih.mp (by omega)
        · intro h; have := ih.mpr h; omega
theorem zp_sum_le {F : Nat} : ∀ ws : List Nat, (∀ w, w ∈ ws → w ≤ F) → ws.sum ≤ F * ws.length := by
  intro ws
  induction ws with
  | nil => intro _; exact Nat.zero_le _
  | cons w ws ih =>
    intro h
    have h1 := ih fun x hx => h x (List.mem_cons_of_mem _ hx)
    have h2 := h w List.mem_cons_self
    rw [List.sum_cons, List.length_cons, Nat.mul_succ]; omega
end
section
section
variable {tc go be bc : Int32} {len pr pa la nt bp ne : Nat → Int32}
theorem zx_lp : ∀ (m i : Nat) (pr : Nat → Int32), i + m = 49 → (∀ j, j < i → pr j = len j) → ∃ pr' : Nat → Int32, (∀ j, j < 49 → pr' j = len j) ∧ ∀ (post : SX → Prop) (n : Nat), m < n → post (tc, go, be, bc, len, pr', pa, la, nt, bp, ne) → wX_loadPrices_2 post tc go be bc n (nI i) len pr pa la nt bp ne := by
  intro m
  induction m with
  | zero =>
    intro i pr hi hj
    refine ⟨pr, fun j h => hj j (by omega), fun post n hn hp => ?_⟩
    obtain ⟨n, rfl⟩ : ∃ n', n = n' + 1 := ⟨n - 1, by omega⟩
    exact br_t (nI_le (a := 49) (by omega) (by omega)) hp
  | succ m ih =>
    intro i pr hi hj
    obtain ⟨pr', h1, h2⟩ := ih (i + 1) (upd pr i (len i)) (by omega) (zx_us hj rfl)
    refine ⟨pr', h1, fun post n hn hp => ?_⟩
    obtain ⟨n, rfl⟩ : ∃ n', n = n' + 1 := ⟨n - 1, by omega⟩
    refine br_f (nI_ge (b := 49) (by omega) (by omega)) ⟨vp_in_nI (by omega) (by omega), vp_in_nI (by omega) (by omega), fun a ea y ey => ?_⟩
    rw [nI_clamp (by omega)] at ea
    rw [ea, ey, nI_1]
    exact h2 post n (by omega) hp
theorem zx_load : ∃ pr' : Nat → Int32, (∀ j, j < 49 → pr' j = len j) ∧ ∀ (post : SX → Prop), post (tc, go, be, bc, len, pr', pa, la, nt, bp, ne) → wpX_loadPrices post (tc, go, be, bc, len, pr, pa, la, nt, bp, ne) := by
  obtain ⟨pr', h1, h2⟩ := zx_lp (tc := tc) (go := go) (be := be) (bc := bc) (len := len) (pa := pa) (la := la) (nt := nt) (bp := bp) (ne := ne) 49 0 pr rfl (fun j hj => absurd hj (by omega))
  exact ⟨pr', h1, fun post hp => ⟨50, h2 post 50 (by omega) hp⟩⟩
theorem zx_no {N : Nat} (hN : N ≤ 7) {x1 : Int32} {R : Nat → Bool} (hR : zm_ms N x1 R) {near : Nat → Nat} (hb : ∀ v, v < N → near v ≤ 10000) (hne : ∀ v, v < N → ne v = nI (near v)) (hex : ∃ x, x < N ∧ R x = true) :
    ∀ (m i : Nat) (x2 : Int32), i + m = N → ((x2 = -1 ∧ ∀ j, j < i → R j = false) ∨ ∃ v, v < i ∧ x2 = nI v ∧ R v = true ∧ ∀ j, j < i → R j = true → near v ≤ near j) →
    ∃ v, v < N ∧ R v = true ∧ (∀ j, j < N → R j = true → near v ≤ near j) ∧ ∀ (post : Int32 → Prop) (n : Nat), m < n → post (nI v) → wX_nearestOf_4 post x1 (nI N) go be bc len pr pa la nt bp ne n x2 (nI i) := by
  intro m
  induction m with
  | zero =>
    intro i x2 hi hI
    have e : i = N := by omega
    subst e
    rcases hI with ⟨_, hno⟩ | ⟨v, hv, rfl, hRv, hmin⟩
    · obtain ⟨x, hx, hxR⟩ := hex
      rw [hno x hx] at hxR; exact absurd hxR (by decide)
    · refine ⟨v, hv, hRv, hmin, fun post n hn hp => ?_⟩
      obtain ⟨n, rfl⟩ : ∃ n', n = n' + 1 := ⟨n - 1, by omega⟩
      exact br_t (nI_le (Nat.le_refl _) (by omega)) hp
  | succ m ih =>
    intro i x2 hi hI
    have hge : ¬ nI N ≤ nI i := nI_ge (by omega) (by omega)
    cases hRi : R i with
    | false =>
      obtain ⟨v, h1, h2, h3, h4⟩ := ih (i + 1) x2 (by omega) (by
        rcases hI with ⟨e, hno⟩ | ⟨v, hv, e, hRv, hmin⟩
        · refine Or.inl ⟨e, fun j hj => ?_⟩
          by_cases ej : j = i
          · rw [ej]; exact hRi
          · exact hno j (by omega)
        · refine Or.inr ⟨v, by omega, e, hRv, fun j hj hRj => ?_⟩
          by_cases ej : j = i
          · rw [ej, hRi] at hRj; exact absurd hRj (by decide)
          · exact hmin j (by omega) hRj)
      refine ⟨v, h1, h2, h3, fun post n hn hp => ?_⟩
      obtain ⟨n, rfl⟩ : ∃ n', n = n' + 1 := ⟨n - 1, by omega⟩
      exact br_f hge (br_t ((zm_bit hN hR (by omega)).mpr hRi) (nm_r (nI_1 i) (h4 post n (by omega) hp)))
    | true =>
      have hbit : ¬ ((x1 >>> (nI i &&& 31)) &&& 1) = 0 := fun z => by
        rw [(zm_bit hN hR (by omega)).mp z] at hRi; exact absurd hRi (by decide)
      rcases hI with ⟨rfl, hno⟩ | ⟨v0, hv0, rfl, hRv, hmin⟩
      · obtain ⟨v, h1, h2, h3, h4⟩ := ih (i + 1) (nI i) (by omega) (Or.inr ⟨i, by omega, rfl, hRi, fun j hj hRj => by
          by_cases ej : j = i
          · rw [ej]; exact Nat.le_refl _
          · rw [hno j (by omega)] at hRj; exact absurd hRj (by decide)⟩)
        refine ⟨v, h1, h2, h3, fun post n hn hp => ?_⟩
        obtain ⟨n, rfl⟩ : ∃ n', n = n' + 1 := ⟨n - 1, by omega⟩
        exact br_f hge (br_f hbit (br_t (by decide) (nm_r (nI_1 i) (h4 post n (by omega) hp))))
      · have c1 : ne (nI v0).toNatClampNeg = nI (near v0) := by rw [nI_clamp (by omega)]; exact hne v0 (by omega)
        have c2 : ne (nI i).toNatClampNeg = nI (near i) := by rw [nI_clamp (by omega)]; exact hne i (by omega)
        have b1 := hb v0 (by omega)
        have b2 := hb i (by omega)
        by_cases hle : near v0 ≤ near i
        · obtain ⟨v, h1, h2, h3, h4⟩ := ih (i + 1) (nI v0) (by omega) (Or.inr ⟨v0, by omega, rfl, hRv, fun j hj hRj => by
            by_cases ej : j = i
            · rw [ej]; exact hle
            · exact hmin j (by omega) hRj⟩)
          refine ⟨v, h1, h2, h3, fun post n hn hp => ?_⟩
          obtain ⟨n, rfl⟩ : ∃ n', n = n' + 1 := ⟨n - 1, by omega⟩
          exact br_f hge (br_f hbit (br_f (nI_pos (by omega)) ⟨vp_in_nI (by omega) (by omega), vp_in_nI (by omega) (by omega), br_t (by rw [c1, c2]; exact nI_le hle (by omega)) (nm_r (nI_1 i) (h4 post n (by omega) hp))⟩))
        · obtain ⟨v, h1, h2, h3, h4⟩ := ih (i + 1) (nI i) (by omega) (Or.inr ⟨i, by omega, rfl, hRi, fun j hj hRj => by
            by_cases ej : j = i
            · rw [ej]; exact Nat.le_refl _
            · have := hmin j (by omega) hRj; omega⟩)
          refine ⟨v, h1, h2, h3, fun post n hn hp => ?_⟩
          obtain ⟨n, rfl⟩ : ∃ n', n = n' + 1 := ⟨n - 1, by omega⟩
          exact br_f hge (br_f hbit (br_f (nI_pos (by omega)) ⟨vp_in_nI (by omega) (by omega), vp_in_nI (by omega) (by omega), br_f (by rw [c1, c2]; exact nI_ge (by omega) (by omega)) (nm_r (nI_1 i) (h4 post n (by omega) hp))⟩))
theorem zx_near {N : Nat} (hN : N ≤ 7) {x1 : Int32} {R : Nat → Bool} (hR : zm_ms N x1 R) {near : Nat → Nat} (hb : ∀ v, v < N → near v ≤ 10000) (hne : ∀ v, v < N → ne v = nI (near v)) (hex : ∃ x, x < N ∧ R x = true) :
    ∃ v, v < N ∧ R v = true ∧ (∀ j, j < N → R j = true → near v ≤ near j) ∧ ∀ (post : Int32 → Prop), post (nI v) → wpX_nearestOf post (nI N, go, be, bc, len, pr, pa, la, nt, bp, ne) x1 := by
  obtain ⟨v, h1, h2, h3, h4⟩ := zx_no (go := go) (be := be) (bc := bc) (len := len) (pr := pr) (pa := pa) (la := la) (nt := nt) (bp := bp) (ne := ne) hN hR hb hne hex N 0 (-1) (by omega) (Or.inl ⟨rfl, fun j hj => absurd hj (by omega)⟩)
  exact ⟨v, h1, h2, h3, fun post hp => ⟨N + 1, h4 post (N + 1) (by omega) hp⟩⟩
theorem zx_g112 {N a : Nat} (hN : N ≤ 7) (ha : a < N) {d : Nat → Nat → Nat} (hd : ∀ x y, d x y ≤ 10000) (hpr : ∀ i j, i < 7 → j < 7 → pr (7 * i + j) = nI (d i j)) {near : Nat → Nat} (hb : ∀ v, v < N → near v ≤ 10000) :
    ∀ (m i : Nat) (ne : Nat → Int32), i + m = N → (∀ j, j < N → ne j = nI (if j < i then (if d a j < near j then d a j else near j) else near j)) →
    ∃ ne' : Nat → Int32, (∀ j, j < N → ne' j = nI (if d a j < near j then d a j else near j)) ∧ ∀ (post : Int32 → SX → Prop) (J : Int32 → Int32 → Int32 → (Nat → Int32) → (Nat → Int32) → (Nat → Int32) → (Nat → Int32) → (Nat → Int32) → (Nat → Int32) → (Nat → Int32) → Prop) (x3 x4 x5 x6 : Int32) (n : Nat), m < n → J x4 x5 x6 len pr pa la nt bp ne' → wX_growNet_112 post J x3 x4 x5 x6 (nI a) (nI N) go be bc n (nI i) len pr pa la nt bp ne := by
  intro m
  induction m with
  | zero =>
    intro i ne hi hI
    refine ⟨ne, fun j hj => ?_, fun post J x3 x4 x5 x6 n hn hp => ?_⟩
    · rw [hI j hj, if_pos (by omega)]
    · obtain ⟨n, rfl⟩ : ∃ n', n = n' + 1 := ⟨n - 1, by omega⟩
      exact br_t (nI_le (by omega) (by omega)) hp
  | succ m ih =>
    intro i ne hi hI
    have hge : ¬ nI N ≤ nI i := nI_ge (by omega) (by omega)
    have c1 : ne (nI i).toNatClampNeg = nI (near i) := by rw [nI_clamp (by omega), hI i (by omega), if_neg (by omega)]
    have c2 : pr ((7 : Int32) * nI a + nI i).toNatClampNeg = nI (d a i) := by rw [zx_rd pr (by omega) (by omega)]; exact hpr a i (by omega) (by omega)
    have b1 := hb i (by omega)
    have b2 := hd a i
    have i1 : vp_in ((7 : Int32) * nI a + nI i) 49 := zx_in (by omega) (by omega)
    have i2 : vp_in (nI i) 7 := vp_in_nI (by omega) (by omega)
    by_cases hlt : d a i < near i
    · obtain ⟨ne', h1, h2⟩ := ih (i + 1) (upd ne i (nI (d a i))) (by omega) (fun j hj => by
        by_cases ej : j = i
        · rw [ej, pk_us, if_pos (by omega), if_pos hlt]
        · rw [pk_un ej, hI j hj]
          by_cases ej2 : j < i
          · rw [if_pos ej2, if_pos (by omega : j < i + 1)]
          · rw [if_neg ej2, if_neg (by omega : ¬ j < i + 1)])
      refine ⟨ne', h1, fun post J x3 x4 x5 x6 n hn hp => ?_⟩
      obtain ⟨n, rfl⟩ : ∃ n', n = n' + 1 := ⟨n - 1, by omega⟩
      refine br_f hge ⟨i1, i2, br_f (by rw [c1, c2]; exact nI_ge (by omega) (by omega)) ⟨i1, i2, fun q eq => nm_r (nI_1 i) ?_⟩⟩
      rw [c2, nI_clamp (by omega)] at eq
      rw [eq]
      exact h2 post J x3 x4 x5 x6 n (by omega) hp
    · obtain ⟨ne', h1, h2⟩ := ih (i + 1) ne (by omega) (fun j hj => by
        rw [hI j hj]
        by_cases ej : j = i
        · rw [ej, if_neg (by omega), if_pos (by omega), if_neg hlt]
        · by_cases ej2 : j < i
          · rw [if_pos ej2, if_pos (by omega : j < i + 1)]
          · rw [if_neg ej2, if_neg (by omega : ¬ j < i + 1)])
      refine ⟨ne', h1, fun post J x3 x4 x5 x6 n hn hp => ?_⟩
      obtain ⟨n, rfl⟩ : ∃ n', n = n' + 1 := ⟨n - 1, by omega⟩
      exact br_f hge ⟨i1, i2, br_t (by rw [c1, c2]; exact nI_le (by omega) (by omega)) (nm_r (nI_1 i) (h2 post J x3 x4 x5 x6 n (by omega) hp))⟩
theorem zx_g52 {N : Nat} (hN : N ≤ 7) {d : Nat → Nat → Nat} (hs : ∀ a b, d a b = d b a) (hd : ∀ x y, d x y ≤ 10000) (hpr : ∀ i j, i < 7 → j < 7 → pr (7 * i + j) = nI (d i j)) {T : Nat → Prop} (hT : ∀ v, T v → v < N) :
    ∀ (c : Nat) (R : Nat → Bool) (x4 : Int32) (I : Nat → Prop) (near : Nat → Nat) (ws : List Nat) (ne : Nat → Int32), zl_ct R N = c → zm_ms N x4 R → (∀ v, v < N → (R v = true ↔ T v ∧ ¬ I v)) → zp_inv T d I near ws → (∀ v, v < N → near v ≤ 10000) → (∀ v, v < N → ne v = nI (near v)) → (∀ w, w ∈ ws → w ≤ 10000) → ws.length + c ≤ 7 →
    ∃ (ws' : List Nat) (ne' : Nat → Int32), zp_fin T d ws' ∧ (∀ w, w ∈ ws' → w ∈ ws ∨ ∃ a b, w = d a b) ∧ ws'.length ≤ 7 ∧ ∀ (post : Int32 → SX → Prop) (x3 : Int32) (n : Nat), c < n → post (if x3 = 0 then nI ws'.sum else nI (zp_mx ws')) (nI N, go, be, bc, len, pr, pa, la, nt, bp, ne') → wX_growNet_52 post x3 (nI N) go be bc n x4 (nI ws.sum) (nI (zp_mx ws)) len pr pa la nt bp ne := by
  intro c
  induction c with
  | zero =>
    intro R x4 I near ws ne hc hx hR hinv hb hne hw hl
    have h0 := zl_ct_0 hc
    have hI : ∀ x, T x → I x := by
      intro x hTx
      apply Classical.byContradiction
      intro hnI
      have := (hR x (hT x hTx)).mpr ⟨hTx, hnI⟩
      rw [h0 x (hT x hTx)] at this
      exact absurd this (by decide)
    refine ⟨ws, ne, zp_inv_fin hinv hI, fun w h => Or.inl h, by omega, fun post x3 n hn hp => ?_⟩
    obtain ⟨n, rfl⟩ : ∃ n', n = n' + 1 := ⟨n - 1, by omega⟩
    exact br_t ((zm_zero hN hx).mpr h0) (br_c (fun h => by rw [if_pos h] at hp; exact hp) (fun h => by rw [if_neg h] at hp; exact hp))
  | succ c ih =>
    intro R x4 I near ws ne hc hx hR hinv hb hne hw hl
    have hex : ∃ x, x < N ∧ R x = true := by
      apply Classical.byContradiction
      intro hno
      have h1 : zl_ct R N = zl_ct (fun _ => false) N := zl_ct_eq N fun i hi => by
        cases e : R i with
        | false => rfl
        | true => exact absurd ⟨i, hi, e⟩ hno
      have h2 : ∀ k, zl_ct (fun _ => false) k = 0 := by
        intro k
        induction k with
        | zero => rfl
        | succ k ihk => rw [zl_ct_s, ihk]; rfl
      rw [h2] at h1; omega
    have hx0 : ¬ x4 = 0 := by
      intro z
      obtain ⟨x, hxN, hxR⟩ := hex
      rw [(zm_zero hN hx).mp z x hxN] at hxR
      exact absurd hxR (by decide)
    obtain ⟨v, hv, hRv, hmin, hwp⟩ := zx_near (go := go) (be := be) (bc := bc) (len := len) (pr := pr) (pa := pa) (la := la) (nt := nt) (bp := bp) (ne := ne) hN hx hb hne hex
    have hTv := (hR v hv).mp hRv
    have hinv' := zp_inv1 (near' := fun x => if d v x < near x then d v x else near x) (fun a b _ _ => hs a b) hinv hTv.1 hTv.2 (fun x hTx hIx => hmin x (hT x hTx) ((hR x (hT x hTx)).mpr ⟨hTx, hIx⟩)) (fun _ _ => rfl)
    obtain ⟨ne1, hn1, hg⟩ := zx_g112 (go := go) (be := be) (bc := bc) (len := len) (pr := pr) (pa := pa) (la := la) (nt := nt) (bp := bp) hN hv hd hpr hb N 0 ne (by omega) (fun j hj => by rw [if_neg (by omega)]; exact hne j hj)
    have hwv : ∃ a b, near v = d a b := by
      obtain ⟨⟨i, _, ei⟩, _⟩ := hinv.2.1 v hTv.1 hTv.2
      exact ⟨i, v, ei⟩
    have hbv := hb v hv
    obtain ⟨ws', ne', h1, h2, h3, h4⟩ := ih (fun i => R i && i != v) (x4 &&& (((1 : Int32) <<< (nI v &&& 31)) ^^^ (-1))) (fun x => I x ∨ x = v) (fun x => if d v x < near x then d v x else near x) (near v :: ws) ne1
      (by have := zl_ct_clr N hv hRv; omega) (zm_clr hN hx hv)
      (fun x hxN => by
        rw [Bool.and_eq_true, hR x hxN]
        constructor
        · rintro ⟨⟨a1, a2⟩, a3⟩
          refine ⟨a1, fun z => ?_⟩
          rcases z with z | z
          · exact a2 z
          · rw [z] at a3; simp at a3
        · rintro ⟨a1, a2⟩
          exact ⟨⟨a1, fun z => a2 (Or.inl z)⟩, by simp; exact fun z => a2 (Or.inr z)⟩)
      hinv'
      (fun x hxN => by
        have b1 := hb x hxN
        have b2 := hd v x
        show (if d v x < near x then d v x else near x) ≤ 10000
        by_cases e : d v x < near x
        · rw [if_pos e]; exact b2
        · rw [if_neg e]; exact b1)
      hn1
      (fun w hwm => by
        rcases List.mem_cons.mp hwm with h | h
        · rw [h]; exact hbv
        · exact hw w h)
      (by rw [List.length_cons]; omega)
    refine ⟨ws', ne', h1, fun w hwm => ?_, h3, fun post x3 n hn hp => ?_⟩
    · rcases h2 w hwm with h | h
      · rcases List.mem_cons.mp h with h | h
        · right; rw [h]; exact hwv
        · exact Or.inl h
      · exact Or.inr h
    · obtain ⟨n, rfl⟩ : ∃ n', n = n' + 1 := ⟨n - 1, by omega⟩
      have K : wX_growNet_98 post (wX_growNet_52 post x3 (nI N) go be bc n) x3 x4 (nI (near v :: ws).sum) (nI (zp_mx (near v :: ws))) (nI v) (nI N) go be bc len pr pa la nt bp ne :=
        fun y ey => ⟨N + 1, by
          rw [ey]
          exact hg post (wX_growNet_52 post x3 (nI N) go be bc n) x3 _ _ _ (N + 1) (by omega) (h4 post x3 n (by omega) hp)⟩
      have c1 : ne (nI v).toNatClampNeg = nI (near v) := by rw [nI_clamp (by omega)]; exact hne v hv
      have c3 : nI ws.sum + ne (nI v).toNatClampNeg = nI (near v :: ws).sum := by
        rw [c1, nI_add, List.sum_cons, Nat.add_comm]
      have i2 : vp_in (nI v) 7 := vp_in_nI (by omega) (by omega)
      have hmx := zp_mx_le ws hw
      refine br_f hx0 (hwp _ ⟨i2, nm_r c3 ⟨i2, ?_⟩⟩)
      by_cases hle : near v ≤ zp_mx ws
      · have em : zp_mx (near v :: ws) = zp_mx ws := by rw [zp_mx_c, if_neg (by omega)]
        rw [em] at K
        exact br_t (by rw [c1]; exact nI_le hle (by omega)) K
      · have em : zp_mx (near v :: ws) = near v := by rw [zp_mx_c, if_pos (by omega)]
        rw [em] at K
        exact br_f (by rw [c1]; exact nI_ge (by omega) (by omega)) ⟨i2, nm_r c1 K⟩
theorem zx_g18 {N f : Nat} (hN : N ≤ 7) (hf : f < N) {d : Nat → Nat → Nat} (hpr : ∀ i j, i < 7 → j < 7 → pr (7 * i + j) = nI (d i j)) :
    ∀ (m i : Nat) (ne : Nat → Int32), i + m = N → (∀ j, j < i → ne j = nI (d f j)) →
    ∃ ne' : Nat → Int32, (∀ j, j < N → ne' j = nI (d f j)) ∧ ∀ (post : Int32 → SX → Prop) (x3 x4 x5 x6 : Int32) (n : Nat), m < n → (∃ n52 : Nat, wX_growNet_52 post x3 (nI N) go be bc n52 x4 x5 x6 len pr pa la nt bp ne') → wX_growNet_18 post (nI f) x3 x4 x5 x6 (nI N) go be bc n (nI i) len pr pa la nt bp ne := by
  intro m
  induction m with
  | zero =>
    intro i ne hi hI
    refine ⟨ne, fun j hj => hI j (by omega), fun post x3 x4 x5 x6 n hn hp => ?_⟩
    obtain ⟨n, rfl⟩ : ∃ n', n = n' + 1 := ⟨n - 1, by omega⟩
    exact br_t (nI_le (by omega) (by omega)) hp
  | succ m ih =>
    intro i ne hi hI
    have hge : ¬ nI N ≤ nI i := nI_ge (by omega) (by omega)
    have c2 : pr ((7 : Int32) * nI f + nI i).toNatClampNeg = nI (d f i) := by rw [zx_rd pr (by omega) (by omega)]; exact hpr f i (by omega) (by omega)
    have i1 : vp_in ((7 : Int32) * nI f + nI i) 49 := zx_in (by omega) (by omega)
    have i2 : vp_in (nI i) 7 := vp_in_nI (by omega) (by omega)
    obtain ⟨ne', h1, h2⟩ := ih (i + 1) (upd ne i (nI (d f i))) (by omega) (zx_us (g := fun j => nI (d f j)) hI rfl)
    refine ⟨ne', h1, fun post x3 x4 x5 x6 n hn hp => ?_⟩
    obtain ⟨n, rfl⟩ : ∃ n', n = n' + 1 := ⟨n - 1, by omega⟩
    refine br_f hge ⟨i1, i2, fun q eq => nm_r (nI_1 i) ?_⟩
    rw [c2, nI_clamp (by omega)] at eq
    rw [eq]
    exact h2 post x3 x4 x5 x6 n (by omega) hp
theorem zx_grow {N f : Nat} (hN : N ≤ 7) (hf : f < N) {d : Nat → Nat → Nat} (hs : ∀ a b, d a b = d b a) (hd : ∀ x y, d x y ≤ 10000) (hpr : ∀ i j, i < 7 → j < 7 → pr (7 * i + j) = nI (d i j)) {S : Nat → Bool} {x : Int32} (hx : zm_ms N x S) (hS : S f = true) :
    ∃ (ws : List Nat) (ne' : Nat → Int32), zp_fin (fun v => v < N ∧ S v = true) d ws ∧ (∀ w, w ∈ ws → ∃ a b, w = d a b) ∧ ws.length ≤ 7 ∧ ∀ (post : Int32 → SX → Prop) (x3 : Int32), post (if x3 = 0 then nI ws.sum else nI (zp_mx ws)) (nI N, go, be, bc, len, pr, pa, la, nt, bp, ne') → wpX_growNet post (nI N, go, be, bc, len, pr, pa, la, nt, bp, ne) x (nI f) x3 := by
  obtain ⟨ne1, hn1, hg⟩ := zx_g18 (go := go) (be := be) (bc := bc) (len := len) (pr := pr) (pa := pa) (la := la) (nt := nt) (bp := bp) hN hf hpr N 0 ne (by omega) (fun j hj => absurd hj (by omega))
  have hct := zl_ct_clr N hf hS
  have hct2 := zl_ct_le S N
  obtain ⟨ws, ne', h1, h2, h3, h4⟩ := zx_g52 (go := go) (be := be) (bc := bc) (len := len) (pr := pr) (pa := pa) (la := la) (nt := nt) (bp := bp) hN hs hd hpr (T := fun v => v < N ∧ S v = true) (fun v h => h.1)
    (zl_ct (fun i => S i && i != f) N) (fun i => S i && i != f) (x &&& (((1 : Int32) <<< (nI f &&& 31)) ^^^ (-1))) (fun y => y = f) (fun j => d f j) [] ne1 rfl (zm_clr hN hx hf)
    (fun v hv => by
      rw [Bool.and_eq_true]
      constructor
      · rintro ⟨a1, a2⟩
        refine ⟨⟨hv, a1⟩, fun z => ?_⟩
        rw [z] at a2; simp at a2
      · rintro ⟨⟨_, a1⟩, a2⟩
        exact ⟨a1, by simp; exact a2⟩)
    (zp_inv0 ⟨hf, hS⟩ (fun _ _ => rfl)) (fun v _ => hd f v) hn1 (fun w hw => by cases hw) (by rw [List.length_nil]; omega)
  refine ⟨ws, ne', h1, fun w hw => ?_, h3, fun post x3 hp => ?_⟩
  · rcases h2 w hw with h | h
    · cases h
    · exact h
  · intro y ey
    refine ⟨N + 1, ?_⟩
    rw [ey]
    exact hg post x3 _ _ _ (N + 1) (by omega) ⟨_, h4 post x3 (zl_ct (fun i => S i && i != f) N + 1) (by omega) hp⟩
end
end
section
section
variable {tc go be bc : Int32} {len pr pa la nt bp ne : Nat → Int32}
/-- q is no more than any way on from e over the set S to g -/
def zx_lb (N : Nat) (d : Nat → Nat → Nat) (S : Nat → Bool) (e g q : Nat) : Prop :=
  q ≤ 90000 ∧ ∀ m : List Nat, (∀ x, x ∈ m → x < N ∧ S x = true) → (∀ x, x < N → S x = true → x ∈ m) → q ≤ zp_pl d (g :: (m ++ [e]))
theorem zx_lb_net {N : Nat} {d : Nat → Nat → Nat} (hs : ∀ a b, d a b = d b a) (hd : ∀ x y, d x y ≤ 10000) {S : Nat → Bool} {e g to fr an : Nat} {ws : List Nat} (hto : to ≤ 10000) (hfr : fr ≤ 10000) (hall : ∀ j, j < N → S j = true → to ≤ d e j ∧ fr ≤ d g j) (han : an < N) (hSa : S an = true)
    (hf : zp_fin (fun v => v < N ∧ S v = true) d ws) (hw : ∀ w, w ∈ ws → ∃ a b, w = d a b) (hl : ws.length ≤ 7) : zx_lb N d S e g (to + fr + ws.sum) := by
  have h1 := zp_sum_le ws (F := 10000) (fun w h => by obtain ⟨a, b, e⟩ := hw w h; rw [e]; exact hd a b)
  refine ⟨by omega, fun m hm hc => ?_⟩
  have hne : m ≠ [] := by
    intro h0
    have := hc an han hSa
    rw [h0] at this; cases this
  have hlow := zp_low hf hne hm (fun x hx => hc x hx.1 hx.2)
  obtain ⟨a, m1, e1⟩ := zt_first hne
  obtain ⟨m2, z, e2⟩ := zt_last hne
  have ha := hm a (by rw [e1]; exact List.mem_cons_self)
  have hz := hm z (by rw [e2]; simp)
  have s1 : zp_pl d (g :: (m ++ [e])) = d a g + zp_pl d (m ++ [e]) := by
    rw [e1]; exact zp_pl2 d a g (m1 ++ [e])
  have s2 : zp_pl d (m ++ [e]) = zp_pl d m + d e z := by
    have : m ++ [e] = m2 ++ z :: [e] := by rw [e2]; simp
    rw [this, zp_split d z [e] m2, ← e2, zp_pl2, zp_pl1]; omega
  have b1 := (hall z hz.1 hz.2).1
  have b2 := (hall a ha.1 ha.2).2
  rw [s1, s2, hs a g]; omega
theorem zx_al {N e g : Nat} (hN : N ≤ 7) (he : e < N) (hg : g < N) {d : Nat → Nat → Nat} (hs : ∀ a b, d a b = d b a) (hd : ∀ x y, d x y ≤ 10000) (hpr : ∀ i j, i < 7 → j < 7 → pr (7 * i + j) = nI (d i j)) {S : Nat → Bool} {x2 : Int32} (hx : zm_ms N x2 S) (hex : ∃ j, j < N ∧ S j = true) :
    ∀ (m i to fr an : Nat), i + m = N → to ≤ 10000 → fr ≤ 10000 → (∀ j, j < i → S j = true → to ≤ d e j ∧ fr ≤ d g j) → an < N → ((∃ j, j < i ∧ S j = true) → S an = true) →
    ∃ (q : Nat) (ne' : Nat → Int32), zx_lb N d S e g q ∧ ∀ (post : Int32 → SX → Prop) (n : Nat), m < n → post (nI q) (nI N, nI g, be, bc, len, pr, pa, la, nt, bp, ne') → wX_atLeast_34 post (nI e) x2 (nI N) (nI g) be bc len pr pa la nt bp ne n (nI to) (nI fr) (nI an) (nI i) := by
  intro m
  induction m with
  | zero =>
    intro i to fr an hi hto hfr hall han hany
    have ei : i = N := by omega
    subst ei
    have hSa := hany hex
    obtain ⟨ws, ne', h1, h2, h3, h4⟩ := zx_grow (go := nI g) (be := be) (bc := bc) (len := len) (pr := pr) (pa := pa) (la := la) (nt := nt) (bp := bp) (ne := ne) hN han hs hd hpr hx hSa
    refine ⟨to + fr + ws.sum, ne', zx_lb_net hs hd hto hfr hall han hSa h1 h2 h3, fun post n hn hp => ?_⟩
    obtain ⟨n, rfl⟩ : ∃ n', n = n' + 1 := ⟨n - 1, by omega⟩
    refine br_t (nI_le (Nat.le_refl _) (by omega)) (h4 _ 0 ?_)
    show post ((nI to + nI fr) + (if (0 : Int32) = 0 then nI ws.sum else nI (zp_mx ws))) (nI i, nI g, be, bc, len, pr, pa, la, nt, bp, ne')
    rw [if_pos rfl, nI_add, nI_add]
    exact hp
  | succ m ih =>
    intro i to fr an hi hto hfr hall han hany
    have hge : ¬ nI N ≤ nI i := nI_ge (by omega) (by omega)
    cases hSi : S i with
    | false =>
      obtain ⟨q, ne', h1, h2⟩ := ih (i + 1) to fr an (by omega) hto hfr (fun j hj hSj => by
        by_cases ej : j = i
        · rw [ej, hSi] at hSj; exact absurd hSj (by decide)
        · exact hall j (by omega) hSj) han (fun ⟨j, hj, hSj⟩ => by
        by_cases ej : j = i
        · rw [ej, hSi] at hSj; exact absurd hSj (by decide)
        · exact hany ⟨j, by omega, hSj⟩)
      refine ⟨q, ne', h1, fun post n hn hp => ?_⟩
      obtain ⟨n, rfl⟩ : ∃ n', n = n' + 1 := ⟨n - 1, by omega⟩
      exact br_f hge (br_t ((zm_bit hN hx (by omega)).mpr hSi) (nm_r (nI_1 i) (h2 post n (by omega) hp)))
    | true =>
      have hbit : ¬ ((x2 >>> (nI i &&& 31)) &&& 1) = 0 := fun z => by
        rw [(zm_bit hN hx (by omega)).mp z] at hSi; exact absurd hSi (by decide)
      have c1 : pr ((7 : Int32) * nI e + nI i).toNatClampNeg = nI (d e i) := by rw [zx_rd pr (by omega) (by omega)]; exact hpr e i (by omega) (by omega)
      have c2 : pr ((7 : Int32) * nI g + nI i).toNatClampNeg = nI (d g i) := by rw [zx_rd pr (by omega) (by omega)]; exact hpr g i (by omega) (by omega)
      have i1 : vp_in ((7 : Int32) * nI e + nI i) 49 := zx_in (by omega) (by omega)
      have i2 : vp_in ((7 : Int32) * nI g + nI i) 49 := zx_in (by omega) (by omega)
      have d1 := hd e i
      have d2 := hd g i
      -- the two least ones so far
      have step : ∀ to' fr' : Nat, to' ≤ to → to' ≤ d e i → fr' ≤ fr → fr' ≤ d g i → ∃ (q : Nat) (ne' : Nat → Int32), zx_lb N d S e g q ∧ ∀ (post : Int32 → SX → Prop) (n : Nat), m < n → post (nI q) (nI N, nI g, be, bc, len, pr, pa, la, nt, bp, ne') → wX_atLeast_34 post (nI e) x2 (nI N) (nI g) be bc len pr pa la nt bp ne n (nI to') (nI fr') (nI i) (nI (i + 1)) := by
        intro to' fr' a1 a2 a3 a4
        refine ih (i + 1) to' fr' i (by omega) (by omega) (by omega) (fun j hj hSj => ?_) (by omega) (fun _ => hSi)
        by_cases ej : j = i
        · rw [ej]; exact ⟨a2, a4⟩
        · have := hall j (by omega) hSj
          exact ⟨by omega, by omega⟩
      by_cases ht : to ≤ d e i
      · by_cases hf : fr ≤ d g i
        · obtain ⟨q, ne', h1, h2⟩ := step to fr (Nat.le_refl _) ht (Nat.le_refl _) hf
          refine ⟨q, ne', h1, fun post n hn hp => ?_⟩
          obtain ⟨n, rfl⟩ : ∃ n', n = n' + 1 := ⟨n - 1, by omega⟩
          exact br_f hge (br_f hbit ⟨i1, br_t (by rw [c1]; exact nI_le ht (by omega)) ⟨i2, br_t (by rw [c2]; exact nI_le hf (by omega)) (nm_r (nI_1 i) (h2 post n (by omega) hp))⟩⟩)
        · obtain ⟨q, ne', h1, h2⟩ := step to (d g i) (Nat.le_refl _) ht (by omega) (Nat.le_refl _)
          refine ⟨q, ne', h1, fun post n hn hp => ?_⟩
          obtain ⟨n, rfl⟩ : ∃ n', n = n' + 1 := ⟨n - 1, by omega⟩
          exact br_f hge (br_f hbit ⟨i1, br_t (by rw [c1]; exact nI_le ht (by omega)) ⟨i2, br_f (by rw [c2]; exact nI_ge (by omega) (by omega)) ⟨i2, nm_r c2 (nm_r (nI_1 i) (h2 post n (by omega) hp))⟩⟩⟩)
      · by_cases hf : fr ≤ d g i
        · obtain ⟨q, ne', h1, h2⟩ := step (d e i) fr (by omega) (Nat.le_refl _) (Nat.le_refl _) hf
          refine ⟨q, ne', h1, fun post n hn hp => ?_⟩
          obtain ⟨n, rfl⟩ : ∃ n', n = n' + 1 := ⟨n - 1, by omega⟩
          exact br_f hge (br_f hbit ⟨i1, br_f (by rw [c1]; exact nI_ge (by omega) (by omega)) ⟨i1, nm_r c1 ⟨i2, br_t (by rw [c2]; exact nI_le hf (by omega)) (nm_r (nI_1 i) (h2 post n (by omega) hp))⟩⟩⟩)
        · obtain ⟨q, ne', h1, h2⟩ := step (d e i) (d g i) (by omega) (Nat.le_refl _) (by omega) (Nat.le_refl _)
          refine ⟨q, ne', h1, fun post n hn hp => ?_⟩
          obtain ⟨n, rfl⟩ : ∃ n', n = n' + 1 := ⟨n - 1, by omega⟩
          exact br_f hge (br_f hbit ⟨i1, br_f (by rw [c1]; exact nI_ge (by omega) (by omega)) ⟨i1, nm_r c1 ⟨i2, br_f (by rw [c2]; exact nI_ge (by omega) (by omega)) ⟨i2, nm_r c2 (nm_r (nI_1 i) (h2 post n (by omega) hp))⟩⟩⟩⟩)
theorem zx_atl {N e g : Nat} (hN : N ≤ 7) (he : e < N) (hg : g < N) {d : Nat → Nat → Nat} (hs : ∀ a b, d a b = d b a) (hd : ∀ x y, d x y ≤ 10000) (hpr : ∀ i j, i < 7 → j < 7 → pr (7 * i + j) = nI (d i j)) {S : Nat → Bool} {x : Int32} (hx : zm_ms N x S) :
    ∃ (q : Nat) (ne' : Nat → Int32), zx_lb N d S e g q ∧ ∀ (post : Int32 → SX → Prop), post (nI q) (nI N, nI g, be, bc, len, pr, pa, la, nt, bp, ne') → wpX_atLeast post (nI N, nI g, be, bc, len, pr, pa, la, nt, bp, ne) (nI e) x := by
  by_cases h0 : ∃ j, j < N ∧ S j = true
  · obtain ⟨q, ne', h1, h2⟩ := zx_al (be := be) (bc := bc) (len := len) (pr := pr) (pa := pa) (la := la) (nt := nt) (bp := bp) (ne := ne) hN he hg hs hd hpr hx h0 N 0 10000 10000 0 (by omega) (by omega) (by omega) (fun j hj => absurd hj (by omega)) (by omega) (fun ⟨j, hj, _⟩ => absurd hj (by omega))
    refine ⟨q, ne', h1, fun post hp => ?_⟩
    have hx0 : ¬ x = 0 := by
      intro z
      obtain ⟨j, hj, hSj⟩ := h0
      rw [(zm_zero hN hx).mp z j hj] at hSj
      exact absurd hSj (by decide)
    exact br_f hx0 ⟨N + 1, h2 post (N + 1) (by omega) hp⟩
  · have hall : ∀ i, i < N → S i = false := by
      intro i hi
      cases e : S i with
      | false => rfl
      | true => exact absurd ⟨i, hi, e⟩ h0
    have d1 := hd e g
    refine ⟨d e g, ne, ⟨by omega, fun m hm _ => ?_⟩, fun post hp => ?_⟩
    · cases m with
      | nil => exact Nat.le_refl _
      | cons a m =>
        have := hm a List.mem_cons_self
        rw [hall a this.1] at this
        exact absurd this.2 (by decide)
    · refine br_t ((zm_zero hN hx).mpr hall) ⟨zx_in (by omega) (by omega), ?_⟩
      rw [zx_rd pr (by omega) (by omega), hpr e g (by omega) (by omega)]
      exact hp
theorem zx_b8 : ∀ a, a < 128 → (nI a).toInt8.toInt32 = nI a := by decide +kernel
theorem zx_byte {a : Nat} (h : a < 128) : vp_nar .byte (nI a) = nI a := by rw [vp_nar_byte, zx_b8 a h]
theorem zx_byte2 {a : Nat} (h : a < 128) : vp_nar .byte ((nI a).toInt8.toInt32) = nI a := by rw [zx_b8 a h, zx_byte h]
theorem zx_byte0 : vp_nar .byte 0 = nI 0 := zx_byte (a := 0) (by omega)
theorem zx_of29 {pc : Nat} (hpc : pc ≤ 7) (hb : ∀ j, j < pc → vp_nar .byte (pa j) = pa j) : ∀ (m i : Nat) (bp : Nat → Int32), i + m = pc → (∀ j, j < i → bp j = pa j) →
    ∃ bp' : Nat → Int32, (∀ j, j < pc → bp' j = pa j) ∧ ∀ (post : SX → Prop) (n : Nat), m < n → post (tc, go, be, bc + 1, len, pr, pa, la, nt, bp', ne) → wX_offer_29 post (nI pc) tc go be bc n (nI i) len pr pa la nt bp ne := by
  intro m
  induction m with
  | zero =>
    intro i bp hi hI
    refine ⟨bp, fun j hj => hI j (by omega), fun post n hn hp => ?_⟩
    obtain ⟨n, rfl⟩ : ∃ n', n = n' + 1 := ⟨n - 1, by omega⟩
    exact br_t (nI_le (by omega) (by omega)) (nm_e hp)
  | succ m ih =>
    intro i bp hi hI
    obtain ⟨bp', h1, h2⟩ := ih (i + 1) (upd bp i (pa i)) (by omega) (zx_us hI rfl)
    refine ⟨bp', h1, fun post n hn hp => ?_⟩
    obtain ⟨n, rfl⟩ : ∃ n', n = n' + 1 := ⟨n - 1, by omega⟩
    have i1 : vp_in (nI i) 8 := vp_in_nI (by omega) (by omega)
    refine br_f (nI_ge (by omega) (by omega)) ⟨i1, i1, fun q eq => nm_r (nI_1 i) ?_⟩
    rw [nI_clamp (by omega), hb i (by omega)] at eq
    rw [eq]
    exact h2 post n (by omega) hp
/-- what best, bestCount, bestPath hold -/
def zv_ok (pc : Nat) (s : Nat × Nat × List Nat) (be bc : Int32) (bp : Nat → Int32) : Prop :=
  be = nI s.1 ∧ bc = nI s.2.1 ∧ s.1 ≤ 80000 ∧ ((s.2.1 = 0 ∧ s.1 = 80000) ∨ ∀ k, k < pc → bp k = nI (s.2.2.getD (pc - 1 - k) 0))
theorem zx_offer {pc : Nat} (hpc : pc ≤ 7) {s : Nat × Nat × List Nat} (hv : zv_ok pc s be bc bp) {w : List Nat → Nat} {l : List Nat} (hw : w l < 80000) (hpa : ∀ k, k < pc → pa k = nI (l.getD (pc - 1 - k) 0)) (hlt : ∀ k, k < pc → l.getD (pc - 1 - k) 0 < 128) :
    ∃ (be' bc' : Int32) (bp' : Nat → Int32), zv_ok pc (zl_of w s l) be' bc' bp' ∧ ∀ (post : SX → Prop), post (tc, go, be', bc', len, pr, pa, la, nt, bp', ne) → wpX_offer post (tc, go, be, bc, len, pr, pa, la, nt, bp, ne) (nI (w l)) (nI pc) := by
  obtain ⟨b, c, P⟩ := s
  obtain ⟨e1, e2, hb, hP⟩ := hv
  simp only at e1 e2 hb hP
  subst e1; subst e2
  by_cases h1 : b < w l
  · have e : zl_of w (b, c, P) l = (b, c, P) := if_pos h1
    rw [e]
    exact ⟨nI b, nI c, bp, ⟨rfl, rfl, hb, hP⟩, fun post hp => br_f (nI_ge h1 (by omega)) hp⟩
  · by_cases h2 : w l < b
    · have e : zl_of w (b, c, P) l = (w l, 1, l) := by unfold zl_of; rw [if_neg h1, if_pos h2]
      rw [e]
      obtain ⟨bp', h3, h4⟩ := zx_of29 (tc := tc) (go := go) (be := nI (w l)) (bc := 0) (len := len) (pr := pr) (pa := pa) (la := la) (nt := nt) (ne := ne) hpc (fun j hj => by rw [hpa j hj]; exact zx_byte (hlt j hj)) pc 0 bp (by omega) (fun j hj => absurd hj (by omega))
      refine ⟨nI (w l), nI 1, bp', ⟨rfl, rfl, Nat.le_of_lt hw, Or.inr fun k hk => ?_⟩, fun post hp => ?_⟩
      · rw [h3 k hk]; exact hpa k hk
      · exact br_t (nI_le (by omega) (by omega)) (br_f (nI_ge h2 (by omega)) ⟨pc + 1, h4 post (pc + 1) (by omega) hp⟩)
    · have e : zl_of w (b, c, P) l = (b, c + 1, P) := by unfold zl_of; rw [if_neg h1, if_neg h2]
      rw [e]
      refine ⟨nI b, nI (c + 1), bp, ⟨rfl, rfl, hb, Or.inr ?_⟩, fun post hp => ?_⟩
      · rcases hP with ⟨_, h3⟩ | h3
        · omega
        · exact h3
      · exact br_t (nI_le (by omega) (by omega)) (br_t (nI_le (by omega) (by omega)) (nm_r (nI_1 c) hp))
theorem zx_nt7 {N : Nat} (hN : N ≤ 7) {S : Nat → Bool} {x2 : Int32} (hx : zm_ms N x2 S) : ∀ (m t : Nat), t + m = N →
    (∃ v, t ≤ v ∧ v < N ∧ S v = true ∧ (∀ j, t ≤ j → j < v → S j = false) ∧ ∀ (post : Int32 → Prop) (n : Nat), m < n → post (nI v) → wX_nextTown_7 post x2 (nI N) go be bc len pr pa la nt bp ne n (nI t)) ∨
    ((∀ j, t ≤ j → j < N → S j = false) ∧ ∀ (post : Int32 → Prop) (n : Nat), m < n → post (-1) → wX_nextTown_7 post x2 (nI N) go be bc len pr pa la nt bp ne n (nI t)) := by
  intro m
  induction m with
  | zero =>
    intro t ht
    refine Or.inr ⟨fun j h1 h2 => absurd h2 (by omega), fun post n hn hp => ?_⟩
    obtain ⟨n, rfl⟩ : ∃ n', n = n' + 1 := ⟨n - 1, by omega⟩
    exact br_t (nI_le (by omega) (by omega)) hp
  | succ m ih =>
    intro t ht
    have hge : ¬ nI N ≤ nI t := nI_ge (by omega) (by omega)
    cases hS : S t with
    | true =>
      refine Or.inl ⟨t, Nat.le_refl _, by omega, hS, fun j h1 h2 => absurd h2 (by omega), fun post n hn hp => ?_⟩
      obtain ⟨n, rfl⟩ : ∃ n', n = n' + 1 := ⟨n - 1, by omega⟩
      exact br_f hge (br_f (fun z => by rw [(zm_bit hN hx (by omega)).mp z] at hS; exact absurd hS (by decide)) hp)
    | false =>
      have hbit := (zm_bit hN hx (by omega)).mpr hS
      rcases ih (t + 1) (by omega) with ⟨v, h1, h2, h3, h4, h5⟩ | ⟨h1, h2⟩
      · refine Or.inl ⟨v, by omega, h2, h3, fun j a1 a2 => ?_, fun post n hn hp => ?_⟩
        · by_cases ej : j = t
          · rw [ej]; exact hS
          · exact h4 j (by omega) a2
        · obtain ⟨n, rfl⟩ : ∃ n', n = n' + 1 := ⟨n - 1, by omega⟩
          exact br_f hge (br_t hbit (nm_r (nI_1 t) (h5 post n (by omega) hp)))
      · refine Or.inr ⟨fun j a1 a2 => ?_, fun post n hn hp => ?_⟩
        · by_cases ej : j = t
          · rw [ej]; exact hS
          · exact h1 j (by omega) a2
        · obtain ⟨n, rfl⟩ : ∃ n', n = n' + 1 := ⟨n - 1, by omega⟩
          exact br_f hge (br_t hbit (nm_r (nI_1 t) (h2 post n (by omega) hp)))
theorem zx_next {N k t : Nat} (hN : N ≤ 7) (hk : k < 8) (ht : t ≤ N) (hnt : nt k = nI t) {S : Nat → Bool} {x2 : Int32} (hx : zm_ms N x2 S) :
    (∃ v, t ≤ v ∧ v < N ∧ S v = true ∧ (∀ j, t ≤ j → j < v → S j = false) ∧ ∀ (post : Int32 → Prop), post (nI v) → wpX_nextTown post (nI N, go, be, bc, len, pr, pa, la, nt, bp, ne) (nI k) x2) ∨
    ((∀ j, t ≤ j → j < N → S j = false) ∧ ∀ (post : Int32 → Prop), post (-1) → wpX_nextTown post (nI N, go, be, bc, len, pr, pa, la, nt, bp, ne) (nI k) x2) := by
  have c1 : nt (nI k).toNatClampNeg = nI t := by rw [nI_clamp (by omega)]; exact hnt
  rcases zx_nt7 (go := go) (be := be) (bc := bc) (len := len) (pr := pr) (pa := pa) (la := la) (nt := nt) (bp := bp) (ne := ne) hN hx (N - t) t (by omega) with ⟨v, h1, h2, h3, h4, h5⟩ | ⟨h1, h2⟩
  · exact Or.inl ⟨v, h1, h2, h3, h4, fun post hp => ⟨vp_in_nI hk (by omega), nm_r c1 ⟨N - t + 1, h5 post _ (by omega) hp⟩⟩⟩
  · exact Or.inr ⟨h1, fun post hp => ⟨vp_in_nI hk (by omega), nm_r c1 ⟨N - t + 1, h2 post _ (by omega) hp⟩⟩⟩
def zx_F (k : Nat) (pa : Nat → Int32) : Int32 := if k = 0 then 0 else (1 : Int32) <<< (pa k &&& 31)
theorem zx_freed {k : Nat} (hk : k < 8) (post : Int32 → Prop) (hp : post (zx_F k pa)) : wpX_freed post (tc, go, be, bc, len, pr, pa, la, nt, bp, ne) (nI k) := by
  unfold zx_F at hp
  by_cases h : k = 0
  · rw [if_pos h] at hp
    exact br_t (by rw [h]; rfl) hp
  · rw [if_neg h] at hp
    refine br_f (nI_ne0 (by omega) (by omega)) ⟨vp_in_nI hk (by omega), ?_⟩
    rw [nI_clamp (by omega)]
    exact hp
end
end
section
def zs_lf (N g : Nat) : Nat → List Nat → Nat → List (List Nat)
  | 0, p, _ => [p]
  | r + 1, p, t => (zl_kd N g p t).flatMap (fun v => zl_lv N g r (v :: p))
theorem zs_lf_s (N g r : Nat) (p : List Nat) (t : Nat) : zs_lf N g (r + 1) p t = (zl_kd N g p t).flatMap (fun v => zl_lv N g r (v :: p)) := rfl
theorem zs_lf_0 (N g r : Nat) (p : List Nat) : zs_lf N g r p 0 = zl_lv N g r p := by cases r <;> rfl
/-- the search from a place with the way p, towns from t on still to be tried: what it leaves -/
def zs_D (N g pc : Nat) (d : Nat → Nat → Nat) (len pr : Nat → Int32) (r k : Nat) (p : List Nat) (t : Nat) : Prop :=
  ∀ (x5 be bc : Int32) (pa la nt bp ne : Nat → Int32) (s : Nat × Nat × List Nat),
    k + r + 1 = pc → p.length = k + 1 → (∀ x, x ∈ p → x < N) → t ≤ N → (∀ j, j ≤ k → pa j = nI (p.getD (k - j) 0)) → la k = nI (zp_pl d p) → nt k = nI t → zm_ms N x5 (zl_fr g p) → zl_ct (zl_fr g p) N = r → zv_ok pc s be bc bp →
    ∃ (be' bc' : Int32) (pa' la' nt' bp' ne' : Nat → Int32), zv_ok pc ((zs_lf N g r p t).foldl (zl_of (fun l => zp_pl d (g :: l))) s) be' bc' bp' ∧ (∀ j, j < k → pa' j = pa j ∧ la' j = la j ∧ nt' j = nt j) ∧
      ∃ c : Nat, ∀ (post : SX → Prop) (n : Nat), wX_solve_82 post (nI pc) n (nI k + (-1)) (x5 ||| zx_F k pa) (nI N) (nI g) be' bc' len pr pa' la' nt' bp' ne' → wX_solve_82 post (nI pc) (n + c) (nI k) x5 (nI N) (nI g) be bc len pr pa la nt bp ne
theorem zs_gd {p : List Nat} {N : Nat} (h : ∀ x, x ∈ p → x < N) (h0 : 0 < N) (i : Nat) : p.getD i 0 < N := by
  by_cases hi : i < p.length
  · have : p.getD i 0 = p[i] := by simp [hi]
    rw [this]; exact h _ (List.getElem_mem hi)
  · have : p.getD i 0 = 0 := by simp [hi]
    rw [this]; exact h0
theorem zs_leaf {N g pc : Nat} (hN : N ≤ 7) (hg : g < N) (hpc : pc ≤ 7) {d : Nat → Nat → Nat} (hd : ∀ x y, d x y ≤ 10000) {len pr : Nat → Int32} (hpr : ∀ i j, i < 7 → j < 7 → pr (7 * i + j) = nI (d i j)) (k : Nat) (p : List Nat) (t : Nat) : zs_D N g pc d len pr 0 k p t := by
  intro x5 be bc pa la nt bp ne s hk hl hp ht hpa hla hnt hx hct hv
  obtain ⟨e, q, ep⟩ := zt_first (e := p) (by intro h; rw [h] at hl; simp at hl)
  have he : e < N := hp e (by rw [ep]; exact List.mem_cons_self)
  have ck : pc = k + 1 := by omega
  have hw : zp_pl d (g :: p) < 80000 := by
    have := zt_plle (N := N) (F := 10000) (fun a b _ _ => hd a b) (g :: p) (fun x hx => by
      rcases List.mem_cons.mp hx with h | h
      · rw [h]; exact hg
      · exact hp x h)
    rw [List.length_cons] at this
    omega
  obtain ⟨be', bc', bp', h1, h2⟩ := zx_offer (tc := nI N) (go := nI g) (len := len) (pr := pr) (pa := pa) (la := la) (nt := nt) (ne := ne) hpc hv (w := fun l => zp_pl d (g :: l)) (l := p) hw (fun j hj => by
      rw [hpa j (by omega)]
      exact congrArg (fun z => nI (p.getD z 0)) (by omega)) (fun j hj => by
      have := zs_gd hp (by omega) (pc - 1 - j); omega)
  refine ⟨be', bc', pa, la, nt, bp', ne, h1, fun j hj => ⟨rfl, rfl, rfl⟩, 1, fun post n hn => ?_⟩
  have c0 : (nI k : Int32) = nI pc - 1 := by rw [ck]; exact (nI_pred k).symm
  have c1 : pa (nI k).toNatClampNeg = nI e := by
    rw [nI_clamp (by omega), hpa k (Nat.le_refl _), ep]; simp
  have c2 : la (nI k).toNatClampNeg = nI (zp_pl d p) := by rw [nI_clamp (by omega), hla]
  have c3 : la (nI k).toNatClampNeg + pr ((7 : Int32) * pa (nI k).toNatClampNeg + nI g).toNatClampNeg = nI (zp_pl d (g :: p)) := by
    rw [c1, c2, zx_rd pr (by omega) (by omega), hpr e g (by omega) (by omega), nI_add, ep, zp_pl2, Nat.add_comm]
  have i1 : vp_in (nI k) 8 := vp_in_nI (by omega) (by omega)
  have i2 : vp_in ((7 : Int32) * pa (nI k).toNatClampNeg + nI g) 49 := by rw [c1]; exact zx_in (by omega) (by omega)
  exact br_f (nI_pos (by omega)) (br_t c0 ⟨i1, i1, i2, nm_r c3 (h2 _ (zx_freed (by omega) _ (nm_e (nm_e hn))))⟩)
theorem zs_step {N g pc : Nat} (hN : N ≤ 7) (hg : g < N) (hpc : pc ≤ 7) {d : Nat → Nat → Nat} (hs : ∀ a b, d a b = d b a) (hd : ∀ x y, d x y ≤ 10000) {len pr : Nat → Int32} (hpr : ∀ i j, i < 7 → j < 7 → pr (7 * i + j) = nI (d i j)) {r k : Nat} {p : List Nat} {t : Nat}
    (ihc : ∀ v, v < N → zl_fr g p v = true → zs_D N g pc d len pr r (k + 1) (v :: p) 0) (ihn : ∀ v, t ≤ v → v < N → zs_D N g pc d len pr (r + 1) k p (v + 1)) : zs_D N g pc d len pr (r + 1) k p t := by
  intro x5 be bc pa la nt bp ne s hk hl hp ht hpa hla hnt hx hct hv
  obtain ⟨e, q, ep⟩ := zt_first (e := p) (by intro h; rw [h] at hl; simp at hl)
  have he : e < N := hp e (by rw [ep]; exact List.mem_cons_self)
  have c0 : ¬ (nI k : Int32) = nI pc - 1 := by
    have : pc = (k + r + 1) + 1 := by omega
    rw [this, nI_pred, nI_eq (by omega) (by omega)]; omega
  have i1 : vp_in (nI k) 8 := vp_in_nI (by omega) (by omega)
  rcases zx_next (go := nI g) (be := be) (bc := bc) (len := len) (pr := pr) (pa := pa) (la := la) (nt := nt) (bp := bp) (ne := ne) (k := k) hN (by omega) ht hnt hx with ⟨v, htv, hvN, hfv, hno, hwp⟩ | ⟨hno, hwp⟩
  · -- a town to try
    have c1 : pa (nI k).toNatClampNeg = nI e := by
      rw [nI_clamp (by omega), hpa k (Nat.le_refl _), ep]; simp
    have c2 : la (nI k).toNatClampNeg = nI (zp_pl d p) := by rw [nI_clamp (by omega), hla]
    have c3 : la (nI k).toNatClampNeg + pr ((7 : Int32) * pa (nI k).toNatClampNeg + nI v).toNatClampNeg = nI (zp_pl d (v :: p)) := by
      rw [c1, c2, zx_rd pr (by omega) (by omega), hpr e v (by omega) (by omega), nI_add, ep, zp_pl2, Nat.add_comm]
    have i2 : vp_in ((7 : Int32) * pa (nI k).toNatClampNeg + nI v) 49 := by rw [c1]; exact zx_in (by omega) (by omega)
    have c4 : upd nt (nI k).toNatClampNeg (vp_nar .byte ((nI v + 1).toInt8.toInt32)) = upd nt k (nI (v + 1)) := by
      rw [nI_clamp (by omega), nI_1, zx_byte2 (by omega)]
    have hpl : zp_pl d (v :: p) ≤ 70000 := by
      have := zt_plle (N := N) (F := 10000) (fun a b _ _ => hd a b) (v :: p) (fun x hx => by
        rcases List.mem_cons.mp hx with h | h
        · rw [h]; exact hvN
        · exact hp x h)
      rw [List.length_cons] at this
      omega
    have hx' : zm_ms N (x5 &&& (((1 : Int32) <<< (nI v &&& 31)) ^^^ (-1))) (zl_fr g (v :: p)) := zm_cg (zm_clr hN hx hvN) (fun i _ => (zl_fr_c g p v i).symm)
    have hct' : zl_ct (zl_fr g (v :: p)) N = r := by
      have e1 : zl_ct (zl_fr g (v :: p)) N = zl_ct (fun i => zl_fr g p i && i != v) N := zl_ct_eq N fun i _ => zl_fr_c g p v i
      have e2 := zl_ct_clr N hvN hfv
      omega
    obtain ⟨qq, ne1, ⟨hq1, hq2⟩, hal⟩ := zx_atl (be := be) (bc := bc) (len := len) (pr := pr) (pa := pa) (la := la) (nt := upd nt k (nI (v + 1))) (bp := bp) (ne := ne) hN hvN hg hs hd hpr hx'
    have hkd : zs_lf N g (r + 1) p t = zl_lv N g r (v :: p) ++ zs_lf N g (r + 1) p (v + 1) := by
      rw [zs_lf_s, zs_lf_s, zl_kd_c htv hvN hno hfv, List.flatMap_cons]
    by_cases hle : zp_pl d (v :: p) + qq ≤ s.1
    · -- deeper
      obtain ⟨be1, bc1, pa1, la1, nt1, bp1, ne2, hv1, hsame1, cc1, hc1⟩ := ihc v hvN hfv (x5 &&& (((1 : Int32) <<< (nI v &&& 31)) ^^^ (-1))) be bc (upd pa (k + 1) (nI v)) (upd la (k + 1) (nI (zp_pl d (v :: p)))) (upd (upd nt k (nI (v + 1))) (k + 1) (nI 0)) bp ne1 s
        (by omega) (by rw [List.length_cons, hl]) (fun x hxm => by
          rcases List.mem_cons.mp hxm with h | h
          · rw [h]; exact hvN
          · exact hp x h) (by omega) (fun j hj => by
          by_cases ej : j = k + 1
          · rw [ej, pk_us]; simp
          · rw [pk_un ej, hpa j (by omega)]
            have : k + 1 - j = (k - j) + 1 := by omega
            rw [this]; simp) pk_us pk_us hx' hct' hv
      have hF : (x5 &&& (((1 : Int32) <<< (nI v &&& 31)) ^^^ (-1))) ||| zx_F (k + 1) (upd pa (k + 1) (nI v)) = x5 := by
        unfold zx_F
        rw [if_neg (by omega), pk_us]
        exact zm_res hN hx hvN hfv
      rw [hF, pk_m1] at hc1
      rw [zs_lf_0] at hv1
      have hsame : ∀ j, j ≤ k → pa1 j = pa j ∧ la1 j = la j ∧ nt1 j = upd nt k (nI (v + 1)) j := by
        intro j hj
        have := hsame1 j (by omega)
        rw [pk_un (by omega), pk_un (by omega), pk_un (by omega)] at this
        exact this
      obtain ⟨be2, bc2, pa2, la2, nt2, bp2, ne3, hv2, hsame2, cc2, hc2⟩ := ihn v htv hvN x5 be1 bc1 pa1 la1 nt1 bp1 ne2 ((zl_lv N g r (v :: p)).foldl (zl_of (fun l => zp_pl d (g :: l))) s)
        hk hl hp (by omega) (fun j hj => by rw [(hsame j hj).1]; exact hpa j hj) (by rw [(hsame k (Nat.le_refl _)).2.1]; exact hla) (by rw [(hsame k (Nat.le_refl _)).2.2]; exact pk_us) hx hct hv1
      refine ⟨be2, bc2, pa2, la2, nt2, bp2, ne3, ?_, fun j hj => ?_, cc2 + cc1 + 1, fun post n hn => ?_⟩
      · rw [hkd, List.foldl_append]; exact hv2
      · have a1 := hsame2 j hj
        have a2 := hsame j (by omega)
        rw [pk_un (by omega)] at a2
        exact ⟨a1.1.trans a2.1, a1.2.1.trans a2.2.1, a1.2.2.trans a2.2.2⟩
      · have eF : zx_F k pa1 = zx_F k pa := by
          unfold zx_F
          rw [(hsame k (Nat.le_refl _)).1]
        rw [eF] at hc2
        have h1 := hc1 post (n + cc2) (hc2 post n hn)
        have i3 : vp_in (nI (k + 1)) 8 := vp_in_nI (by omega) (by omega)
        have en : n + (cc2 + cc1 + 1) = (n + cc2 + cc1) + 1 := by omega
        rw [en]
        refine br_f (nI_pos (by omega)) (br_f c0 (hwp _ (br_t (nI_pos' (by omega)) ⟨i1, nm_r c4 ⟨i1, i1, i2, nm_r c3 (nm_e (hal _ ?_))⟩⟩)))
        refine br_t ?_ (nm_r (nI_1 k) ⟨i3, fun a ea => ⟨i3, fun b eb => ⟨i3, fun c ec => ?_⟩⟩⟩)
        · rw [nI_add, hv.1]; exact nI_le hle (by have := hv.2.2.1; omega)
        · rw [nI_clamp (by omega), zx_byte2 (by omega)] at ea
          rw [nI_clamp (by omega)] at eb
          rw [nI_clamp (by omega), zx_byte0] at ec
          rw [ea, eb, ec]
          exact h1
    · -- cut
      have hskip : (zl_lv N g r (v :: p)).foldl (zl_of (fun l => zp_pl d (g :: l))) s = s := by
        refine zl_skip _ _ _ fun l hlm => ?_
        obtain ⟨m, em, hm, hxm, hnm⟩ := zl_lv_m _ _ _ hlm
        have hcov := zl_cov hnm hxm hm hct'
        have a1 := hq2 m hxm hcov
        have e1 : g :: l = (g :: m) ++ v :: p := by rw [em]; rfl
        show s.1 < zp_pl d (g :: l)
        rw [e1, zp_split d v p (g :: m)]
        have e2 : g :: m ++ [v] = g :: (m ++ [v]) := rfl
        rw [e2]
        omega
      obtain ⟨be2, bc2, pa2, la2, nt2, bp2, ne3, hv2, hsame2, cc2, hc2⟩ := ihn v htv hvN x5 be bc pa la (upd nt k (nI (v + 1))) bp ne1 s
        hk hl hp (by omega) hpa hla pk_us hx hct hv
      refine ⟨be2, bc2, pa2, la2, nt2, bp2, ne3, ?_, fun j hj => ?_, cc2 + 1, fun post n hn => ?_⟩
      · rw [hkd, List.foldl_append, hskip]; exact hv2
      · have a1 := hsame2 j hj
        rw [pk_un (by omega)] at a1
        exact a1
      · have h1 := hc2 post n hn
        have en : n + (cc2 + 1) = (n + cc2) + 1 := by omega
        rw [en]
        refine br_f (nI_pos (by omega)) (br_f c0 (hwp _ (br_t (nI_pos' (by omega)) ⟨i1, nm_r c4 ⟨i1, i1, i2, nm_r c3 (nm_e (hal _ ?_))⟩⟩)))
        refine br_f ?_ h1
        rw [nI_add, hv.1]; exact nI_ge (by omega) (by omega)
  · -- none left
    refine ⟨be, bc, pa, la, nt, bp, ne, ?_, fun j hj => ⟨rfl, rfl, rfl⟩, 1, fun post n hn => ?_⟩
    · rw [zs_lf_s, zl_kd_n hno]; exact hv
    · exact br_f (nI_pos (by omega)) (br_f c0 (hwp _ (br_f (by decide) (zx_freed (by omega) _ (nm_e (nm_e hn))))))
theorem zs_all {N g pc : Nat} (hN : N ≤ 7) (hg : g < N) (hpc : pc ≤ 7) {d : Nat → Nat → Nat} (hs : ∀ a b, d a b = d b a) (hd : ∀ x y, d x y ≤ 10000) {len pr : Nat → Int32} (hpr : ∀ i j, i < 7 → j < 7 → pr (7 * i + j) = nI (d i j)) :
    ∀ (r k : Nat) (p : List Nat) (t : Nat), zs_D N g pc d len pr r k p t := by
  intro r
  induction r with
  | zero => intro k p t; exact zs_leaf hN hg hpc hd hpr k p t
  | succ r ih =>
    intro k p
    have key : ∀ M t, N < t + M → zs_D N g pc d len pr (r + 1) k p t := by
      intro M
      induction M with
      | zero =>
        intro t ht x5 be bc pa la nt bp ne s _ _ _ ht'
        omega
      | succ M ihM =>
        intro t ht
        exact zs_step hN hg hpc hs hd hpr (fun v _ _ => ih (k + 1) (v :: p) 0) (fun v hv _ => ihM (v + 1) (by omega))
    intro t
    exact key (N + 1) t (by omega)
section
variable {tc go be bc : Int32} {len pr pa la nt bp ne : Nat → Int32}
theorem zs_34 {N f g pc : Nat} (hN : N ≤ 7) (hf : f < N) (hg : g < N) (hpc : 1 ≤ pc) (hpc7 : pc ≤ 7) (hct : zl_ct (zl_fr g [f]) N = pc - 1) {d : Nat → Nat → Nat} (hs : ∀ a b, d a b = d b a) (hd : ∀ x y, d x y ≤ 10000) (hpr : ∀ i j, i < 7 → j < 7 → pr (7 * i + j) = nI (d i j)) :
    ∃ (be' bc' : Int32) (pa' la' nt' bp' ne' : Nat → Int32), zv_ok pc ((zl_lv N g (pc - 1) [f]).foldl (zl_of (fun l => zp_pl d (g :: l))) (80000, 0, [])) be' bc' bp' ∧
      ∀ (post : SX → Prop), post (nI N, nI g, be', bc', len, pr, pa', la', nt', bp', ne') → wX_solve_34 post (nI f) (nI g) (nI pc) (nI N) (nI g) 80000 0 len pr pa la nt bp ne := by
  have hx : zm_ms N (((((1 : Int32) <<< (nI N &&& 31)) - 1) &&& (((1 : Int32) <<< (nI f &&& 31)) ^^^ (-1))) &&& (((1 : Int32) <<< (nI g &&& 31)) ^^^ (-1))) (zl_fr g [f]) := by
    refine zm_cg (zm_clr hN (zm_clr hN (zm_full hN) hf) hg) (fun i _ => ?_)
    unfold zl_fr
    by_cases h1 : i = g <;> by_cases h2 : i = f <;> simp [h1, h2]
  obtain ⟨be', bc', pa', la', nt', bp', ne', h1, _, c, h3⟩ := zs_all hN hg hpc7 hs hd hpr (len := len) (pr := pr) (pc - 1) 0 [f] 0
    (((((1 : Int32) <<< (nI N &&& 31)) - 1) &&& (((1 : Int32) <<< (nI f &&& 31)) ^^^ (-1))) &&& (((1 : Int32) <<< (nI g &&& 31)) ^^^ (-1))) 80000 0 (upd pa 0 (nI f)) (upd la 0 0) (upd nt 0 (nI 0)) bp ne (80000, 0, [])
    (by omega) rfl (fun x hxm => by rw [List.mem_singleton.mp hxm]; exact hf) (by omega)
    (fun j hj => by
      have : j = 0 := by omega
      rw [this, pk_us]; rfl) pk_us pk_us hx hct ⟨rfl, rfl, Nat.le_refl _, Or.inl ⟨rfl, rfl⟩⟩
  rw [zs_lf_0] at h1
  refine ⟨be', bc', pa', la', nt', bp', ne', h1, fun post hp => ?_⟩
  refine nm_r (congrArg (upd pa 0) (zx_byte2 (by omega))) (nm_e (nm_r (congrArg (upd nt 0) zx_byte0) (nm_e ⟨1 + c, ?_⟩)))
  exact h3 post 1 (br_t (by decide) hp)
/-- pc: the number of places -/
theorem zs_solve {N f g pc : Nat} (h3 : 3 ≤ N) (hN : N ≤ 7) (hf : f < N) (hg : g < N) (hpc : (f = g ∧ pc = N) ∨ (f ≠ g ∧ pc = N - 1)) {d : Nat → Nat → Nat} (hs : ∀ a b, d a b = d b a) (hd : ∀ x y, d x y ≤ 10000) (hpr : ∀ i j, i < 7 → j < 7 → pr (7 * i + j) = nI (d i j)) :
    ∃ (be' bc' : Int32) (pa' la' nt' bp' ne' : Nat → Int32), zv_ok pc ((zl_lv N g (pc - 1) [f]).foldl (zl_of (fun l => zp_pl d (g :: l))) (80000, 0, [])) be' bc' bp' ∧
      ∀ (post : SX → Prop), post (nI N, nI g, be', bc', len, pr, pa', la', nt', bp', ne') → wpX_solve post (nI N, go, be, bc, len, pr, pa, la, nt, bp, ne) (nI f) (nI g) := by
  have ht : ∀ n, zl_ct (fun _ => true) n = n := by
    intro n
    induction n with
    | zero => rfl
    | succ n ih => rw [zl_ct_s, ih]; rfl
  have c1 := zl_ct_clr (p := fun _ => true) N hf rfl
  rw [ht] at c1
  rcases hpc with ⟨rfl, rfl⟩ | ⟨hfg, rfl⟩
  · have hct : zl_ct (zl_fr f [f]) pc = pc - 1 := by
      have : zl_ct (zl_fr f [f]) pc = zl_ct (fun i => true && i != f) pc := zl_ct_eq pc fun i _ => by
        unfold zl_fr
        by_cases h1 : i = f <;> simp [h1]
      omega
    obtain ⟨be', bc', pa', la', nt', bp', ne', h1, h2⟩ := zs_34 (len := len) (pr := pr) (pa := pa) (la := la) (nt := nt) (bp := bp) (ne := ne) hN hf hg (by omega) hN hct hs hd hpr
    exact ⟨be', bc', pa', la', nt', bp', ne', h1, fun post hp => br_t rfl (h2 post hp)⟩
  · have hct : zl_ct (zl_fr g [f]) N = (N - 1) - 1 := by
      have c2 := zl_ct_clr (p := fun i => true && i != f) N hg (by simp; exact fun z => hfg z.symm)
      have : zl_ct (zl_fr g [f]) N = zl_ct (fun i => (true && i != f) && i != g) N := zl_ct_eq N fun i _ => by
        unfold zl_fr
        by_cases h1 : i = g <;> by_cases h2 : i = f <;> simp [h1, h2]
      omega
    obtain ⟨be', bc', pa', la', nt', bp', ne', h1, h2⟩ := zs_34 (len := len) (pr := pr) (pa := pa) (la := la) (nt := nt) (bp := bp) (ne := ne) hN hf hg (by omega) (by omega) hct hs hd hpr
    refine ⟨be', bc', pa', la', nt', bp', ne', h1, fun post hp => br_f (by rw [nI_eq (by omega) (by omega)]; exact hfg) ?_⟩
    have e : nI N - 1 = nI (N - 1) := by
      obtain ⟨M, rfl⟩ : ∃ M, N = M + 1 := ⟨N - 1, by omega⟩
      rw [nI_pred]; rfl
    rw [e]
    exact h2 post hp
end
end
section
/-- the reference's table holds the ways of L, s towns each -/
def zy_tb (tw : Nat → Int32) (s : Nat) (L : List (List Nat)) : Prop := ∀ t, t < L.length → ∀ k, k < s → tw (7 * t + k) = nI ((L.getD t []).getD (s - 1 - k) 0)
section
variable {fn ft : Int32} {ly tw lo pt : Nat → Int32}
theorem zy_146 {T : Nat} (hT : T ≤ 720) : ∀ (m i : Nat) (tw : Nat → Int32), i + m = 7 * T → (∀ j, j < i → tw j = lo j) →
    ∃ tw' : Nat → Int32, (∀ j, j < 7 * T → tw' j = lo j) ∧ ∀ (post : SY → Prop) (n : Nat), m < n → post (fn, ft, ly, tw', lo, pt) → wY_lengthen_146 post (nI T) fn ft n (nI i) ly tw lo pt := by
  have e7 : (7 : Int32) * nI T = nI (7 * T) := by show nI 7 * nI T = _; rw [pk_mul]
  intro m
  induction m with
  | zero =>
    intro i tw hi hI
    refine ⟨tw, fun j hj => hI j (by omega), fun post n hn hp => ?_⟩
    obtain ⟨n, rfl⟩ : ∃ n', n = n' + 1 := ⟨n - 1, by omega⟩
    exact br_t (by rw [e7]; exact nI_le (by omega) (by omega)) hp
  | succ m ih =>
    intro i tw hi hI
    obtain ⟨tw', h1, h2⟩ := ih (i + 1) (upd tw i (lo i)) (by omega) (zx_us hI rfl)
    refine ⟨tw', h1, fun post n hn hp => ?_⟩
    obtain ⟨n, rfl⟩ : ∃ n', n = n' + 1 := ⟨n - 1, by omega⟩
    have i1 : vp_in (nI i) 5040 := vp_in_nI (by omega) (by omega)
    refine br_f (by rw [e7]; exact nI_ge (by omega) (by omega)) ⟨i1, i1, fun q eq => nm_r (nI_1 i) ?_⟩
    rw [nI_clamp (by omega)] at eq
    rw [eq]
    exact h2 post n (by omega) hp
theorem zy_76 {N s mo tv t v : Nat} (hN : N ≤ 7) (hv : tv % N = v) (h0 : 0 < N) (hs : s < 7) (hmo : mo < 720) (ht : t < 720) (htv : tv < 100000) (lo0 : Nat → Int32) : ∀ (m i : Nat) (lo : Nat → Int32), i + m = s → (∀ j, j < i → lo (7 * mo + j) = tw (7 * t + j)) → (∀ q, q < 7 * mo → lo q = lo0 q) →
    ∃ lo' : Nat → Int32, (∀ j, j < s → lo' (7 * mo + j) = tw (7 * t + j)) ∧ lo' (7 * mo + s) = nI v ∧ (∀ q, q < 7 * mo → lo' q = lo0 q) ∧ ∀ (post : SY → Prop) (J : Int32 → Int32 → (Nat → Int32) → (Nat → Int32) → (Nat → Int32) → (Nat → Int32) → Prop) (n : Nat), m < n → J (nI (mo + 1)) (nI (tv + 1)) ly tw lo' pt → wY_lengthen_76 post J (nI s) (nI mo) (nI tv) (nI t) (nI N) ft n (nI i) ly tw lo pt := by
  intro m
  induction m with
  | zero =>
    intro i lo hi hI hq
    refine ⟨upd lo (7 * mo + s) (nI v), fun j hj => ?_, pk_us, fun q hqq => ?_, fun post J n hn hp => ?_⟩
    · rw [pk_un (by omega)]; exact hI j (by omega)
    · rw [pk_un (by omega)]; exact hq q hqq
    · obtain ⟨n, rfl⟩ : ∃ n', n = n' + 1 := ⟨n - 1, by omega⟩
      refine br_t (nI_le (by omega) (by omega)) ⟨nI_ne0 h0 (by omega), by rw [zx_ix]; exact vp_in_nI (by omega) (by omega), fun q eq => nm_r (nI_1 mo) (nm_r (nI_1 tv) ?_)⟩
      rw [zx_ix, nI_clamp (by omega), pk_rem (by omega) h0 (by omega), hv] at eq
      rw [eq]
      exact hp
  | succ m ih =>
    intro i lo hi hI hq
    obtain ⟨lo', h1, h2, h3, h4⟩ := ih (i + 1) (upd lo (7 * mo + i) (tw (7 * t + i))) (by omega) (fun j hj => by
      by_cases ej : j = i
      · rw [ej, pk_us]
      · rw [pk_un (by omega)]; exact hI j (by omega)) (fun q hqq => by rw [pk_un (by omega)]; exact hq q hqq)
    refine ⟨lo', h1, h2, h3, fun post J n hn hp => ?_⟩
    obtain ⟨n, rfl⟩ : ∃ n', n = n' + 1 := ⟨n - 1, by omega⟩
    refine br_f (nI_ge (by omega) (by omega)) ⟨by rw [zx_ix]; exact vp_in_nI (by omega) (by omega), by rw [zx_ix]; exact vp_in_nI (by omega) (by omega), fun q eq => nm_r (nI_1 i) ?_⟩
    rw [zx_ix, zx_ix, nI_clamp (by omega), nI_clamp (by omega)] at eq
    rw [eq]
    exact h4 post J n (by omega) hp
theorem zy_31 {N s tv t v : Nat} {x2 : Int32} (hN : N ≤ 7) (hv : tv % N = v) (h0 : 0 < N) (hs : s < 7) (ht : t < 720) (htv : tv < 100000) {l : List Nat} (hl : l.length = s) (hlN : ∀ x, x ∈ l → x < N) (htw : ∀ k, k < s → tw (7 * t + k) = nI (l.getD (s - 1 - k) 0)) :
    ∀ (m i : Nat) (x5 : Int32), i + m = s → ((x5 = 0 ∧ v ∈ l) ∨ (x5 = 1 ∧ ∀ j, j < i → l.getD (s - 1 - j) 0 ≠ v)) → ∀ (post : SY → Prop) (J : Int32 → Int32 → (Nat → Int32) → (Nat → Int32) → (Nat → Int32) → (Nat → Int32) → Prop) (n : Nat), m < n →
    (v ∈ l → J x2 (nI (tv + 1)) ly tw lo pt) → (v ∉ l → ∃ n76 : Nat, wY_lengthen_76 post J (nI s) x2 (nI tv) (nI t) (nI N) ft n76 0 ly tw lo pt) → wY_lengthen_31 post J (nI s) x2 (nI tv) (nI t) (nI N) ft ly tw lo pt n x5 (nI i) := by
  intro m
  induction m with
  | zero =>
    intro i x5 hi hI post J n hn h1 h2
    obtain ⟨n, rfl⟩ : ∃ n', n = n' + 1 := ⟨n - 1, by omega⟩
    refine br_t (nI_le (by omega) (by omega)) ?_
    rcases hI with ⟨rfl, hm⟩ | ⟨rfl, hm⟩
    · exact br_t rfl (nm_r (nI_1 tv) (h1 hm))
    · refine br_f (by decide) (h2 fun hmem => ?_)
      obtain ⟨j, hj, ej⟩ := List.getElem_of_mem hmem
      have : l.getD (s - 1 - (s - 1 - j)) 0 = v := by
        have e1 : s - 1 - (s - 1 - j) = j := by omega
        rw [e1]; simp [hj, ej]
      exact hm (s - 1 - j) (by omega) this
  | succ m ih =>
    intro i x5 hi hI post J n hn h1 h2
    obtain ⟨n, rfl⟩ : ∃ n', n = n' + 1 := ⟨n - 1, by omega⟩
    have c1 : tw ((7 : Int32) * nI t + nI i).toNatClampNeg = nI (l.getD (s - 1 - i) 0) := by
      rw [zx_ix, nI_clamp (by omega)]; exact htw i (by omega)
    have c2 : nI tv - nI tv / nI N * nI N = nI v := by rw [pk_rem (by omega) h0 (by omega), hv]
    have hvN : v < N := by rw [← hv]; exact Nat.mod_lt _ h0
    have hli : s - 1 - i < l.length := by omega
    have eg : l.getD (s - 1 - i) 0 = l[s - 1 - i] := by simp [hli]
    have hgl : l.getD (s - 1 - i) 0 < N := by rw [eg]; exact hlN _ (List.getElem_mem hli)
    refine br_f (nI_ge (by omega) (by omega)) ⟨by rw [zx_ix]; exact vp_in_nI (by omega) (by omega), nI_ne0 h0 (by omega), ?_⟩
    by_cases hev : l.getD (s - 1 - i) 0 = v
    · refine br_t (by rw [c1, c2, hev]) (nm_r (nI_1 i) ?_)
      exact ih (i + 1) 0 (by omega) (Or.inl ⟨rfl, by rw [← hev, eg]; exact List.getElem_mem hli⟩) post J n (by omega) h1 h2
    · refine br_f (by rw [c1, c2, nI_eq (by omega) (by omega)]; exact hev) (nm_r (nI_1 i) ?_)
      refine ih (i + 1) x5 (by omega) ?_ post J n (by omega) h1 h2
      rcases hI with h | ⟨h3, h4⟩
      · exact Or.inl h
      · refine Or.inr ⟨h3, fun j hj => ?_⟩
        by_cases ej : j = i
        · rw [ej]; exact hev
        · exact h4 j (by omega)
theorem zy_4 {N s : Nat} (hN : N ≤ 7) (h0 : 0 < N) (hs : s < 7) {L : List (List Nat)} (hL : L.length ≤ 720) (hL2 : (zl_nl N L (L.length * N)).length ≤ 720) (hlen : ∀ l, l ∈ L → l.length = s) (hlN : ∀ l, l ∈ L → ∀ x, x ∈ l → x < N) (htw : zy_tb tw s L) :
    ∀ (m i : Nat) (lo : Nat → Int32), i + m = L.length * N → zy_tb lo (s + 1) (zl_nl N L i) →
    ∃ lo' : Nat → Int32, zy_tb lo' (s + 1) (zl_nl N L (L.length * N)) ∧ ∀ (post : SY → Prop) (n : Nat), m < n → (∃ n146 : Nat, wY_lengthen_146 post (nI (zl_nl N L (L.length * N)).length) (nI N) (nI (zl_nl N L (L.length * N)).length) n146 0 ly tw lo' pt) → wY_lengthen_4 post (nI s) (nI N) (nI L.length) n (nI (zl_nl N L i).length) (nI i) ly tw lo pt := by
  have hb : L.length * N ≤ 5040 := by
    have := Nat.mul_le_mul hL hN; omega
  intro m
  induction m with
  | zero =>
    intro i lo hi hI
    have ei : i = L.length * N := by omega
    rw [ei] at hI
    refine ⟨lo, hI, fun post n hn hp => ?_⟩
    obtain ⟨n, rfl⟩ : ∃ n', n = n' + 1 := ⟨n - 1, by omega⟩
    rw [ei]
    exact br_t (by rw [pk_mul]; exact nI_le (Nat.le_refl _) (by omega)) hp
  | succ m ih =>
    intro i lo hi hI
    have ht : i / N < L.length := (Nat.div_lt_iff_lt_mul h0).mpr (by omega)
    have eg : L.getD (i / N) [] = L[i / N] := by simp [ht]
    have hmem : L.getD (i / N) [] ∈ L := by rw [eg]; exact List.getElem_mem ht
    have hll := hlen _ hmem
    have hlm := hlN _ hmem
    have hdv : nI i / nI N = nI (i / N) := pk_div (by omega) h0 (by omega)
    have hge : ¬ nI L.length * nI N ≤ nI i := by rw [pk_mul]; exact nI_ge (by omega) (by omega)
    have hmono : (zl_nl N L (i + 1)).length ≤ 720 := by
      have h1 := zl_nl_le N L (i + 1) m
      have e1 : i + 1 + m = L.length * N := by omega
      rw [e1] at h1; omega
    have hns := zl_nl_s N L i
    by_cases hin : i % N ∈ L.getD (i / N) []
    · rw [if_pos hin, List.append_nil] at hns
      obtain ⟨lo', h1, h2⟩ := ih (i + 1) lo (by omega) (by rw [hns]; exact hI)
      refine ⟨lo', h1, fun post n hn hp => ?_⟩
      obtain ⟨n, rfl⟩ : ∃ n', n = n' + 1 := ⟨n - 1, by omega⟩
      have h3 := h2 post n (by omega) hp
      rw [hns] at h3
      refine br_f hge ⟨nI_ne0 h0 (by omega), nm_r hdv ⟨s + 1, ?_⟩⟩
      exact zy_31 hN rfl h0 hs (by omega) (by omega) hll hlm (fun k hk => htw _ ht k hk) s 0 1 (by omega) (Or.inr ⟨rfl, fun j hj => absurd hj (by omega)⟩) post _ (s + 1) (by omega) (fun _ => h3) (fun hno => absurd hin hno)
    · rw [if_neg hin] at hns
      have hmo : (zl_nl N L i).length < 720 := by
        rw [hns, List.length_append] at hmono
        simp at hmono; omega
      obtain ⟨lo1, g1, g2, g3, g4⟩ := zy_76 (ft := nI L.length) (ly := ly) (tw := tw) (pt := pt) (N := N) (s := s) (mo := (zl_nl N L i).length) (tv := i) (t := i / N) (v := i % N) hN rfl h0 hs hmo (by omega) (by omega) lo s 0 lo (by omega) (fun j hj => absurd hj (by omega)) (fun q _ => rfl)
      have htb : zy_tb lo1 (s + 1) (zl_nl N L (i + 1)) := by
        intro t' ht' k hk
        rw [hns] at ht' ⊢
        rw [List.length_append] at ht'
        simp only [List.length_cons, List.length_nil] at ht'
        by_cases et : t' < (zl_nl N L i).length
        · have e1 : (zl_nl N L i ++ [i % N :: L.getD (i / N) []]).getD t' [] = (zl_nl N L i).getD t' [] := by
            simp only [List.getD_eq_getElem?_getD]
            rw [List.getElem?_append_left et]
          rw [e1, g3 _ (by omega)]
          exact hI t' et k hk
        · have et2 : t' = (zl_nl N L i).length := by omega
          have e1 : (zl_nl N L i ++ [i % N :: L.getD (i / N) []]).getD t' [] = i % N :: L.getD (i / N) [] := by
            simp only [List.getD_eq_getElem?_getD]
            rw [List.getElem?_append_right (by omega), et2, Nat.sub_self]; rfl
          rw [e1, et2]
          by_cases ek : k = s
          · rw [ek, g2]
            have : s + 1 - 1 - s = 0 := by omega
            rw [this]; rfl
          · rw [g1 k (by omega), htw _ ht k (by omega)]
            have : s + 1 - 1 - k = (s - 1 - k) + 1 := by omega
            rw [this, List.getD_cons_succ]
      obtain ⟨lo', h1, h2⟩ := ih (i + 1) lo1 (by omega) htb
      refine ⟨lo', h1, fun post n hn hp => ?_⟩
      obtain ⟨n, rfl⟩ : ∃ n', n = n' + 1 := ⟨n - 1, by omega⟩
      have h3 := h2 post n (by omega) hp
      have e2 : (zl_nl N L (i + 1)).length = (zl_nl N L i).length + 1 := by rw [hns, List.length_append]; rfl
      rw [e2] at h3
      refine br_f hge ⟨nI_ne0 h0 (by omega), nm_r hdv ⟨s + 1, ?_⟩⟩
      exact zy_31 hN rfl h0 hs (by omega) (by omega) hll hlm (fun k hk => htw _ ht k hk) s 0 1 (by omega) (Or.inr ⟨rfl, fun j hj => absurd hj (by omega)⟩) post _ (s + 1) (by omega) (fun hyes => absurd hyes hin) (fun _ => ⟨s + 1, g4 post _ (s + 1) (by omega) h3⟩)
theorem zy_lvf {N s : Nat} (h0 : 0 < N) {l : List Nat} (h : l ∈ zl_lv N 0 s [0]) : l.length = s + 1 ∧ ∀ x, x ∈ l → x < N := by
  obtain ⟨m, e, hm, hx, _⟩ := zl_lv_m _ _ _ h
  rw [e]
  refine ⟨by rw [List.length_append, hm]; rfl, fun x hxm => ?_⟩
  rcases List.mem_append.mp hxm with h1 | h1
  · exact (hx x h1).1
  · rw [List.mem_singleton.mp h1]; exact h0
theorem zy_lengthen {N s : Nat} (h3 : 3 ≤ N) (hN : N ≤ 7) (hs : s + 1 < N) (htw : zy_tb tw (s + 1) (zl_lv N 0 s [0])) :
    ∃ tw' lo' : Nat → Int32, zy_tb tw' (s + 1 + 1) (zl_lv N 0 (s + 1) [0]) ∧ ∀ (post : SY → Prop), post (nI N, nI (zl_lv N 0 (s + 1) [0]).length, ly, tw', lo', pt) → wpY_lengthen post (nI N, nI (zl_lv N 0 s [0]).length, ly, tw, lo, pt) (nI (s + 1)) := by
  have b1 := (zt_len7 N (by omega) h3 s (by omega)).1
  have b2 := (zt_len7 N (by omega) h3 (s + 1) (by omega)).1
  have e1 : zl_nl N (zl_lv N 0 s [0]) ((zl_lv N 0 s [0]).length * N) = zl_lv N 0 (s + 1) [0] := by
    rw [zl_nl_f (by omega), zl_lv_e s [0] List.mem_cons_self]
  obtain ⟨lo', h1, h2⟩ := zy_4 (ly := ly) (tw := tw) (pt := pt) hN (by omega) (by omega : s + 1 < 7) b1 (by rw [e1]; exact b2) (fun l hl => (zy_lvf (by omega) hl).1) (fun l hl => (zy_lvf (by omega) hl).2) htw ((zl_lv N 0 s [0]).length * N) 0 lo (by omega) (fun t ht => absurd ht (by simp [zl_nl]))
  rw [e1] at h1 h2
  obtain ⟨tw', h4, h5⟩ := zy_146 (fn := nI N) (ft := nI (zl_lv N 0 (s + 1) [0]).length) (ly := ly) (lo := lo') (pt := pt) b2 (7 * (zl_lv N 0 (s + 1) [0]).length) 0 tw (by omega) (fun j hj => absurd hj (by omega))
  refine ⟨tw', lo', fun t ht k hk => ?_, fun post hp => ?_⟩
  · rw [h4 _ (by omega)]; exact h1 t ht k hk
  · exact ⟨_, h2 post _ (Nat.lt_succ_self _) ⟨_, h5 post _ (Nat.lt_succ_self _) hp⟩⟩
theorem zy_92 {N : Nat} (h3 : 3 ≤ N) (hN : N ≤ 7) : ∀ (m s : Nat) (tw lo : Nat → Int32), s + 1 + m = N → zy_tb tw (s + 1) (zl_lv N 0 s [0]) →
    ∃ tw' lo' : Nat → Int32, zy_tb tw' N (zt_tr N) ∧ ∀ (post : SY → Prop) (n : Nat), m < n → post (nI N, nI (zt_tr N).length, ly, tw', lo', pt) → wY_init_92 post n (nI (s + 1)) (nI N) (nI (zl_lv N 0 s [0]).length) ly tw lo pt := by
  intro m
  induction m with
  | zero =>
    intro s tw lo hs htw
    have es : N - 1 = s := by omega
    have es2 : s + 1 = N := by omega
    refine ⟨tw, lo, ?_, fun post n hn hp => ?_⟩
    · unfold zt_tr; rw [es]; rw [es2] at htw; exact htw
    · unfold zt_tr at hp; rw [es] at hp
      obtain ⟨n, rfl⟩ : ∃ n', n = n' + 1 := ⟨n - 1, by omega⟩
      exact br_t (nI_le (by omega) (by omega)) hp
  | succ m ih =>
    intro s tw lo hs htw
    obtain ⟨tw1, lo1, g1, g2⟩ := zy_lengthen (ly := ly) (tw := tw) (lo := lo) (pt := pt) h3 hN (by omega : s + 1 < N) htw
    obtain ⟨tw', lo', h1, h2⟩ := ih (s + 1) tw1 lo1 (by omega) g1
    refine ⟨tw', lo', h1, fun post n hn hp => ?_⟩
    obtain ⟨n, rfl⟩ : ∃ n', n = n' + 1 := ⟨n - 1, by omega⟩
    exact br_f (nI_ge (by omega) (by omega)) (g2 _ (nm_r (nI_1 (s + 1)) (h2 post n (by omega) hp)))
theorem zy_70 {N : Nat} (h3 : 3 ≤ N) (hN : N ≤ 7) (htw : zy_tb tw 1 (zl_lv N 0 0 [0])) : ∀ (m i : Nat) (ly : Nat → Int32), i + m = 49 → (∀ j, j < i → ly j = nI 60) →
    ∃ ly' tw' lo' : Nat → Int32, (∀ j, j < 49 → ly' j = nI 60) ∧ zy_tb tw' N (zt_tr N) ∧ ∀ (post : SY → Prop) (n : Nat), m < n → post (nI N, nI (zt_tr N).length, ly', tw', lo', pt) → wY_init_70 post (nI N) 1 n (nI i) ly tw lo pt := by
  intro m
  induction m with
  | zero =>
    intro i ly hi hI
    obtain ⟨tw', lo', h1, h2⟩ := zy_92 (ly := ly) (pt := pt) h3 hN (N - 1) 0 tw lo (by omega) htw
    refine ⟨ly, tw', lo', fun j hj => hI j (by omega), h1, fun post n hn hp => ?_⟩
    obtain ⟨n, rfl⟩ : ∃ n', n = n' + 1 := ⟨n - 1, by omega⟩
    exact br_t (nI_le (a := 49) (by omega) (by omega)) ⟨N, h2 post N (by omega) hp⟩
  | succ m ih =>
    intro i ly hi hI
    obtain ⟨ly', tw', lo', h1, h2, h4⟩ := ih (i + 1) (upd ly i (nI 60)) (by omega) (zx_us (g := fun _ => nI 60) hI rfl)
    refine ⟨ly', tw', lo', h1, h2, fun post n hn hp => ?_⟩
    obtain ⟨n, rfl⟩ : ∃ n', n = n' + 1 := ⟨n - 1, by omega⟩
    refine br_f (nI_ge (b := 49) (by omega) (by omega)) ⟨vp_in_nI (by omega) (by omega), fun q eq => nm_r (nI_1 i) ?_⟩
    rw [nI_clamp (by omega)] at eq
    rw [eq]
    exact h4 post n (by omega) hp
theorem zy_init {N : Nat} (h3 : 3 ≤ N) (hN : N ≤ 7) : ∃ ly' tw' lo' pt' : Nat → Int32, (∀ j, j < 49 → ly' j = nI 60) ∧ zy_tb tw' N (zt_tr N) ∧ ∀ (post : SY → Prop), post (nI N, nI (zt_tr N).length, ly', tw', lo', pt') → ∃ n70 : Nat, wY_init_70 post (nI N) 1 n70 0 (fun _ => 0) (fun _ => 0) (fun _ => 0) (fun _ => 0) := by
  obtain ⟨ly', tw', lo', h1, h2, h4⟩ := zy_70 (tw := fun _ => 0) (lo := fun _ => 0) (pt := fun _ => 0) h3 hN (fun t ht k hk => by
    have et : t = 0 := by simp [zl_lv_0] at ht; exact ht
    have ek : k = 0 := by omega
    rw [et, ek]; rfl) 49 0 (fun _ => 0) rfl (fun j hj => absurd hj (by omega))
  exact ⟨ly', tw', lo', fun _ => 0, h1, h2, fun post hp => ⟨50, h4 post 50 (by omega) hp⟩⟩
end
end
section
theorem zy_drop (d : Nat → Nat → Nat) {e : List Nat} {i : Nat} (hi : i + 1 < e.length) : zp_pl d (e.drop i) = d (e.getD (i + 1) 0) (e.getD i 0) + zp_pl d (e.drop (i + 1)) := by
  have hi0 : i < e.length := by omega
  have e1 : e.getD i 0 = e[i] := by simp [hi0]
  have e2 : e.getD (i + 1) 0 = e[i + 1] := by simp [hi]
  rw [e1, e2, List.drop_eq_getElem_cons hi0, List.drop_eq_getElem_cons hi, zp_pl2]
/-- what the reference's object holds: n, the lengths, the table of trips -/
def zy_ok (N : Nat) (d : Nat → Nat → Nat) (ly tw : Nat → Int32) : Prop :=
  3 ≤ N ∧ N ≤ 7 ∧ (∀ a b, d a b = d b a) ∧ (∀ a b, d a b ≤ 60) ∧ (∀ i j, i < 7 → j < 7 → ly (7 * i + j) = nI (d i j)) ∧ zy_tb tw N (zt_tr N)
def zy_e (N t : Nat) : List Nat := 0 :: (zt_tr N).getD t []
theorem zy_T {N : Nat} (h3 : 3 ≤ N) (hN : N ≤ 7) : (zt_tr N).length ≤ 720 ∧ 0 < (zt_tr N).length := zt_len7 N (by omega) h3 (N - 1) (by omega)
theorem zy_mem {N t : Nat} (ht : t < (zt_tr N).length) : (zt_tr N).getD t [] ∈ zt_tr N := by
  have : (zt_tr N).getD t [] = (zt_tr N)[t] := by simp [ht]
  rw [this]; exact List.getElem_mem ht
theorem zy_idx {N : Nat} {l : List Nat} (h : l ∈ zt_tr N) : ∃ t, t < (zt_tr N).length ∧ (zt_tr N).getD t [] = l := by
  obtain ⟨t, ht, e⟩ := List.getElem_of_mem h
  exact ⟨t, ht, by simp [ht, e]⟩
theorem zy_ef {N t : Nat} (h3 : 3 ≤ N) (ht : t < (zt_tr N).length) : (zy_e N t).length = N + 1 ∧ (∀ x, x ∈ zy_e N t → x < N) ∧ ((zt_tr N).getD t []).getD (N - 1) 0 = 0 := by
  obtain ⟨m, e, hm, hx, _⟩ := zt_tr_m (zy_mem ht)
  unfold zy_e
  rw [e]
  refine ⟨by rw [List.length_cons, List.length_append, hm]; simp; omega, fun x hxm => ?_, ?_⟩
  · rcases List.mem_cons.mp hxm with h | h
    · omega
    · rcases List.mem_append.mp h with h | h
      · exact (hx x h).1
      · rw [List.mem_singleton.mp h]; omega
  · simp only [List.getD_eq_getElem?_getD]
    rw [List.getElem?_append_right (by omega), hm, Nat.sub_self]; rfl
theorem zy_eg {N t : Nat} (h3 : 3 ≤ N) (ht : t < (zt_tr N).length) (i : Nat) : (zy_e N t).getD i 0 < N := zs_gd (zy_ef h3 ht).2.1 (by omega) i
theorem zy_hb {N t : Nat} {d : Nat → Nat → Nat} {F : Nat} (h3 : 3 ≤ N) (hd : ∀ a b, d a b ≤ F) (ht : t < (zt_tr N).length) : zp_pl d (zy_e N t) ≤ F * N := by
  have := zt_plle (N := N) (F := F) (fun a b _ _ => hd a b) (zy_e N t) (zy_ef h3 ht).2.1
  rw [(zy_ef h3 ht).1, Nat.add_sub_cancel] at this
  exact this
section
variable {fn ft : Int32} {ly tw lo pt : Nat → Int32} {N : Nat} {d : Nat → Nat → Nat}
theorem zy_place (h : zy_ok N d ly tw) {t k : Nat} (ht : t < (zt_tr N).length) (hk : k ≤ N) {p1 : Int32} (hp1 : p1 = nI k) (post : Int32 → Prop) (hp : post (nI ((zy_e N t).getD (N - k) 0))) : wpY_placeOf post (nI N, ft, ly, tw, lo, pt) (nI t) p1 := by
  obtain ⟨h3, hN, hs, hd, hly, htb⟩ := h
  have hT := (zy_T h3 hN).1
  subst hp1
  by_cases e : k = N
  · have e2 : N - k = 0 := by omega
    rw [e2] at hp
    have e0 : (7 : Int32) * nI t + 0 = nI (7 * t + 0) := zx_ix t 0
    refine br_t (by rw [e]) ⟨by rw [e0]; exact vp_in_nI (by omega) (by omega), ?_⟩
    rw [e0, nI_clamp (by omega), htb t ht 0 (by omega), Nat.sub_zero, (zy_ef h3 ht).2.2]
    exact hp
  · have e2 : N - k = (N - 1 - k) + 1 := by omega
    rw [e2] at hp
    refine br_f (by rw [nI_eq (by omega) (by omega)]; exact e) ⟨by rw [zx_ix]; exact vp_in_nI (by omega) (by omega), ?_⟩
    rw [zx_ix, nI_clamp (by omega), htb t ht k (by omega)]
    exact hp
theorem zy_sum4 (h : zy_ok N d ly tw) {t : Nat} (ht : t < (zt_tr N).length) (post : Int32 → Prop) (hp : post (nI (zp_pl d (zy_e N t)))) : ∀ (m k : Nat), k + m = N → ∀ n, m < n → wY_sum_4 post (nI t) (nI N) ft ly tw lo pt n (nI (zp_pl d ((zy_e N t).drop (N - k)))) (nI k) := by
  have h' := h
  obtain ⟨h3, hN, hs, hd, hly, htb⟩ := h'
  intro m
  induction m with
  | zero =>
    intro k hk n hn
    obtain ⟨n, rfl⟩ : ∃ n', n = n' + 1 := ⟨n - 1, by omega⟩
    have e : N - k = 0 := by omega
    rw [e, List.drop_zero]
    exact br_t (nI_le (by omega) (by omega)) hp
  | succ m ih =>
    intro k hk n hn
    obtain ⟨n, rfl⟩ : ∃ n', n = n' + 1 := ⟨n - 1, by omega⟩
    have g1 := zy_eg h3 ht (N - k)
    have g2 := zy_eg h3 ht (N - (k + 1))
    refine br_f (nI_ge (by omega) (by omega)) (zy_place h ht (by omega) rfl _ (zy_place h ht (by omega : k + 1 ≤ N) (nI_1 k) _ ⟨zx_in (by omega) (by omega), nm_r ?_ (nm_r (nI_1 k) (ih (k + 1) (by omega) n (by omega)))⟩))
    rw [zx_rd ly (by omega) (by omega), hly _ _ (by omega) (by omega), nI_add]
    have e1 : N - k = N - (k + 1) + 1 := by omega
    rw [zy_drop d (e := zy_e N t) (i := N - (k + 1)) (by rw [(zy_ef h3 ht).1]; omega), e1, Nat.add_comm]
theorem zy_sum (h : zy_ok N d ly tw) {t : Nat} (ht : t < (zt_tr N).length) (post : Int32 → Prop) (hp : post (nI (zp_pl d (zy_e N t)))) : wpY_sum post (nI N, ft, ly, tw, lo, pt) (nI t) := by
  have e0 : zp_pl d ((zy_e N t).drop (N - 0)) = 0 := by
    have hl := (zy_ef h.1 ht).1
    have : (zy_e N t).drop N = [(zy_e N t)[N]] := by
      rw [List.drop_eq_getElem_cons (by omega), List.drop_eq_nil_of_le (by omega)]
    rw [Nat.sub_zero, this, zp_pl1]
  have h1 := zy_sum4 (ft := ft) (lo := lo) (pt := pt) h ht post hp N 0 (by omega) (N + 1) (by omega)
  rw [e0] at h1
  exact ⟨N + 1, h1⟩
def zy_pr (e : List Nat) (u v i : Nat) : Prop := (e.getD i 0 = u ∧ e.getD (i + 1) 0 = v) ∨ (e.getD i 0 = v ∧ e.getD (i + 1) 0 = u)
theorem zy_uses3 (h : zy_ok N d ly tw) {t u v : Nat} (hu : u < N) (hv : v < N) (ht : t < (zt_tr N).length) (post : Int32 → Prop) (hp1 : zt_us (zy_e N t) u v → post 1) (hp0 : ¬ zt_us (zy_e N t) u v → post 0) :
    ∀ (m k : Nat), k + m = N → (∀ i, N - k ≤ i → i < N → ¬ zy_pr (zy_e N t) u v i) → ∀ n, m < n → wY_uses_3 post (nI t) (nI u) (nI v) (nI N) ft ly tw lo pt n (nI k) := by
  have h' := h
  obtain ⟨h3, hN, hs, hd, hly, htb⟩ := h'
  have hl := (zy_ef h3 ht).1
  intro m
  induction m with
  | zero =>
    intro k hk hno n hn
    obtain ⟨n, rfl⟩ : ∃ n', n = n' + 1 := ⟨n - 1, by omega⟩
    exact br_t (nI_le (by omega) (by omega)) (hp0 (zt_us_n fun i hi => hno i (by omega) (by omega)))
  | succ m ih =>
    intro k hk hno n hn
    obtain ⟨n, rfl⟩ : ∃ n', n = n' + 1 := ⟨n - 1, by omega⟩
    have g1 := zy_eg h3 ht (N - k)
    have g2 := zy_eg h3 ht (N - (k + 1))
    have e1 : N - k = N - (k + 1) + 1 := by omega
    have yes : zy_pr (zy_e N t) u v (N - (k + 1)) → post 1 := fun hpr => hp1 (zt_us_i (by omega) hpr)
    have nxt : ¬ zy_pr (zy_e N t) u v (N - (k + 1)) → wY_uses_3 post (nI t) (nI u) (nI v) (nI N) ft ly tw lo pt n (nI (k + 1)) := fun hpr => ih (k + 1) (by omega) (fun i h1 h2 => by
      by_cases ei : i = N - (k + 1)
      · rw [ei]; exact hpr
      · exact hno i (by omega) h2) n (by omega)
    unfold zy_pr at yes nxt
    rw [← e1] at yes nxt
    refine br_f (nI_ge (by omega) (by omega)) (zy_place h ht (by omega) rfl _ (zy_place h ht (by omega : k + 1 ≤ N) (nI_1 k) _ ?_))
    generalize (zy_e N t).getD (N - k) 0 = a at g1 yes nxt ⊢
    generalize (zy_e N t).getD (N - (k + 1)) 0 = b at g2 yes nxt ⊢
    have K : ¬ (b = v ∧ a = u) → wY_uses_44 post (wY_uses_3 post (nI t) (nI u) (nI v) (nI N) ft ly tw lo pt n) (nI t) (nI u) (nI v) (nI k) (nI a) (nI b) (nI N) ft ly tw lo pt := by
      intro hn1
      refine pk_eq a v (fun h1 => pk_eq b u (fun h2 => yes (Or.inl ⟨h2, h1⟩)) (fun h2 => nm_r (nI_1 k) (nxt ?_))) (fun h1 => nm_r (nI_1 k) (nxt ?_))
      · rintro (z | z)
        · exact h2 z.1
        · exact hn1 z
      · rintro (z | z)
        · exact h1 z.2
        · exact hn1 z
    exact pk_eq a u (fun h1 => pk_eq b v (fun h2 => yes (Or.inr ⟨h2, h1⟩)) (fun h2 => K (fun z => h2 z.1))) (fun h1 => K (fun z => h1 z.2))
theorem zy_uses (h : zy_ok N d ly tw) {t u v : Nat} (hu : u < N) (hv : v < N) (ht : t < (zt_tr N).length) (post : Int32 → Prop) (hp1 : zt_us (zy_e N t) u v → post 1) (hp0 : ¬ zt_us (zy_e N t) u v → post 0) : wpY_uses post (nI N, ft, ly, tw, lo, pt) (nI t) (nI u) (nI v) :=
  ⟨N + 1, zy_uses3 h hu hv ht post hp1 hp0 N 0 (by omega) (fun i h1 h2 => absurd h1 (by omega)) (N + 1) (by omega)⟩
theorem zy_best4 (h : zy_ok N d ly tw) : ∀ (m i f : Nat), i + m = (zt_tr N).length → f < i → (∀ j, j < i → zp_pl d (zy_e N f) ≤ zp_pl d (zy_e N j)) → (∀ j, j < f → zp_pl d (zy_e N f) < zp_pl d (zy_e N j)) →
    ∃ f', f' < (zt_tr N).length ∧ (∀ j, j < (zt_tr N).length → zp_pl d (zy_e N f') ≤ zp_pl d (zy_e N j)) ∧ (∀ j, j < f' → zp_pl d (zy_e N f') < zp_pl d (zy_e N j)) ∧ ∀ (post : Int32 → Prop) (n : Nat), m < n → post (nI f') → wY_best_4 post (nI N) (nI (zt_tr N).length) ly tw lo pt n (nI f) (nI i) := by
  have h' := h
  obtain ⟨h3, hN, hs, hd, hly, htb⟩ := h'
  have hT := (zy_T h3 hN).1
  intro m
  induction m with
  | zero =>
    intro i f hi hf h1 h2
    have ei : i = (zt_tr N).length := by omega
    refine ⟨f, by omega, fun j hj => h1 j (by omega), h2, fun post n hn hp => ?_⟩
    obtain ⟨n, rfl⟩ : ∃ n', n = n' + 1 := ⟨n - 1, by omega⟩
    exact br_t (nI_le (by omega) (by omega)) hp
  | succ m ih =>
    intro i f hi hf h1 h2
    have b1 := zy_hb h3 hd (by omega : i < (zt_tr N).length)
    have b2 := zy_hb h3 hd (by omega : f < (zt_tr N).length)
    by_cases hle : zp_pl d (zy_e N f) ≤ zp_pl d (zy_e N i)
    · obtain ⟨f', g1, g2, g3, g4⟩ := ih (i + 1) f (by omega) (by omega) (fun j hj => by
        by_cases ej : j = i
        · rw [ej]; exact hle
        · exact h1 j (by omega)) h2
      refine ⟨f', g1, g2, g3, fun post n hn hp => ?_⟩
      obtain ⟨n, rfl⟩ : ∃ n', n = n' + 1 := ⟨n - 1, by omega⟩
      exact br_f (nI_ge (by omega) (by omega)) (zy_sum h (by omega) _ (zy_sum h (by omega) _ (br_t (nI_le hle (by omega)) (nm_r (nI_1 i) (g4 post n (by omega) hp)))))
    · obtain ⟨f', g1, g2, g3, g4⟩ := ih (i + 1) i (by omega) (by omega) (fun j hj => by
        by_cases ej : j = i
        · rw [ej]; exact Nat.le_refl _
        · have := h1 j (by omega); omega) (fun j hj => by have := h1 j hj; omega)
      refine ⟨f', g1, g2, g3, fun post n hn hp => ?_⟩
      obtain ⟨n, rfl⟩ : ∃ n', n = n' + 1 := ⟨n - 1, by omega⟩
      exact br_f (nI_ge (by omega) (by omega)) (zy_sum h (by omega) _ (zy_sum h (by omega) _ (br_f (nI_ge (by omega) (by omega)) (nm_r (nI_1 i) (g4 post n (by omega) hp)))))
theorem zy_best (h : zy_ok N d ly tw) : ∃ f, f < (zt_tr N).length ∧ (∀ j, j < (zt_tr N).length → zp_pl d (zy_e N f) ≤ zp_pl d (zy_e N j)) ∧ (∀ j, j < f → zp_pl d (zy_e N f) < zp_pl d (zy_e N j)) ∧ ∀ (post : Int32 → Prop), post (nI f) → wpY_best post (nI N, nI (zt_tr N).length, ly, tw, lo, pt) := by
  have hT := (zy_T h.1 h.2.1).2
  obtain ⟨f, h1, h2, h3, h4⟩ := zy_best4 (lo := lo) (pt := pt) h ((zt_tr N).length - 1) 1 0 (by omega) (by omega) (fun j hj => by
    have : j = 0 := by omega
    rw [this]; exact Nat.le_refl _) (fun j hj => absurd hj (by omega))
  exact ⟨f, h1, h2, h3, fun post hp => ⟨(zt_tr N).length, h4 post _ (by omega) hp⟩⟩
theorem zy_trips9 (h : zy_ok N d ly tw) {b : Nat} (hb : b ≤ 60 * N) (post : Int32 → Prop) (hp : post (nI (zl_ct (fun j => decide (zp_pl d (zy_e N j) = b)) (zt_tr N).length))) : ∀ (m i : Nat), i + m = (zt_tr N).length → ∀ n, m < n → wY_trips_9 post (nI b) (nI N) (nI (zt_tr N).length) ly tw lo pt n (nI (zl_ct (fun j => decide (zp_pl d (zy_e N j) = b)) i)) (nI i) := by
  have h' := h
  obtain ⟨h3, hN, hs, hd, hly, htb⟩ := h'
  have hT := (zy_T h3 hN).1
  intro m
  induction m with
  | zero =>
    intro i hi n hn
    obtain ⟨n, rfl⟩ : ∃ n', n = n' + 1 := ⟨n - 1, by omega⟩
    have ei : i = (zt_tr N).length := by omega
    rw [ei]
    exact br_t (nI_le (Nat.le_refl _) (by omega)) hp
  | succ m ih =>
    intro i hi n hn
    obtain ⟨n, rfl⟩ : ∃ n', n = n' + 1 := ⟨n - 1, by omega⟩
    have b1 := zy_hb h3 hd (by omega : i < (zt_tr N).length)
    have h1 := ih (i + 1) (by omega) n (by omega)
    rw [zl_ct_s] at h1
    refine br_f (nI_ge (by omega) (by omega)) (zy_sum h (by omega) _ (pk_eq (zp_pl d (zy_e N i)) b (fun he => ?_) (fun he => ?_)))
    · rw [if_pos (decide_eq_true he)] at h1
      exact nm_r (nI_1 _) (nm_r (nI_1 i) h1)
    · rw [if_neg (by simp; exact he)] at h1
      exact nm_r (nI_1 i) h1
/-- which trips count for least: those that use u, v (x3 = 1) or those that don't (x3 = 0) -/
def zy_sel (N u v : Nat) (x3 : Int32) (t : Nat) : Prop := (x3 = 1 ∧ zt_us (zy_e N t) u v) ∨ (x3 = 0 ∧ ¬ zt_us (zy_e N t) u v)
theorem zy_least6 (h : zy_ok N d ly tw) {u v : Nat} (hu : u < N) (hv : v < N) {x3 : Int32} (hx3 : x3 = 1 ∨ x3 = 0) (hex : ∃ t, t < (zt_tr N).length ∧ zy_sel N u v x3 t) :
    ∀ (m i : Nat) (x4 : Int32), i + m = (zt_tr N).length → ((x4 = -1 ∧ ∀ j, j < i → ¬ zy_sel N u v x3 j) ∨ ∃ f, f < i ∧ zy_sel N u v x3 f ∧ x4 = nI (zp_pl d (zy_e N f)) ∧ ∀ j, j < i → zy_sel N u v x3 j → zp_pl d (zy_e N f) ≤ zp_pl d (zy_e N j)) →
    ∃ f, f < (zt_tr N).length ∧ zy_sel N u v x3 f ∧ (∀ j, j < (zt_tr N).length → zy_sel N u v x3 j → zp_pl d (zy_e N f) ≤ zp_pl d (zy_e N j)) ∧ ∀ (post : Int32 → Prop) (n : Nat), m < n → post (nI (zp_pl d (zy_e N f))) → wY_least_6 post (nI u) (nI v) x3 (nI N) (nI (zt_tr N).length) ly tw lo pt n x4 (nI i) := by
  have h' := h
  obtain ⟨h3, hN, hs, hd, hly, htb⟩ := h'
  have hT := (zy_T h3 hN).1
  intro m
  induction m with
  | zero =>
    intro i x4 hi hI
    have ei : i = (zt_tr N).length := by omega
    subst ei
    rcases hI with ⟨_, hno⟩ | ⟨f, hf, hsf, rfl, hmin⟩
    · obtain ⟨t, ht, hst⟩ := hex
      exact absurd hst (hno t ht)
    · refine ⟨f, hf, hsf, hmin, fun post n hn hp => ?_⟩
      obtain ⟨n, rfl⟩ : ∃ n', n = n' + 1 := ⟨n - 1, by omega⟩
      exact br_t (nI_le (Nat.le_refl _) (by omega)) hp
  | succ m ih =>
    intro i x4 hi hI
    have hi' : i < (zt_tr N).length := by omega
    have hge : ¬ nI (zt_tr N).length ≤ nI i := nI_ge (by omega) (by omega)
    have b1 := zy_hb h3 hd hi'
    -- one turn, by what uses says
    have turn : ∀ (x4' : Int32), (zy_sel N u v x3 i → ∀ (post : Int32 → Prop) (n : Nat), wY_least_6 post (nI u) (nI v) x3 (nI N) (nI (zt_tr N).length) ly tw lo pt n x4' (nI (i + 1)) → wY_least_37 post (wY_least_6 post (nI u) (nI v) x3 (nI N) (nI (zt_tr N).length) ly tw lo pt n) (nI u) (nI v) x3 x4 (nI i) (nI (zp_pl d (zy_e N i))) (nI N) (nI (zt_tr N).length) ly tw lo pt) → (¬ zy_sel N u v x3 i → x4' = x4) →
        ∀ (post : Int32 → Prop) (n : Nat), wY_least_6 post (nI u) (nI v) x3 (nI N) (nI (zt_tr N).length) ly tw lo pt n x4' (nI (i + 1)) → wY_least_6 post (nI u) (nI v) x3 (nI N) (nI (zt_tr N).length) ly tw lo pt (n + 1) x4 (nI i) := by
      intro x4' hyes hno post n hK
      have K0 : ¬ zy_sel N u v x3 i → wY_least_37 post (wY_least_6 post (nI u) (nI v) x3 (nI N) (nI (zt_tr N).length) ly tw lo pt n) (nI u) (nI v) x3 x4 (nI i) (-1) (nI N) (nI (zt_tr N).length) ly tw lo pt := by
        intro hz
        rw [hno hz] at hK
        exact br_t (by decide) (nm_r (nI_1 i) hK)
      refine br_f hge (zy_uses h hu hv hi' _ (fun hus => ?_) (fun hus => ?_))
      · rcases hx3 with hx | hx
        · exact br_t hx.symm (zy_sum h hi' _ (hyes (Or.inl ⟨hx, hus⟩) post n hK))
        · refine br_f (by rw [hx]; decide) (K0 ?_)
          rintro (z | z)
          · rw [hx] at z; exact absurd z.1 (by decide)
          · exact z.2 hus
      · rcases hx3 with hx | hx
        · refine br_f (by rw [hx]; decide) (K0 ?_)
          rintro (z | z)
          · exact hus z.2
          · rw [hx] at z; exact absurd z.1 (by decide)
        · exact br_t hx.symm (zy_sum h hi' _ (hyes (Or.inr ⟨hx, hus⟩) post n hK))
    by_cases hsel : zy_sel N u v x3 i
    · rcases hI with ⟨rfl, hno⟩ | ⟨f, hf, hsf, rfl, hmin⟩
      · obtain ⟨f', g1, g2, g3, g4⟩ := ih (i + 1) (nI (zp_pl d (zy_e N i))) (by omega) (Or.inr ⟨i, by omega, hsel, rfl, fun j hj hsj => by
          by_cases ej : j = i
          · rw [ej]; exact Nat.le_refl _
          · exact absurd hsj (hno j (by omega))⟩)
        refine ⟨f', g1, g2, g3, fun post n hn hp => ?_⟩
        obtain ⟨n, rfl⟩ : ∃ n', n = n' + 1 := ⟨n - 1, by omega⟩
        exact turn _ (fun _ post n hK => br_f (nI_pos (by omega)) (br_t (by decide) (nm_r (nI_1 i) hK))) (fun z => absurd hsel z) post n (g4 post n (by omega) hp)
      · have b2 := zy_hb h3 hd (by omega : f < (zt_tr N).length)
        by_cases hle : zp_pl d (zy_e N f) ≤ zp_pl d (zy_e N i)
        · obtain ⟨f', g1, g2, g3, g4⟩ := ih (i + 1) (nI (zp_pl d (zy_e N f))) (by omega) (Or.inr ⟨f, by omega, hsf, rfl, fun j hj hsj => by
            by_cases ej : j = i
            · rw [ej]; exact hle
            · exact hmin j (by omega) hsj⟩)
          refine ⟨f', g1, g2, g3, fun post n hn hp => ?_⟩
          obtain ⟨n, rfl⟩ : ∃ n', n = n' + 1 := ⟨n - 1, by omega⟩
          exact turn _ (fun _ post n hK => br_f (nI_pos (by omega)) (br_f (nI_pos (by omega)) (br_t (nI_le hle (by omega)) (nm_r (nI_1 i) hK)))) (fun z => absurd hsel z) post n (g4 post n (by omega) hp)
        · obtain ⟨f', g1, g2, g3, g4⟩ := ih (i + 1) (nI (zp_pl d (zy_e N i))) (by omega) (Or.inr ⟨i, by omega, hsel, rfl, fun j hj hsj => by
            by_cases ej : j = i
            · rw [ej]; exact Nat.le_refl _
            · have := hmin j (by omega) hsj; omega⟩)
          refine ⟨f', g1, g2, g3, fun post n hn hp => ?_⟩
          obtain ⟨n, rfl⟩ : ∃ n', n = n' + 1 := ⟨n - 1, by omega⟩
          exact turn _ (fun _ post n hK => br_f (nI_pos (by omega)) (br_f (nI_pos (by omega)) (br_f (nI_ge (by omega) (by omega)) (nm_r (nI_1 i) hK)))) (fun z => absurd hsel z) post n (g4 post n (by omega) hp)
    · obtain ⟨f', g1, g2, g3, g4⟩ := ih (i + 1) x4 (by omega) (by
        rcases hI with ⟨e, hno⟩ | ⟨f, hf, hsf, e, hmin⟩
        · refine Or.inl ⟨e, fun j hj => ?_⟩
          by_cases ej : j = i
          · rw [ej]; exact hsel
          · exact hno j (by omega)
        · refine Or.inr ⟨f, by omega, hsf, e, fun j hj hsj => ?_⟩
          by_cases ej : j = i
          · rw [ej] at hsj; exact absurd hsj hsel
          · exact hmin j (by omega) hsj)
      refine ⟨f', g1, g2, g3, fun post n hn hp => ?_⟩
      obtain ⟨n, rfl⟩ : ∃ n', n = n' + 1 := ⟨n - 1, by omega⟩
      exact turn x4 (fun z => absurd z hsel) (fun _ => rfl) post n (g4 post n (by omega) hp)
theorem zy_least (h : zy_ok N d ly tw) {u v : Nat} (hu : u < N) (hv : v < N) {x3 : Int32} (hx3 : x3 = 1 ∨ x3 = 0) (hex : ∃ t, t < (zt_tr N).length ∧ zy_sel N u v x3 t) :
    ∃ f, f < (zt_tr N).length ∧ zy_sel N u v x3 f ∧ (∀ j, j < (zt_tr N).length → zy_sel N u v x3 j → zp_pl d (zy_e N f) ≤ zp_pl d (zy_e N j)) ∧ ∀ (post : Int32 → Prop), post (nI (zp_pl d (zy_e N f))) → wpY_least post (nI N, nI (zt_tr N).length, ly, tw, lo, pt) (nI u) (nI v) x3 := by
  obtain ⟨f, g1, g2, g3, g4⟩ := zy_least6 (lo := lo) (pt := pt) h hu hv hx3 hex (zt_tr N).length 0 (-1) (by omega) (Or.inl ⟨rfl, fun j hj => absurd hj (by omega)⟩)
  exact ⟨f, g1, g2, g3, fun post hp => ⟨(zt_tr N).length + 1, g4 post _ (by omega) hp⟩⟩
end
end
section
/-- a round under way: pairs before place i are done -/
def zy_iv (N : Nat) (d : Nat → Nat → Nat) (k : Nat) (p0 : Nat → Nat) (i : Nat) (p : Nat → Nat) : Prop :=
  (∀ u, u < N → p u ≤ p0 u) ∧ (∀ u v, u < N → v < N → u ≠ v → 7 * u + v < i → d u v ≤ k → p u ≤ p0 v) ∧ (∀ u, u < N → ∃ v, v < N ∧ zp_cn (fun x => x < N) d k u v ∧ p u = p0 v)
theorem zy_iv0 (N : Nat) (d : Nat → Nat → Nat) (k : Nat) (p0 : Nat → Nat) : zy_iv N d k p0 0 p0 :=
  ⟨fun _ _ => Nat.le_refl _, fun _ _ _ _ _ h => absurd h (by omega), fun u hu => ⟨u, hu, zp_cn_r, rfl⟩⟩
theorem zy_iv_n {N : Nat} (hN : N ≤ 7) {d : Nat → Nat → Nat} {k : Nat} {p0 p : Nat → Nat} {i : Nat} (h : zy_iv N d k p0 i p) (hc : ¬ (i / 7 < N ∧ i % 7 < N ∧ i / 7 ≠ i % 7 ∧ d (i / 7) (i % 7) ≤ k ∧ p (i % 7) < p (i / 7))) : zy_iv N d k p0 (i + 1) p := by
  obtain ⟨ha, hb, hcc⟩ := h
  refine ⟨ha, fun u v hu hv huv hlt hd => ?_, hcc⟩
  by_cases e : 7 * u + v = i
  · have e1 : i / 7 = u := by omega
    have e2 : i % 7 = v := by omega
    rw [e1, e2] at hc
    have h1 : ¬ p v < p u := fun z => hc ⟨hu, hv, huv, hd, z⟩
    have h2 := ha v hv
    omega
  · exact hb u v hu hv huv (by omega) hd
theorem zy_iv_s {N : Nat} (hN : N ≤ 7) {d : Nat → Nat → Nat} {k : Nat} {p0 p : Nat → Nat} {i : Nat} (h : zy_iv N d k p0 i p) (hu : i / 7 < N) (hv : i % 7 < N) (hd : d (i / 7) (i % 7) ≤ k) (hlt : p (i % 7) < p (i / 7)) : zy_iv N d k p0 (i + 1) (fun x => if x = i / 7 then p (i % 7) else p x) := by
  obtain ⟨ha, hb, hcc⟩ := h
  have hav := ha _ hv
  have hau := ha _ hu
  refine ⟨fun x hx => ?_, fun x y hx hy hxy hl hdx => ?_, fun x hx => ?_⟩
  · show (if x = i / 7 then p (i % 7) else p x) ≤ p0 x
    by_cases e : x = i / 7
    · rw [if_pos e, e]; omega
    · rw [if_neg e]; exact ha x hx
  · show (if x = i / 7 then p (i % 7) else p x) ≤ p0 y
    by_cases e : x = i / 7
    · rw [if_pos e]
      by_cases ey : y = i % 7
      · rw [ey]; exact hav
      · have := hb x y hx hy hxy (by omega) hdx
        rw [e] at this; omega
    · rw [if_neg e]
      exact hb x y hx hy hxy (by omega) hdx
  · show ∃ v, v < N ∧ zp_cn (fun x => x < N) d k x v ∧ (if x = i / 7 then p (i % 7) else p x) = p0 v
    by_cases e : x = i / 7
    · rw [if_pos e]
      obtain ⟨w, hw, hcw, ew⟩ := hcc _ hv
      exact ⟨w, hw, zp_cn_t (by rw [e]; exact zp_cn_e hu hv hd) hcw, ew⟩
    · rw [if_neg e]; exact hcc x hx
section
variable {fn ft : Int32} {ly tw lo pt : Nat → Int32} {N : Nat} {d : Nat → Nat → Nat}
theorem zy_p35 (hN : N ≤ 7) (hd : ∀ a b, d a b ≤ 60) (hly : ∀ i j, i < 7 → j < 7 → ly (7 * i + j) = nI (d i j)) {k r : Nat} (hk : k < 60) {p0 : Nat → Nat} (hp0 : ∀ u, u < N → p0 u < N) :
    ∀ (m i : Nat) (p : Nat → Nat) (pt : Nat → Int32), i + m = 49 → (∀ u, u < N → pt u = nI (p u)) → zy_iv N d k p0 i p →
    ∃ (p' : Nat → Nat) (pt' : Nat → Int32), (∀ u, u < N → pt' u = nI (p' u)) ∧ zr_rd N d k p0 p' ∧ ∀ (post : Int32 → SY → Prop) (J : Int32 → (Nat → Int32) → (Nat → Int32) → (Nat → Int32) → (Nat → Int32) → Prop) (n : Nat), m < n → J (nI (r + 1)) ly tw lo pt' → wY_parts_35 post J (nI k) (nI r) (nI N) ft n (nI i) ly tw lo pt := by
  intro m
  induction m with
  | zero =>
    intro i p pt hi hpt hiv
    refine ⟨p, pt, hpt, ⟨hiv.1, fun u v hu hv huv hdu => hiv.2.1 u v hu hv huv (by omega) hdu, hiv.2.2⟩, fun post J n hn hp => ?_⟩
    obtain ⟨n, rfl⟩ : ∃ n', n = n' + 1 := ⟨n - 1, by omega⟩
    exact br_t (nI_le (a := 49) (by omega) (by omega)) (nm_r (nI_1 r) hp)
  | succ m ih =>
    intro i p pt hi hpt hiv
    have hge : ¬ (49 : Int32) ≤ nI i := nI_ge (b := 49) (by omega) (by omega)
    have c1 : nI i / 7 = nI (i / 7) := pk_div (d := 7) (by omega) (by omega) (by omega)
    have c2 : nI i - nI i / 7 * 7 = nI (i % 7) := pk_rem (d := 7) (by omega) (by omega) (by omega)
    have b7 : ¬ (7 : Int32) = 0 := by decide
    have c3 : ly (nI i).toNatClampNeg = nI (d (i / 7) (i % 7)) := by
      rw [nI_clamp (by omega), ← hly (i / 7) (i % 7) (by omega) (by omega)]
      exact congrArg ly (by omega)
    have bp : ∀ u, u < N → p u < N := fun u hu => by
      obtain ⟨v, hv, _, e⟩ := hiv.2.2 u hu
      rw [e]; exact hp0 v hv
    have bd := hd (i / 7) (i % 7)
    by_cases hc : i / 7 < N ∧ i % 7 < N ∧ i / 7 ≠ i % 7 ∧ d (i / 7) (i % 7) ≤ k ∧ p (i % 7) < p (i / 7)
    · obtain ⟨hu, hv, huv, hdk, hlt⟩ := hc
      have q1 : pt (nI (i / 7)).toNatClampNeg = nI (p (i / 7)) := by rw [nI_clamp (by omega)]; exact hpt _ hu
      have q2 : pt (nI (i % 7)).toNatClampNeg = nI (p (i % 7)) := by rw [nI_clamp (by omega)]; exact hpt _ hv
      have b1 := bp _ hu
      have b2 := bp _ hv
      obtain ⟨p', pt', h1, h2, h3⟩ := ih (i + 1) (fun x => if x = i / 7 then p (i % 7) else p x) (upd pt (i / 7) (nI (p (i % 7)))) (by omega) (fun x hx => by
        show upd pt (i / 7) (nI (p (i % 7))) x = nI (if x = i / 7 then p (i % 7) else p x)
        by_cases e : x = i / 7
        · rw [if_pos e, e, pk_us]
        · rw [if_neg e, pk_un e]; exact hpt x hx) (zy_iv_s hN hiv hu hv hdk hlt)
      refine ⟨p', pt', h1, h2, fun post J n hn hp => ?_⟩
      obtain ⟨n, rfl⟩ : ∃ n', n = n' + 1 := ⟨n - 1, by omega⟩
      have i1 : vp_in (nI (i % 7)) 7 := vp_in_nI (by omega) (by omega)
      have i2 : vp_in (nI (i / 7)) 7 := vp_in_nI (by omega) (by omega)
      refine br_f hge ⟨b7, nm_r c1 ⟨b7, nm_r c2 (br_f (nI_ge hu (by omega)) (br_f (nI_ge hv (by omega)) (br_f (by rw [nI_eq (by omega) (by omega)]; exact huv) ⟨vp_in_nI (by omega) (by omega), br_f (by rw [c3]; exact nI_nlt hdk (by omega)) ⟨i1, i2, br_f (by rw [q1, q2]; exact nI_ge hlt (by omega)) ⟨i1, i2, fun q eq => nm_r (nI_1 i) ?_⟩⟩⟩)))⟩⟩
      rw [q2, nI_clamp (by omega)] at eq
      rw [eq]
      exact h3 post J n (by omega) hp
    · obtain ⟨p', pt', h1, h2, h3⟩ := ih (i + 1) p pt (by omega) hpt (zy_iv_n hN hiv hc)
      refine ⟨p', pt', h1, h2, fun post J n hn hp => ?_⟩
      obtain ⟨n, rfl⟩ : ∃ n', n = n' + 1 := ⟨n - 1, by omega⟩
      have K := h3 post J n (by omega) hp
      refine br_f hge ⟨b7, nm_r c1 ⟨b7, nm_r c2 (pk_le N (i / 7) (fun _ => nm_r (nI_1 i) K) (fun hu => pk_le N (i % 7) (fun _ => nm_r (nI_1 i) K) (fun hv => pk_eq (i / 7) (i % 7) (fun _ => nm_r (nI_1 i) K) (fun huv => ⟨vp_in_nI (by omega) (by omega), ?_⟩))))⟩⟩
      have q1 : pt (nI (i / 7)).toNatClampNeg = nI (p (i / 7)) := by rw [nI_clamp (by omega)]; exact hpt _ hu
      have q2 : pt (nI (i % 7)).toNatClampNeg = nI (p (i % 7)) := by rw [nI_clamp (by omega)]; exact hpt _ hv
      have b1 := bp _ hu
      have b2 := bp _ hv
      have i1 : vp_in (nI (i % 7)) 7 := vp_in_nI (by omega) (by omega)
      have i2 : vp_in (nI (i / 7)) 7 := vp_in_nI (by omega) (by omega)
      by_cases hdk : d (i / 7) (i % 7) ≤ k
      · have hnl : ¬ p (i % 7) < p (i / 7) := fun z => hc ⟨hu, hv, huv, hdk, z⟩
        exact br_f (by rw [c3]; exact nI_nlt hdk (by omega)) ⟨i1, i2, br_t (by rw [q1, q2]; exact nI_le (by omega) (by omega)) (nm_r (nI_1 i) K)⟩
      · exact br_t (by rw [c3]; exact nI_lt (by omega) (by omega)) (nm_r (nI_1 i) K)
theorem zy_p25 (hN : N ≤ 7) (hs : ∀ a b, d a b = d b a) (hd : ∀ a b, d a b ≤ 60) (hly : ∀ i j, i < 7 → j < 7 → ly (7 * i + j) = nI (d i j)) {k : Nat} (hk : k < 60) :
    ∀ (m r : Nat) (p : Nat → Nat) (pt : Nat → Int32), r + m = N → (∀ u, u < N → pt u = nI (p u)) → zr_J N d k r p →
    ∃ (p' : Nat → Nat) (pt' : Nat → Int32), (∀ u, u < N → pt' u = nI (p' u)) ∧ zr_J N d k N p' ∧ ∀ (post : Int32 → SY → Prop) (n : Nat), m < n → (∃ n135 : Nat, wY_parts_135 post (nI N) ft ly tw lo pt' n135 0 0) → wY_parts_25 post (nI k) (nI N) ft n (nI r) ly tw lo pt := by
  intro m
  induction m with
  | zero =>
    intro r p pt hr hpt hJ
    have er : r = N := by omega
    rw [er] at hJ
    refine ⟨p, pt, hpt, hJ, fun post n hn hp => ?_⟩
    obtain ⟨n, rfl⟩ : ∃ n', n = n' + 1 := ⟨n - 1, by omega⟩
    exact br_t (nI_le (by omega) (by omega)) hp
  | succ m ih =>
    intro r p pt hr hpt hJ
    obtain ⟨p1, pt1, g1, g2, g3⟩ := zy_p35 (ft := ft) (ly := ly) (tw := tw) (lo := lo) (r := r) hN hd hly hk (p0 := p) (fun u hu => (hJ.1 u hu).1) 49 0 p pt rfl hpt (zy_iv0 N d k p)
    obtain ⟨p', pt', h1, h2, h3⟩ := ih (r + 1) p1 pt1 (by omega) g1 (zr_J1 hs hJ g2)
    refine ⟨p', pt', h1, h2, fun post n hn hp => ?_⟩
    obtain ⟨n, rfl⟩ : ∃ n', n = n' + 1 := ⟨n - 1, by omega⟩
    exact br_f (nI_ge (by omega) (by omega)) ⟨50, g3 post _ 50 (by omega) (h3 post n (by omega) hp)⟩
theorem zy_p135 (hN : N ≤ 7) {p : Nat → Nat} (hpN : ∀ u, u < N → p u < N) (hpt : ∀ u, u < N → pt u = nI (p u)) (post : Int32 → SY → Prop) (hp : post (nI (zl_ct (fun u => decide (p u = u)) N)) (nI N, ft, ly, tw, lo, pt)) :
    ∀ (m i : Nat), i + m = N → ∀ n, m < n → wY_parts_135 post (nI N) ft ly tw lo pt n (nI (zl_ct (fun u => decide (p u = u)) i)) (nI i) := by
  intro m
  induction m with
  | zero =>
    intro i hi n hn
    obtain ⟨n, rfl⟩ : ∃ n', n = n' + 1 := ⟨n - 1, by omega⟩
    have ei : i = N := by omega
    rw [ei]
    exact br_t (nI_le (Nat.le_refl _) (by omega)) hp
  | succ m ih =>
    intro i hi n hn
    obtain ⟨n, rfl⟩ : ∃ n', n = n' + 1 := ⟨n - 1, by omega⟩
    have h1 := ih (i + 1) (by omega) n (by omega)
    rw [zl_ct_s] at h1
    have q1 : pt (nI i).toNatClampNeg = nI (p i) := by rw [nI_clamp (by omega)]; exact hpt i (by omega)
    have b1 := hpN i (by omega)
    refine br_f (nI_ge (by omega) (by omega)) ⟨vp_in_nI (by omega) (by omega), ?_⟩
    rw [q1]
    refine pk_eq (p i) i (fun he => ?_) (fun he => ?_)
    · rw [if_pos (decide_eq_true he)] at h1
      exact nm_r (nI_1 _) (nm_r (nI_1 i) h1)
    · rw [if_neg (fun z => he (of_decide_eq_true z))] at h1
      exact nm_r (nI_1 i) h1
theorem zy_p2 (hN : N ≤ 7) : ∀ (m i : Nat) (pt : Nat → Int32), i + m = N → (∀ u, u < i → pt u = nI u) →
    ∃ pt' : Nat → Int32, (∀ u, u < N → pt' u = nI u) ∧ ∀ (post : Int32 → SY → Prop) (x1 : Int32) (n : Nat), m < n → (∃ n25 : Nat, wY_parts_25 post x1 (nI N) ft n25 0 ly tw lo pt') → wY_parts_2 post x1 (nI N) ft n (nI i) ly tw lo pt := by
  intro m
  induction m with
  | zero =>
    intro i pt hi hpt
    refine ⟨pt, fun u hu => hpt u (by omega), fun post x1 n hn hp => ?_⟩
    obtain ⟨n, rfl⟩ : ∃ n', n = n' + 1 := ⟨n - 1, by omega⟩
    exact br_t (nI_le (by omega) (by omega)) hp
  | succ m ih =>
    intro i pt hi hpt
    obtain ⟨pt', h1, h2⟩ := ih (i + 1) (upd pt i (nI i)) (by omega) (zx_us (g := nI) hpt rfl)
    refine ⟨pt', h1, fun post x1 n hn hp => ?_⟩
    obtain ⟨n, rfl⟩ : ∃ n', n = n' + 1 := ⟨n - 1, by omega⟩
    refine br_f (nI_ge (by omega) (by omega)) ⟨vp_in_nI (by omega) (by omega), fun q eq => nm_r (nI_1 i) ?_⟩
    rw [nI_clamp (by omega)] at eq
    rw [eq]
    exact h2 post x1 n (by omega) hp
theorem zy_parts (h3 : 3 ≤ N) (hN : N ≤ 7) (hs : ∀ a b, d a b = d b a) (hd : ∀ a b, d a b ≤ 60) (hly : ∀ i j, i < 7 → j < 7 → ly (7 * i + j) = nI (d i j)) {k : Nat} (hk : k < 60) {ws : List Nat} (hf : zp_fin (fun x => x < N) d ws) :
    ∃ pt' : Nat → Int32, ∀ (post : Int32 → SY → Prop), post (nI (1 + zp_bg k ws)) (nI N, ft, ly, tw, lo, pt') → wpY_parts post (nI N, ft, ly, tw, lo, pt) (nI k) := by
  obtain ⟨pt1, g1, g2⟩ := zy_p2 (ft := ft) (ly := ly) (tw := tw) (lo := lo) hN N 0 pt (by omega) (fun u hu => absurd hu (by omega))
  obtain ⟨p', pt', h1, h2, h4⟩ := zy_p25 (ft := ft) (tw := tw) (lo := lo) hN hs hd hly hk N 0 (fun u => u) pt1 (by omega) g1 (zr_J0 (by omega) d k (fun _ _ => rfl))
  refine ⟨pt', fun post hp => ?_⟩
  have e := zr_fin hs h2 hf
  rw [← e] at hp
  exact ⟨N + 1, g2 post _ (N + 1) (by omega) ⟨N + 1, h4 post (N + 1) (by omega) ⟨N + 1, zy_p135 hN (fun u hu => (h2.1 u hu).1) h1 post hp N 0 (by omega) (N + 1) (by omega)⟩⟩⟩
theorem zy_reach2 (h3 : 3 ≤ N) (hN : N ≤ 7) (hs : ∀ a b, d a b = d b a) (hd : ∀ a b, d a b ≤ 60) (hly : ∀ i j, i < 7 → j < 7 → ly (7 * i + j) = nI (d i j)) {ws : List Nat} (hf : zp_fin (fun x => x < N) d ws) (hl : ws.length ≤ 7) (hm : zp_mx ws ≤ 60) :
    ∀ (m i : Nat) (pt : Nat → Int32), i + m = 60 → i ≤ zp_mx ws → ∃ pt' : Nat → Int32, ∀ (post : Int32 → SY → Prop) (n : Nat), m < n → post (nI (zp_mx ws)) (nI N, ft, ly, tw, lo, pt') → wY_reach_2 post n (nI i) (nI N) ft ly tw lo pt := by
  intro m
  induction m with
  | zero =>
    intro i pt hi hle
    refine ⟨pt, fun post n hn hp => ?_⟩
    obtain ⟨n, rfl⟩ : ∃ n', n = n' + 1 := ⟨n - 1, by omega⟩
    have e : zp_mx ws = 60 := by omega
    rw [e] at hp
    exact br_t (nI_le (a := 60) (by omega) (by omega)) hp
  | succ m ih =>
    intro i pt hi hle
    have hge : ¬ (60 : Int32) ≤ nI i := nI_ge (b := 60) (by omega) (by omega)
    obtain ⟨pt1, g1⟩ := zy_parts (ft := ft) (tw := tw) (lo := lo) (pt := pt) h3 hN hs hd hly (by omega : i < 60) hf
    have hb : zp_bg i ws ≤ 7 := Nat.le_trans List.countP_le_length hl
    by_cases hz : zp_bg i ws = 0
    · have e : zp_mx ws = i := by have := (zp_mx_bg i ws).mp hz; omega
      refine ⟨pt1, fun post n hn hp => ?_⟩
      obtain ⟨n, rfl⟩ : ∃ n', n = n' + 1 := ⟨n - 1, by omega⟩
      rw [e] at hp
      exact br_f hge (g1 _ (br_t (by rw [hz]; rfl) hp))
    · have hlt : i + 1 ≤ zp_mx ws := by
        have : ¬ zp_mx ws ≤ i := fun z => hz ((zp_mx_bg i ws).mpr z)
        omega
      obtain ⟨pt', h1⟩ := ih (i + 1) pt1 (by omega) hlt
      refine ⟨pt', fun post n hn hp => ?_⟩
      obtain ⟨n, rfl⟩ : ∃ n', n = n' + 1 := ⟨n - 1, by omega⟩
      refine br_f hge (g1 _ (br_f ?_ (nm_r (nI_1 i) (h1 post n (by omega) hp))))
      intro z
      have := (nI_eq (a := 1 + zp_bg i ws) (b := 1) (by omega) (by omega)).mp z
      omega
theorem zy_reach (h3 : 3 ≤ N) (hN : N ≤ 7) (hs : ∀ a b, d a b = d b a) (hd : ∀ a b, d a b ≤ 60) (hly : ∀ i j, i < 7 → j < 7 → ly (7 * i + j) = nI (d i j)) {ws : List Nat} (hf : zp_fin (fun x => x < N) d ws) (hl : ws.length ≤ 7) (hm : zp_mx ws ≤ 60) :
    ∃ pt' : Nat → Int32, ∀ (post : Int32 → SY → Prop), post (nI (zp_mx ws)) (nI N, ft, ly, tw, lo, pt') → wpY_reach post (nI N, ft, ly, tw, lo, pt) := by
  obtain ⟨pt', h1⟩ := zy_reach2 (ft := ft) (tw := tw) (lo := lo) h3 hN hs hd hly hf hl hm 60 0 pt rfl (Nat.zero_le _)
  exact ⟨pt', fun post hp => ⟨61, h1 post 61 (by omega) hp⟩⟩
theorem zy_net4 (h3 : 3 ≤ N) (hN : N ≤ 7) (hs : ∀ a b, d a b = d b a) (hd : ∀ a b, d a b ≤ 60) (hly : ∀ i j, i < 7 → j < 7 → ly (7 * i + j) = nI (d i j)) {ws : List Nat} (hf : zp_fin (fun x => x < N) d ws) :
    ∀ (m i : Nat) (pt : Nat → Int32), i + m = 60 → ∃ pt' : Nat → Int32, ∀ (post : Int32 → SY → Prop) (n : Nat), m < n → post (nI (zp_sm (fun k => zp_bg k ws) 60)) (nI N, ft, ly, tw, lo, pt') → wY_net_4 post n (nI (zp_sm (fun k => zp_bg k ws) i)) (nI i) (nI N) ft ly tw lo pt := by
  intro m
  induction m with
  | zero =>
    intro i pt hi
    refine ⟨pt, fun post n hn hp => ?_⟩
    obtain ⟨n, rfl⟩ : ∃ n', n = n' + 1 := ⟨n - 1, by omega⟩
    have e : i = 60 := by omega
    rw [e]
    exact br_t (nI_le (a := 60) (Nat.le_refl _) (by omega)) hp
  | succ m ih =>
    intro i pt hi
    have hge : ¬ (60 : Int32) ≤ nI i := nI_ge (b := 60) (by omega) (by omega)
    obtain ⟨pt1, g1⟩ := zy_parts (ft := ft) (tw := tw) (lo := lo) (pt := pt) h3 hN hs hd hly (by omega : i < 60) hf
    obtain ⟨pt', h1⟩ := ih (i + 1) pt1 (by omega)
    refine ⟨pt', fun post n hn hp => ?_⟩
    obtain ⟨n, rfl⟩ : ∃ n', n = n' + 1 := ⟨n - 1, by omega⟩
    have e : nI (zp_sm (fun k => zp_bg k ws) i) + (nI (1 + zp_bg i ws) - 1) = nI (zp_sm (fun k => zp_bg k ws) (i + 1)) := by
      rw [Nat.add_comm 1, nI_pred, nI_add]; rfl
    exact br_f hge (g1 _ (nm_r e (nm_r (nI_1 i) (h1 post n (by omega) hp))))
theorem zy_net (h3 : 3 ≤ N) (hN : N ≤ 7) (hs : ∀ a b, d a b = d b a) (hd : ∀ a b, d a b ≤ 60) (hly : ∀ i j, i < 7 → j < 7 → ly (7 * i + j) = nI (d i j)) {ws : List Nat} (hf : zp_fin (fun x => x < N) d ws) (hw : ∀ w, w ∈ ws → w ≤ 60) :
    ∃ pt' : Nat → Int32, ∀ (post : Int32 → SY → Prop), post (nI ws.sum) (nI N, ft, ly, tw, lo, pt') → wpY_net post (nI N, ft, ly, tw, lo, pt) := by
  obtain ⟨pt', h1⟩ := zy_net4 (ft := ft) (tw := tw) (lo := lo) h3 hN hs hd hly hf 60 0 pt rfl
  rw [zp_sm_w 60 ws hw] at h1
  exact ⟨pt', fun post hp => ⟨61, h1 post 61 (by omega) hp⟩⟩
end
end
section
def zo_len (d : Nat → Nat → Nat) (len : Nat → Int32) : Prop := ∀ i j, i < 7 → j < 7 → len (7 * i + j) = nI (d i j)
/-- the relation: the same number of towns, lengths by one symmetric d, the table of all trips -/
def i_Rel (k : Nat) (u : SX) (v : SY) : Prop := ∃ (N : Nat) (d : Nat → Nat → Nat) (go be bc : Int32) (len pr pa la nt bp ne ly tw lo pt : Nat → Int32), u = (nI N, go, be, bc, len, pr, pa, la, nt, bp, ne) ∧ v = (nI N, nI (zt_tr N).length, ly, tw, lo, pt) ∧ zo_len d len ∧ zy_ok N d ly tw
theorem i_up {k : Nat} {u : SX} {v : SY} (h : i_Rel k u v) : i_Rel (k + 4) u v := h
def zo_d (a b w : Nat) (d : Nat → Nat → Nat) : Nat → Nat → Nat := fun x y => if (x = a ∧ y = b) ∨ (x = b ∧ y = a) then w else d x y
theorem zo_dp {a b w : Nat} {d : Nat → Nat → Nat} {x y : Nat} (h : (x = a ∧ y = b) ∨ (x = b ∧ y = a)) : zo_d a b w d x y = w := if_pos h
theorem zo_dn {a b w : Nat} {d : Nat → Nat → Nat} {x y : Nat} (h : ¬ ((x = a ∧ y = b) ∨ (x = b ∧ y = a))) : zo_d a b w d x y = d x y := if_neg h
theorem zo_ds {a b w : Nat} {d : Nat → Nat → Nat} (hs : ∀ x y, d x y = d y x) : ∀ x y, zo_d a b w d x y = zo_d a b w d y x := by
  intro x y
  by_cases h : (x = a ∧ y = b) ∨ (x = b ∧ y = a)
  · rw [zo_dp h, zo_dp (by rcases h with h | h; exact Or.inr ⟨h.2, h.1⟩; exact Or.inl ⟨h.2, h.1⟩)]
  · rw [zo_dn h, zo_dn (fun z => h (by rcases z with z | z; exact Or.inr ⟨z.2, z.1⟩; exact Or.inl ⟨z.2, z.1⟩))]
    exact hs x y
theorem zo_db {a b w F : Nat} {d : Nat → Nat → Nat} (hw : w ≤ F) (hd : ∀ x y, d x y ≤ F) : ∀ x y, zo_d a b w d x y ≤ F := by
  intro x y
  by_cases h : (x = a ∧ y = b) ∨ (x = b ∧ y = a)
  · rw [zo_dp h]; exact hw
  · rw [zo_dn h]; exact hd x y
theorem zo_set {a b w : Nat} {d : Nat → Nat → Nat} {len : Nat → Int32} (h : zo_len d len) (ha : a < 7) (hb : b < 7) : zo_len (zo_d a b w d) (upd (upd len (7 * a + b) (nI w)) (7 * b + a) (nI w)) := by
  intro i j hi hj
  by_cases h1 : (i = a ∧ j = b) ∨ (i = b ∧ j = a)
  · rw [zo_dp h1]
    by_cases h2 : 7 * i + j = 7 * b + a
    · rw [h2, pk_us]
    · rw [pk_un h2]
      have h3 : 7 * i + j = 7 * a + b := by omega
      rw [h3, pk_us]
  · rw [zo_dn h1, pk_un (by omega), pk_un (by omega)]
    exact h i j hi hj
theorem zo_ok {N a b w : Nat} {d : Nat → Nat → Nat} {ly tw : Nat → Int32} (h : zy_ok N d ly tw) (ha : a < 7) (hb : b < 7) (hw : w ≤ 60) : zy_ok N (zo_d a b w d) (upd (upd ly (7 * a + b) (nI w)) (7 * b + a) (nI w)) tw := by
  obtain ⟨h3, hN, hs, hd, hly, htb⟩ := h
  exact ⟨h3, hN, zo_ds hs, zo_db hw hd, zo_set hly ha hb, htb⟩
section
variable {go be bc ft : Int32} {len pr pa la nt bp ne ly tw lo pt : Nat → Int32} {N : Nat}
theorem zo_town (hN : N ≤ 7) (p0 : Int32) :
    (∃ a, a < N ∧ p0 = nI a ∧ (∀ post : Int32 → Prop, post 1 → wpX_isTown post (nI N, go, be, bc, len, pr, pa, la, nt, bp, ne) p0) ∧ (∀ post : Int32 → Prop, post 1 → wpY_isTown post (nI N, ft, ly, tw, lo, pt) p0)) ∨
    ((∀ post : Int32 → Prop, post 0 → wpX_isTown post (nI N, go, be, bc, len, pr, pa, la, nt, bp, ne) p0) ∧ (∀ post : Int32 → Prop, post 0 → wpY_isTown post (nI N, ft, ly, tw, lo, pt) p0)) := by
  rcases pk_ix p0 (n := N) (by omega) with h | h | ⟨j, hj, rfl⟩
  · exact Or.inr ⟨fun post hp => br_t h hp, fun post hp => br_t h hp⟩
  · by_cases h0 : p0 < 0
    · exact Or.inr ⟨fun post hp => br_t h0 hp, fun post hp => br_t h0 hp⟩
    · exact Or.inr ⟨fun post hp => br_f h0 (br_t h hp), fun post hp => br_f h0 (br_t h hp)⟩
  · have a1 : ¬ nI j < 0 := nI_pos (by omega)
    have a2 : ¬ nI N ≤ nI j := nI_ge hj (by omega)
    exact Or.inl ⟨j, hj, rfl, fun post hp => br_f a1 (br_f a2 hp), fun post hp => br_f a1 (br_f a2 hp)⟩
theorem zo_couple (hN : N ≤ 7) (p0 p1 : Int32) :
    (∃ a b, a < N ∧ b < N ∧ a ≠ b ∧ p0 = nI a ∧ p1 = nI b ∧ (∀ post : Int32 → Prop, post 1 → wpX_isCouple post (nI N, go, be, bc, len, pr, pa, la, nt, bp, ne) p0 p1) ∧ (∀ post : Int32 → Prop, post 1 → wpY_isCouple post (nI N, ft, ly, tw, lo, pt) p0 p1)) ∨
    ((∀ post : Int32 → Prop, post 0 → wpX_isCouple post (nI N, go, be, bc, len, pr, pa, la, nt, bp, ne) p0 p1) ∧ (∀ post : Int32 → Prop, post 0 → wpY_isCouple post (nI N, ft, ly, tw, lo, pt) p0 p1)) := by
  have n1 : ¬ (1 : Int32) = 0 := by decide
  rcases zo_town (go := go) (be := be) (bc := bc) (ft := ft) (len := len) (pr := pr) (pa := pa) (la := la) (nt := nt) (bp := bp) (ne := ne) (ly := ly) (tw := tw) (lo := lo) (pt := pt) hN p0 with ⟨a, ha, rfl, x1, y1⟩ | ⟨x1, y1⟩
  · rcases zo_town (go := go) (be := be) (bc := bc) (ft := ft) (len := len) (pr := pr) (pa := pa) (la := la) (nt := nt) (bp := bp) (ne := ne) (ly := ly) (tw := tw) (lo := lo) (pt := pt) hN p1 with ⟨b, hb, rfl, x2, y2⟩ | ⟨x2, y2⟩
    · by_cases e : a = b
      · have e' : (nI a : Int32) = nI b := by rw [e]
        exact Or.inr ⟨fun post hp => by unfold wpX_isCouple; exact x1 _ (br_f n1 (x2 _ (br_f n1 (br_t e' hp)))), fun post hp => by unfold wpY_isCouple; exact y1 _ (br_f n1 (y2 _ (br_f n1 (br_t e' hp))))⟩
      · have e' : ¬ (nI a : Int32) = nI b := by rw [nI_eq (by omega) (by omega)]; exact e
        exact Or.inl ⟨a, b, ha, hb, e, rfl, rfl, fun post hp => by unfold wpX_isCouple; exact x1 _ (br_f n1 (x2 _ (br_f n1 (br_f e' hp)))), fun post hp => by unfold wpY_isCouple; exact y1 _ (br_f n1 (y2 _ (br_f n1 (br_f e' hp))))⟩
    · exact Or.inr ⟨fun post hp => by unfold wpX_isCouple; exact x1 _ (br_f n1 (x2 _ (br_t rfl hp))), fun post hp => by unfold wpY_isCouple; exact y1 _ (br_f n1 (y2 _ (br_t rfl hp)))⟩
  · exact Or.inr ⟨fun post hp => by unfold wpX_isCouple; exact x1 _ (br_t rfl hp), fun post hp => by unfold wpY_isCouple; exact y1 _ (br_t rfl hp)⟩
theorem zo_xput {a b : Nat} (ha : a < 7) (hb : b < 7) (x : Int32) {P : (Nat → Int32) → Prop} (h : P (upd (upd len (7 * a + b) x) (7 * b + a) x)) :
    vp_in ((7 : Int32) * nI a + nI b) 49 ∧ ∀ l1 : Nat → Int32, l1 = upd len ((7 : Int32) * nI a + nI b).toNatClampNeg x → (vp_in ((7 : Int32) * nI b + nI a) 49 ∧ ∀ l2 : Nat → Int32, l2 = upd l1 ((7 : Int32) * nI b + nI a).toNatClampNeg x → P l2) := by
  refine ⟨zx_in ha hb, fun l1 e1 => ⟨zx_in hb ha, fun l2 e2 => ?_⟩⟩
  rw [zx_ix, nI_clamp (by omega)] at e1 e2
  rw [e2, e1]
  exact h
theorem zo_yput {a b : Nat} (ha : a < 7) (hb : b < 7) (x : Int32) (post : SY → Prop) (hp : post (nI N, ft, upd (upd ly (7 * a + b) x) (7 * b + a) x, tw, lo, pt)) : wpY_put post (nI N, ft, ly, tw, lo, pt) (nI a) (nI b) x :=
  zo_xput (P := fun l => post (nI N, ft, l, tw, lo, pt)) ha hb x hp
theorem zo_xroad {a b w : Nat} (hN : N ≤ 7) (ha : a < N) (hb : b < N) (hw : w ≤ 60) (hc : ∀ q : Int32 → Prop, q 1 → wpX_isCouple q (nI N, go, be, bc, len, pr, pa, la, nt, bp, ne) (nI a) (nI b)) (post : Int32 → SX → Prop) (hp : post 1 (nI N, go, be, bc, upd (upd len (7 * a + b) (nI w)) (7 * b + a) (nI w), pr, pa, la, nt, bp, ne)) : wpX_road post (nI N, go, be, bc, len, pr, pa, la, nt, bp, ne) (nI a) (nI b) (nI w) := by
  have n1 : ¬ (1 : Int32) = 0 := by decide
  unfold wpX_road
  refine hc _ (br_f n1 (br_f (nI_pos (by omega)) (br_t (nI_le (b := 60) hw (by omega)) ?_)))
  exact zo_xput (P := fun l => post 1 (nI N, go, be, bc, l, pr, pa, la, nt, bp, ne)) (by omega) (by omega) (nI w) hp
theorem zo_xroad0 {p0 p1 p2 : Int32} (h : (∀ q : Int32 → Prop, q 0 → wpX_isCouple q (nI N, go, be, bc, len, pr, pa, la, nt, bp, ne) p0 p1) ∨ ((∀ q : Int32 → Prop, q 1 → wpX_isCouple q (nI N, go, be, bc, len, pr, pa, la, nt, bp, ne) p0 p1) ∧ (p2 < 0 ∨ (¬ p2 < 0 ∧ ¬ p2 ≤ 60)))) (post : Int32 → SX → Prop) (hp : post 0 (nI N, go, be, bc, len, pr, pa, la, nt, bp, ne)) : wpX_road post (nI N, go, be, bc, len, pr, pa, la, nt, bp, ne) p0 p1 p2 := by
  have n1 : ¬ (1 : Int32) = 0 := by decide
  unfold wpX_road
  rcases h with h | ⟨h, h2 | ⟨h2, h3⟩⟩
  · exact h _ (br_t rfl hp)
  · exact h _ (br_f n1 (br_t h2 hp))
  · exact h _ (br_f n1 (br_f h2 (br_f h3 hp)))
theorem zo_yroad {a b w : Nat} (hN : N ≤ 7) (ha : a < N) (hb : b < N) (hw : w ≤ 60) (hc : ∀ q : Int32 → Prop, q 1 → wpY_isCouple q (nI N, ft, ly, tw, lo, pt) (nI a) (nI b)) (post : Int32 → SY → Prop) (hp : post 1 (nI N, ft, upd (upd ly (7 * a + b) (nI w)) (7 * b + a) (nI w), tw, lo, pt)) : wpY_road post (nI N, ft, ly, tw, lo, pt) (nI a) (nI b) (nI w) := by
  have n1 : ¬ (1 : Int32) = 0 := by decide
  unfold wpY_road
  refine hc _ (br_f n1 (br_f (nI_pos (by omega)) (br_t (nI_le (b := 60) hw (by omega)) ?_)))
  exact zo_yput (by omega) (by omega) (nI w) _ hp
theorem zo_yroad0 {p0 p1 p2 : Int32} (h : (∀ q : Int32 → Prop, q 0 → wpY_isCouple q (nI N, ft, ly, tw, lo, pt) p0 p1) ∨ ((∀ q : Int32 → Prop, q 1 → wpY_isCouple q (nI N, ft, ly, tw, lo, pt) p0 p1) ∧ (p2 < 0 ∨ (¬ p2 < 0 ∧ ¬ p2 ≤ 60)))) (post : Int32 → SY → Prop) (hp : post 0 (nI N, ft, ly, tw, lo, pt)) : wpY_road post (nI N, ft, ly, tw, lo, pt) p0 p1 p2 := by
  have n1 : ¬ (1 : Int32) = 0 := by decide
  unfold wpY_road
  rcases h with h | ⟨h, h2 | ⟨h2, h3⟩⟩
  · exact h _ (br_t rfl hp)
  · exact h _ (br_f n1 (br_t h2 hp))
  · exact h _ (br_f n1 (br_f h2 (br_f h3 hp)))
end
theorem i_vc_road {k : Nat} {u : SX} {v : SY} (I : i_Rel k u v) (hk : k + 4 ≤ 2049) (v1 : Int32) (v2 : Int32) (v3 : Int32) : wpX_road (fun r u' => wpY_road (fun r' v' => r' = r ∧ i_Rel (k + 4) u' v') v v1 v2 v3) u v1 v2 v3 := by
  obtain ⟨N, d, go, be, bc, len, pr, pa, la, nt, bp, ne, ly, tw, lo, pt, rfl, rfl, hl, hy⟩ := I
  have hN := hy.2.1
  have fin : i_Rel (k + 4) (nI N, go, be, bc, len, pr, pa, la, nt, bp, ne) (nI N, nI (zt_tr N).length, ly, tw, lo, pt) := ⟨N, d, go, be, bc, len, pr, pa, la, nt, bp, ne, ly, tw, lo, pt, rfl, rfl, hl, hy⟩
  rcases zo_couple (go := go) (be := be) (bc := bc) (ft := nI (zt_tr N).length) (len := len) (pr := pr) (pa := pa) (la := la) (nt := nt) (bp := bp) (ne := ne) (ly := ly) (tw := tw) (lo := lo) (pt := pt) hN v1 v2 with ⟨a, b, ha, hb, hab, rfl, rfl, x1, y1⟩ | ⟨x1, y1⟩
  · by_cases h0 : v3 < 0
    · exact zo_xroad0 (Or.inr ⟨x1, Or.inl h0⟩) _ (zo_yroad0 (Or.inr ⟨y1, Or.inl h0⟩) _ ⟨rfl, fin⟩)
    · by_cases h60 : v3 ≤ 60
      · obtain ⟨w, hw, rfl⟩ := nI_of2 (n := 60) (by decide) h0 h60
        exact zo_xroad hN ha hb hw x1 _ (zo_yroad hN ha hb hw y1 _ ⟨rfl, ⟨N, zo_d a b w d, go, be, bc, _, pr, pa, la, nt, bp, ne, _, tw, lo, pt, rfl, rfl, zo_set hl (by omega) (by omega), zo_ok hy (by omega) (by omega) hw⟩⟩)
      · exact zo_xroad0 (Or.inr ⟨x1, Or.inr ⟨h0, h60⟩⟩) _ (zo_yroad0 (Or.inr ⟨y1, Or.inr ⟨h0, h60⟩⟩) _ ⟨rfl, fin⟩)
  · exact zo_xroad0 (Or.inl x1) _ (zo_yroad0 (Or.inl y1) _ ⟨rfl, fin⟩)
end
section
section
variable {go be bc ft : Int32} {len pr pa la nt bp ne ly tw lo pt : Nat → Int32} {N : Nat}
theorem zo_xcpl (hN : N ≤ 7) {a b : Nat} (ha : a < N) (hb : b < N) (hab : a ≠ b) (q : Int32 → Prop) (hq : q 1) : wpX_isCouple q (nI N, go, be, bc, len, pr, pa, la, nt, bp, ne) (nI a) (nI b) := by
  have t1 : ∀ j, j < N → ∀ q : Int32 → Prop, q 1 → wpX_isTown q (nI N, go, be, bc, len, pr, pa, la, nt, bp, ne) (nI j) := fun j hj q hq => br_f (nI_pos (by omega)) (br_f (nI_ge hj (by omega)) hq)
  have n1 : ¬ (1 : Int32) = 0 := by decide
  have e' : ¬ (nI a : Int32) = nI b := by rw [nI_eq (by omega) (by omega)]; exact hab
  unfold wpX_isCouple
  exact t1 a ha _ (br_f n1 (t1 b hb _ (br_f n1 (br_f e' hq))))
/-- what a length becomes, as both sides clip it -/
theorem zo_clip (y : Int32) : ∃ w, w ≤ 60 ∧ ((¬ 0 ≤ y ∧ w = 0) ∨ (0 ≤ y ∧ y ≤ 60 ∧ y = nI w) ∨ (0 ≤ y ∧ ¬ y ≤ 60 ∧ w = 60)) := by
  by_cases h0 : 0 ≤ y
  · by_cases h60 : y ≤ 60
    · obtain ⟨w, hw, e⟩ := nI_of2 (n := 60) (by decide) (Int32.not_lt.mpr h0) h60
      exact ⟨w, hw, Or.inr (Or.inl ⟨h0, h60, e⟩)⟩
    · exact ⟨60, Nat.le_refl _, Or.inr (Or.inr ⟨h0, h60, rfl⟩)⟩
  · exact ⟨0, by omega, Or.inl ⟨h0, rfl⟩⟩
theorem zo_x80 {a b o w : Nat} (hN : N ≤ 7) (ha : a < N) (hb : b < N) (hab : a ≠ b) (hw : w ≤ 60) (ho : o ≤ 60) (hl : len (7 * a + b) = nI o) (post : Int32 → SX → Prop) (J : Int32 → Int32 → Int32 → Int32 → Int32 → Int32 → (Nat → Int32) → (Nat → Int32) → (Nat → Int32) → (Nat → Int32) → (Nat → Int32) → (Nat → Int32) → (Nat → Int32) → Prop) (x2 c : Int32)
    (hJ : J (if w = o then c else c + 1) (nI (b + 1)) (nI N) go be bc (upd (upd len (7 * a + b) (nI w)) (7 * b + a) (nI w)) pr pa la nt bp ne) : wX_shift_80 post J (nI a) x2 c (nI b) (nI w) (nI N) go be bc len pr pa la nt bp ne := by
  have c1 : len ((7 : Int32) * nI a + nI b).toNatClampNeg = nI o := by rw [zx_rd len (by omega) (by omega)]; exact hl
  refine ⟨zx_in (by omega) (by omega), ?_⟩
  rw [c1]
  refine pk_eq w o (fun h => ?_) (fun h => ?_)
  · rw [if_pos h] at hJ
    unfold wX_shift_100
    exact zo_xroad hN ha hb hw (zo_xcpl hN ha hb hab) _ (nm_r (nI_1 b) hJ)
  · rw [if_neg h] at hJ
    refine nm_e ?_
    unfold wX_shift_100
    exact zo_xroad hN ha hb hw (zo_xcpl hN ha hb hab) _ (nm_r (nI_1 b) hJ)
theorem zo_y85 {a b o w : Nat} (hN : N ≤ 7) (ha : a < N) (hb : b < N) (hw : w ≤ 60) (ho : o ≤ 60) (post : Int32 → SY → Prop) (J : Int32 → Int32 → Int32 → Int32 → (Nat → Int32) → (Nat → Int32) → (Nat → Int32) → (Nat → Int32) → Prop) (x2 c : Int32)
    (hJ : J (if w = o then c else c + 1) (nI (b + 1)) (nI N) ft (upd (upd ly (7 * a + b) (nI w)) (7 * b + a) (nI w)) tw lo pt) : wY_shift_85 post J (nI a) x2 c (nI b) (nI o) (nI w) (nI N) ft ly tw lo pt := by
  refine pk_eq w o (fun h => ?_) (fun h => ?_)
  · rw [if_pos h] at hJ
    unfold wY_shift_97
    exact zo_yput (by omega) (by omega) (nI w) _ (nm_r (nI_1 b) hJ)
  · rw [if_neg h] at hJ
    refine nm_e ?_
    unfold wY_shift_97
    exact zo_yput (by omega) (by omega) (nI w) _ (nm_r (nI_1 b) hJ)
theorem zo_sh27 {a : Nat} (x2 : Int32) (ha : a < N) : ∀ (m i : Nat) (c : Int32) (d : Nat → Nat → Nat) (len ly : Nat → Int32), i + m = N → zo_len d len → zy_ok N d ly tw →
    ∃ (c' : Int32) (d' : Nat → Nat → Nat) (len' ly' : Nat → Int32), zo_len d' len' ∧ zy_ok N d' ly' tw ∧ (∀ (post : Int32 → SX → Prop) (n : Nat), m < n → post c' (nI N, go, be, bc, len', pr, pa, la, nt, bp, ne) → wX_shift_27 post (nI a) x2 n c (nI i) (nI N) go be bc len pr pa la nt bp ne) ∧
      (∀ (post : Int32 → SY → Prop) (n : Nat), m < n → post c' (nI N, ft, ly', tw, lo, pt) → wY_shift_27 post (nI a) x2 n c (nI i) (nI N) ft ly tw lo pt) := by
  intro m
  induction m with
  | zero =>
    intro i c d len ly hi hl hy
    have hN := hy.2.1
    have hle : nI N ≤ nI i := nI_le (by omega) (by omega)
    refine ⟨c, d, len, ly, hl, hy, fun post n hn hp => ?_, fun post n hn hp => ?_⟩
    · obtain ⟨n, rfl⟩ : ∃ n', n = n' + 1 := ⟨n - 1, by omega⟩
      exact br_t hle hp
    · obtain ⟨n, rfl⟩ : ∃ n', n = n' + 1 := ⟨n - 1, by omega⟩
      exact br_t hle hp
  | succ m ih =>
    intro i c d len ly hi hl hy
    have hN := hy.2.1
    have hge : ¬ nI N ≤ nI i := nI_ge (by omega) (by omega)
    by_cases e : i = a
    · obtain ⟨c', d', len', ly', h1, h2, h3, h4⟩ := ih (i + 1) c d len ly (by omega) hl hy
      have e' : (nI i : Int32) = nI a := by rw [e]
      refine ⟨c', d', len', ly', h1, h2, fun post n hn hp => ?_, fun post n hn hp => ?_⟩
      · obtain ⟨n, rfl⟩ : ∃ n', n = n' + 1 := ⟨n - 1, by omega⟩
        exact br_f hge (br_t e' (nm_r (nI_1 i) (h3 post n (by omega) hp)))
      · obtain ⟨n, rfl⟩ : ∃ n', n = n' + 1 := ⟨n - 1, by omega⟩
        exact br_f hge (br_t e' (nm_r (nI_1 i) (h4 post n (by omega) hp)))
    · have e' : ¬ (nI i : Int32) = nI a := by rw [nI_eq (by omega) (by omega)]; exact e
      have ho := hy.2.2.2.1 a i
      have cl : len ((7 : Int32) * nI a + nI i).toNatClampNeg = nI (d a i) := by rw [zx_rd len (by omega) (by omega)]; exact hl a i (by omega) (by omega)
      have cy : ly ((7 : Int32) * nI a + nI i).toNatClampNeg = nI (d a i) := by rw [zx_rd ly (by omega) (by omega)]; exact hy.2.2.2.2.1 a i (by omega) (by omega)
      have cx : len ((7 : Int32) * nI a + nI i).toNatClampNeg + x2 = nI (d a i) + x2 := by rw [cl]
      obtain ⟨w, hw, hcase⟩ := zo_clip (nI (d a i) + x2)
      obtain ⟨c', d', len', ly', h1, h2, h3, h4⟩ := ih (i + 1) (if w = d a i then c else c + 1) (zo_d a i w d) (upd (upd len (7 * a + i) (nI w)) (7 * i + a) (nI w)) (upd (upd ly (7 * a + i) (nI w)) (7 * i + a) (nI w)) (by omega) (zo_set hl (by omega) (by omega)) (zo_ok hy (by omega) (by omega) hw)
      refine ⟨c', d', len', ly', h1, h2, fun post n hn hp => ?_, fun post n hn hp => ?_⟩
      · obtain ⟨n, rfl⟩ : ∃ n', n = n' + 1 := ⟨n - 1, by omega⟩
        have K := zo_x80 (go := go) (be := be) (bc := bc) (pr := pr) (pa := pa) (la := la) (nt := nt) (bp := bp) (ne := ne) hN ha (by omega : i < N) (fun z => e z.symm) hw ho (hl a i (by omega) (by omega)) post (wX_shift_27 post (nI a) x2 n) x2 c (h3 post n (by omega) hp)
        refine br_f hge (br_f e' ⟨zx_in (by omega) (by omega), nm_r cx ?_⟩)
        rcases hcase with ⟨g1, rfl⟩ | ⟨g1, g2, g3⟩ | ⟨g1, g2, rfl⟩
        · exact br_f g1 (br_t (by decide) K)
        · rw [g3] at g1 g2 ⊢
          exact br_t g1 (br_t g2 K)
        · exact br_t g1 (br_f g2 K)
      · obtain ⟨n, rfl⟩ : ∃ n', n = n' + 1 := ⟨n - 1, by omega⟩
        have K := zo_y85 (ft := ft) (lo := lo) (pt := pt) hN ha (by omega : i < N) hw ho post (wY_shift_27 post (nI a) x2 n) x2 c (h4 post n (by omega) hp)
        refine br_f hge (br_f e' ⟨zx_in (by omega) (by omega), nm_r cy ?_⟩)
        rcases hcase with ⟨g1, rfl⟩ | ⟨g1, g2, g3⟩ | ⟨g1, g2, rfl⟩
        · exact br_f g1 K
        · rw [g3] at g1 g2 ⊢
          exact br_t g1 (br_t g2 K)
        · exact br_t g1 (br_f g2 K)
theorem zo_xsh {p0 p1 : Int32} (h : (∀ q : Int32 → Prop, q 0 → wpX_isTown q (nI N, go, be, bc, len, pr, pa, la, nt, bp, ne) p0) ∨ ((∀ q : Int32 → Prop, q 1 → wpX_isTown q (nI N, go, be, bc, len, pr, pa, la, nt, bp, ne) p0) ∧ (p1 < (-60) ∨ (¬ p1 < (-60) ∧ ¬ p1 ≤ 60)))) (post : Int32 → SX → Prop) (hp : post (-1) (nI N, go, be, bc, len, pr, pa, la, nt, bp, ne)) : wpX_shift post (nI N, go, be, bc, len, pr, pa, la, nt, bp, ne) p0 p1 := by
  have n1 : ¬ (1 : Int32) = 0 := by decide
  unfold wpX_shift
  rcases h with h | ⟨h, h2 | ⟨h2, h3⟩⟩
  · exact h _ (br_t rfl hp)
  · exact h _ (br_f n1 (br_t h2 hp))
  · exact h _ (br_f n1 (br_f h2 (br_f h3 hp)))
theorem zo_ysh {p0 p1 : Int32} (h : (∀ q : Int32 → Prop, q 0 → wpY_isTown q (nI N, ft, ly, tw, lo, pt) p0) ∨ ((∀ q : Int32 → Prop, q 1 → wpY_isTown q (nI N, ft, ly, tw, lo, pt) p0) ∧ (p1 < (-60) ∨ (¬ p1 < (-60) ∧ ¬ p1 ≤ 60)))) (post : Int32 → SY → Prop) (hp : post (-1) (nI N, ft, ly, tw, lo, pt)) : wpY_shift post (nI N, ft, ly, tw, lo, pt) p0 p1 := by
  have n1 : ¬ (1 : Int32) = 0 := by decide
  unfold wpY_shift
  rcases h with h | ⟨h, h2 | ⟨h2, h3⟩⟩
  · exact h _ (br_t rfl hp)
  · exact h _ (br_f n1 (br_t h2 hp))
  · exact h _ (br_f n1 (br_f h2 (br_f h3 hp)))
theorem zo_xsh1 {p0 p1 : Int32} (h : ∀ q : Int32 → Prop, q 1 → wpX_isTown q (nI N, go, be, bc, len, pr, pa, la, nt, bp, ne) p0) (h2 : ¬ p1 < (-60)) (h3 : p1 ≤ 60) (post : Int32 → SX → Prop) (hp : ∃ n27 : Nat, wX_shift_27 post p0 p1 n27 0 0 (nI N) go be bc len pr pa la nt bp ne) : wpX_shift post (nI N, go, be, bc, len, pr, pa, la, nt, bp, ne) p0 p1 := by
  have n1 : ¬ (1 : Int32) = 0 := by decide
  unfold wpX_shift
  exact h _ (br_f n1 (br_f h2 (br_t h3 hp)))
theorem zo_ysh1 {p0 p1 : Int32} (h : ∀ q : Int32 → Prop, q 1 → wpY_isTown q (nI N, ft, ly, tw, lo, pt) p0) (h2 : ¬ p1 < (-60)) (h3 : p1 ≤ 60) (post : Int32 → SY → Prop) (hp : ∃ n27 : Nat, wY_shift_27 post p0 p1 n27 0 0 (nI N) ft ly tw lo pt) : wpY_shift post (nI N, ft, ly, tw, lo, pt) p0 p1 := by
  have n1 : ¬ (1 : Int32) = 0 := by decide
  unfold wpY_shift
  exact h _ (br_f n1 (br_f h2 (br_t h3 hp)))
end
theorem i_vc_shift {k : Nat} {u : SX} {v : SY} (I : i_Rel k u v) (hk : k + 4 ≤ 2049) (v1 : Int32) (v2 : Int32) : wpX_shift (fun r u' => wpY_shift (fun r' v' => r' = r ∧ i_Rel (k + 4) u' v') v v1 v2) u v1 v2 := by
  obtain ⟨N, d, go, be, bc, len, pr, pa, la, nt, bp, ne, ly, tw, lo, pt, rfl, rfl, hl, hy⟩ := I
  have hN := hy.2.1
  have fin : i_Rel (k + 4) (nI N, go, be, bc, len, pr, pa, la, nt, bp, ne) (nI N, nI (zt_tr N).length, ly, tw, lo, pt) := ⟨N, d, go, be, bc, len, pr, pa, la, nt, bp, ne, ly, tw, lo, pt, rfl, rfl, hl, hy⟩
  rcases zo_town (go := go) (be := be) (bc := bc) (ft := nI (zt_tr N).length) (len := len) (pr := pr) (pa := pa) (la := la) (nt := nt) (bp := bp) (ne := ne) (ly := ly) (tw := tw) (lo := lo) (pt := pt) hN v1 with ⟨a, ha, rfl, x1, y1⟩ | ⟨x1, y1⟩
  · by_cases h0 : v2 < (-60)
    · exact zo_xsh (Or.inr ⟨x1, Or.inl h0⟩) _ (zo_ysh (Or.inr ⟨y1, Or.inl h0⟩) _ ⟨rfl, fin⟩)
    · by_cases h60 : v2 ≤ 60
      · obtain ⟨c', d', len', ly', h1, h2, h3, h4⟩ := zo_sh27 (go := go) (be := be) (bc := bc) (ft := nI (zt_tr N).length) (pr := pr) (pa := pa) (la := la) (nt := nt) (bp := bp) (ne := ne) (tw := tw) (lo := lo) (pt := pt) v2 ha N 0 0 d len ly (by omega) hl hy
        exact zo_xsh1 x1 h0 h60 _ ⟨N + 1, h3 _ (N + 1) (by omega) (zo_ysh1 y1 h0 h60 _ ⟨N + 1, h4 _ (N + 1) (by omega) ⟨rfl, ⟨N, d', go, be, bc, len', pr, pa, la, nt, bp, ne, ly', tw, lo, pt, rfl, rfl, h1, h2⟩⟩⟩)⟩
      · exact zo_xsh (Or.inr ⟨x1, Or.inr ⟨h0, h60⟩⟩) _ (zo_ysh (Or.inr ⟨y1, Or.inr ⟨h0, h60⟩⟩) _ ⟨rfl, fin⟩)
  · exact zo_xsh (Or.inl x1) _ (zo_ysh (Or.inl y1) _ ⟨rfl, fin⟩)
section
variable {tc go be bc : Int32} {len pr pa la nt bp ne : Nat → Int32}
theorem zo_87 : ∀ (m i : Nat) (len : Nat → Int32), i + m = 49 → (∀ j, j < i → len j = nI 60) → ∃ len' : Nat → Int32, (∀ j, j < 49 → len' j = nI 60) ∧ ∀ (post : SX → Prop) (n : Nat), m < n → post (tc, go, be, bc, len', pr, pa, la, nt, bp, ne) → wX_init_87 post tc go be bc n (nI i) len pr pa la nt bp ne := by
  intro m
  induction m with
  | zero =>
    intro i len hi hj
    refine ⟨len, fun j h => hj j (by omega), fun post n hn hp => ?_⟩
    obtain ⟨n, rfl⟩ : ∃ n', n = n' + 1 := ⟨n - 1, by omega⟩
    exact br_t (nI_le (a := 49) (by omega) (by omega)) hp
  | succ m ih =>
    intro i len hi hj
    obtain ⟨len', h1, h2⟩ := ih (i + 1) (upd len i (nI 60)) (by omega) (zx_us (g := fun _ => nI 60) hj rfl)
    refine ⟨len', h1, fun post n hn hp => ?_⟩
    obtain ⟨n, rfl⟩ : ∃ n', n = n' + 1 := ⟨n - 1, by omega⟩
    refine br_f (nI_ge (b := 49) (by omega) (by omega)) ⟨vp_in_nI (by omega) (by omega), fun q eq => nm_r (nI_1 i) ?_⟩
    rw [nI_clamp (by omega)] at eq
    rw [eq]
    exact h2 post n (by omega) hp
end
theorem zo_init {N : Nat} (h3 : 3 ≤ N) (hN : N ≤ 7) {p0 : Int32} (hx : ∀ post : SX → Prop, (∃ n87 : Nat, wX_init_87 post (nI N) 0 0 0 n87 0 (fun _ => 0) (fun _ => 0) (fun _ => 0) (fun _ => 0) (fun _ => 0) (fun _ => 0) (fun _ => 0)) → wpX_init post p0)
    (hyy : ∀ post : SY → Prop, (∃ n70 : Nat, wY_init_70 post (nI N) 1 n70 0 (fun _ => 0) (fun _ => 0) (fun _ => 0) (fun _ => 0)) → wpY_init post p0) : wpX_init (fun u => wpY_init (fun v => i_Rel 1 u v) p0) p0 := by
  obtain ⟨len', h1, h2⟩ := zo_87 (tc := nI N) (go := 0) (be := 0) (bc := 0) (pr := fun _ => 0) (pa := fun _ => 0) (la := fun _ => 0) (nt := fun _ => 0) (bp := fun _ => 0) (ne := fun _ => 0) 49 0 (fun _ => 0) rfl (fun j hj => absurd hj (by omega))
  obtain ⟨ly', tw', lo', pt', g1, g2, g3⟩ := zy_init h3 hN
  refine hx _ ⟨50, h2 _ 50 (by omega) (hyy _ (g3 _ ⟨N, fun _ _ => 60, 0, 0, 0, len', _, _, _, _, _, _, ly', tw', lo', pt', rfl, rfl, fun i j hi hj => h1 _ (by omega), ⟨h3, hN, fun _ _ => rfl, fun _ _ => Nat.le_refl _, fun i j hi hj => g1 _ (by omega), g2⟩⟩))⟩
theorem i_vc0 (k0 : Int32) : wpX_init (fun u => wpY_init (fun v => i_Rel 1 u v) k0) k0 := by
  by_cases h3 : 3 ≤ k0
  · by_cases h7 : k0 ≤ 7
    · have h0 : ¬ k0 < 0 := Int32.not_lt.mpr (Int32.le_trans (by decide) h3)
      obtain ⟨N, hN, rfl⟩ := nI_of2 (n := 7) (by decide) h0 h7
      have hN3 : 3 ≤ N := by
        have := (nI_leI (a := 3) (b := N) (by omega) (by omega)).mp h3
        exact this
      exact zo_init hN3 hN (fun post h => br_t h3 (br_t h7 h)) (fun post h => br_t h3 (br_t h7 h))
    · exact zo_init (N := 7) (by omega) (by omega) (fun post h => br_t h3 (br_f h7 h)) (fun post h => br_t h3 (br_f h7 h))
  · exact zo_init (N := 3) (by omega) (by omega) (fun post h => br_f h3 h) (fun post h => br_f h3 h)
end
section
section
variable {go be bc ft : Int32} {len pr pa la nt bp ne ly tw lo pt : Nat → Int32} {N : Nat} {d : Nat → Nat → Nat}
/-- the search over trips from town 0 with lengths d: what it leaves -/
def zq_st (N : Nat) (d : Nat → Nat → Nat) (f b c : Nat) (be' bc' : Int32) (bp' : Nat → Int32) : Prop :=
  f < (zt_tr N).length ∧ b = zp_pl d (zy_e N f) ∧ (∀ j, j < (zt_tr N).length → b ≤ zp_pl d (zy_e N j)) ∧ (∀ j, j < f → b < zp_pl d (zy_e N j)) ∧ c = zl_ct (fun j => decide (zp_pl d (zy_e N j) = b)) (zt_tr N).length ∧ be' = nI b ∧ bc' = nI c ∧ ∀ k, k < N → bp' k = nI (((zt_tr N).getD f []).getD (N - 1 - k) 0)
theorem zq_solve0 (h3 : 3 ≤ N) (hN : N ≤ 7) (hs : ∀ a b, d a b = d b a) (hd : ∀ x y, d x y ≤ 10000) (hpr : zo_len d pr) :
    ∃ (f b c : Nat) (be' bc' : Int32) (pa' la' nt' bp' ne' : Nat → Int32), zq_st N d f b c be' bc' bp' ∧ ∀ (post : SX → Prop), post (nI N, nI 0, be', bc', len, pr, pa', la', nt', bp', ne') → wpX_solve post (nI N, go, be, bc, len, pr, pa, la, nt, bp, ne) (nI 0) (nI 0) := by
  obtain ⟨be', bc', pa', la', nt', bp', ne', hv, hp⟩ := zs_solve (go := go) (be := be) (bc := bc) (len := len) (pr := pr) (pa := pa) (la := la) (nt := nt) (bp := bp) (ne := ne) (N := N) (f := 0) (g := 0) (pc := N) h3 hN (by omega) (by omega) (Or.inl ⟨rfl, rfl⟩) hs hd hpr
  have hT := (zy_T h3 hN).2
  have hM : ∀ l, l ∈ zt_tr N → (fun l => zp_pl d (0 :: l)) l < 80000 := by
    intro l hl
    obtain ⟨t, ht, et⟩ := zy_idx hl
    have := zy_hb h3 hd ht
    unfold zy_e at this
    rw [et] at this
    show zp_pl d (0 :: l) < 80000
    have h2 := Nat.mul_le_mul_left 10000 hN
    omega
  obtain ⟨f, b, c, e, hf, hb, hmin, hfst, hc⟩ := zl_best (fun l => zp_pl d (0 :: l)) (zt_tr N) 80000 [] hM hT
  have hv' : zv_ok N ((zt_tr N).foldl (zl_of (fun l => zp_pl d (0 :: l))) (80000, 0, [])) be' bc' bp' := hv
  rw [e] at hv'
  obtain ⟨e1, e2, _, e4⟩ := hv'
  refine ⟨f, b, c, be', bc', pa', la', nt', bp', ne', ⟨hf, hb, hmin, hfst, hc, e1, e2, ?_⟩, hp⟩
  rcases e4 with ⟨_, e5⟩ | e5
  · have h1 := hM _ (zy_mem hf)
    have h2 : b = 80000 := e5
    have h4 : b < 80000 := by rw [hb]; exact h1
    omega
  · exact e5
theorem zq_ff {f f' : Nat} {h : Nat → Nat} {T : Nat} (hf : f < T) (hf' : f' < T) (m1 : ∀ j, j < T → h f ≤ h j) (m2 : ∀ j, j < T → h f' ≤ h j) (l1 : ∀ j, j < f → h f < h j) (l2 : ∀ j, j < f' → h f' < h j) : f = f' := by
  have a1 := m1 f' hf'
  have a2 := m2 f hf
  rcases Nat.lt_trichotomy f f' with h1 | h1 | h1
  · have := l2 f h1; omega
  · exact h1
  · have := l1 f' h1; omega
theorem zq_short (h3 : 3 ≤ N) (hN : N ≤ 7) (hs : ∀ a b, d a b = d b a) (hd : ∀ x y, d x y ≤ 60) (hl : zo_len d len) :
    ∃ (f b c : Nat) (pr' pa' la' nt' bp' ne' : Nat → Int32), zq_st N d f b c (nI b) (nI c) bp' ∧ ∀ (post : Int32 → SX → Prop), post (nI b) (nI N, nI 0, nI b, nI c, len, pr', pa', la', nt', bp', ne') → wpX_shortest post (nI N, go, be, bc, len, pr, pa, la, nt, bp, ne) := by
  obtain ⟨pr', h1, h2⟩ := zx_load (tc := nI N) (go := go) (be := be) (bc := bc) (len := len) (pr := pr) (pa := pa) (la := la) (nt := nt) (bp := bp) (ne := ne)
  have hpr : zo_len d pr' := fun i j hi hj => by rw [h1 _ (by omega)]; exact hl i j hi hj
  obtain ⟨f, b, c, be', bc', pa', la', nt', bp', ne', hst, hp⟩ := zq_solve0 (go := go) (be := be) (bc := bc) (len := len) (pa := pa) (la := la) (nt := nt) (bp := bp) (ne := ne) h3 hN hs (fun x y => Nat.le_trans (hd x y) (by omega)) hpr
  have e1 := hst.2.2.2.2.2.1
  have e2 := hst.2.2.2.2.2.2.1
  subst e1; subst e2
  refine ⟨f, b, c, pr', pa', la', nt', bp', ne', hst, fun post hpost => ?_⟩
  unfold wpX_shortest
  exact h2 _ (hp _ hpost)
end
theorem i_vc_shortest {k : Nat} {u : SX} {v : SY} (I : i_Rel k u v) (hk : k + 4 ≤ 2049) : wpX_shortest (fun r u' => wpY_shortest (fun r' => r' = r ∧ i_Rel (k + 4) u' v) v) u := by
  obtain ⟨N, d, go, be, bc, len, pr, pa, la, nt, bp, ne, ly, tw, lo, pt, rfl, rfl, hl, hy⟩ := I
  have hy' := hy
  obtain ⟨h3, hN, hs, hd, hly, htb⟩ := hy'
  obtain ⟨f, b, c, pr', pa', la', nt', bp', ne', ⟨a1, a2, a3, a4, a5, a6, a7, a8⟩, hX⟩ := zq_short (go := go) (be := be) (bc := bc) (pr := pr) (pa := pa) (la := la) (nt := nt) (bp := bp) (ne := ne) h3 hN hs hd hl
  obtain ⟨f', g1, g2, g3, g4⟩ := zy_best (lo := lo) (pt := pt) hy
  have e : f = f' := zq_ff (h := fun j => zp_pl d (zy_e N j)) a1 g1 (fun j hj => by rw [← a2]; exact a3 j hj) g2 (fun j hj => by rw [← a2]; exact a4 j hj) g3
  subst e
  refine hX _ ?_
  unfold wpY_shortest
  refine g4 _ (zy_sum hy a1 _ ⟨by rw [a2], ?_⟩)
  exact ⟨N, d, _, _, _, len, pr', pa', la', nt', bp', ne', ly, tw, lo, pt, rfl, rfl, hl, hy⟩
theorem i_vc_trips {k : Nat} {u : SX} {v : SY} (I : i_Rel k u v) (hk : k + 4 ≤ 2049) : wpX_trips (fun r u' => wpY_trips (fun r' => r' = r ∧ i_Rel (k + 4) u' v) v) u := by
  obtain ⟨N, d, go, be, bc, len, pr, pa, la, nt, bp, ne, ly, tw, lo, pt, rfl, rfl, hl, hy⟩ := I
  have hy' := hy
  obtain ⟨h3, hN, hs, hd, hly, htb⟩ := hy'
  obtain ⟨f, b, c, pr', pa', la', nt', bp', ne', ⟨a1, a2, a3, a4, a5, a6, a7, a8⟩, hX⟩ := zq_short (go := go) (be := be) (bc := bc) (pr := pr) (pa := pa) (la := la) (nt := nt) (bp := bp) (ne := ne) h3 hN hs hd hl
  obtain ⟨f', g1, g2, g3, g4⟩ := zy_best (lo := lo) (pt := pt) hy
  have e : f = f' := zq_ff (h := fun j => zp_pl d (zy_e N j)) a1 g1 (fun j hj => by rw [← a2]; exact a3 j hj) g2 (fun j hj => by rw [← a2]; exact a4 j hj) g3
  subst e
  have hb : b ≤ 60 * N := by rw [a2]; exact zy_hb h3 hd a1
  unfold wpX_trips
  refine hX _ ?_
  have hfin : i_Rel (k + 4) (nI N, nI 0, nI b, nI c, len, pr', pa', la', nt', bp', ne') (nI N, nI (zt_tr N).length, ly, tw, lo, pt) := ⟨N, d, _, _, _, len, pr', pa', la', nt', bp', ne', ly, tw, lo, pt, rfl, rfl, hl, hy⟩
  show wpY_trips (fun r' => r' = nI c ∧ i_Rel (k + 4) (nI N, nI 0, nI b, nI c, len, pr', pa', la', nt', bp', ne') (nI N, nI (zt_tr N).length, ly, tw, lo, pt)) (nI N, nI (zt_tr N).length, ly, tw, lo, pt)
  unfold wpY_trips
  have hsh : ∀ post : Int32 → Prop, post (nI b) → wpY_shortest post (nI N, nI (zt_tr N).length, ly, tw, lo, pt) := by
    intro post hp
    unfold wpY_shortest
    exact g4 _ (zy_sum hy a1 _ (by rw [← a2]; exact hp))
  exact hsh _ ⟨(zt_tr N).length + 1, zy_trips9 hy hb _ ⟨by rw [a5], hfin⟩ (zt_tr N).length 0 (by omega) _ (by omega)⟩
theorem i_vc_town {k : Nat} {u : SX} {v : SY} (I : i_Rel k u v) (hk : k + 4 ≤ 2049) (v1 : Int32) : wpX_town (fun r u' => wpY_town (fun r' => r' = r ∧ i_Rel (k + 4) u' v) v v1) u v1 := by
  obtain ⟨N, d, go, be, bc, len, pr, pa, la, nt, bp, ne, ly, tw, lo, pt, rfl, rfl, hl, hy⟩ := I
  have hy' := hy
  obtain ⟨h3, hN, hs, hd, hly, htb⟩ := hy'
  have n1 : ¬ (1 : Int32) = 0 := by decide
  have fin : i_Rel (k + 4) (nI N, go, be, bc, len, pr, pa, la, nt, bp, ne) (nI N, nI (zt_tr N).length, ly, tw, lo, pt) := ⟨N, d, go, be, bc, len, pr, pa, la, nt, bp, ne, ly, tw, lo, pt, rfl, rfl, hl, hy⟩
  have y0 : ∀ post : Int32 → Prop, (∀ q : Int32 → Prop, q 0 → wpY_isTown q (nI N, nI (zt_tr N).length, ly, tw, lo, pt) v1) → post (-1) → wpY_town post (nI N, nI (zt_tr N).length, ly, tw, lo, pt) v1 := by
    intro post h hp
    unfold wpY_town
    exact h _ (br_t rfl hp)
  rcases pk_ix v1 (n := N) (by omega) with h | h | ⟨t, ht, rfl⟩
  · exact br_t h (y0 _ (fun q hq => br_t h hq) ⟨rfl, fin⟩)
  · have h0 : ¬ v1 < 0 := Int32.not_lt.mpr (Int32.le_trans (nI_pos' (n := N) (by omega)) h)
    exact br_f h0 (br_f (Int32.not_lt.mpr h) (y0 _ (fun q hq => br_f h0 (br_t h hq)) ⟨rfl, fin⟩))
  · obtain ⟨f, b, c, pr', pa', la', nt', bp', ne', ⟨a1, a2, a3, a4, a5, a6, a7, a8⟩, hX⟩ := zq_short (go := go) (be := be) (bc := bc) (pr := pr) (pa := pa) (la := la) (nt := nt) (bp := bp) (ne := ne) h3 hN hs hd hl
    obtain ⟨f', g1, g2, g3, g4⟩ := zy_best (lo := lo) (pt := pt) hy
    have e : f = f' := zq_ff (h := fun j => zp_pl d (zy_e N j)) a1 g1 (fun j hj => by rw [← a2]; exact a3 j hj) g2 (fun j hj => by rw [← a2]; exact a4 j hj) g3
    subst e
    have hfin : i_Rel (k + 4) (nI N, nI 0, nI b, nI c, len, pr', pa', la', nt', bp', ne') (nI N, nI (zt_tr N).length, ly, tw, lo, pt) := ⟨N, d, _, _, _, len, pr', pa', la', nt', bp', ne', ly, tw, lo, pt, rfl, rfl, hl, hy⟩
    have y1 : ∀ q : Int32 → Prop, q 1 → wpY_isTown q (nI N, nI (zt_tr N).length, ly, tw, lo, pt) (nI t) := fun q hq => br_f (nI_pos (by omega)) (br_f (nI_ge ht (by omega)) hq)
    refine br_f (nI_pos (by omega)) (br_t (nI_lt ht (by omega)) (hX _ ⟨vp_in_nI (by omega) (by omega), ?_⟩))
    have c1 : bp' (nI t).toNatClampNeg = nI (((zt_tr N).getD f []).getD (N - 1 - t) 0) := by rw [nI_clamp (by omega)]; exact a8 t ht
    rw [c1]
    show wpY_town (fun r' => r' = nI (((zt_tr N).getD f []).getD (N - 1 - t) 0) ∧ i_Rel (k + 4) (nI N, nI 0, nI b, nI c, len, pr', pa', la', nt', bp', ne') (nI N, nI (zt_tr N).length, ly, tw, lo, pt)) (nI N, nI (zt_tr N).length, ly, tw, lo, pt) (nI t)
    unfold wpY_town
    refine y1 _ (br_f n1 (g4 _ (zy_place hy a1 (by omega : t ≤ N) rfl _ ⟨?_, hfin⟩)))
    have e2 : N - t = (N - 1 - t) + 1 := by omega
    rw [e2]; rfl
end
section
theorem zq_ct {N f g : Nat} (hf : f < N) (hg : g < N) (hfg : f ≠ g) : zl_ct (zl_fr g [f]) N = N - 2 := by
  have ht : ∀ n, zl_ct (fun _ => true) n = n := by
    intro n
    induction n with
    | zero => rfl
    | succ n ih => rw [zl_ct_s, ih]; rfl
  have c1 := zl_ct_clr (p := fun _ => true) N hf rfl
  rw [ht] at c1
  have c2 := zl_ct_clr (p := fun i => true && i != f) N hg (by simp; exact fun z => hfg z.symm)
  have : zl_ct (zl_fr g [f]) N = zl_ct (fun i => (true && i != f) && i != g) N := zl_ct_eq N fun i _ => by
    unfold zl_fr
    by_cases h1 : i = g <;> by_cases h2 : i = f <;> simp [h1, h2]
  omega
section
variable {go be bc ft : Int32} {len pr pa la nt bp ne ly tw lo pt : Nat → Int32} {N : Nat} {d : Nat → Nat → Nat}
theorem zq_solve1 (h3 : 3 ≤ N) (hN : N ≤ 7) (hs : ∀ a b, d a b = d b a) (hd : ∀ x y, d x y ≤ 60) (hpr : zo_len d pr) {u v : Nat} (hu : u < N) (hv : v < N) (huv : u ≠ v) :
    ∃ (b : Nat) (bc' : Int32) (pa' la' nt' bp' ne' : Nat → Int32), (∃ l, l ∈ zl_lv N v (N - 2) [u] ∧ b = zp_pl d (v :: l)) ∧ (∀ l, l ∈ zl_lv N v (N - 2) [u] → b ≤ zp_pl d (v :: l)) ∧
      ∀ (post : SX → Prop), post (nI N, nI v, nI b, bc', len, pr, pa', la', nt', bp', ne') → wpX_solve post (nI N, go, be, bc, len, pr, pa, la, nt, bp, ne) (nI u) (nI v) := by
  obtain ⟨be', bc', pa', la', nt', bp', ne', hvv, hp⟩ := zs_solve (go := go) (be := be) (bc := bc) (len := len) (pr := pr) (pa := pa) (la := la) (nt := nt) (bp := bp) (ne := ne) (N := N) (f := u) (g := v) (pc := N - 1) h3 hN hu hv (Or.inr ⟨huv, rfl⟩) hs (fun x y => Nat.le_trans (hd x y) (by omega)) hpr
  have e0 : N - 1 - 1 = N - 2 := by omega
  rw [e0] at hvv
  have hM : ∀ l, l ∈ zl_lv N v (N - 2) [u] → (fun l => zp_pl d (v :: l)) l < 80000 := by
    intro l hl
    obtain ⟨m, em, hm, hx, _⟩ := zl_lv_m _ _ _ hl
    have := zt_plle (N := N) (F := 60) (fun a b _ _ => hd a b) (v :: l) (fun x hxm => by
      rw [em] at hxm
      rcases List.mem_cons.mp hxm with h | h
      · rw [h]; exact hv
      · rcases List.mem_append.mp h with h | h
        · exact (hx x h).1
        · rw [List.mem_singleton.mp h]; exact hu)
    show zp_pl d (v :: l) < 80000
    rw [em] at this ⊢
    rw [List.length_cons, List.length_append, hm, Nat.add_sub_cancel] at this
    simp only [List.length_cons, List.length_nil] at this
    omega
  have h0 : 0 < (zl_lv N v (N - 2) [u]).length := by
    have hmem : (List.range N).filter (zl_fr v [u]) ++ [u] ∈ zl_lv N v (N - 2) [u] := zl_lv_i _ _ _ (by rw [zl_ct_f, zq_ct hu hv huv]) (fun x hx => by
      have := List.mem_filter.mp hx
      exact ⟨List.mem_range.mp this.1, this.2⟩) (List.Nodup.sublist List.filter_sublist List.nodup_range)
    exact List.length_pos_of_mem hmem
  obtain ⟨f, b, c, e, hf, hb, hmin, _, _⟩ := zl_best (fun l => zp_pl d (v :: l)) (zl_lv N v (N - 2) [u]) 80000 [] hM h0
  rw [e] at hvv
  obtain ⟨e1, _, _, _⟩ := hvv
  have e1' : be' = nI b := e1
  subst e1'
  have eg : (zl_lv N v (N - 2) [u]).getD f [] = (zl_lv N v (N - 2) [u])[f] := by simp [hf]
  refine ⟨b, bc', pa', la', nt', bp', ne', ⟨_, List.getElem_mem hf, ?_⟩, fun l hl => ?_, hp⟩
  · rw [hb, eg]
  · obtain ⟨j, hj, ej⟩ := List.getElem_of_mem hl
    have h1 := hmin j hj
    have eg2 : (zl_lv N v (N - 2) [u]).getD j [] = l := by simp [hj, ej]
    rw [eg2] at h1
    exact h1
theorem zq_use (hy : zy_ok N d ly tw) {u v b : Nat} (hu : u < N) (hv : v < N) (huv : u ≠ v) (hmem : ∃ l, l ∈ zl_lv N v (N - 2) [u] ∧ b = zp_pl d (v :: l)) (hmin : ∀ l, l ∈ zl_lv N v (N - 2) [u] → b ≤ zp_pl d (v :: l)) (post : Int32 → Prop) (hp : post (nI (b + d u v))) : wpY_least post (nI N, nI (zt_tr N).length, ly, tw, lo, pt) (nI u) (nI v) 1 := by
  have hy' := hy
  obtain ⟨h3, hN, hs, hd, hly, htb⟩ := hy'
  obtain ⟨l0, hl0, hb⟩ := hmem
  obtain ⟨l, hl, hus, hsum⟩ := zt_use2 (by omega) hs hu hv huv hl0
  obtain ⟨t, ht, et⟩ := zy_idx hl
  have hsel : zy_sel N u v 1 t := Or.inl ⟨rfl, by unfold zy_e; rw [et]; exact hus⟩
  obtain ⟨f, g1, g2, g3, g4⟩ := zy_least (lo := lo) (pt := pt) hy hu hv (Or.inl rfl) ⟨t, ht, hsel⟩
  have husf : zt_us (zy_e N f) u v := by
    rcases g2 with z | z
    · exact z.2
    · exact absurd z.1 (by decide)
  obtain ⟨l', hl', hsum'⟩ := zt_use1 (by omega) hs (zy_mem g1) huv husf
  have a1 := hmin l' hl'
  have a2 := g3 t ht hsel
  have a3 : zp_pl d (zy_e N t) = zp_pl d (0 :: l) := by unfold zy_e; rw [et]
  have a4 : zp_pl d (zy_e N f) = zp_pl d (v :: l') + d u v := hsum'.symm
  have e : zp_pl d (zy_e N f) = b + d u v := by omega
  rw [← e] at hp
  exact g4 _ hp
theorem zq_avoid (hy : zy_ok N d ly tw) {u v f b : Nat} (h4 : 4 ≤ N) (hu : u < N) (hv : v < N) (huv : u ≠ v) (hf : f < (zt_tr N).length) (hb : b = zp_pl (zo_d u v 10000 d) (zy_e N f)) (hmin : ∀ j, j < (zt_tr N).length → b ≤ zp_pl (zo_d u v 10000 d) (zy_e N j)) (post : Int32 → Prop) (hp : post (nI b)) : wpY_least post (nI N, nI (zt_tr N).length, ly, tw, lo, pt) (nI u) (nI v) 0 := by
  have hy' := hy
  obtain ⟨h3, hN, hs, hd, hly, htb⟩ := hy'
  obtain ⟨l0, hl0, hn0⟩ := zt_avoid h4 hN hu hv huv
  obtain ⟨t, ht, et⟩ := zy_idx hl0
  have hn0' : ¬ zt_us (zy_e N t) u v := by unfold zy_e; rw [et]; exact hn0
  have same : ∀ e : List Nat, ¬ zt_us e u v → zp_pl (zo_d u v 10000 d) e = zp_pl d e := zt_av (fun a b h => zo_dn h)
  have hsel : zy_sel N u v 0 t := Or.inr ⟨rfl, hn0'⟩
  obtain ⟨f', g1, g2, g3, g4⟩ := zy_least (lo := lo) (pt := pt) hy hu hv (Or.inr rfl) ⟨t, ht, hsel⟩
  have hnf' : ¬ zt_us (zy_e N f') u v := by
    rcases g2 with z | z
    · exact absurd z.1 (by decide)
    · exact z.2
  have b1 := hmin t ht
  rw [same _ hn0'] at b1
  have b2 := zy_hb h3 hd ht
  have hnf : ¬ zt_us (zy_e N f) u v := by
    intro z
    have := zt_far (F := 10000) (zo_dp (d := d) (w := 10000) (Or.inl ⟨rfl, rfl⟩)) (zo_dp (Or.inr ⟨rfl, rfl⟩)) z
    omega
  rw [same _ hnf] at hb
  have b3 := g3 f hf (Or.inr ⟨rfl, hnf⟩)
  have b4 := hmin f' g1
  rw [same _ hnf'] at b4
  have e : zp_pl d (zy_e N f') = b := by omega
  rw [← e] at hp
  exact g4 _ hp
end
theorem i_vc_using {k : Nat} {u : SX} {v : SY} (I : i_Rel k u v) (hk : k + 4 ≤ 2049) (v1 : Int32) (v2 : Int32) : wpX_using (fun r u' => wpY_using (fun r' => r' = r ∧ i_Rel (k + 4) u' v) v v1 v2) u v1 v2 := by
  obtain ⟨N, d, go, be, bc, len, pr, pa, la, nt, bp, ne, ly, tw, lo, pt, rfl, rfl, hl, hy⟩ := I
  have hy' := hy
  obtain ⟨h3, hN, hs, hd, hly, htb⟩ := hy'
  have n1 : ¬ (1 : Int32) = 0 := by decide
  have fin : i_Rel (k + 4) (nI N, go, be, bc, len, pr, pa, la, nt, bp, ne) (nI N, nI (zt_tr N).length, ly, tw, lo, pt) := ⟨N, d, go, be, bc, len, pr, pa, la, nt, bp, ne, ly, tw, lo, pt, rfl, rfl, hl, hy⟩
  unfold wpX_using
  rcases zo_couple (go := go) (be := be) (bc := bc) (ft := nI (zt_tr N).length) (len := len) (pr := pr) (pa := pa) (la := la) (nt := nt) (bp := bp) (ne := ne) (ly := ly) (tw := tw) (lo := lo) (pt := pt) hN v1 v2 with ⟨a, b, ha, hb, hab, rfl, rfl, x1, y1⟩ | ⟨x1, y1⟩
  · obtain ⟨pr', l1, l2⟩ := zx_load (tc := nI N) (go := go) (be := be) (bc := bc) (len := len) (pr := pr) (pa := pa) (la := la) (nt := nt) (bp := bp) (ne := ne)
    have hpr : zo_len d pr' := fun i j hi hj => by rw [l1 _ (by omega)]; exact hl i j hi hj
    obtain ⟨q, bc', pa', la', nt', bp', ne', hmem, hmin, hX⟩ := zq_solve1 (go := go) (be := be) (bc := bc) (len := len) (pa := pa) (la := la) (nt := nt) (bp := bp) (ne := ne) h3 hN hs hd hpr ha hb hab
    have c1 : nI q + len ((7 : Int32) * nI a + nI b).toNatClampNeg = nI (q + d a b) := by rw [zx_rd len (by omega) (by omega), hl a b (by omega) (by omega), nI_add]
    have hfin : i_Rel (k + 4) (nI N, nI b, nI q, bc', len, pr', pa', la', nt', bp', ne') (nI N, nI (zt_tr N).length, ly, tw, lo, pt) := ⟨N, d, _, _, _, len, pr', pa', la', nt', bp', ne', ly, tw, lo, pt, rfl, rfl, hl, hy⟩
    refine x1 _ (br_f n1 (l2 _ (hX _ ⟨zx_in (by omega) (by omega), ?_⟩)))
    rw [c1]
    show wpY_using (fun r' => r' = nI (q + d a b) ∧ i_Rel (k + 4) (nI N, nI b, nI q, bc', len, pr', pa', la', nt', bp', ne') (nI N, nI (zt_tr N).length, ly, tw, lo, pt)) (nI N, nI (zt_tr N).length, ly, tw, lo, pt) (nI a) (nI b)
    unfold wpY_using
    exact y1 _ (br_f n1 (zq_use hy ha hb hab hmem hmin _ ⟨rfl, hfin⟩))
  · refine x1 _ (br_t rfl ?_)
    show wpY_using (fun r' => r' = (-1) ∧ i_Rel (k + 4) (nI N, go, be, bc, len, pr, pa, la, nt, bp, ne) (nI N, nI (zt_tr N).length, ly, tw, lo, pt)) (nI N, nI (zt_tr N).length, ly, tw, lo, pt) v1 v2
    unfold wpY_using
    exact y1 _ (br_t rfl ⟨rfl, fin⟩)
theorem i_vc_walk {k : Nat} {u : SX} {v : SY} (I : i_Rel k u v) (hk : k + 4 ≤ 2049) (v1 : Int32) (v2 : Int32) : wpX_walk (fun r u' => wpY_walk (fun r' => r' = r ∧ i_Rel (k + 4) u' v) v v1 v2) u v1 v2 := by
  obtain ⟨N, d, go, be, bc, len, pr, pa, la, nt, bp, ne, ly, tw, lo, pt, rfl, rfl, hl, hy⟩ := I
  have hy' := hy
  obtain ⟨h3, hN, hs, hd, hly, htb⟩ := hy'
  have n1 : ¬ (1 : Int32) = 0 := by decide
  have fin : i_Rel (k + 4) (nI N, go, be, bc, len, pr, pa, la, nt, bp, ne) (nI N, nI (zt_tr N).length, ly, tw, lo, pt) := ⟨N, d, go, be, bc, len, pr, pa, la, nt, bp, ne, ly, tw, lo, pt, rfl, rfl, hl, hy⟩
  unfold wpX_walk
  rcases zo_couple (go := go) (be := be) (bc := bc) (ft := nI (zt_tr N).length) (len := len) (pr := pr) (pa := pa) (la := la) (nt := nt) (bp := bp) (ne := ne) (ly := ly) (tw := tw) (lo := lo) (pt := pt) hN v1 v2 with ⟨a, b, ha, hb, hab, rfl, rfl, x1, y1⟩ | ⟨x1, y1⟩
  · obtain ⟨pr', l1, l2⟩ := zx_load (tc := nI N) (go := go) (be := be) (bc := bc) (len := len) (pr := pr) (pa := pa) (la := la) (nt := nt) (bp := bp) (ne := ne)
    have hpr : zo_len d pr' := fun i j hi hj => by rw [l1 _ (by omega)]; exact hl i j hi hj
    obtain ⟨q, bc', pa', la', nt', bp', ne', hmem, hmin, hX⟩ := zq_solve1 (go := go) (be := be) (bc := bc) (len := len) (pa := pa) (la := la) (nt := nt) (bp := bp) (ne := ne) h3 hN hs hd hpr ha hb hab
    have c1 : nI (q + d a b) - ly ((7 : Int32) * nI a + nI b).toNatClampNeg = nI q := by
      rw [zx_rd ly (by omega) (by omega), hly a b (by omega) (by omega), pk_sub (by omega), Nat.add_sub_cancel]
    have hfin : i_Rel (k + 4) (nI N, nI b, nI q, bc', len, pr', pa', la', nt', bp', ne') (nI N, nI (zt_tr N).length, ly, tw, lo, pt) := ⟨N, d, _, _, _, len, pr', pa', la', nt', bp', ne', ly, tw, lo, pt, rfl, rfl, hl, hy⟩
    refine x1 _ (br_f n1 (l2 _ (hX _ ?_)))
    show wpY_walk (fun r' => r' = nI q ∧ i_Rel (k + 4) (nI N, nI b, nI q, bc', len, pr', pa', la', nt', bp', ne') (nI N, nI (zt_tr N).length, ly, tw, lo, pt)) (nI N, nI (zt_tr N).length, ly, tw, lo, pt) (nI a) (nI b)
    unfold wpY_walk
    exact y1 _ (br_f n1 (zq_use hy ha hb hab hmem hmin _ ⟨zx_in (by omega) (by omega), c1, hfin⟩))
  · refine x1 _ (br_t rfl ?_)
    show wpY_walk (fun r' => r' = (-1) ∧ i_Rel (k + 4) (nI N, go, be, bc, len, pr, pa, la, nt, bp, ne) (nI N, nI (zt_tr N).length, ly, tw, lo, pt)) (nI N, nI (zt_tr N).length, ly, tw, lo, pt) v1 v2
    unfold wpY_walk
    exact y1 _ (br_t rfl ⟨rfl, fin⟩)
theorem i_vc_avoiding {k : Nat} {u : SX} {v : SY} (I : i_Rel k u v) (hk : k + 4 ≤ 2049) (v1 : Int32) (v2 : Int32) : wpX_avoiding (fun r u' => wpY_avoiding (fun r' => r' = r ∧ i_Rel (k + 4) u' v) v v1 v2) u v1 v2 := by
  obtain ⟨N, d, go, be, bc, len, pr, pa, la, nt, bp, ne, ly, tw, lo, pt, rfl, rfl, hl, hy⟩ := I
  have hy' := hy
  obtain ⟨h3, hN, hs, hd, hly, htb⟩ := hy'
  have n1 : ¬ (1 : Int32) = 0 := by decide
  have fin : i_Rel (k + 4) (nI N, go, be, bc, len, pr, pa, la, nt, bp, ne) (nI N, nI (zt_tr N).length, ly, tw, lo, pt) := ⟨N, d, go, be, bc, len, pr, pa, la, nt, bp, ne, ly, tw, lo, pt, rfl, rfl, hl, hy⟩
  unfold wpX_avoiding
  rcases zo_couple (go := go) (be := be) (bc := bc) (ft := nI (zt_tr N).length) (len := len) (pr := pr) (pa := pa) (la := la) (nt := nt) (bp := bp) (ne := ne) (ly := ly) (tw := tw) (lo := lo) (pt := pt) hN v1 v2 with ⟨a, b, ha, hb, hab, rfl, rfl, x1, y1⟩ | ⟨x1, y1⟩
  · refine x1 _ (br_f n1 ?_)
    by_cases e3 : N = 3
    · have z1 : (nI N : Int32) = 3 := by rw [e3]; rfl
      have z2 : (nI N : Int32) ≤ 3 := by rw [e3]; decide
      refine br_t z1 ?_
      show wpY_avoiding (fun r' => r' = (-1) ∧ i_Rel (k + 4) (nI N, go, be, bc, len, pr, pa, la, nt, bp, ne) (nI N, nI (zt_tr N).length, ly, tw, lo, pt)) (nI N, nI (zt_tr N).length, ly, tw, lo, pt) (nI a) (nI b)
      unfold wpY_avoiding
      exact y1 _ (br_f n1 (br_t z2 ⟨rfl, fin⟩))
    · have z1 : ¬ (nI N : Int32) = 3 := fun z => e3 ((nI_eq (b := 3) (by omega) (by omega)).mp z)
      have z2 : ¬ (nI N : Int32) ≤ 3 := nI_ge (a := 3) (by omega) (by omega)
      obtain ⟨pr', l1, l2⟩ := zx_load (tc := nI N) (go := go) (be := be) (bc := bc) (len := len) (pr := pr) (pa := pa) (la := la) (nt := nt) (bp := bp) (ne := ne)
      have hpr : zo_len d pr' := fun i j hi hj => by rw [l1 _ (by omega)]; exact hl i j hi hj
      have hpr2 : zo_len (zo_d a b 10000 d) (upd (upd pr' (7 * a + b) (nI 10000)) (7 * b + a) (nI 10000)) := zo_set hpr (by omega) (by omega)
      obtain ⟨f, q, c, be', bc', pa', la', nt', bp', ne', ⟨a1, a2, a3, a4, a5, a6, a7, a8⟩, hX⟩ := zq_solve0 (go := go) (be := be) (bc := bc) (len := len) (pa := pa) (la := la) (nt := nt) (bp := bp) (ne := ne) h3 hN (zo_ds hs) (zo_db (Nat.le_refl _) (fun x y => Nat.le_trans (hd x y) (by omega))) hpr2
      subst a6
      refine br_f z1 (l2 _ ?_)
      have hprice : ∀ post : SX → Prop, post (nI N, go, be, bc, len, upd (upd pr' (7 * a + b) (nI 10000)) (7 * b + a) (nI 10000), pa, la, nt, bp, ne) → wpX_price post (nI N, go, be, bc, len, pr', pa, la, nt, bp, ne) (nI a) (nI b) 10000 := fun post hp => zo_xput (P := fun l => post (nI N, go, be, bc, len, l, pa, la, nt, bp, ne)) (by omega) (by omega) (nI 10000) hp
      refine hprice _ (hX _ ?_)
      have hfin : i_Rel (k + 4) (nI N, nI 0, nI q, bc', len, upd (upd pr' (7 * a + b) (nI 10000)) (7 * b + a) (nI 10000), pa', la', nt', bp', ne') (nI N, nI (zt_tr N).length, ly, tw, lo, pt) := ⟨N, d, _, _, _, len, _, pa', la', nt', bp', ne', ly, tw, lo, pt, rfl, rfl, hl, hy⟩
      show wpY_avoiding (fun r' => r' = nI q ∧ i_Rel (k + 4) (nI N, nI 0, nI q, bc', len, upd (upd pr' (7 * a + b) (nI 10000)) (7 * b + a) (nI 10000), pa', la', nt', bp', ne') (nI N, nI (zt_tr N).length, ly, tw, lo, pt)) (nI N, nI (zt_tr N).length, ly, tw, lo, pt) (nI a) (nI b)
      unfold wpY_avoiding
      exact y1 _ (br_f n1 (br_f z2 (zq_avoid hy (by omega) ha hb hab a1 a2 a3 _ ⟨rfl, hfin⟩)))
  · refine x1 _ (br_t rfl ?_)
    show wpY_avoiding (fun r' => r' = (-1) ∧ i_Rel (k + 4) (nI N, go, be, bc, len, pr, pa, la, nt, bp, ne) (nI N, nI (zt_tr N).length, ly, tw, lo, pt)) (nI N, nI (zt_tr N).length, ly, tw, lo, pt) v1 v2
    unfold wpY_avoiding
    exact y1 _ (br_t rfl ⟨rfl, fin⟩)
end
section
theorem zq_full {N : Nat} {d : Nat → Nat → Nat} {ws : List Nat} (h : zp_fin (fun v => v < N ∧ (fun _ => true) v = true) d ws) : zp_fin (fun x => x < N) d ws := by
  have e : (fun v => v < N ∧ (fun _ => true) v = true) = (fun x => x < N) := by
    funext v
    exact propext ⟨fun z => z.1, fun z => ⟨z, rfl⟩⟩
  rw [e] at h
  exact h
theorem i_vc_reach {k : Nat} {u : SX} {v : SY} (I : i_Rel k u v) (hk : k + 4 ≤ 2049) : wpX_reach (fun r u' => wpY_reach (fun r' v' => r' = r ∧ i_Rel (k + 4) u' v') v) u := by
  obtain ⟨N, d, go, be, bc, len, pr, pa, la, nt, bp, ne, ly, tw, lo, pt, rfl, rfl, hl, hy⟩ := I
  have hy' := hy
  obtain ⟨h3, hN, hs, hd, hly, htb⟩ := hy'
  obtain ⟨pr', l1, l2⟩ := zx_load (tc := nI N) (go := go) (be := be) (bc := bc) (len := len) (pr := pr) (pa := pa) (la := la) (nt := nt) (bp := bp) (ne := ne)
  have hpr : zo_len d pr' := fun i j hi hj => by rw [l1 _ (by omega)]; exact hl i j hi hj
  obtain ⟨ws, ne', g1, g2, g3, g4⟩ := zx_grow (go := go) (be := be) (bc := bc) (len := len) (pa := pa) (la := la) (nt := nt) (bp := bp) (ne := ne) (f := 0) hN (by omega) hs (fun x y => Nat.le_trans (hd x y) (by omega)) hpr (zm_full hN) rfl
  have hw : ∀ w, w ∈ ws → w ≤ 60 := fun w h => by obtain ⟨a, b, e⟩ := g2 w h; rw [e]; exact hd a b
  obtain ⟨pt', hY⟩ := zy_reach (ft := nI (zt_tr N).length) (tw := tw) (lo := lo) (pt := pt) h3 hN hs hd hly (zq_full g1) g3 (zp_mx_le ws hw)
  unfold wpX_reach
  refine l2 _ (g4 _ 1 ?_)
  rw [if_neg (by decide : ¬ (1 : Int32) = 0)]
  exact hY _ ⟨rfl, ⟨N, d, _, _, _, len, pr', pa, la, nt, bp, ne', ly, tw, lo, pt', rfl, rfl, hl, hy⟩⟩
theorem i_vc_net {k : Nat} {u : SX} {v : SY} (I : i_Rel k u v) (hk : k + 4 ≤ 2049) : wpX_net (fun r u' => wpY_net (fun r' v' => r' = r ∧ i_Rel (k + 4) u' v') v) u := by
  obtain ⟨N, d, go, be, bc, len, pr, pa, la, nt, bp, ne, ly, tw, lo, pt, rfl, rfl, hl, hy⟩ := I
  have hy' := hy
  obtain ⟨h3, hN, hs, hd, hly, htb⟩ := hy'
  obtain ⟨pr', l1, l2⟩ := zx_load (tc := nI N) (go := go) (be := be) (bc := bc) (len := len) (pr := pr) (pa := pa) (la := la) (nt := nt) (bp := bp) (ne := ne)
  have hpr : zo_len d pr' := fun i j hi hj => by rw [l1 _ (by omega)]; exact hl i j hi hj
  obtain ⟨ws, ne', g1, g2, g3, g4⟩ := zx_grow (go := go) (be := be) (bc := bc) (len := len) (pa := pa) (la := la) (nt := nt) (bp := bp) (ne := ne) (f := 0) hN (by omega) hs (fun x y => Nat.le_trans (hd x y) (by omega)) hpr (zm_full hN) rfl
  have hw : ∀ w, w ∈ ws → w ≤ 60 := fun w h => by obtain ⟨a, b, e⟩ := g2 w h; rw [e]; exact hd a b
  obtain ⟨pt', hY⟩ := zy_net (ft := nI (zt_tr N).length) (tw := tw) (lo := lo) (pt := pt) h3 hN hs hd hly (zq_full g1) hw
  unfold wpX_net
  refine l2 _ (g4 _ 0 ?_)
  rw [if_pos rfl]
  exact hY _ ⟨rfl, ⟨N, d, _, _, _, len, pr', pa, la, nt, bp, ne', ly, tw, lo, pt', rfl, rfl, hl, hy⟩⟩
end
