section
/-! rows of the kit, pasted (PURE-ROWS, BITS) -/
theorem pk_us {f : Nat → Int32} {k : Nat} {x : Int32} : upd f k x k = x := if_pos rfl
theorem pk_un {f : Nat → Int32} {k j : Nat} {x : Int32} (h : j ≠ k) : upd f k x j = f j := if_neg h
theorem pk_sub {a b : Nat} (h : b ≤ a) : nI a - nI b = nI (a - b) := by
  obtain ⟨c, rfl⟩ : ∃ c, a = c + b := ⟨a - b, by omega⟩
  rw [← nI_add, Int32.add_sub_cancel, Nat.add_sub_cancel]
theorem pk_m1 (n : Nat) : nI (n + 1) + (-1) = nI n := by
  rw [← nI_1, Int32.add_assoc, show (1 : Int32) + (-1) = 0 from rfl, Int32.add_zero]
theorem pk_mul (a b : Nat) : nI a * nI b = nI (a * b) := (Int32.ofNat_mul a b).symm
theorem pk_div {a d : Nat} (ha : a < 2 ^ 31) (h0 : 0 < d) (hd : d < 2 ^ 31) : nI a / nI d = nI (a / d) := by
  apply Int32.toInt_inj.mp
  rw [lg_idiv_nonneg (by rw [nI_toInt ha]; omega) (by rw [nI_toInt hd]; omega), nI_toInt ha, nI_toInt hd, nI_toInt (Nat.lt_of_le_of_lt (Nat.div_le_self a d) ha)]
  first | rfl | exact (Int.natCast_ediv _ _).symm
theorem pk_rem {a d : Nat} (ha : a < 2 ^ 31) (h0 : 0 < d) (hd : d < 2 ^ 31) : nI a - nI a / nI d * nI d = nI (a % d) := by
  rw [pk_div ha h0 hd, pk_mul, pk_sub (Nat.div_mul_le_self a d)]
  exact congrArg nI (by have := Nat.div_add_mod' a d; omega)
theorem pk_sub_toInt {a b : Nat} (ha : a < 2 ^ 30) (hb : b < 2 ^ 30) : (nI a - nI b).toInt = (a : Int) - b := by
  rw [Int32.toInt_sub, nI_toInt (by omega), nI_toInt (by omega)]
  exact Int.bmod_eq_of_le (by omega) (by omega)
theorem pk_sneg {a b : Nat} (hb : b < 2 ^ 30) (h : a < b) : nI a - nI b < 0 := by
  rw [Int32.lt_iff_toInt_lt, pk_sub_toInt (by omega) hb, show (0 : Int32).toInt = 0 from by decide]
  omega
theorem pk_ix (x : Int32) {n : Nat} (hn : n < 2 ^ 31) : x < 0 ∨ nI n ≤ x ∨ ∃ j : Nat, j < n ∧ x = nI j := by
  by_cases h : x < 0
  · exact Or.inl h
  · obtain ⟨j, hj, rfl⟩ := nI_of h
    by_cases h2 : j < n
    · exact Or.inr (Or.inr ⟨j, h2, rfl⟩)
    · exact Or.inr (Or.inl (nI_le (by omega) hj))
theorem pk_le {x y : Int32} {A B : Prop} (a b : Nat) (f : a ≤ b → A) (g : b < a → B) (hx : x = nI a := by rfl) (hy : y = nI b := by rfl) (ha : a < 2 ^ 31 := by omega) (hb : b < 2 ^ 31 := by omega) : (x ≤ y → A) ∧ (¬ x ≤ y → B) := by
  subst hx hy
  rw [nI_leI ha hb]
  exact ⟨f, fun z => g (by omega)⟩
theorem pk_lt {x y : Int32} {A B : Prop} (a b : Nat) (f : a < b → A) (g : b ≤ a → B) (hx : x = nI a := by rfl) (hy : y = nI b := by rfl) (ha : a < 2 ^ 31 := by omega) (hb : b < 2 ^ 31 := by omega) : (x < y → A) ∧ (¬ x < y → B) := by
  subst hx hy
  rw [nI_ltI ha hb]
  exact ⟨f, fun z => g (by omega)⟩
theorem pk_eq {x y : Int32} {A B : Prop} (a b : Nat) (f : a = b → A) (g : a ≠ b → B) (hx : x = nI a := by rfl) (hy : y = nI b := by rfl) (ha : a < 2 ^ 31 := by omega) (hb : b < 2 ^ 31 := by omega) : (x = y → A) ∧ (¬ x = y → B) := by
  subst hx hy
  rw [nI_eq ha hb]
  exact ⟨f, g⟩
theorem pk_in {x : Int32} (n N : Nat) (h : n < N) (hx : x = nI n := by rfl) (hN : N < 2 ^ 31 := by omega) : vp_in x N := by
  subst hx
  exact vp_in_nI h hN
theorem pk_cl {x : Int32} (n : Nat) (hx : x = nI n := by rfl) (h : n < 2 ^ 31 := by omega) : x.toNatClampNeg = n := by
  subst hx
  exact nI_clamp h
theorem pk_tn {n : Nat} (h : n < 2 ^ 32) : (nI n).toBitVec.toNat = n := Nat.mod_eq_of_lt h
theorem pk_and (x : Int32) {m : Int32} (k : Nat) (hm : m.toBitVec.toNat = 2 ^ k - 1) : x &&& m = nI (x.toBitVec.toNat % 2 ^ k) := by
  apply Int32.toBitVec_inj.mp
  apply BitVec.eq_of_toNat_eq
  rw [Int32.toBitVec_and, BitVec.toNat_and, hm, Nat.and_two_pow_sub_one_eq_mod]
  show _ = (BitVec.ofNat 32 _).toNat
  rw [BitVec.toNat_ofNat]
  exact (Nat.mod_eq_of_lt (Nat.lt_of_le_of_lt (Nat.mod_le _ _) x.toBitVec.isLt)).symm
theorem pk_andN {n : Nat} (h : n < 2 ^ 32) {m : Int32} (k : Nat) (hm : m.toBitVec.toNat = 2 ^ k - 1) : nI n &&& m = nI (n % 2 ^ k) := by
  rw [pk_and _ k hm, pk_tn h]
theorem pk_shl (a s : Int32) (k : Nat) (hs : (s.toBitVec.smod 32).toNat = k) : (a <<< s).toBitVec.toNat = a.toBitVec.toNat * 2 ^ k % 2 ^ 32 := by
  show (a.toBitVec <<< (s.toBitVec.smod 32).toNat).toNat = _
  rw [hs, BitVec.toNat_shiftLeft, Nat.shiftLeft_eq]
theorem pk_shlN {n : Nat} (s : Int32) (k : Nat) (hs : (s.toBitVec.smod 32).toNat = k) (h : n * 2 ^ k < 2 ^ 32) : nI n <<< s = nI (n * 2 ^ k) := by
  apply Int32.toBitVec_inj.mp
  apply BitVec.eq_of_toNat_eq
  have hn : n < 2 ^ 32 := Nat.lt_of_le_of_lt (Nat.le_mul_of_pos_right n (Nat.two_pow_pos k)) h
  rw [pk_shl _ _ k hs, pk_tn hn, pk_tn h, Nat.mod_eq_of_lt h]
theorem pk_shr (a s : Int32) (k : Nat) (hs : (s.toBitVec.smod 32).toNat = k) : (a >>> s).toInt = a.toInt >>> k := by
  show (a.toBitVec.sshiftRight (s.toBitVec.smod 32).toNat).toInt = _
  rw [hs, BitVec.toInt_sshiftRight]
  rfl
theorem pk_shrN {n : Nat} (h : n < 2 ^ 31) (s : Int32) (k : Nat) (hs : (s.toBitVec.smod 32).toNat = k) : nI n >>> s = nI (n / 2 ^ k) := by
  apply Int32.toInt_inj.mp
  have h2 : n / 2 ^ k ≤ n := Nat.div_le_self _ _
  rw [pk_shr _ _ k hs, nI_toInt h, nI_toInt (by omega), Int.shiftRight_eq_div_pow]
  rfl
theorem pk_nb (z : Int32) : narrow .byte (.int z.toInt8.toInt32) = .int z.toInt8.toInt32 := congrArg Value.int (by simp)
theorem pk_ns (z : Int32) : narrow .short (.int z.toInt16.toInt32) = .int z.toInt16.toInt32 := congrArg Value.int (by simp)
theorem pk_vb (z : Int32) : vp_nar .byte z.toInt8.toInt32 = z.toInt8.toInt32 := by rw [vp_nar_byte]; simp
theorem pk_vs (z : Int32) : vp_nar .short z.toInt16.toInt32 = z.toInt16.toInt32 := by rw [vp_nar_short]; simp
def bt (x : Int32) (i : Nat) : Bool := x.toBitVec.getLsbD i
theorem b_ext {x y : Int32} (h : ∀ i, i < 32 → bt x i = bt y i) : x = y := Int32.toBitVec_inj.mp (BitVec.eq_of_getLsbD_eq (fun i hi => h i hi))
theorem b_or (x y : Int32) (i : Nat) : bt (x ||| y) i = (bt x i || bt y i) := by unfold bt; rw [Int32.toBitVec_or, BitVec.getLsbD_or]
theorem b_and (x y : Int32) (i : Nat) : bt (x &&& y) i = (bt x i && bt y i) := by unfold bt; rw [Int32.toBitVec_and, BitVec.getLsbD_and]
theorem b_xor (x y : Int32) (i : Nat) : bt (x ^^^ y) i = (bt x i ^^ bt y i) := by unfold bt; rw [Int32.toBitVec_xor, BitVec.getLsbD_xor]
theorem b_big {x : Int32} {i : Nat} (h : 32 ≤ i) : bt x i = false := BitVec.getLsbD_of_ge _ _ h
theorem b_m1 : ∀ i, i < 32 → bt (-1) i = true := by decide +kernel
theorem b_0 (i : Nat) : bt 0 i = false := BitVec.getLsbD_zero
theorem s_l : ∀ n, n < 32 → ((nI n &&& 31).toBitVec.smod 32).toNat = n := by decide +kernel
theorem b_shl (n : Nat) (hn : n < 32) (x : Int32) {i : Nat} (hi : i < 32) : bt (x <<< (nI n &&& 31)) i = (decide (n ≤ i) && bt x (i - n)) := by
  unfold bt
  rw [Int32.toBitVec_shiftLeft]
  show (x.toBitVec <<< ((nI n &&& 31).toBitVec.smod 32).toNat).getLsbD i = _
  rw [s_l n hn, BitVec.getLsbD_shiftLeft]
  rcases Nat.lt_or_ge i n with h | h
  · simp [h, Nat.not_le.mpr h]
  · simp [hi, h, Nat.not_lt.mpr h]
theorem b_sshr (n : Nat) (hn : n < 32) (x : Int32) {i : Nat} (hi : i < 32) : bt (x >>> (nI n &&& 31)) i = if n + i < 32 then bt x (n + i) else bt x 31 := by
  unfold bt
  rw [Int32.toBitVec_shiftRight]
  show (x.toBitVec.sshiftRight ((nI n &&& 31).toBitVec.smod 32).toNat).getLsbD i = _
  rw [s_l n hn, BitVec.getLsbD_sshiftRight, BitVec.msb_eq_getLsbD_last]
  simp [hi]
theorem nx_and (a b : Nat) : nI a &&& nI b = nI (a &&& b) := by
  apply Int32.toBitVec_inj.1
  show BitVec.ofNat 32 a &&& BitVec.ofNat 32 b = BitVec.ofNat 32 (a &&& b)
  apply BitVec.eq_of_getLsbD_eq
  intro i hi
  simp [hi]
theorem nf_sh : ∀ l, l < 32 → ((1 : Int32) <<< (nI l &&& 31)).toBitVec = BitVec.twoPow 32 l := by decide +kernel
end
section
/-! narrowing, bits, points, permutations, the insertion's pure half, the stack as a list -/
theorem rs_at {A : Nat → Int32} {n : Nat} {v : Int32} (hn : n < 2 ^ 31) (h : A n = v) : A (nI n).toNatClampNeg = v := by rw [nI_clamp hn]; exact h
theorem rs_b8 : ∀ n, n < 128 → (nI n).toInt8.toInt32 = nI n := by decide +kernel
theorem rs_nb {n : Nat} (h : n < 128) : vp_nar .byte (nI n) = nI n := by rw [vp_nar_byte]; exact rs_b8 n h
theorem rs_nb2 {n : Nat} (h : n < 128) : vp_nar .byte (nI n).toInt8.toInt32 = nI n := by rw [rs_b8 n h, rs_nb h]
theorem rs_s16 {n : Nat} (h : n < 32768) : (nI n).toInt16.toInt32 = nI n := lg_i2s_small (by rw [nI_toInt (by omega)]; omega) (by rw [nI_toInt (by omega)]; omega)
theorem rs_ns {n : Nat} (h : n < 32768) : vp_nar .short (nI n) = nI n := by rw [vp_nar_short, rs_s16 h]
theorem rs_ns2 {n : Nat} (h : n < 32768) : vp_nar .short (nI n).toInt16.toInt32 = nI n := by rw [rs_s16 h, rs_ns h]
theorem rs_nbm : vp_nar .byte (-1) = -1 := by rw [vp_nar_byte]; decide
theorem rs_nsm : vp_nar .short (-1) = -1 := by rw [vp_nar_short]; decide
theorem rs_1bit : ∀ i, i < 32 → bt 1 i = decide (i = 0) := by decide +kernel
theorem rs_bv (p : Int32) {k : Nat} (hk : k < 32) : ((p >>> (nI k &&& 31)) &&& 1) = nI (bt p k).toNat := by
  apply b_ext
  intro i hi
  rw [b_and, rs_1bit i hi, b_sshr k hk p hi]
  by_cases z : i = 0
  · subst z
    rw [if_pos (by omega), Nat.add_zero]
    cases bt p k <;> decide
  · rw [decide_eq_false z, Bool.and_false]
    cases bt p k
    · exact (b_0 i).symm
    · have e : bt 1 i = false := by rw [rs_1bit i hi, decide_eq_false z]
      exact e.symm
theorem rs_sb {k : Nat} (hk : k < 32) (i : Nat) : bt ((1 : Int32) <<< (nI k &&& 31)) i = decide (i = k) := by
  unfold bt
  rw [nf_sh k hk, BitVec.getLsbD_twoPow, decide_eq_true hk, Bool.true_and]
  by_cases e : k = i
  · subst e; rfl
  · rw [decide_eq_false e, decide_eq_false (fun z => e z.symm)]
theorem rs_or (f : Int32) {k : Nat} (hk : k < 32) (i : Nat) : bt (f ||| ((1 : Int32) <<< (nI k &&& 31))) i = true ↔ bt f i = true ∨ i = k := by
  rw [b_or, rs_sb hk, Bool.or_eq_true, decide_eq_true_eq]
theorem rs_or0 (f : Int32) : f ||| 0 = f := b_ext fun i _ => by rw [b_or, b_0, Bool.or_false]
/-! points -/
def rs_H (p : Int32) (k : Nat) : Prop := k < 28 ∧ bt p k = true
def rs_x (P : Nat → Int32) (k : Nat) : Nat := (P k).toNatClampNeg % 64
def rs_y (P : Nat → Int32) (k : Nat) : Nat := (P k).toNatClampNeg / 64
def rs_ok (P : Nat → Int32) (k : Nat) : Prop := ∃ c, c < 4096 ∧ P k = nI c
def rs_G (p : Int32) (P : Nat → Int32) : Prop := ∀ k, rs_H p k → rs_ok P k
theorem rs_xlt (P : Nat → Int32) (k : Nat) : rs_x P k < 64 := Nat.mod_lt _ (by decide)
theorem rs_ylt {P : Nat → Int32} {k : Nat} (h : rs_ok P k) : rs_y P k < 64 := by
  obtain ⟨c, hc, e⟩ := h
  unfold rs_y
  rw [e, nI_clamp (by omega)]
  omega
/-- the key of a value: 0 by y, else by x -/
def rs_k (P : Nat → Int32) (b : Nat) (v : Int32) : Nat := if b = 0 then rs_y P v.toNatClampNeg else rs_x P v.toNatClampNeg
def rs_V (p : Int32) (v : Int32) : Prop := ∃ k, rs_H p k ∧ v = nI k
theorem rs_k0 {P : Nat → Int32} {k : Nat} (hk : k < 28) : rs_k P 0 (nI k) = rs_y P k := by unfold rs_k; rw [if_pos rfl, nI_clamp (by omega)]
theorem rs_k1 {P : Nat → Int32} {k : Nat} (hk : k < 28) : rs_k P 1 (nI k) = rs_x P k := by unfold rs_k; rw [if_neg (by decide), nI_clamp (by omega)]
theorem rs_klt {p : Int32} {P : Nat → Int32} {b : Nat} {v : Int32} (hG : rs_G p P) (h : rs_V p v) : rs_k P b v < 64 := by
  obtain ⟨k, hk, rfl⟩ := h
  unfold rs_k
  rw [nI_clamp (by have := hk.1; omega)]
  split
  · exact rs_ylt (hG k hk)
  · exact rs_xlt P k
/-! permutations of a stretch -/
def rs_Pm (a b : Nat) (o o' : Nat → Int32) : Prop := ∃ s t : Nat → Nat, (∀ j, s (t j) = j) ∧ (∀ j, t (s j) = j) ∧ (∀ j, (j < a ∨ b ≤ j) → s j = j) ∧ ∀ j, o' j = o (s j)
theorem rs_Pm_refl (a b : Nat) (o : Nat → Int32) : rs_Pm a b o o := ⟨id, id, fun _ => rfl, fun _ => rfl, fun _ _ => rfl, fun _ => rfl⟩
theorem rs_Pm_trans {a b : Nat} {o o' o'' : Nat → Int32} (h : rs_Pm a b o o') (h' : rs_Pm a b o' o'') : rs_Pm a b o o'' := by
  obtain ⟨s, t, h1, h2, h3, h4⟩ := h
  obtain ⟨s', t', g1, g2, g3, g4⟩ := h'
  refine ⟨fun j => s (s' j), fun j => t' (t j), fun j => ?_, fun j => ?_, fun j hj => ?_, fun j => ?_⟩
  · show s (s' (t' (t j))) = j
    rw [g1, h1]
  · show t' (t (s (s' j))) = j
    rw [h2, g2]
  · show s (s' j) = j
    rw [g3 j hj, h3 j hj]
  · show o'' j = o (s (s' j))
    rw [g4, h4]
theorem rs_Pm_symm {a b : Nat} {o o' : Nat → Int32} (h : rs_Pm a b o o') : rs_Pm a b o' o := by
  obtain ⟨s, t, h1, h2, h3, h4⟩ := h
  refine ⟨t, s, h2, h1, fun j hj => ?_, fun j => ?_⟩
  · have e := h2 j
    rw [h3 j hj] at e
    exact e
  · rw [h4, h1]
theorem rs_Pm_mono {a b a' b' : Nat} {o o' : Nat → Int32} (ha : a' ≤ a) (hb : b ≤ b') (h : rs_Pm a b o o') : rs_Pm a' b' o o' := by
  obtain ⟨s, t, h1, h2, h3, h4⟩ := h
  exact ⟨s, t, h1, h2, fun j hj => h3 j (by omega), h4⟩
theorem rs_Pm_out {a b : Nat} {o o' : Nat → Int32} (h : rs_Pm a b o o') {j : Nat} (hj : j < a ∨ b ≤ j) : o' j = o j := by
  obtain ⟨s, t, h1, h2, h3, h4⟩ := h
  rw [h4, h3 j hj]
theorem rs_Pm_rg {a b : Nat} {s t : Nat → Nat} (h2 : ∀ j, t (s j) = j) (h3 : ∀ j, (j < a ∨ b ≤ j) → s j = j) {j : Nat} (ha : a ≤ j) (hb : j < b) : a ≤ s j ∧ s j < b := by
  rcases Nat.lt_or_ge (s j) a with z | z
  · have e := congrArg t (h3 (s j) (Or.inl z))
    rw [h2, h2] at e
    omega
  · rcases Nat.lt_or_ge (s j) b with y | y
    · exact ⟨z, y⟩
    · have e := congrArg t (h3 (s j) (Or.inr y))
      rw [h2, h2] at e
      omega
theorem rs_Pm_in {a b : Nat} {o o' : Nat → Int32} (h : rs_Pm a b o o') {j : Nat} (ha : a ≤ j) (hb : j < b) : ∃ i, a ≤ i ∧ i < b ∧ o' j = o i := by
  obtain ⟨s, t, h1, h2, h3, h4⟩ := h
  have r := rs_Pm_rg h2 h3 ha hb
  exact ⟨s j, r.1, r.2, h4 j⟩
theorem rs_Pm_all {a b : Nat} {o o' : Nat → Int32} {Q : Int32 → Prop} (h : rs_Pm a b o o') (hq : ∀ j, a ≤ j → j < b → Q (o j)) : ∀ j, a ≤ j → j < b → Q (o' j) := by
  intro j ha hb
  obtain ⟨i, h1, h2, e⟩ := rs_Pm_in h ha hb
  rw [e]
  exact hq i h1 h2
def rs_sw (i : Nat) (j : Nat) : Nat := if j = i then i + 1 else if j = i + 1 then i else j
theorem rs_sw_sw (i j : Nat) : rs_sw i (rs_sw i j) = j := by
  unfold rs_sw
  by_cases h : j = i
  · subst h; simp
  · by_cases h2 : j = i + 1
    · subst h2; simp
    · simp [h, h2]
theorem rs_Pm_sw {a b i : Nat} {o : Nat → Int32} {v : Int32} (ha : a ≤ i) (hb : i + 1 < b) : rs_Pm a b (upd o (i + 1) v) (upd (upd o (i + 1) (o i)) i v) := by
  refine ⟨rs_sw i, rs_sw i, rs_sw_sw i, rs_sw_sw i, fun j hj => ?_, fun j => ?_⟩
  · unfold rs_sw
    rw [if_neg (by omega), if_neg (by omega)]
  · unfold rs_sw
    by_cases h : j = i
    · subst h
      rw [pk_us, if_pos rfl, pk_us]
    · rw [pk_un h, if_neg h]
      by_cases h2 : j = i + 1
      · subst h2
        rw [pk_us, if_pos rfl, pk_un (by omega)]
      · rw [pk_un h2, if_neg h2, pk_un h2]
theorem rs_upd_id {o : Nat → Int32} {i : Nat} : upd o i (o i) = o := by
  funext j
  by_cases h : j = i
  · subst h; exact pk_us
  · exact pk_un h
/-! sorted -/
def rs_So (κ : Int32 → Nat) (a b : Nat) (o : Nat → Int32) : Prop := ∀ i j, a ≤ i → i ≤ j → j < b → κ (o i) ≤ κ (o j)
def rs_Hs (κ : Int32 → Nat) (a i j : Nat) (v : Int32) (o : Nat → Int32) : Prop := (∀ l m, a ≤ l → l ≤ m → m ≤ i → l ≠ j → m ≠ j → κ (o l) ≤ κ (o m)) ∧ ∀ l, j < l → l ≤ i → κ v < κ (o l)
theorem rs_Hs0 {κ : Int32 → Nat} {a i : Nat} {v : Int32} {o : Nat → Int32} (h : rs_So κ a i o) : rs_Hs κ a i i v o := ⟨fun l m h1 h2 _ _ h5 => h l m h1 h2 (by omega), fun l h1 h2 => by omega⟩
theorem rs_Hs1 {κ : Int32 → Nat} {a i j : Nat} {v : Int32} {o : Nat → Int32} (h : rs_Hs κ a i (j + 1) v o) (ha : a ≤ j) (hj : j + 1 ≤ i) (hk : κ v < κ (o j)) : rs_Hs κ a i j v (upd o (j + 1) (o j)) := by
  constructor
  · intro l m h1 h2 h3 h4 h5
    by_cases hl : l = j + 1
    · subst hl
      rw [pk_us]
      by_cases hm : m = j + 1
      · subst hm; rw [pk_us]; exact Nat.le_refl _
      · rw [pk_un hm]; exact h.1 j m ha (by omega) h3 (by omega) hm
    · rw [pk_un hl]
      by_cases hm : m = j + 1
      · subst hm; rw [pk_us]; exact h.1 l j h1 (by omega) (by omega) hl (by omega)
      · rw [pk_un hm]; exact h.1 l m h1 h2 h3 hl hm
  · intro l h1 h2
    by_cases hl : l = j + 1
    · subst hl; rw [pk_us]; exact hk
    · rw [pk_un hl]; exact h.2 l (by omega) h2
theorem rs_Hs2 {κ : Int32 → Nat} {a i j : Nat} {v : Int32} {o : Nat → Int32} (h : rs_Hs κ a i j v o) (hj : j ≤ i) (hx : j ≤ a ∨ κ (o (j - 1)) ≤ κ v) (haj : a ≤ j) : rs_So κ a (i + 1) (upd o j v) := by
  intro l m h1 h2 h3
  by_cases hl : l = j
  · rw [hl, pk_us]
    by_cases hm : m = j
    · rw [hm, pk_us]; exact Nat.le_refl _
    · rw [pk_un hm]; exact Nat.le_of_lt (h.2 m (by omega) (by omega))
  · rw [pk_un hl]
    by_cases hm : m = j
    · rw [hm, pk_us]
      rcases hx with hx | hx
      · omega
      · exact Nat.le_trans (h.1 l (j - 1) h1 (by omega) (by omega) hl (by omega)) hx
    · rw [pk_un hm]; exact h.1 l m h1 h2 (by omega) hl hm
/-! all the points, in some order -/
def rs_Al (p : Int32) (sz : Nat) (o : Nat → Int32) : Prop := sz ≤ 28 ∧ (∀ j, j < sz → rs_V p (o j)) ∧ (∀ k, rs_H p k → ∃ j, j < sz ∧ o j = nI k) ∧ ∀ i j, i < sz → j < sz → o i = o j → i = j
theorem rs_Al_Pm {p : Int32} {sz : Nat} {o o' : Nat → Int32} (h : rs_Al p sz o) (hp : rs_Pm 0 sz o o') : rs_Al p sz o' := by
  obtain ⟨h0, h1, h2, h3⟩ := h
  refine ⟨h0, fun j hj => rs_Pm_all hp (fun j _ hj => h1 j hj) j (Nat.zero_le _) hj, fun k hk => ?_, ?_⟩
  · obtain ⟨j, hj, e⟩ := h2 k hk
    obtain ⟨i, _, hi, e'⟩ := rs_Pm_in (rs_Pm_symm hp) (Nat.zero_le j) hj
    exact ⟨i, hi, by rw [← e', e]⟩
  · obtain ⟨s, t, _, g2, g3, g4⟩ := hp
    intro i j hi hj e
    rw [g4, g4] at e
    have e2 := h3 _ _ (rs_Pm_rg g2 g3 (Nat.zero_le i) hi).2 (rs_Pm_rg g2 g3 (Nat.zero_le j) hj).2 e
    have e3 := congrArg t e2
    rw [g2, g2] at e3
    exact e3
/-! what waits, as a list, the top first -/
abbrev rs_I : Type := Nat × Nat × Nat × Nat
def rs_St (A B C D : Nat → Int32) : List rs_I → Prop
  | [] => True
  | it :: L => A L.length = nI it.1 ∧ B L.length = nI it.2.1 ∧ C L.length = nI it.2.2.1 ∧ D L.length = nI it.2.2.2 ∧ rs_St A B C D L
theorem rs_St_up {A B C D : Nat → Int32} {x y z w : Int32} : ∀ {L : List rs_I} {m : Nat}, L.length ≤ m → rs_St A B C D L → rs_St (upd A m x) (upd B m y) (upd C m z) (upd D m w) L
  | [], _, _, _ => trivial
  | it :: L, m, hm, h => by
    have hm' : L.length + 1 ≤ m := hm
    have hn : L.length ≠ m := by omega
    exact ⟨by rw [pk_un hn]; exact h.1, by rw [pk_un hn]; exact h.2.1, by rw [pk_un hn]; exact h.2.2.1, by rw [pk_un hn]; exact h.2.2.2.1, rs_St_up (by omega) h.2.2.2.2⟩
theorem rs_St_push {A B C D : Nat → Int32} {a b c d : Nat} {L : List rs_I} (h : rs_St A B C D L) : rs_St (upd A L.length (nI a)) (upd B L.length (nI b)) (upd C L.length (nI c)) (upd D L.length (nI d)) ((a, b, c, d) :: L) :=
  ⟨pk_us, pk_us, pk_us, pk_us, rs_St_up (Nat.le_refl _) h⟩
def rs_Ms (w : rs_I → Nat) : List rs_I → Nat
  | [] => 0
  | it :: L => w it + rs_Ms w L
theorem rs_Ms_len {w : rs_I → Nat} (hw : ∀ it, 1 ≤ w it) : ∀ L : List rs_I, L.length ≤ rs_Ms w L
  | [] => Nat.le_refl _
  | it :: L => by
    have := rs_Ms_len hw L
    have := hw it
    simp only [List.length_cons, rs_Ms]
    omega
/-! squares -/
def rs_ab (a b : Nat) : Nat := (a - b) + (b - a)
def rs_sq (a b : Nat) : Nat := rs_ab a b * rs_ab a b
theorem rs_sqE (a b : Nat) : (nI a - nI b) * (nI a - nI b) = nI (rs_sq a b) := by
  unfold rs_sq rs_ab
  rcases Nat.le_total b a with h | h
  · rw [pk_sub h, pk_mul, show (a - b) + (b - a) = a - b by omega]
  · have e : (nI a - nI b) * (nI a - nI b) = (nI b - nI a) * (nI b - nI a) := by grind
    rw [e, pk_sub h, pk_mul, show (a - b) + (b - a) = b - a by omega]
theorem rs_sq_le {a b c d : Nat} (h : rs_ab a b ≤ rs_ab c d) : rs_sq a b ≤ rs_sq c d := Nat.mul_le_mul h h
theorem rs_sq_b {a b : Nat} (ha : a < 64) (hb : b < 64) : rs_sq a b ≤ 3969 := Nat.mul_le_mul (show rs_ab a b ≤ 63 by unfold rs_ab; omega) (show rs_ab a b ≤ 63 by unfold rs_ab; omega)
def rs_d (P : Nat → Int32) (nx ny : Nat) (k : Nat) : Nat := rs_sq (rs_x P k) nx + rs_sq (rs_y P k) ny
theorem rs_d_b {P : Nat → Int32} {nx ny k : Nat} (hk : rs_ok P k) (hx : nx < 64) (hy : ny < 64) : rs_d P nx ny k ≤ 7938 := by
  have h1 := rs_sq_b (rs_xlt P k) hx
  have h2 := rs_sq_b (rs_ylt hk) hy
  unfold rs_d
  omega
/-- from n to the stretch x0 .. x1 -/
def rs_bd (x0 x1 n : Nat) : Nat := if n < x0 then x0 - n else n - x1
theorem rs_bd_le {x0 x1 n x : Nat} (h0 : x0 ≤ x) (h1 : x ≤ x1) : rs_bd x0 x1 n ≤ rs_ab x n := by
  unfold rs_bd rs_ab
  split <;> omega
def rs_bq (x0 y0 x1 y1 nx ny : Nat) : Nat := rs_bd x0 x1 nx * rs_bd x0 x1 nx + rs_bd y0 y1 ny * rs_bd y0 y1 ny
theorem rs_bq_le {x0 y0 x1 y1 nx ny : Nat} {P : Nat → Int32} {k : Nat} (h1 : x0 ≤ rs_x P k) (h2 : rs_x P k ≤ x1) (h3 : y0 ≤ rs_y P k) (h4 : rs_y P k ≤ y1) : rs_bq x0 y0 x1 y1 nx ny ≤ rs_d P nx ny k :=
  Nat.add_le_add (Nat.mul_le_mul (rs_bd_le h1 h2) (rs_bd_le h1 h2)) (Nat.mul_le_mul (rs_bd_le h3 h4) (rs_bd_le h3 h4))
theorem rs_bq_b {x0 y0 x1 y1 nx ny : Nat} (h0 : x0 ≤ 64) (h1 : y0 ≤ 64) (hx : nx < 64) (hy : ny < 64) : rs_bq x0 y0 x1 y1 nx ny ≤ 8192 := by
  have a : rs_bd x0 x1 nx ≤ 64 := by unfold rs_bd; split <;> omega
  have b : rs_bd y0 y1 ny ≤ 64 := by unfold rs_bd; split <;> omega
  have c := Nat.mul_le_mul a a
  have d := Nat.mul_le_mul b b
  unfold rs_bq
  omega
/-! what is found, and what is nearest -/
/-- only points in Q are found -/
def rs_Sn (p : Int32) (Q : Nat → Prop) (f : Int32) : Prop := ∀ i, bt f i = true → rs_H p i ∧ Q i
def rs_Fi (Q : Nat → Prop) (f : Int32) (k : Nat) : Prop := Q k → bt f k = true
def rs_Le (f f' : Int32) : Prop := ∀ i, bt f i = true → bt f' i = true
theorem rs_Le_r (f : Int32) : rs_Le f f := fun _ h => h
theorem rs_Le_t {f f' f'' : Int32} (h : rs_Le f f') (h' : rs_Le f' f'') : rs_Le f f'' := fun i z => h' i (h i z)
theorem rs_Fi_m {Q : Nat → Prop} {f f' : Int32} {k : Nat} (h : rs_Le f f') (hk : rs_Fi Q f k) : rs_Fi Q f' k := fun q => h k (hk q)
theorem rs_Sn_add {p : Int32} {Q : Nat → Prop} {f : Int32} {k : Nat} (h : rs_Sn p Q f) (hk : rs_H p k) (q : Q k) : rs_Sn p Q (f ||| ((1 : Int32) <<< (nI k &&& 31))) ∧ rs_Le f (f ||| ((1 : Int32) <<< (nI k &&& 31))) ∧ rs_Fi Q (f ||| ((1 : Int32) <<< (nI k &&& 31))) k := by
  have h28 := hk.1
  refine ⟨fun i hi => ?_, fun i hi => (rs_or f (by omega) i).mpr (Or.inl hi), fun _ => (rs_or f (by omega) k).mpr (Or.inr rfl)⟩
  rcases (rs_or f (by omega) i).mp hi with z | z
  · exact h i z
  · subst z; exact ⟨hk, q⟩
theorem rs_Sn_0 {p : Int32} {Q : Nat → Prop} : rs_Sn p Q 0 := fun i hi => by rw [b_0] at hi; cases hi
/-- two sound and whole sets are one -/
theorem rs_Sn_eq {p : Int32} {Q : Nat → Prop} {f g : Int32} (hf : rs_Sn p Q f) (hf2 : ∀ k, rs_H p k → rs_Fi Q f k) (hg : rs_Sn p Q g) (hg2 : ∀ k, rs_H p k → rs_Fi Q g k) : f = g := by
  apply b_ext
  intro i _
  rw [Bool.eq_iff_iff]
  exact ⟨fun h => hg2 i (hf i h).1 (hf i h).2, fun h => hf2 i (hg i h).1 (hg i h).2⟩
/-- the best so far is a point or none yet -/
def rs_Nn (p : Int32) (d : Nat → Nat) (b : Int32) (s : Nat) : Prop := (b = -1 ∧ s = 1048576) ∨ ∃ k, rs_H p k ∧ b = nI k ∧ s = d k
/-- k isn't before the best -/
def rs_Nd (d : Nat → Nat) (b : Int32) (s : Nat) (k : Nat) : Prop := s < d k ∨ (s = d k ∧ b ≤ nI k)
def rs_Nl (d : Nat → Nat) (b : Int32) (s : Nat) (b' : Int32) (s' : Nat) : Prop := s' ≤ s ∧ ∀ i, rs_Nd d b s i → rs_Nd d b' s' i
theorem rs_Nl_r (d : Nat → Nat) (b : Int32) (s : Nat) : rs_Nl d b s b s := ⟨Nat.le_refl _, fun _ h => h⟩
theorem rs_Nl_t {d : Nat → Nat} {b b' b'' : Int32} {s s' s'' : Nat} (h : rs_Nl d b s b' s') (h' : rs_Nl d b' s' b'' s'') : rs_Nl d b s b'' s'' := ⟨Nat.le_trans h'.1 h.1, fun i z => h'.2 i (h.2 i z)⟩
/-- the set of the inside -/
def rs_Q (P : Nat → Int32) (lx ly hx hy : Nat) (k : Nat) : Prop := lx ≤ rs_x P k ∧ rs_x P k ≤ hx ∧ ly ≤ rs_y P k ∧ rs_y P k ≤ hy
end
section
/-! the small methods -/
section
variable {f_present f_size f_lowX f_lowY f_highX f_highY f_found f_nearX f_nearY f_best f_bestSquare f_waiting f_quads f_levels f_boxes : Int32} {a_placeOf a_order a_waitA a_waitB a_waitC a_waitD a_quadX a_quadY a_quadSide a_quadPart a_quadCount a_quadFirst a_nextPoint a_lists a_fromLeft a_boxLowX a_boxLowY a_boxHighX a_boxHighY a_boxFirst a_boxParts a_boxOfPoints a_zeros a_bottom a_sorted a_cellFirst a_heapPoint a_heapSplit : Nat → Int32}
theorem rs_hasC {post : Int32 → Prop} (x : Int32) (h0 : (∀ k, x = nI k → ¬ rs_H f_present k) → post 0) (h1 : ∀ k, x = nI k → rs_H f_present k → post 1) : wpX_has post (f_present, f_size, f_lowX, f_lowY, f_highX, f_highY, f_found, f_nearX, f_nearY, f_best, f_bestSquare, f_waiting, f_quads, f_levels, f_boxes, a_placeOf, a_order, a_waitA, a_waitB, a_waitC, a_waitD, a_quadX, a_quadY, a_quadSide, a_quadPart, a_quadCount, a_quadFirst, a_nextPoint, a_lists, a_fromLeft, a_boxLowX, a_boxLowY, a_boxHighX, a_boxHighY, a_boxFirst, a_boxParts, a_boxOfPoints, a_zeros, a_bottom, a_sorted, a_cellFirst, a_heapPoint, a_heapSplit) x := by
  have big : ∀ k, (x < 0 ∨ 28 ≤ x) → x = nI k → ¬ rs_H f_present k := by
    intro k hx e hk
    subst e
    have := hk.1
    rcases hx with hx | hx
    · exact nI_pos (by omega) hx
    · exact nI_ge (b := 28) this (by decide) hx
  refine br_c (fun h => h0 fun k => big k (Or.inl h)) fun h => br_c (fun g => h0 fun k => big k (Or.inr g)) fun g => ?_
  obtain ⟨k, hk, rfl⟩ := nI_of h
  have hk28 : k < 28 := by
    rcases Nat.lt_or_ge k 28 with z | z
    · exact z
    · exact absurd (nI_le (a := 28) z hk) g
  rw [rs_bv f_present (show k < 32 by omega)]
  by_cases hb : bt f_present k = true
  · rw [hb]
    exact br_f (by decide) (h1 k rfl ⟨hk28, hb⟩)
  · rw [(Bool.not_eq_true _).mp hb]
    refine br_t rfl (h0 fun j ej hj => hb ?_)
    have e : k = j := (nI_eq hk (by have := hj.1; omega)).mp ej
    rw [e]
    exact hj.2
theorem rs_has1 {post : Int32 → Prop} {k : Nat} (h : rs_H f_present k) (hp : post 1) : wpX_has post (f_present, f_size, f_lowX, f_lowY, f_highX, f_highY, f_found, f_nearX, f_nearY, f_best, f_bestSquare, f_waiting, f_quads, f_levels, f_boxes, a_placeOf, a_order, a_waitA, a_waitB, a_waitC, a_waitD, a_quadX, a_quadY, a_quadSide, a_quadPart, a_quadCount, a_quadFirst, a_nextPoint, a_lists, a_fromLeft, a_boxLowX, a_boxLowY, a_boxHighX, a_boxHighY, a_boxFirst, a_boxParts, a_boxOfPoints, a_zeros, a_bottom, a_sorted, a_cellFirst, a_heapPoint, a_heapSplit) (nI k) := by
  refine rs_hasC (nI k) (fun z => absurd h (z k rfl)) (fun _ _ _ => hp)
theorem rs_has0 {post : Int32 → Prop} {k : Nat} (hk : k < 28) (h : ¬ rs_H f_present k) (hp : post 0) : wpX_has post (f_present, f_size, f_lowX, f_lowY, f_highX, f_highY, f_found, f_nearX, f_nearY, f_best, f_bestSquare, f_waiting, f_quads, f_levels, f_boxes, a_placeOf, a_order, a_waitA, a_waitB, a_waitC, a_waitD, a_quadX, a_quadY, a_quadSide, a_quadPart, a_quadCount, a_quadFirst, a_nextPoint, a_lists, a_fromLeft, a_boxLowX, a_boxLowY, a_boxHighX, a_boxHighY, a_boxFirst, a_boxParts, a_boxOfPoints, a_zeros, a_bottom, a_sorted, a_cellFirst, a_heapPoint, a_heapSplit) (nI k) := by
  refine rs_hasC (nI k) (fun _ => hp) (fun j e hj => ?_)
  have e : k = j := (nI_eq (by omega) (by have := hj.1; omega)).mp e
  subst e
  exact absurd hj h
theorem rs_isP {post : Int32 → Prop} (x : Int32) (h0 : (∀ c, c < 4096 → ¬ x = nI c) → post 0) (h1 : ∀ c, c < 4096 → x = nI c → post 1) : wpX_isPlace post x := by
  refine br_c (fun h => h0 fun c hc e => ?_) fun h => br_c (fun g => h0 fun c hc e => ?_) fun g => ?_
  · subst e; exact nI_pos (by omega) h
  · subst e; exact nI_ge (b := 4096) hc (by decide) g
  · obtain ⟨k, hk, rfl⟩ := nI_of h
    rcases Nat.lt_or_ge k 4096 with z | z
    · exact h1 k z rfl
    · exact absurd (nI_le (a := 4096) z hk) g
theorem rs_xOf {post : Int32 → Prop} {k : Nat} (hk : k < 28) (hc : rs_ok a_placeOf k) (h : post (nI (rs_x a_placeOf k))) : wpX_xOf post (f_present, f_size, f_lowX, f_lowY, f_highX, f_highY, f_found, f_nearX, f_nearY, f_best, f_bestSquare, f_waiting, f_quads, f_levels, f_boxes, a_placeOf, a_order, a_waitA, a_waitB, a_waitC, a_waitD, a_quadX, a_quadY, a_quadSide, a_quadPart, a_quadCount, a_quadFirst, a_nextPoint, a_lists, a_fromLeft, a_boxLowX, a_boxLowY, a_boxHighX, a_boxHighY, a_boxFirst, a_boxParts, a_boxOfPoints, a_zeros, a_bottom, a_sorted, a_cellFirst, a_heapPoint, a_heapSplit) (nI k) := by
  obtain ⟨c, hc, e⟩ := hc
  refine And.intro (vp_in_nI hk (by decide)) (And.intro (by decide) ?_)
  have e1 : (nI k).toNatClampNeg = k := nI_clamp (by omega)
  have e2 : nI c - nI c / 64 * 64 = nI (c % 64) := pk_rem (d := 64) (by omega) (by decide) (by decide)
  rw [e1, e, e2]
  unfold rs_x at h
  rw [e, nI_clamp (by omega)] at h
  exact h
theorem rs_yOf {post : Int32 → Prop} {k : Nat} (hk : k < 28) (hc : rs_ok a_placeOf k) (h : post (nI (rs_y a_placeOf k))) : wpX_yOf post (f_present, f_size, f_lowX, f_lowY, f_highX, f_highY, f_found, f_nearX, f_nearY, f_best, f_bestSquare, f_waiting, f_quads, f_levels, f_boxes, a_placeOf, a_order, a_waitA, a_waitB, a_waitC, a_waitD, a_quadX, a_quadY, a_quadSide, a_quadPart, a_quadCount, a_quadFirst, a_nextPoint, a_lists, a_fromLeft, a_boxLowX, a_boxLowY, a_boxHighX, a_boxHighY, a_boxFirst, a_boxParts, a_boxOfPoints, a_zeros, a_bottom, a_sorted, a_cellFirst, a_heapPoint, a_heapSplit) (nI k) := by
  obtain ⟨c, hc, e⟩ := hc
  refine And.intro (vp_in_nI hk (by decide)) (And.intro (by decide) ?_)
  have e1 : (nI k).toNatClampNeg = k := nI_clamp (by omega)
  have e2 : nI c / 64 = nI (c / 64) := pk_div (d := 64) (by omega) (by decide) (by decide)
  rw [e1, e, e2]
  unfold rs_y at h
  rw [e, nI_clamp (by omega)] at h
  exact h
theorem rs_keyOf {post : Int32 → Prop} {v x : Int32} {b : Nat} (hG : rs_G f_present a_placeOf) (hv : rs_V f_present v) (hb : b < 2) (hx : x = nI b) (h : post (nI (rs_k a_placeOf b v))) : wpX_keyOf post (f_present, f_size, f_lowX, f_lowY, f_highX, f_highY, f_found, f_nearX, f_nearY, f_best, f_bestSquare, f_waiting, f_quads, f_levels, f_boxes, a_placeOf, a_order, a_waitA, a_waitB, a_waitC, a_waitD, a_quadX, a_quadY, a_quadSide, a_quadPart, a_quadCount, a_quadFirst, a_nextPoint, a_lists, a_fromLeft, a_boxLowX, a_boxLowY, a_boxHighX, a_boxHighY, a_boxFirst, a_boxParts, a_boxOfPoints, a_zeros, a_bottom, a_sorted, a_cellFirst, a_heapPoint, a_heapSplit) v x := by
  obtain ⟨k, hk, rfl⟩ := hv
  have h28 := hk.1
  subst hx
  rcases (show b = 0 ∨ b = 1 by omega) with rfl | rfl
  · rw [rs_k0 h28] at h
    exact br_t rfl (rs_yOf h28 (hG k hk) h)
  · rw [rs_k1 h28] at h
    exact br_f (by decide) (rs_xOf h28 (hG k hk) h)
theorem rs_isIn {post : Int32 → Prop} {k lx ly hx hy : Nat} (hlx : lx < 64) (hly : ly < 64) (hhx : hx < 64) (hhy : hy < 64) (hk : k < 28) (hc : rs_ok a_placeOf k) (h1 : rs_Q a_placeOf lx ly hx hy k → post 1) (h0 : ¬ rs_Q a_placeOf lx ly hx hy k → post 0) : wpX_isInside post (f_present, f_size, nI lx, nI ly, nI hx, nI hy, f_found, f_nearX, f_nearY, f_best, f_bestSquare, f_waiting, f_quads, f_levels, f_boxes, a_placeOf, a_order, a_waitA, a_waitB, a_waitC, a_waitD, a_quadX, a_quadY, a_quadSide, a_quadPart, a_quadCount, a_quadFirst, a_nextPoint, a_lists, a_fromLeft, a_boxLowX, a_boxLowY, a_boxHighX, a_boxHighY, a_boxFirst, a_boxParts, a_boxOfPoints, a_zeros, a_bottom, a_sorted, a_cellFirst, a_heapPoint, a_heapSplit) (nI k) := by
  have hxl := rs_xlt a_placeOf k
  have hyl := rs_ylt hc
  unfold wpX_isInside
  refine rs_xOf hk hc (rs_yOf hk hc ?_)
  refine pk_lt (rs_x a_placeOf k) lx (fun z => h0 fun q => ?_) fun z1 => pk_lt hx (rs_x a_placeOf k) (fun z => h0 fun q => ?_) fun z2 => pk_lt (rs_y a_placeOf k) ly (fun z => h0 fun q => ?_) fun z3 => pk_lt hy (rs_y a_placeOf k) (fun z => h0 fun q => ?_) fun z4 => h1 ⟨z1, z2, z3, z4⟩
  · have := q.1; omega
  · have := q.2.1; omega
  · have := q.2.2.1; omega
  · have := q.2.2.2; omega
theorem rs_test {post : SX → Prop} {k lx ly hx hy : Nat} {f : Int32} (hlx : lx < 64) (hly : ly < 64) (hhx : hx < 64) (hhy : hy < 64) (hG : rs_G f_present a_placeOf) (hk : rs_H f_present k) (hS : rs_Sn f_present (rs_Q a_placeOf lx ly hx hy) f)
    (hp : ∀ f', rs_Sn f_present (rs_Q a_placeOf lx ly hx hy) f' → rs_Le f f' → rs_Fi (rs_Q a_placeOf lx ly hx hy) f' k → post (f_present, f_size, nI lx, nI ly, nI hx, nI hy, f', f_nearX, f_nearY, f_best, f_bestSquare, f_waiting, f_quads, f_levels, f_boxes, a_placeOf, a_order, a_waitA, a_waitB, a_waitC, a_waitD, a_quadX, a_quadY, a_quadSide, a_quadPart, a_quadCount, a_quadFirst, a_nextPoint, a_lists, a_fromLeft, a_boxLowX, a_boxLowY, a_boxHighX, a_boxHighY, a_boxFirst, a_boxParts, a_boxOfPoints, a_zeros, a_bottom, a_sorted, a_cellFirst, a_heapPoint, a_heapSplit)) : wpX_test post (f_present, f_size, nI lx, nI ly, nI hx, nI hy, f, f_nearX, f_nearY, f_best, f_bestSquare, f_waiting, f_quads, f_levels, f_boxes, a_placeOf, a_order, a_waitA, a_waitB, a_waitC, a_waitD, a_quadX, a_quadY, a_quadSide, a_quadPart, a_quadCount, a_quadFirst, a_nextPoint, a_lists, a_fromLeft, a_boxLowX, a_boxLowY, a_boxHighX, a_boxHighY, a_boxFirst, a_boxParts, a_boxOfPoints, a_zeros, a_bottom, a_sorted, a_cellFirst, a_heapPoint, a_heapSplit) (nI k) := by
  unfold wpX_test
  refine rs_isIn hlx hly hhx hhy hk.1 (hG k hk) (fun q => br_f (by decide) (nm_e ?_)) (fun q => br_t rfl (nm_r (rs_or0 f) ?_))
  · have z := rs_Sn_add hS hk q
    exact hp _ z.1 z.2.1 z.2.2
  · exact hp f hS (rs_Le_r f) (fun z => absurd z q)
theorem rs_squareTo {post : Int32 → Prop} {k nx ny : Nat} (hk : k < 28) (hc : rs_ok a_placeOf k) (h : post (nI (rs_d a_placeOf nx ny k))) : wpX_squareTo post (f_present, f_size, f_lowX, f_lowY, f_highX, f_highY, f_found, nI nx, nI ny, f_best, f_bestSquare, f_waiting, f_quads, f_levels, f_boxes, a_placeOf, a_order, a_waitA, a_waitB, a_waitC, a_waitD, a_quadX, a_quadY, a_quadSide, a_quadPart, a_quadCount, a_quadFirst, a_nextPoint, a_lists, a_fromLeft, a_boxLowX, a_boxLowY, a_boxHighX, a_boxHighY, a_boxFirst, a_boxParts, a_boxOfPoints, a_zeros, a_bottom, a_sorted, a_cellFirst, a_heapPoint, a_heapSplit) (nI k) := by
  unfold wpX_squareTo
  refine rs_xOf hk hc (nm_e (rs_yOf hk hc (nm_e ?_)))
  rw [rs_sqE, rs_sqE, nI_add]
  exact h
theorem rs_tryNear {post : SX → Prop} {k nx ny s : Nat} {b : Int32} (hnx : nx < 64) (hny : ny < 64) (hG : rs_G f_present a_placeOf) (hk : rs_H f_present k) (hS : rs_Nn f_present (rs_d a_placeOf nx ny) b s)
    (hp : ∀ b' s', rs_Nn f_present (rs_d a_placeOf nx ny) b' s' → rs_Nl (rs_d a_placeOf nx ny) b s b' s' → rs_Nd (rs_d a_placeOf nx ny) b' s' k → post (f_present, f_size, f_lowX, f_lowY, f_highX, f_highY, f_found, nI nx, nI ny, b', nI s', f_waiting, f_quads, f_levels, f_boxes, a_placeOf, a_order, a_waitA, a_waitB, a_waitC, a_waitD, a_quadX, a_quadY, a_quadSide, a_quadPart, a_quadCount, a_quadFirst, a_nextPoint, a_lists, a_fromLeft, a_boxLowX, a_boxLowY, a_boxHighX, a_boxHighY, a_boxFirst, a_boxParts, a_boxOfPoints, a_zeros, a_bottom, a_sorted, a_cellFirst, a_heapPoint, a_heapSplit)) : wpX_tryNear post (f_present, f_size, f_lowX, f_lowY, f_highX, f_highY, f_found, nI nx, nI ny, b, nI s, f_waiting, f_quads, f_levels, f_boxes, a_placeOf, a_order, a_waitA, a_waitB, a_waitC, a_waitD, a_quadX, a_quadY, a_quadSide, a_quadPart, a_quadCount, a_quadFirst, a_nextPoint, a_lists, a_fromLeft, a_boxLowX, a_boxLowY, a_boxHighX, a_boxHighY, a_boxFirst, a_boxParts, a_boxOfPoints, a_zeros, a_bottom, a_sorted, a_cellFirst, a_heapPoint, a_heapSplit) (nI k) := by
  have hd := rs_d_b (hG k hk) hnx hny
  have h28 := hk.1
  have hs : s < 2 ^ 31 := by
    rcases hS with ⟨_, e⟩ | ⟨j, hj, _, e⟩
    · omega
    · have := rs_d_b (hG j hj) hnx hny
      omega
  unfold wpX_tryNear
  refine rs_squareTo hk.1 (hG k hk) ?_
  refine pk_lt (rs_d a_placeOf nx ny k) s (fun z => ?_) fun z => pk_eq (rs_d a_placeOf nx ny k) s (fun e => br_c (fun y => ?_) fun y => ?_) fun e => ?_
  · refine hp (nI k) _ (Or.inr ⟨k, hk, rfl, rfl⟩) ⟨Nat.le_of_lt z, fun i hi => ?_⟩ (Or.inr ⟨rfl, Int32.le_refl _⟩)
    rcases hi with hi | hi
    · exact Or.inl (by omega)
    · exact Or.inl (by have := hi.1; omega)
  · exact hp b s hS (rs_Nl_r _ _ _) (Or.inr ⟨e.symm, y⟩)
  · refine hp (nI k) _ (Or.inr ⟨k, hk, rfl, rfl⟩) ⟨Nat.le_of_eq e, fun i hi => ?_⟩ (Or.inr ⟨rfl, Int32.le_refl _⟩)
    rcases hi with hi | hi
    · exact Or.inl (by omega)
    · exact Or.inr ⟨by have := hi.1; omega, Int32.le_trans (Int32.le_of_lt (Int32.not_le.mp y)) hi.2⟩
  · exact hp b s hS (rs_Nl_r _ _ _) (Or.inl (by omega))
theorem rs_sqBoxY {post : Int32 → Prop} {y0 y1 ny dx : Nat} (h0 : y0 ≤ 64) (h1 : y1 ≤ 128) (hn : ny < 64) (h : post (nI (dx * dx + rs_bd y0 y1 ny * rs_bd y0 y1 ny))) : (wX_squareToBox_35 post (nI y0) (nI y1) (nI dx) f_present f_size f_lowX f_lowY f_highX f_highY f_found f_nearX (nI ny) f_best f_bestSquare f_waiting f_quads f_levels f_boxes a_placeOf a_order a_waitA a_waitB a_waitC a_waitD a_quadX a_quadY a_quadSide a_quadPart a_quadCount a_quadFirst a_nextPoint a_lists a_fromLeft a_boxLowX a_boxLowY a_boxHighX a_boxHighY a_boxFirst a_boxParts a_boxOfPoints a_zeros a_bottom a_sorted a_cellFirst a_heapPoint a_heapSplit) := by
  unfold wX_squareToBox_35 wX_squareToBox_74
  refine pk_le y0 ny (fun z => pk_le ny y1 (fun z2 => ?_) fun z2 => ?_) fun z => ?_
  · have e : rs_bd y0 y1 ny = 0 := by unfold rs_bd; rw [if_neg (by omega)]; omega
    rw [e] at h
    have e2 : nI (dx * dx) + 0 * 0 = nI (dx * dx + 0 * 0) := nI_add (dx * dx) 0
    rw [pk_mul, e2]
    exact h
  · have e : rs_bd y0 y1 ny = ny - y1 := by unfold rs_bd; rw [if_neg (by omega)]
    rw [e] at h
    rw [pk_sub (by omega), pk_mul, pk_mul, nI_add]
    exact h
  · have e : rs_bd y0 y1 ny = y0 - ny := by unfold rs_bd; rw [if_pos (by omega)]
    rw [e] at h
    rw [pk_sub (by omega), pk_mul, pk_mul, nI_add]
    exact h
theorem rs_sqBox {post : Int32 → Prop} {x0 y0 x1 y1 nx ny : Nat} (hx0 : x0 ≤ 64) (hy0 : y0 ≤ 64) (hx1 : x1 ≤ 128) (hy1 : y1 ≤ 128) (hnx : nx < 64) (hny : ny < 64) (h : post (nI (rs_bq x0 y0 x1 y1 nx ny))) : wpX_squareToBox post (f_present, f_size, f_lowX, f_lowY, f_highX, f_highY, f_found, nI nx, nI ny, f_best, f_bestSquare, f_waiting, f_quads, f_levels, f_boxes, a_placeOf, a_order, a_waitA, a_waitB, a_waitC, a_waitD, a_quadX, a_quadY, a_quadSide, a_quadPart, a_quadCount, a_quadFirst, a_nextPoint, a_lists, a_fromLeft, a_boxLowX, a_boxLowY, a_boxHighX, a_boxHighY, a_boxFirst, a_boxParts, a_boxOfPoints, a_zeros, a_bottom, a_sorted, a_cellFirst, a_heapPoint, a_heapSplit) (nI x0) (nI y0) (nI x1) (nI y1) := by
  unfold rs_bq at h
  unfold wpX_squareToBox
  refine pk_le x0 nx (fun z => pk_le nx x1 (fun z2 => ?_) fun z2 => ?_) fun z => ?_
  · have e : rs_bd x0 x1 nx = 0 := by unfold rs_bd; rw [if_neg (by omega)]; omega
    rw [e] at h
    exact rs_sqBoxY (dx := 0) hy0 hy1 hny h
  · have e : rs_bd x0 x1 nx = nx - x1 := by unfold rs_bd; rw [if_neg (by omega)]
    rw [e] at h
    rw [pk_sub (by omega)]
    exact rs_sqBoxY hy0 hy1 hny h
  · have e : rs_bd x0 x1 nx = x0 - nx := by unfold rs_bd; rw [if_pos (by omega)]
    rw [e] at h
    rw [pk_sub (by omega)]
    exact rs_sqBoxY hy0 hy1 hny h
theorem rs_push {post : SX → Prop} {L : List rs_I} {A B C D : Nat → Int32} {x y z w : Int32} (a b c d : Nat) (hS : rs_St A B C D L) (hL : L.length < 128) (ha : a < 32768) (hb : b < 32768) (hc : c < 32768) (hx : x = nI a) (hy : y = nI b) (hz : z = nI c) (hw : w = nI d)
    (hp : ∀ A' B' C' D', rs_St A' B' C' D' ((a, b, c, d) :: L) → post (f_present, f_size, f_lowX, f_lowY, f_highX, f_highY, f_found, f_nearX, f_nearY, f_best, f_bestSquare, nI (L.length + 1), f_quads, f_levels, f_boxes, a_placeOf, a_order, A', B', C', D', a_quadX, a_quadY, a_quadSide, a_quadPart, a_quadCount, a_quadFirst, a_nextPoint, a_lists, a_fromLeft, a_boxLowX, a_boxLowY, a_boxHighX, a_boxHighY, a_boxFirst, a_boxParts, a_boxOfPoints, a_zeros, a_bottom, a_sorted, a_cellFirst, a_heapPoint, a_heapSplit)) : wpX_push post (f_present, f_size, f_lowX, f_lowY, f_highX, f_highY, f_found, f_nearX, f_nearY, f_best, f_bestSquare, nI L.length, f_quads, f_levels, f_boxes, a_placeOf, a_order, A, B, C, D, a_quadX, a_quadY, a_quadSide, a_quadPart, a_quadCount, a_quadFirst, a_nextPoint, a_lists, a_fromLeft, a_boxLowX, a_boxLowY, a_boxHighX, a_boxHighY, a_boxFirst, a_boxParts, a_boxOfPoints, a_zeros, a_bottom, a_sorted, a_cellFirst, a_heapPoint, a_heapSplit) x y z w := by
  subst hx hy hz hw
  have i : vp_in (nI L.length) 128 := vp_in_nI hL (by decide)
  have e : (nI L.length).toNatClampNeg = L.length := nI_clamp (by omega)
  have K := hp _ _ _ _ (rs_St_push (a := a) (b := b) (c := c) (d := d) hS)
  unfold wpX_push
  refine ⟨i, nm_r (e' := upd A L.length (nI a)) ?_ ⟨i, nm_r (e' := upd B L.length (nI b)) ?_ ⟨i, nm_r (e' := upd C L.length (nI c)) ?_ ⟨i, nm_r (e' := upd D L.length (nI d)) ?_ (nm_r (nI_1 L.length) K)⟩⟩⟩⟩
  · rw [e, rs_ns2 ha]
  · rw [e, rs_ns2 hb]
  · rw [e, rs_ns2 hc]
  · rw [e]
end
/-! gather -/
def rs_Ga (p : Int32) (i s : Nat) (o : Nat → Int32) : Prop := s ≤ i ∧ (∀ j, j < s → ∃ k, rs_H p k ∧ k < i ∧ o j = nI k) ∧ (∀ k, k < i → rs_H p k → ∃ j, j < s ∧ o j = nI k) ∧ ∀ a b, a < s → b < s → o a = o b → a = b
theorem rs_Ga_0 {p : Int32} {o : Nat → Int32} : rs_Ga p 0 0 o := ⟨Nat.le_refl _, fun _ h => by omega, fun _ h => by omega, fun _ _ h => by omega⟩
theorem rs_Ga_n {p : Int32} {i s : Nat} {o : Nat → Int32} (h : rs_Ga p i s o) (hn : ¬ rs_H p i) : rs_Ga p (i + 1) s o := by
  obtain ⟨h0, h1, h2, h3⟩ := h
  refine ⟨by omega, fun j hj => ?_, fun k hk hh => ?_, h3⟩
  · obtain ⟨k, a, b, c⟩ := h1 j hj
    exact ⟨k, a, by omega, c⟩
  · rcases Nat.lt_or_ge k i with z | z
    · exact h2 k z hh
    · have e : k = i := by omega
      rw [e] at hh
      exact absurd hh hn
theorem rs_Ga_y {p : Int32} {i s : Nat} {o : Nat → Int32} (h : rs_Ga p i s o) (hy : rs_H p i) : rs_Ga p (i + 1) (s + 1) (upd o s (nI i)) := by
  obtain ⟨h0, h1, h2, h3⟩ := h
  have hi := hy.1
  have old : ∀ j, j < s → upd o s (nI i) j = o j := fun j hj => pk_un (by omega)
  have ne : ∀ j, j < s → ¬ o j = nI i := by
    intro j hj e
    obtain ⟨k, a, b, c⟩ := h1 j hj
    rw [c] at e
    have := (nI_eq (by omega) (by omega)).mp e
    omega
  refine ⟨by omega, fun j hj => ?_, fun k hk hh => ?_, fun a b ha hb e => ?_⟩
  · rcases Nat.lt_or_ge j s with z | z
    · obtain ⟨k, a, b, c⟩ := h1 j z
      exact ⟨k, a, by omega, by rw [old j z]; exact c⟩
    · have e : j = s := by omega
      subst e
      exact ⟨i, hy, by omega, pk_us⟩
  · rcases Nat.lt_or_ge k i with z | z
    · obtain ⟨j, a, b⟩ := h2 k z hh
      exact ⟨j, by omega, by rw [old j a]; exact b⟩
    · have e : k = i := by omega
      subst e
      exact ⟨s, by omega, pk_us⟩
  · rcases Nat.lt_or_ge a s with z | z <;> rcases Nat.lt_or_ge b s with y | y
    · rw [old a z, old b y] at e
      exact h3 a b z y e
    · have q : b = s := by omega
      subst q
      rw [old a z, pk_us] at e
      exact absurd e (ne a z)
    · have q : a = s := by omega
      subst q
      rw [old b y, pk_us] at e
      exact absurd e.symm (ne b y)
    · omega
section
variable {f_present f_lowX f_lowY f_highX f_highY f_found f_nearX f_nearY f_best f_bestSquare f_waiting f_quads f_levels f_boxes : Int32} {a_placeOf a_waitA a_waitB a_waitC a_waitD a_quadX a_quadY a_quadSide a_quadPart a_quadCount a_quadFirst a_nextPoint a_lists a_fromLeft a_boxLowX a_boxLowY a_boxHighX a_boxHighY a_boxFirst a_boxParts a_boxOfPoints a_zeros a_bottom a_sorted a_cellFirst a_heapPoint a_heapSplit : Nat → Int32}
theorem rs_ga_loop {post : SX → Prop} (hp : ∀ s o, rs_Al f_present s o → post (f_present, nI s, f_lowX, f_lowY, f_highX, f_highY, f_found, f_nearX, f_nearY, f_best, f_bestSquare, f_waiting, f_quads, f_levels, f_boxes, a_placeOf, o, a_waitA, a_waitB, a_waitC, a_waitD, a_quadX, a_quadY, a_quadSide, a_quadPart, a_quadCount, a_quadFirst, a_nextPoint, a_lists, a_fromLeft, a_boxLowX, a_boxLowY, a_boxHighX, a_boxHighY, a_boxFirst, a_boxParts, a_boxOfPoints, a_zeros, a_bottom, a_sorted, a_cellFirst, a_heapPoint, a_heapSplit)) : ∀ n i s o, 28 < n + i → i ≤ 28 → rs_Ga f_present i s o → (wX_gather_7 post f_present f_lowX f_lowY f_highX f_highY f_found f_nearX f_nearY f_best f_bestSquare f_waiting f_quads f_levels f_boxes n (nI i) (nI s) a_placeOf o a_waitA a_waitB a_waitC a_waitD a_quadX a_quadY a_quadSide a_quadPart a_quadCount a_quadFirst a_nextPoint a_lists a_fromLeft a_boxLowX a_boxLowY a_boxHighX a_boxHighY a_boxFirst a_boxParts a_boxOfPoints a_zeros a_bottom a_sorted a_cellFirst a_heapPoint a_heapSplit) := by
  intro n
  induction n with
  | zero => intro i s o h1 h2; omega
  | succ n ih =>
    intro i s o h1 h2 hI
    have hsi := hI.1
    refine pk_le 28 i (fun z => ?_) fun z => ?_
    · have e : i = 28 := by omega
      subst e
      refine hp s o ⟨hsi, fun j hj => ?_, fun k hk => hI.2.2.1 k hk.1 hk, hI.2.2.2⟩
      obtain ⟨k, a, _, c⟩ := hI.2.1 j hj
      exact ⟨k, a, c⟩
    · by_cases hh : rs_H f_present i
      · refine rs_has1 hh (br_f (by decide) (And.intro (vp_in_nI (by omega) (by decide)) (nm_r (e' := upd o s (nI i)) ?_ (nm_r (nI_1 s) (nm_r (nI_1 i) (ih (i + 1) (s + 1) _ (by omega) (by omega) (rs_Ga_y hI hh)))))))
        rw [nI_clamp (by omega), rs_nb2 (by omega)]
      · exact rs_has0 z hh (br_t rfl (nm_r (nI_1 i) (ih (i + 1) s o (by omega) (by omega) (rs_Ga_n hI hh))))
theorem rs_gather {post : SX → Prop} {f_size : Int32} {a_order : Nat → Int32} (hp : ∀ s o, rs_Al f_present s o → post (f_present, nI s, f_lowX, f_lowY, f_highX, f_highY, f_found, f_nearX, f_nearY, f_best, f_bestSquare, f_waiting, f_quads, f_levels, f_boxes, a_placeOf, o, a_waitA, a_waitB, a_waitC, a_waitD, a_quadX, a_quadY, a_quadSide, a_quadPart, a_quadCount, a_quadFirst, a_nextPoint, a_lists, a_fromLeft, a_boxLowX, a_boxLowY, a_boxHighX, a_boxHighY, a_boxFirst, a_boxParts, a_boxOfPoints, a_zeros, a_bottom, a_sorted, a_cellFirst, a_heapPoint, a_heapSplit)) : wpX_gather post (f_present, f_size, f_lowX, f_lowY, f_highX, f_highY, f_found, f_nearX, f_nearY, f_best, f_bestSquare, f_waiting, f_quads, f_levels, f_boxes, a_placeOf, a_order, a_waitA, a_waitB, a_waitC, a_waitD, a_quadX, a_quadY, a_quadSide, a_quadPart, a_quadCount, a_quadFirst, a_nextPoint, a_lists, a_fromLeft, a_boxLowX, a_boxLowY, a_boxHighX, a_boxHighY, a_boxFirst, a_boxParts, a_boxOfPoints, a_zeros, a_bottom, a_sorted, a_cellFirst, a_heapPoint, a_heapSplit) :=
  Exists.intro 29 (rs_ga_loop hp 29 0 0 a_order (by omega) (by omega) rs_Ga_0)
end
end
section
/-! sortOrder: a permutation of the stretch, sorted by the key -/
section
variable {f_present f_size f_lowX f_lowY f_highX f_highY f_found f_nearX f_nearY f_best f_bestSquare f_waiting f_quads f_levels f_boxes : Int32} {a_placeOf a_waitA a_waitB a_waitC a_waitD a_quadX a_quadY a_quadSide a_quadPart a_quadCount a_quadFirst a_nextPoint a_lists a_fromLeft a_boxLowX a_boxLowY a_boxHighX a_boxHighY a_boxFirst a_boxParts a_boxOfPoints a_zeros a_bottom a_sorted a_cellFirst a_heapPoint a_heapSplit : Nat → Int32}
theorem rs_so_in {post : SX → Prop} {J5 : Int32 → (Nat → Int32) → (Nat → Int32) → (Nat → Int32) → (Nat → Int32) → (Nat → Int32) → (Nat → Int32) → (Nat → Int32) → (Nat → Int32) → (Nat → Int32) → (Nat → Int32) → (Nat → Int32) → (Nat → Int32) → (Nat → Int32) → (Nat → Int32) → (Nat → Int32) → (Nat → Int32) → (Nat → Int32) → (Nat → Int32) → (Nat → Int32) → (Nat → Int32) → (Nat → Int32) → (Nat → Int32) → (Nat → Int32) → (Nat → Int32) → (Nat → Int32) → (Nat → Int32) → (Nat → Int32) → (Nat → Int32) → Prop} {a i b : Nat} {v x2 x3 : Int32} {o0 : Nat → Int32} (hG : rs_G f_present a_placeOf) (hb : b < 2) (hx3 : x3 = nI b) (hi : i < 28) (hv : rs_V f_present v)
    (hJ : ∀ o', rs_Pm a (i + 1) o0 o' → rs_So (rs_k a_placeOf b) a (i + 1) o' → J5 (nI (i + 1)) a_placeOf o' a_waitA a_waitB a_waitC a_waitD a_quadX a_quadY a_quadSide a_quadPart a_quadCount a_quadFirst a_nextPoint a_lists a_fromLeft a_boxLowX a_boxLowY a_boxHighX a_boxHighY a_boxFirst a_boxParts a_boxOfPoints a_zeros a_bottom a_sorted a_cellFirst a_heapPoint a_heapSplit) :
    ∀ n j o, j < n + a → a ≤ j → j ≤ i → (∀ l, a ≤ l → l ≤ i → l ≠ j → rs_V f_present (o l)) → rs_Pm a (i + 1) o0 (upd o j v) → rs_Hs (rs_k a_placeOf b) a i j v o →
    (wX_sortOrder_33 post J5 (nI a) x2 x3 (nI i) v (nI (rs_k a_placeOf b v)) f_present f_size f_lowX f_lowY f_highX f_highY f_found f_nearX f_nearY f_best f_bestSquare f_waiting f_quads f_levels f_boxes n (nI j) a_placeOf o a_waitA a_waitB a_waitC a_waitD a_quadX a_quadY a_quadSide a_quadPart a_quadCount a_quadFirst a_nextPoint a_lists a_fromLeft a_boxLowX a_boxLowY a_boxHighX a_boxHighY a_boxFirst a_boxParts a_boxOfPoints a_zeros a_bottom a_sorted a_cellFirst a_heapPoint a_heapSplit) := by
  have hvn : vp_nar .byte v = v := by
    obtain ⟨k, hk, rfl⟩ := hv
    exact rs_nb (by have := hk.1; omega)
  have hkv := rs_klt (b := b) hG hv
  intro n
  induction n with
  | zero => intro j o h1 h2; omega
  | succ n ih =>
    intro j o h1 h2 h3 hV hP hH
    have put : ∀ hx : (j ≤ a ∨ rs_k a_placeOf b (o (j - 1)) ≤ rs_k a_placeOf b v), vp_in (nI j) 32 ∧ ∀ o' : Nat → Int32, o' = upd o (nI j).toNatClampNeg (vp_nar .byte v) → ∀ x4 : Int32, x4 = nI i + 1 → J5 x4 a_placeOf o' a_waitA a_waitB a_waitC a_waitD a_quadX a_quadY a_quadSide a_quadPart a_quadCount a_quadFirst a_nextPoint a_lists a_fromLeft a_boxLowX a_boxLowY a_boxHighX a_boxHighY a_boxFirst a_boxParts a_boxOfPoints a_zeros a_bottom a_sorted a_cellFirst a_heapPoint a_heapSplit := by
      intro hx
      refine ⟨vp_in_nI (by omega) (by decide), nm_r (e' := upd o j v) ?_ (nm_r (nI_1 i) (hJ _ hP (rs_Hs2 hH h3 hx h2)))⟩
      rw [nI_clamp (by omega), hvn]
    refine pk_le j a (fun z => put (Or.inl z)) fun z => ?_
    obtain ⟨m, rfl⟩ : ∃ m, j = m + 1 := ⟨j - 1, by omega⟩
    have ho := hV m (by omega) (by omega) (by omega)
    have hom := rs_klt (b := b) hG ho
    rw [nI_pred, nI_clamp (show m < 2 ^ 31 by omega)]
    have im : vp_in (nI m) 32 := vp_in_nI (by omega) (by decide)
    refine And.intro im (rs_keyOf hG ho hb hx3 ?_)
    refine pk_le (rs_k a_placeOf b (o m)) (rs_k a_placeOf b v) (fun y => put (Or.inr y)) fun y => ?_
    refine And.intro im (And.intro (vp_in_nI (by omega) (by decide)) (nm_r (e' := upd o (m + 1) (o m)) ?_ (nm_r (pk_m1 m) (ih m _ (by omega) (by omega) (by omega) ?_ ?_ (rs_Hs1 hH (by omega) h3 y)))))
    · obtain ⟨k, hk, e⟩ := ho
      rw [nI_clamp (by omega), e, rs_nb (by have := hk.1; omega)]
    · intro l hl1 hl2 hl3
      by_cases hl : l = m + 1
      · rw [hl, pk_us]; exact ho
      · rw [pk_un hl]; exact hV l hl1 hl2 hl
    · exact rs_Pm_trans hP (rs_Pm_sw (by omega) (by omega))
theorem rs_so_out {post : SX → Prop} {a e b : Nat} {x3 : Int32} {o0 : Nat → Int32} (hG : rs_G f_present a_placeOf) (hb : b < 2) (hx3 : x3 = nI b) (he : e ≤ 28) (hV : ∀ l, a ≤ l → l < e → rs_V f_present (o0 l))
    (hp : ∀ o', rs_Pm a e o0 o' → rs_So (rs_k a_placeOf b) a e o' → post (f_present, f_size, f_lowX, f_lowY, f_highX, f_highY, f_found, f_nearX, f_nearY, f_best, f_bestSquare, f_waiting, f_quads, f_levels, f_boxes, a_placeOf, o', a_waitA, a_waitB, a_waitC, a_waitD, a_quadX, a_quadY, a_quadSide, a_quadPart, a_quadCount, a_quadFirst, a_nextPoint, a_lists, a_fromLeft, a_boxLowX, a_boxLowY, a_boxHighX, a_boxHighY, a_boxFirst, a_boxParts, a_boxOfPoints, a_zeros, a_bottom, a_sorted, a_cellFirst, a_heapPoint, a_heapSplit)) :
    ∀ n i o, 0 < n → e < n + i → a + 1 ≤ i → i < 2 ^ 30 → rs_Pm a e o0 o → rs_So (rs_k a_placeOf b) a i o → (wX_sortOrder_5 post (nI a) (nI e) x3 f_present f_size f_lowX f_lowY f_highX f_highY f_found f_nearX f_nearY f_best f_bestSquare f_waiting f_quads f_levels f_boxes n (nI i) a_placeOf o a_waitA a_waitB a_waitC a_waitD a_quadX a_quadY a_quadSide a_quadPart a_quadCount a_quadFirst a_nextPoint a_lists a_fromLeft a_boxLowX a_boxLowY a_boxHighX a_boxHighY a_boxFirst a_boxParts a_boxOfPoints a_zeros a_bottom a_sorted a_cellFirst a_heapPoint a_heapSplit) := by
  intro n
  induction n with
  | zero =>
    intro i o h0 h1 h2 h3 hP hS
    omega
  | succ n ih =>
    intro i o h0 h1 h2 h3 hP hS
    refine pk_le e i (fun z => hp o hP fun l m g1 g2 g3 => hS l m g1 g2 (by omega)) fun z => ?_
    have hVo := rs_Pm_all hP hV
    have hv := hVo i (by omega) z
    refine And.intro (vp_in_nI (by omega) (by decide)) ?_
    rw [nI_clamp (show i < 2 ^ 31 by omega)]
    refine nm_e (rs_keyOf hG hv hb hx3 (Exists.intro (i + 1) ?_))
    refine rs_so_in (o0 := o) hG hb hx3 (by omega) hv (fun o' q1 q2 => ?_) (i + 1) i o (by omega) (by omega) (Nat.le_refl _) (fun l g1 g2 g3 => hVo l g1 (by omega)) ?_ (rs_Hs0 hS)
    · exact ih (i + 1) o' (by omega) (by omega) (by omega) (by omega) (rs_Pm_trans hP (rs_Pm_mono (Nat.le_refl _) (by omega) q1)) q2
    · rw [rs_upd_id]
      exact rs_Pm_refl _ _ _
theorem rs_sort {post : SX → Prop} {x y z : Int32} {o : Nat → Int32} (a e b : Nat) (hG : rs_G f_present a_placeOf) (hb : b < 2) (ha : a < 2 ^ 29) (he : e ≤ 28) (hx : x = nI a) (hy : y = nI e) (hz : z = nI b) (hV : ∀ l, a ≤ l → l < e → rs_V f_present (o l))
    (hp : ∀ o', rs_Pm a e o o' → rs_So (rs_k a_placeOf b) a e o' → post (f_present, f_size, f_lowX, f_lowY, f_highX, f_highY, f_found, f_nearX, f_nearY, f_best, f_bestSquare, f_waiting, f_quads, f_levels, f_boxes, a_placeOf, o', a_waitA, a_waitB, a_waitC, a_waitD, a_quadX, a_quadY, a_quadSide, a_quadPart, a_quadCount, a_quadFirst, a_nextPoint, a_lists, a_fromLeft, a_boxLowX, a_boxLowY, a_boxHighX, a_boxHighY, a_boxFirst, a_boxParts, a_boxOfPoints, a_zeros, a_bottom, a_sorted, a_cellFirst, a_heapPoint, a_heapSplit)) : wpX_sortOrder post (f_present, f_size, f_lowX, f_lowY, f_highX, f_highY, f_found, f_nearX, f_nearY, f_best, f_bestSquare, f_waiting, f_quads, f_levels, f_boxes, a_placeOf, o, a_waitA, a_waitB, a_waitC, a_waitD, a_quadX, a_quadY, a_quadSide, a_quadPart, a_quadCount, a_quadFirst, a_nextPoint, a_lists, a_fromLeft, a_boxLowX, a_boxLowY, a_boxHighX, a_boxHighY, a_boxFirst, a_boxParts, a_boxOfPoints, a_zeros, a_bottom, a_sorted, a_cellFirst, a_heapPoint, a_heapSplit) x y z := by
  subst hx hy
  unfold wpX_sortOrder
  refine nm_r (nI_1 a) (Exists.intro (e + 1) (rs_so_out hG hb hz he hV hp (e + 1) (a + 1) o (by omega) (by omega) (by omega) (by omega) (rs_Pm_refl _ _ _) ?_))
  intro l m h1 h2 h3
  have e1 : l = m := by omega
  rw [e1]
  exact Nat.le_refl _
end
end
section
/-! engine 0: halved by turns -/
def rs_KD (P : Nat → Int32) (o : Nat → Int32) : Nat → Nat → Nat → Nat → Prop
  | 0, a, b, _ => b ≤ a
  | n + 1, a, b, t => b ≤ a ∨ ((∀ j, a ≤ j → j < (a + b) / 2 → rs_k P (1 - t) (o j) ≤ rs_k P (1 - t) (o ((a + b) / 2))) ∧ (∀ j, (a + b) / 2 < j → j < b → rs_k P (1 - t) (o ((a + b) / 2)) ≤ rs_k P (1 - t) (o j)) ∧ rs_KD P o n a ((a + b) / 2) (1 - t) ∧ rs_KD P o n ((a + b) / 2 + 1) b (1 - t))
theorem rs_KD_e {P o : Nat → Int32} : ∀ {n a b t : Nat}, b ≤ a → rs_KD P o n a b t
  | 0, _, _, _, h => h
  | _ + 1, _, _, _, h => Or.inl h
theorem rs_KD_c {P o o' : Nat → Int32} : ∀ {n a b t : Nat}, (∀ j, a ≤ j → j < b → o' j = o j) → rs_KD P o n a b t → rs_KD P o' n a b t
  | 0, _, _, _, _, h => h
  | n + 1, a, b, t, hc, h => by
    rcases Nat.lt_or_ge a b with z | z
    · rcases h with h | ⟨h1, h2, h3, h4⟩
      · omega
      · have em : o' ((a + b) / 2) = o ((a + b) / 2) := hc _ (by omega) (by omega)
        refine Or.inr ⟨fun j g1 g2 => ?_, fun j g1 g2 => ?_, rs_KD_c (fun j g1 g2 => hc j g1 (by omega)) h3, rs_KD_c (fun j g1 g2 => hc j (by omega) g2) h4⟩
        · rw [em, hc j g1 (by omega)]; exact h1 j g1 g2
        · rw [em, hc j (by omega) g2]; exact h2 j g1 g2
    · exact Or.inl z
theorem rs_KD_1 {P o : Nat → Int32} {n a b t : Nat} (h : b ≤ a + 1) (hn : b - a ≤ n) : rs_KD P o n a b t := by
  rcases Nat.lt_or_ge a b with z | z
  · obtain ⟨m, rfl⟩ : ∃ m, n = m + 1 := ⟨n - 1, by omega⟩
    exact Or.inr ⟨fun j g1 g2 => by omega, fun j g1 g2 => by omega, rs_KD_e (by omega), rs_KD_e (by omega)⟩
  · exact rs_KD_e z
theorem rs_KD_j {P o1 o2 o3 : Nat → Int32} {n a b t : Nat} (hab : a < b) (hs : rs_So (rs_k P (1 - t)) a b o1) (h2 : rs_Pm ((a + b) / 2 + 1) b o1 o2) (h3 : rs_Pm a ((a + b) / 2) o2 o3) (k2 : rs_KD P o2 n ((a + b) / 2 + 1) b (1 - t)) (k3 : rs_KD P o3 n a ((a + b) / 2) (1 - t)) : rs_KD P o3 (n + 1) a b t := by
  have em : o3 ((a + b) / 2) = o1 ((a + b) / 2) := by rw [rs_Pm_out h3 (Or.inr (Nat.le_refl _)), rs_Pm_out h2 (Or.inl (by omega))]
  refine Or.inr ⟨fun j g1 g2 => ?_, fun j g1 g2 => ?_, k3, rs_KD_c (fun j g1 g2 => rs_Pm_out h3 (Or.inr (by omega))) k2⟩
  · obtain ⟨i, i1, i2, e⟩ := rs_Pm_in h3 g1 g2
    rw [em, e, rs_Pm_out h2 (Or.inl (by omega))]
    exact hs i _ i1 (by omega) (by omega)
  · rw [em, rs_Pm_out h3 (Or.inr (by omega))]
    obtain ⟨i, i1, i2, e⟩ := rs_Pm_in h2 (show (a + b) / 2 + 1 ≤ j by omega) g2
    rw [e]
    exact hs _ i (by omega) (by omega) i2
section
variable {f_present f_size f_lowX f_lowY f_highX f_highY f_found f_nearX f_nearY f_best f_bestSquare f_quads f_levels f_boxes : Int32} {a_placeOf a_quadX a_quadY a_quadSide a_quadPart a_quadCount a_quadFirst a_nextPoint a_lists a_fromLeft a_boxLowX a_boxLowY a_boxHighX a_boxHighY a_boxFirst a_boxParts a_boxOfPoints a_zeros a_bottom a_sorted a_cellFirst a_heapPoint a_heapSplit : Nat → Int32}
theorem rs_bh_item {post : SX → Prop} (hG : rs_G f_present a_placeOf) : ∀ (len a b t n0 n : Nat) (o A B C D : Nat → Int32) (L : List rs_I), b - a ≤ len → a ≤ b → b ≤ 28 → t < 2 → L.length + (b - a) < 100 → (∀ l, a ≤ l → l < b → rs_V f_present (o l)) → rs_St A B C D ((a, b, t, 0) :: L) → 2 * (b - a) + 1 + n0 ≤ n →
    (∀ o' A' B' C' D' n', n0 ≤ n' → rs_Pm a b o o' → rs_KD a_placeOf o' len a b t → rs_St A' B' C' D' L → (wX_buildHalves_16 post n' f_present f_size f_lowX f_lowY f_highX f_highY f_found f_nearX f_nearY f_best f_bestSquare (nI L.length) f_quads f_levels f_boxes a_placeOf o' A' B' C' D' a_quadX a_quadY a_quadSide a_quadPart a_quadCount a_quadFirst a_nextPoint a_lists a_fromLeft a_boxLowX a_boxLowY a_boxHighX a_boxHighY a_boxFirst a_boxParts a_boxOfPoints a_zeros a_bottom a_sorted a_cellFirst a_heapPoint a_heapSplit)) →
    (wX_buildHalves_16 post n f_present f_size f_lowX f_lowY f_highX f_highY f_found f_nearX f_nearY f_best f_bestSquare (nI (L.length + 1)) f_quads f_levels f_boxes a_placeOf o A B C D a_quadX a_quadY a_quadSide a_quadPart a_quadCount a_quadFirst a_nextPoint a_lists a_fromLeft a_boxLowX a_boxLowY a_boxHighX a_boxHighY a_boxFirst a_boxParts a_boxOfPoints a_zeros a_bottom a_sorted a_cellFirst a_heapPoint a_heapSplit) := by
  intro len
  induction len with
  | zero =>
    intro a b t n0 n o A B C D L h1 h2 h3 h4 h5 hV hS hn hK
    obtain ⟨n, rfl⟩ : ∃ m, n = m + 1 := ⟨n - 1, by omega⟩
    have i : vp_in (nI L.length) 128 := vp_in_nI (by omega) (by decide)
    have e : (nI L.length).toNatClampNeg = L.length := nI_clamp (by omega)
    obtain ⟨s1, s2, s3, s4, s5⟩ := hS
    refine br_f (nI_nle (by omega) (by omega)) (nm_r (nI_pred L.length) ⟨i, nm_r (e' := nI a) (rs_at (by omega) s1) ⟨i, nm_r (e' := nI b) (rs_at (by omega) s2) ⟨i, nm_r (e' := nI t) (rs_at (by omega) s3) ?_⟩⟩⟩)
    exact pk_le (b - a) 1 (fun z => hK o A B C D n (by omega) (rs_Pm_refl _ _ _) (rs_KD_1 (by omega) h1) s5) (fun z => absurd z (by omega)) (hx := pk_sub h2)
  | succ len ih =>
    intro a b t n0 n o A B C D L h1 h2 h3 h4 h5 hV hS hn hK
    obtain ⟨n, rfl⟩ : ∃ m, n = m + 1 := ⟨n - 1, by omega⟩
    have i : vp_in (nI L.length) 128 := vp_in_nI (by omega) (by decide)
    have e : (nI L.length).toNatClampNeg = L.length := nI_clamp (by omega)
    obtain ⟨s1, s2, s3, s4, s5⟩ := hS
    refine br_f (nI_nle (by omega) (by omega)) (nm_r (nI_pred L.length) ⟨i, nm_r (e' := nI a) (rs_at (by omega) s1) ⟨i, nm_r (e' := nI b) (rs_at (by omega) s2) ⟨i, nm_r (e' := nI t) (rs_at (by omega) s3) ?_⟩⟩⟩)
    refine pk_le (b - a) 1 (fun z => hK o A B C D n (by omega) (rs_Pm_refl _ _ _) (rs_KD_1 (by omega) h1) s5) (fun z => ?_) (hx := pk_sub h2)
    have go : ∀ z0 : Int32, z0 = nI (1 - t) → (wX_buildHalves_82 post (wX_buildHalves_16 post n) (nI a) (nI b) (nI t) z0 (nI b) (nI a) f_present f_size f_lowX f_lowY f_highX f_highY f_found f_nearX f_nearY f_best f_bestSquare (nI L.length) f_quads f_levels f_boxes a_placeOf o A B C D a_quadX a_quadY a_quadSide a_quadPart a_quadCount a_quadFirst a_nextPoint a_lists a_fromLeft a_boxLowX a_boxLowY a_boxHighX a_boxHighY a_boxFirst a_boxParts a_boxOfPoints a_zeros a_bottom a_sorted a_cellFirst a_heapPoint a_heapSplit) := by
      intro z0 hz0
      unfold wX_buildHalves_82
      refine rs_sort a b (1 - t) hG (by omega) (by omega) h3 rfl rfl hz0 hV (fun o1 p1 q1 => ?_)
      refine And.intro (by decide) (nm_r (e' := nI ((a + b) / 2)) (by rw [nI_add]; exact pk_div (d := 2) (by omega) (by decide) (by decide)) ?_)
      refine rs_push (L := L) a ((a + b) / 2) (1 - t) 0 s5 (by omega) (by omega) (by omega) (by omega) rfl rfl (pk_sub (a := 1) (by omega)) rfl (fun A1 B1 C1 D1 w1 => ?_)
      refine rs_push (L := (a, (a + b) / 2, 1 - t, 0) :: L) ((a + b) / 2 + 1) b (1 - t) 0 w1 (by simp only [List.length_cons]; omega) (by omega) (by omega) (by omega) (nI_1 _) rfl (pk_sub (a := 1) (by omega)) rfl (fun A2 B2 C2 D2 w2 => ?_)
      have hV1 := rs_Pm_all p1 hV
      refine ih ((a + b) / 2 + 1) b (1 - t) (2 * ((a + b) / 2 - a) + 1 + n0) n o1 A2 B2 C2 D2 ((a, (a + b) / 2, 1 - t, 0) :: L) (by omega) (by omega) h3 (by omega) (by simp only [List.length_cons]; omega) (fun l g1 g2 => hV1 l (by omega) g2) w2 (by omega) (fun o2 A3 B3 C3 D3 n3 hn3 p2 k2 w3 => ?_)
      refine ih a ((a + b) / 2) (1 - t) n0 n3 o2 A3 B3 C3 D3 L (by omega) (by omega) (by omega) (by omega) (by omega) (fun l g1 g2 => ?_) w3 hn3 (fun o3 A4 B4 C4 D4 n4 hn4 p3 k3 w4 => ?_)
      · rw [rs_Pm_out p2 (Or.inl (by omega))]
        exact hV1 l g1 (by omega)
      · exact hK o3 A4 B4 C4 D4 n4 hn4 (rs_Pm_trans p1 (rs_Pm_trans (rs_Pm_mono (by omega) (Nat.le_refl _) p2) (rs_Pm_mono (Nat.le_refl _) (by omega) p3))) (rs_KD_j (by omega) q1 p2 p3 k2 k3) w4
    refine pk_eq t 0 (fun y => go 1 (by rw [y]; rfl)) (fun y => go 0 (by rw [show 1 - t = 0 by omega]; rfl))
theorem rs_buildHalves {post : SX → Prop} {sz : Nat} {f_waiting : Int32} {o a_waitA a_waitB a_waitC a_waitD : Nat → Int32} (hG : rs_G f_present a_placeOf) (hA : rs_Al f_present sz o)
    (hp : ∀ o' A B C D, rs_Pm 0 sz o o' → rs_KD a_placeOf o' 28 0 sz 0 → post (f_present, nI sz, f_lowX, f_lowY, f_highX, f_highY, f_found, f_nearX, f_nearY, f_best, f_bestSquare, nI 0, f_quads, f_levels, f_boxes, a_placeOf, o', A, B, C, D, a_quadX, a_quadY, a_quadSide, a_quadPart, a_quadCount, a_quadFirst, a_nextPoint, a_lists, a_fromLeft, a_boxLowX, a_boxLowY, a_boxHighX, a_boxHighY, a_boxFirst, a_boxParts, a_boxOfPoints, a_zeros, a_bottom, a_sorted, a_cellFirst, a_heapPoint, a_heapSplit)) : wpX_buildHalves post (f_present, nI sz, f_lowX, f_lowY, f_highX, f_highY, f_found, f_nearX, f_nearY, f_best, f_bestSquare, f_waiting, f_quads, f_levels, f_boxes, a_placeOf, o, a_waitA, a_waitB, a_waitC, a_waitD, a_quadX, a_quadY, a_quadSide, a_quadPart, a_quadCount, a_quadFirst, a_nextPoint, a_lists, a_fromLeft, a_boxLowX, a_boxLowY, a_boxHighX, a_boxHighY, a_boxFirst, a_boxParts, a_boxOfPoints, a_zeros, a_bottom, a_sorted, a_cellFirst, a_heapPoint, a_heapSplit) := by
  have hz := hA.1
  unfold wpX_buildHalves
  refine rs_push (L := []) 0 sz 0 0 trivial (by decide) (by omega) (by omega) (by omega) rfl rfl rfl rfl (fun A B C D w => Exists.intro 58 ?_)
  refine rs_bh_item (f_size := nI sz) hG 28 0 sz 0 1 58 o A B C D [] (by omega) (by omega) (by omega) (by omega) (by simp only [List.length_nil]; omega) (fun l _ g => hA.2.1 l g) w (by omega) (fun o' A' B' C' D' n' hn' p k _ => ?_)
  obtain ⟨m, rfl⟩ : ∃ m, n' = m + 1 := ⟨n' - 1, by omega⟩
  exact br_t (by decide) (hp o' A' B' C' D' p k)
end
end
section
/-! engine 0: the search and the nearest -/
def rs_hO (P o : Nat → Int32) (sz : Nat) (it : rs_I) : Prop := it.1 ≤ it.2.1 ∧ it.2.1 ≤ sz ∧ it.2.2.1 < 2 ∧ ∃ n, rs_KD P o n it.1 it.2.1 it.2.2.1
def rs_hC (o : Nat → Int32) (it : rs_I) (k : Nat) : Prop := ∃ j, it.1 ≤ j ∧ j < it.2.1 ∧ o j = nI k
def rs_hw (it : rs_I) : Nat := 2 * (it.2.1 - it.1) + 1
/-- every point is done or covered by an item that waits; OK: what holds of the items -/
def rs_Iv (p : Int32) (OK : rs_I → Prop) (C : rs_I → Nat → Prop) (Dn : Nat → Prop) (L : List rs_I) : Prop := (∀ it, it ∈ L → OK it) ∧ ∀ k, rs_H p k → Dn k ∨ ∃ it, it ∈ L ∧ C it k
theorem rs_Iv_sub {p : Int32} {OK : rs_I → Prop} {C : rs_I → Nat → Prop} {Dn Dn' : Nat → Prop} {L L' : List rs_I} (h : rs_Iv p OK C Dn L) (hm : ∀ k, Dn k → Dn' k) (h1 : ∀ it, it ∈ L' → OK it) (h2 : ∀ it, it ∈ L → ∀ k, rs_H p k → C it k → Dn' k ∨ ∃ it', it' ∈ L' ∧ C it' k) : rs_Iv p OK C Dn' L' := by
  refine ⟨h1, fun k hk => ?_⟩
  rcases h.2 k hk with z | ⟨it, z, c⟩
  · exact Or.inl (hm k z)
  · exact h2 it z k hk c
theorem rs_Iv_drop {p : Int32} {OK : rs_I → Prop} {C : rs_I → Nat → Prop} {Dn Dn' : Nat → Prop} {L : List rs_I} {it : rs_I} (h : rs_Iv p OK C Dn (it :: L)) (hm : ∀ k, Dn k → Dn' k) (hd : ∀ k, rs_H p k → C it k → Dn' k) : rs_Iv p OK C Dn' L := by
  refine rs_Iv_sub h hm (fun i hi => h.1 i (List.mem_cons_of_mem _ hi)) (fun i hi k hk c => ?_)
  rcases List.mem_cons.mp hi with e | e
  · subst e; exact Or.inl (hd k hk c)
  · exact Or.inr ⟨i, e, c⟩
theorem rs_Iv_end {p : Int32} {OK : rs_I → Prop} {C : rs_I → Nat → Prop} {Dn : Nat → Prop} (h : rs_Iv p OK C Dn []) : ∀ k, rs_H p k → Dn k := by
  intro k hk
  rcases h.2 k hk with z | ⟨it, z, _⟩
  · exact z
  · cases z
theorem rs_h_kd {P o : Nat → Int32} {n a b t : Nat} (h : rs_KD P o n a b t) (hab : a < b) : (∀ j, a ≤ j → j < (a + b) / 2 → rs_k P (1 - t) (o j) ≤ rs_k P (1 - t) (o ((a + b) / 2))) ∧ (∀ j, (a + b) / 2 < j → j < b → rs_k P (1 - t) (o ((a + b) / 2)) ≤ rs_k P (1 - t) (o j)) ∧ ∃ n', rs_KD P o n' a ((a + b) / 2) (1 - t) ∧ rs_KD P o n' ((a + b) / 2 + 1) b (1 - t) := by
  cases n with
  | zero => exact absurd h (by unfold rs_KD; omega)
  | succ n =>
    rcases h with h | ⟨h1, h2, h3, h4⟩
    · omega
    · exact ⟨h1, h2, n, h3, h4⟩
/-- the two parts of an item, with any fourth numbers -/
theorem rs_h_parts {P o : Nat → Int32} {sz a b t d d1 d2 : Nat} (h : rs_hO P o sz (a, b, t, d)) (hab : a < b) : rs_hO P o sz (a, (a + b) / 2, 1 - t, d1) ∧ rs_hO P o sz ((a + b) / 2 + 1, b, 1 - t, d2) := by
  obtain ⟨h1, h2, h3, n, h4⟩ := h
  obtain ⟨_, _, n', k1, k2⟩ := rs_h_kd h4 hab
  have h1 : a ≤ b := h1
  have h2 : b ≤ sz := h2
  have h3 : t < 2 := h3
  exact ⟨⟨by show a ≤ (a + b) / 2; omega, by show (a + b) / 2 ≤ sz; omega, by show 1 - t < 2; omega, n', k1⟩, ⟨by show (a + b) / 2 + 1 ≤ b; omega, h2, by show 1 - t < 2; omega, n', k2⟩⟩
theorem rs_h_cov {o : Nat → Int32} {a b t d k d1 d2 : Nat} (h : rs_hC o (a, b, t, d) k) : o ((a + b) / 2) = nI k ∨ rs_hC o (a, (a + b) / 2, 1 - t, d1) k ∨ rs_hC o ((a + b) / 2 + 1, b, 1 - t, d2) k := by
  obtain ⟨j, h1, h2, e⟩ := h
  have h1 : a ≤ j := h1
  have h2 : j < b := h2
  rcases Nat.lt_trichotomy j ((a + b) / 2) with z | z | z
  · exact Or.inr (Or.inl ⟨j, h1, z, e⟩)
  · exact Or.inl (by rw [← z]; exact e)
  · exact Or.inr (Or.inr ⟨j, z, h2, e⟩)
section
variable {f_present f_size f_lowX f_lowY f_highX f_highY f_found f_nearX f_nearY f_best f_bestSquare f_quads f_levels f_boxes : Int32} {a_placeOf a_order a_quadX a_quadY a_quadSide a_quadPart a_quadCount a_quadFirst a_nextPoint a_lists a_fromLeft a_boxLowX a_boxLowY a_boxHighX a_boxHighY a_boxFirst a_boxParts a_boxOfPoints a_zeros a_bottom a_sorted a_cellFirst a_heapPoint a_heapSplit : Nat → Int32}
theorem rs_sh_122 {post : SX → Prop} {J15 : Int32 → Int32 → Int32 → Int32 → Int32 → Int32 → Int32 → Int32 → Int32 → Int32 → Int32 → Int32 → Int32 → Int32 → Int32 → (Nat → Int32) → (Nat → Int32) → (Nat → Int32) → (Nat → Int32) → (Nat → Int32) → (Nat → Int32) → (Nat → Int32) → (Nat → Int32) → (Nat → Int32) → (Nat → Int32) → (Nat → Int32) → (Nat → Int32) → (Nat → Int32) → (Nat → Int32) → (Nat → Int32) → (Nat → Int32) → (Nat → Int32) → (Nat → Int32) → (Nat → Int32) → (Nat → Int32) → (Nat → Int32) → (Nat → Int32) → (Nat → Int32) → (Nat → Int32) → (Nat → Int32) → (Nat → Int32) → (Nat → Int32) → (Nat → Int32) → Prop} {lx ly hx hy a b t m key lo hi : Nat} {A B C D : Nat → Int32} {L : List rs_I} (ht : t < 2) (hb : b ≤ 28) (hm : m ≤ 28) (ha : a ≤ 28) (hkey : key < 64) (hlo : lo < 64) (hhi : hi < 64) (e0 : t = 0 → hi = hx) (e1 : t ≠ 0 → hi = hy) (hS : rs_St A B C D L) (hL : L.length < 100)
    (hJ : ∀ L' A' B' C' D', rs_St A' B' C' D' L' → L' = (if key ≤ hi then [(m + 1, b, 1 - t, 0)] else []) ++ ((if lo ≤ key then [(a, m, 1 - t, 0)] else []) ++ L) → J15 f_present f_size (nI lx) (nI ly) (nI hx) (nI hy) f_found f_nearX f_nearY f_best f_bestSquare (nI L'.length) f_quads f_levels f_boxes a_placeOf a_order A' B' C' D' a_quadX a_quadY a_quadSide a_quadPart a_quadCount a_quadFirst a_nextPoint a_lists a_fromLeft a_boxLowX a_boxLowY a_boxHighX a_boxHighY a_boxFirst a_boxParts a_boxOfPoints a_zeros a_bottom a_sorted a_cellFirst a_heapPoint a_heapSplit) : (wX_searchHalves_122 post J15 (nI a) (nI b) (nI t) (nI m) (nI key) (nI lo) f_present f_size (nI lx) (nI ly) (nI hx) (nI hy) f_found f_nearX f_nearY f_best f_bestSquare (nI L.length) f_quads f_levels f_boxes a_placeOf a_order A B C D a_quadX a_quadY a_quadSide a_quadPart a_quadCount a_quadFirst a_nextPoint a_lists a_fromLeft a_boxLowX a_boxLowY a_boxHighX a_boxHighY a_boxFirst a_boxParts a_boxOfPoints a_zeros a_bottom a_sorted a_cellFirst a_heapPoint a_heapSplit) := by
  have R : ∀ L1 A1 B1 C1 D1, rs_St A1 B1 C1 D1 L1 → L1.length < 128 → L1 = (if lo ≤ key then [(a, m, 1 - t, 0)] else []) ++ L → (wX_searchHalves_138 post J15 (nI b) (nI t) (nI m) (nI key) f_present f_size (nI lx) (nI ly) (nI hx) (nI hy) f_found f_nearX f_nearY f_best f_bestSquare (nI L1.length) f_quads f_levels f_boxes a_placeOf a_order A1 B1 C1 D1 a_quadX a_quadY a_quadSide a_quadPart a_quadCount a_quadFirst a_nextPoint a_lists a_fromLeft a_boxLowX a_boxLowY a_boxHighX a_boxHighY a_boxFirst a_boxParts a_boxOfPoints a_zeros a_bottom a_sorted a_cellFirst a_heapPoint a_heapSplit) := by
    intro L1 A1 B1 C1 D1 w1 hl1 e1'
    have T : ∀ hv : Nat, hv = hi → (wX_searchHalves_153 post J15 (nI b) (nI t) (nI m) (nI key) (nI hv) f_present f_size (nI lx) (nI ly) (nI hx) (nI hy) f_found f_nearX f_nearY f_best f_bestSquare (nI L1.length) f_quads f_levels f_boxes a_placeOf a_order A1 B1 C1 D1 a_quadX a_quadY a_quadSide a_quadPart a_quadCount a_quadFirst a_nextPoint a_lists a_fromLeft a_boxLowX a_boxLowY a_boxHighX a_boxHighY a_boxFirst a_boxParts a_boxOfPoints a_zeros a_bottom a_sorted a_cellFirst a_heapPoint a_heapSplit) := by
      intro hv ehv
      subst ehv
      unfold wX_searchHalves_153
      refine pk_lt hv key (fun q => hJ L1 A1 B1 C1 D1 w1 ?_) fun q => rs_push (L := L1) (m + 1) b (1 - t) 0 w1 hl1 (by omega) (by omega) (by omega) (nI_1 m) rfl (pk_sub (a := 1) (by omega)) rfl (fun A2 B2 C2 D2 w2 => hJ ((m + 1, b, 1 - t, 0) :: L1) A2 B2 C2 D2 w2 ?_)
      · rw [if_neg (by omega), e1']; rfl
      · rw [if_pos q, e1']; rfl
    unfold wX_searchHalves_138
    exact pk_eq t 0 (fun z => T hx (e0 z).symm) (fun z => T hy (e1 z).symm)
  unfold wX_searchHalves_122
  refine pk_lt key lo (fun q => R L A B C D hS (by omega) ?_) fun q => rs_push (L := L) a m (1 - t) 0 hS (by omega) (by omega) (by omega) (by omega) rfl rfl (pk_sub (a := 1) (by omega)) rfl (fun A2 B2 C2 D2 w2 => R ((a, m, 1 - t, 0) :: L) A2 B2 C2 D2 w2 (by simp only [List.length_cons]; omega) ?_)
  · rw [if_neg (by omega)]; rfl
  · rw [if_pos q]; rfl
/-- the invariant's step: the middle is done, the parts wait where they may hold something -/
theorem rs_sh_step {p : Int32} {P o : Nat → Int32} {sz a b t d lx ly hx hy lo hi : Nat} {L : List rs_I} {f f' : Int32} (hAl : ∀ j, j < sz → rs_V p (o j)) (hI : rs_Iv p (rs_hO P o sz) (rs_hC o) (rs_Fi (rs_Q P lx ly hx hy) f) ((a, b, t, d) :: L)) (hab : a < b) (hle : rs_Le f f') (hmid : ∀ k, rs_H p k → o ((a + b) / 2) = nI k → rs_Fi (rs_Q P lx ly hx hy) f' k) (l0 : t = 0 → lo = lx) (l1 : t ≠ 0 → lo = ly) (e0 : t = 0 → hi = hx) (e1 : t ≠ 0 → hi = hy) :
    rs_Iv p (rs_hO P o sz) (rs_hC o) (rs_Fi (rs_Q P lx ly hx hy) f') ((if rs_k P (1 - t) (o ((a + b) / 2)) ≤ hi then [((a + b) / 2 + 1, b, 1 - t, 0)] else []) ++ ((if lo ≤ rs_k P (1 - t) (o ((a + b) / 2)) then [(a, (a + b) / 2, 1 - t, 0)] else []) ++ L)) := by
  have ok := hI.1 (a, b, t, d) List.mem_cons_self
  have parts := rs_h_parts (d1 := 0) (d2 := 0) ok hab
  obtain ⟨g1, g2, g3, n, g4⟩ := ok
  have g2 : b ≤ sz := g2
  have g3 : t < 2 := g3
  have g4 : rs_KD P o n a b t := g4
  obtain ⟨c1, c2, _⟩ := rs_h_kd g4 hab
  have key : ∀ k, k < 28 → rs_Q P lx ly hx hy k → lo ≤ rs_k P (1 - t) (nI k) ∧ rs_k P (1 - t) (nI k) ≤ hi := by
    intro k hk q
    rcases (show t = 0 ∨ t = 1 by omega) with z | z
    · subst z
      rw [show 1 - 0 = 1 from rfl, rs_k1 hk, l0 rfl, e0 rfl]
      exact ⟨q.1, q.2.1⟩
    · subst z
      rw [show 1 - 1 = 0 from rfl, rs_k0 hk, l1 (by decide), e1 (by decide)]
      exact ⟨q.2.2.1, q.2.2.2⟩
  refine rs_Iv_sub hI (fun k h => rs_Fi_m hle h) (fun it hit => ?_) (fun it hit k hk c => ?_)
  · rcases List.mem_append.mp hit with h | h
    · split at h
      · rw [List.mem_singleton.mp h]; exact parts.2
      · cases h
    · rcases List.mem_append.mp h with h | h
      · split at h
        · rw [List.mem_singleton.mp h]; exact parts.1
        · cases h
      · exact hI.1 it (List.mem_cons_of_mem _ h)
  · rcases List.mem_cons.mp hit with e | e
    · subst e
      rcases rs_h_cov (d1 := 0) (d2 := 0) c with z | z | z
      · exact Or.inl (hmid k hk z)
      · by_cases q : lo ≤ rs_k P (1 - t) (o ((a + b) / 2))
        · exact Or.inr ⟨_, List.mem_append.mpr (Or.inr (List.mem_append.mpr (Or.inl (by rw [if_pos q]; exact List.mem_singleton.mpr rfl)))), z⟩
        · obtain ⟨j, j1, j2, ej⟩ := z
          refine Or.inl fun qk => absurd (key k hk.1 qk).1 ?_
          have := c1 j j1 j2
          rw [ej] at this
          omega
      · by_cases q : rs_k P (1 - t) (o ((a + b) / 2)) ≤ hi
        · exact Or.inr ⟨_, List.mem_append.mpr (Or.inl (by rw [if_pos q]; exact List.mem_singleton.mpr rfl)), z⟩
        · obtain ⟨j, j1, j2, ej⟩ := z
          refine Or.inl fun qk => absurd (key k hk.1 qk).2 ?_
          have := c2 j j1 j2
          rw [ej] at this
          omega
    · exact Or.inr ⟨it, List.mem_append.mpr (Or.inr (List.mem_append.mpr (Or.inr e))), c⟩
theorem rs_sh_ms {a b t d lo hi key : Nat} {L : List rs_I} (hab : a < b) : rs_Ms rs_hw ((if key ≤ hi then [((a + b) / 2 + 1, b, 1 - t, 0)] else []) ++ ((if lo ≤ key then [(a, (a + b) / 2, 1 - t, 0)] else []) ++ L)) < rs_Ms rs_hw ((a, b, t, d) :: L) := by
  split <;> split <;> simp only [List.nil_append, List.cons_append, rs_Ms, rs_hw] <;> omega
theorem rs_testV {post : SX → Prop} {lx ly hx hy : Nat} {f f_waiting v : Int32} {a_waitA a_waitB a_waitC a_waitD : Nat → Int32} (hlx : lx < 64) (hly : ly < 64) (hhx : hx < 64) (hhy : hy < 64) (hG : rs_G f_present a_placeOf) (hv : rs_V f_present v) (hS : rs_Sn f_present (rs_Q a_placeOf lx ly hx hy) f)
    (hp : ∀ f', rs_Sn f_present (rs_Q a_placeOf lx ly hx hy) f' → rs_Le f f' → (∀ k, rs_H f_present k → v = nI k → rs_Fi (rs_Q a_placeOf lx ly hx hy) f' k) → post (f_present, f_size, nI lx, nI ly, nI hx, nI hy, f', f_nearX, f_nearY, f_best, f_bestSquare, f_waiting, f_quads, f_levels, f_boxes, a_placeOf, a_order, a_waitA, a_waitB, a_waitC, a_waitD, a_quadX, a_quadY, a_quadSide, a_quadPart, a_quadCount, a_quadFirst, a_nextPoint, a_lists, a_fromLeft, a_boxLowX, a_boxLowY, a_boxHighX, a_boxHighY, a_boxFirst, a_boxParts, a_boxOfPoints, a_zeros, a_bottom, a_sorted, a_cellFirst, a_heapPoint, a_heapSplit)) : wpX_test post (f_present, f_size, nI lx, nI ly, nI hx, nI hy, f, f_nearX, f_nearY, f_best, f_bestSquare, f_waiting, f_quads, f_levels, f_boxes, a_placeOf, a_order, a_waitA, a_waitB, a_waitC, a_waitD, a_quadX, a_quadY, a_quadSide, a_quadPart, a_quadCount, a_quadFirst, a_nextPoint, a_lists, a_fromLeft, a_boxLowX, a_boxLowY, a_boxHighX, a_boxHighY, a_boxFirst, a_boxParts, a_boxOfPoints, a_zeros, a_bottom, a_sorted, a_cellFirst, a_heapPoint, a_heapSplit) v := by
  obtain ⟨k, hk, rfl⟩ := hv
  refine rs_test hlx hly hhx hhy hG hk hS (fun f' h1 h2 h3 => hp f' h1 h2 (fun j hj e => ?_))
  have e : k = j := (nI_eq (by have := hk.1; omega) (by have := hj.1; omega)).mp e
  subst e
  exact h3
theorem rs_tryNearV {post : SX → Prop} {nx ny s : Nat} {b f_waiting v : Int32} {a_waitA a_waitB a_waitC a_waitD : Nat → Int32} (hnx : nx < 64) (hny : ny < 64) (hG : rs_G f_present a_placeOf) (hv : rs_V f_present v) (hS : rs_Nn f_present (rs_d a_placeOf nx ny) b s)
    (hp : ∀ b' s', rs_Nn f_present (rs_d a_placeOf nx ny) b' s' → rs_Nl (rs_d a_placeOf nx ny) b s b' s' → (∀ k, rs_H f_present k → v = nI k → rs_Nd (rs_d a_placeOf nx ny) b' s' k) → post (f_present, f_size, f_lowX, f_lowY, f_highX, f_highY, f_found, nI nx, nI ny, b', nI s', f_waiting, f_quads, f_levels, f_boxes, a_placeOf, a_order, a_waitA, a_waitB, a_waitC, a_waitD, a_quadX, a_quadY, a_quadSide, a_quadPart, a_quadCount, a_quadFirst, a_nextPoint, a_lists, a_fromLeft, a_boxLowX, a_boxLowY, a_boxHighX, a_boxHighY, a_boxFirst, a_boxParts, a_boxOfPoints, a_zeros, a_bottom, a_sorted, a_cellFirst, a_heapPoint, a_heapSplit)) : wpX_tryNear post (f_present, f_size, f_lowX, f_lowY, f_highX, f_highY, f_found, nI nx, nI ny, b, nI s, f_waiting, f_quads, f_levels, f_boxes, a_placeOf, a_order, a_waitA, a_waitB, a_waitC, a_waitD, a_quadX, a_quadY, a_quadSide, a_quadPart, a_quadCount, a_quadFirst, a_nextPoint, a_lists, a_fromLeft, a_boxLowX, a_boxLowY, a_boxHighX, a_boxHighY, a_boxFirst, a_boxParts, a_boxOfPoints, a_zeros, a_bottom, a_sorted, a_cellFirst, a_heapPoint, a_heapSplit) v := by
  obtain ⟨k, hk, rfl⟩ := hv
  refine rs_tryNear hnx hny hG hk hS (fun b' s' h1 h2 h3 => hp b' s' h1 h2 (fun j hj e => ?_))
  have e : k = j := (nI_eq (by have := hk.1; omega) (by have := hj.1; omega)).mp e
  subst e
  exact h3
theorem rs_sh_loop {post : SX → Prop} {lx ly hx hy sz : Nat} (hlx : lx < 64) (hly : ly < 64) (hhx : hx < 64) (hhy : hy < 64) (hG : rs_G f_present a_placeOf) (hsz : sz ≤ 28) (hV : ∀ j, j < sz → rs_V f_present (a_order j))
    (hp : ∀ f A B C D, rs_Sn f_present (rs_Q a_placeOf lx ly hx hy) f → (∀ k, rs_H f_present k → rs_Fi (rs_Q a_placeOf lx ly hx hy) f k) → post (f_present, f_size, nI lx, nI ly, nI hx, nI hy, f, f_nearX, f_nearY, f_best, f_bestSquare, nI 0, f_quads, f_levels, f_boxes, a_placeOf, a_order, A, B, C, D, a_quadX, a_quadY, a_quadSide, a_quadPart, a_quadCount, a_quadFirst, a_nextPoint, a_lists, a_fromLeft, a_boxLowX, a_boxLowY, a_boxHighX, a_boxHighY, a_boxFirst, a_boxParts, a_boxOfPoints, a_zeros, a_bottom, a_sorted, a_cellFirst, a_heapPoint, a_heapSplit)) :
    ∀ (n : Nat) (L : List rs_I) (f : Int32) (A B C D : Nat → Int32), rs_Ms rs_hw L < n → rs_Ms rs_hw L ≤ 57 → rs_St A B C D L → rs_Sn f_present (rs_Q a_placeOf lx ly hx hy) f → rs_Iv f_present (rs_hO a_placeOf a_order sz) (rs_hC a_order) (rs_Fi (rs_Q a_placeOf lx ly hx hy) f) L → (wX_searchHalves_15 post n f_present f_size (nI lx) (nI ly) (nI hx) (nI hy) f f_nearX f_nearY f_best f_bestSquare (nI L.length) f_quads f_levels f_boxes a_placeOf a_order A B C D a_quadX a_quadY a_quadSide a_quadPart a_quadCount a_quadFirst a_nextPoint a_lists a_fromLeft a_boxLowX a_boxLowY a_boxHighX a_boxHighY a_boxFirst a_boxParts a_boxOfPoints a_zeros a_bottom a_sorted a_cellFirst a_heapPoint a_heapSplit) := by
  intro n
  induction n with
  | zero => intro L f A B C D h; omega
  | succ n ih =>
    intro L f A B C D hn h57 hS hF hI
    cases L with
    | nil => exact br_t (by decide) (hp f A B C D hF (rs_Iv_end hI))
    | cons it L =>
      obtain ⟨a, b, t, d⟩ := it
      have len := rs_Ms_len (w := rs_hw) (fun it => by unfold rs_hw; omega) ((a, b, t, d) :: L)
      rw [List.length_cons] at len
      have i : vp_in (nI L.length) 128 := vp_in_nI (by omega) (by decide)
      have e : (nI L.length).toNatClampNeg = L.length := nI_clamp (by omega)
      obtain ⟨s1, s2, s3, s4, s5⟩ := hS
      obtain ⟨g1, g2, g3, _⟩ := hI.1 (a, b, t, d) List.mem_cons_self
      have g1 : a ≤ b := g1
      have g2 : b ≤ sz := g2
      have g3 : t < 2 := g3
      refine br_f (nI_nle (by rw [List.length_cons]; omega) (by rw [List.length_cons]; omega)) (nm_r (nI_pred L.length) ⟨i, nm_r (e' := nI a) (rs_at (by omega) s1) ⟨i, nm_r (e' := nI b) (rs_at (by omega) s2) ⟨i, nm_r (e' := nI t) (rs_at (by omega) s3) ?_⟩⟩⟩)
      refine pk_le b a (fun z => ?_) (fun z => ?_)
      · have hd := rs_Iv_drop hI (fun _ h => h) (fun k _ c => by obtain ⟨j, j1, j2, _⟩ := c; exact absurd j2 (by show ¬ j < b; have j1 : a ≤ j := j1; omega))
        exact ih L f A B C D (by simp only [rs_Ms, rs_hw] at hn; omega) (by simp only [rs_Ms] at h57; omega) s5 hF hd
      · have vm := hV ((a + b) / 2) (by omega)
        have im : vp_in (nI ((a + b) / 2)) 32 := vp_in_nI (by omega) (by decide)
        have em : (nI ((a + b) / 2)).toNatClampNeg = (a + b) / 2 := nI_clamp (by omega)
        refine And.intro (by decide) (nm_r (e' := nI ((a + b) / 2)) (by rw [nI_add]; exact pk_div (d := 2) (by omega) (by decide) (by decide)) (And.intro im ?_))
        have go : ∀ z0 : Int32, z0 = nI (1 - t) → (wX_searchHalves_91 post (wX_searchHalves_15 post n) (nI a) (nI b) (nI t) (nI ((a + b) / 2)) z0 (a_order (nI ((a + b) / 2)).toNatClampNeg) f_present f_size (nI lx) (nI ly) (nI hx) (nI hy) f f_nearX f_nearY f_best f_bestSquare (nI L.length) f_quads f_levels f_boxes a_placeOf a_order A B C D a_quadX a_quadY a_quadSide a_quadPart a_quadCount a_quadFirst a_nextPoint a_lists a_fromLeft a_boxLowX a_boxLowY a_boxHighX a_boxHighY a_boxFirst a_boxParts a_boxOfPoints a_zeros a_bottom a_sorted a_cellFirst a_heapPoint a_heapSplit) := by
          intro z0 hz0
          unfold wX_searchHalves_91
          rw [em]
          refine rs_keyOf hG vm (by omega) hz0 (And.intro im (rs_testV hlx hly hhx hhy hG vm hF (fun f' q1 q2 q3 => ?_)))
          have R : ∀ lo, (t = 0 → lo = lx) → (t ≠ 0 → lo = ly) → lo < 64 → (wX_searchHalves_122 post (wX_searchHalves_15 post n) (nI a) (nI b) (nI t) (nI ((a + b) / 2)) (nI (rs_k a_placeOf (1 - t) (a_order ((a + b) / 2)))) (nI lo) f_present f_size (nI lx) (nI ly) (nI hx) (nI hy) f' f_nearX f_nearY f_best f_bestSquare (nI L.length) f_quads f_levels f_boxes a_placeOf a_order A B C D a_quadX a_quadY a_quadSide a_quadPart a_quadCount a_quadFirst a_nextPoint a_lists a_fromLeft a_boxLowX a_boxLowY a_boxHighX a_boxHighY a_boxFirst a_boxParts a_boxOfPoints a_zeros a_bottom a_sorted a_cellFirst a_heapPoint a_heapSplit) := by
            intro lo l0 l1 hlo
            have hh0 : t = 0 → (if t = 0 then hx else hy) = hx := fun z => if_pos z
            have hh1 : t ≠ 0 → (if t = 0 then hx else hy) = hy := fun z => if_neg z
            refine rs_sh_122 (hi := if t = 0 then hx else hy) g3 (by omega) (by omega) (by omega) (rs_klt hG vm) hlo (by split <;> omega) hh0 hh1 s5 (by omega) (fun L' A' B' C' D' w' e' => ?_)
            subst e'
            have ms := rs_sh_ms (t := t) (d := d) (lo := lo) (hi := if t = 0 then hx else hy) (key := rs_k a_placeOf (1 - t) (a_order ((a + b) / 2))) (L := L) z
            exact ih _ f' A' B' C' D' (by omega) (by omega) w' q1 (rs_sh_step hV hI z q2 q3 l0 l1 hh0 hh1)
          exact pk_eq t 0 (fun y => R lx (fun _ => rfl) (fun y2 => absurd y y2) hlx) (fun y => R ly (fun y2 => absurd y2 y) (fun _ => rfl) hly)
        exact pk_eq t 0 (fun y => go 1 (by rw [y]; rfl)) (fun y => go 0 (by rw [show 1 - t = 0 by omega]; rfl))
end
section
variable {f_present f_size f_lowX f_lowY f_highX f_highY f_found f_nearX f_nearY f_best f_bestSquare f_waiting f_quads f_levels f_boxes : Int32} {a_placeOf a_order a_waitA a_waitB a_waitC a_waitD a_quadX a_quadY a_quadSide a_quadPart a_quadCount a_quadFirst a_nextPoint a_lists a_fromLeft a_boxLowX a_boxLowY a_boxHighX a_boxHighY a_boxFirst a_boxParts a_boxOfPoints a_zeros a_bottom a_sorted a_cellFirst a_heapPoint a_heapSplit : Nat → Int32}
theorem rs_searchHalves {post : SX → Prop} {lx ly hx hy sz : Nat} (hlx : lx < 64) (hly : ly < 64) (hhx : hx < 64) (hhy : hy < 64) (hG : rs_G f_present a_placeOf) (hA : rs_Al f_present sz a_order)
    (hp : ∀ f o A B C D, rs_Sn f_present (rs_Q a_placeOf lx ly hx hy) f → (∀ k, rs_H f_present k → rs_Fi (rs_Q a_placeOf lx ly hx hy) f k) → post (f_present, nI sz, nI lx, nI ly, nI hx, nI hy, f, f_nearX, f_nearY, f_best, f_bestSquare, nI 0, f_quads, f_levels, f_boxes, a_placeOf, o, A, B, C, D, a_quadX, a_quadY, a_quadSide, a_quadPart, a_quadCount, a_quadFirst, a_nextPoint, a_lists, a_fromLeft, a_boxLowX, a_boxLowY, a_boxHighX, a_boxHighY, a_boxFirst, a_boxParts, a_boxOfPoints, a_zeros, a_bottom, a_sorted, a_cellFirst, a_heapPoint, a_heapSplit)) : wpX_searchHalves post (f_present, nI sz, nI lx, nI ly, nI hx, nI hy, 0, f_nearX, f_nearY, f_best, f_bestSquare, f_waiting, f_quads, f_levels, f_boxes, a_placeOf, a_order, a_waitA, a_waitB, a_waitC, a_waitD, a_quadX, a_quadY, a_quadSide, a_quadPart, a_quadCount, a_quadFirst, a_nextPoint, a_lists, a_fromLeft, a_boxLowX, a_boxLowY, a_boxHighX, a_boxHighY, a_boxFirst, a_boxParts, a_boxOfPoints, a_zeros, a_bottom, a_sorted, a_cellFirst, a_heapPoint, a_heapSplit) := by
  have hz := hA.1
  unfold wpX_searchHalves
  refine rs_buildHalves hG hA (fun o A B C D pm kd => ?_)
  have hA' := rs_Al_Pm hA pm
  refine rs_push (L := []) 0 sz 0 0 trivial (by decide) (by omega) (by omega) (by omega) rfl rfl rfl rfl (fun A1 B1 C1 D1 w => Exists.intro 58 ?_)
  refine rs_sh_loop (sz := sz) (f_size := nI sz) hlx hly hhx hhy hG hz hA'.2.1 (fun f A B C D h1 h2 => hp f o A B C D h1 h2) 58 [(0, sz, 0, 0)] 0 A1 B1 C1 D1 (by simp only [rs_Ms, rs_hw]; omega) (by simp only [rs_Ms, rs_hw]; omega) w rs_Sn_0 ⟨fun it hit => ?_, fun k hk => Or.inr ⟨(0, sz, 0, 0), List.mem_singleton.mpr rfl, ?_⟩⟩
  · rw [List.mem_singleton.mp hit]
    exact ⟨Nat.zero_le _, Nat.le_refl _, Nat.zero_lt_two, 28, kd⟩
  · obtain ⟨j, j1, j2⟩ := hA'.2.2.1 k hk
    exact ⟨j, Nat.zero_le _, j1, j2⟩
end
end
section
/-! engine 0: the nearest -/
def rs_nO (p : Int32) (P o : Nat → Int32) (nx ny sz : Nat) (it : rs_I) : Prop := rs_hO P o sz it ∧ it.2.2.2 ≤ 4000 ∧ ∀ k, rs_H p k → rs_hC o it k → it.2.2.2 ≤ rs_d P nx ny k
theorem rs_Nn_b {p : Int32} {P : Nat → Int32} {nx ny s : Nat} {b : Int32} (hG : rs_G p P) (hnx : nx < 64) (hny : ny < 64) (h : rs_Nn p (rs_d P nx ny) b s) : s ≤ 1048576 := by
  rcases h with ⟨_, e⟩ | ⟨k, hk, _, e⟩
  · omega
  · have := rs_d_b (hG k hk) hnx hny
    omega
/-- the far side's line is at least so far away -/
theorem rs_nh_far {P : Nat → Int32} {nx ny t k key nn : Nat} (hk : k < 28) (ht : t < 2) (n0 : t = 0 → nn = nx) (n1 : t ≠ 0 → nn = ny) (h : (rs_k P (1 - t) (nI k) ≤ key ∧ key ≤ nn) ∨ (key ≤ rs_k P (1 - t) (nI k) ∧ nn ≤ key)) : rs_sq nn key ≤ rs_d P nx ny k := by
  rcases (show t = 0 ∨ t = 1 by omega) with z | z
  · subst z
    rw [show 1 - 0 = 1 from rfl, rs_k1 hk, n0 rfl] at h
    rw [n0 rfl]
    exact Nat.le_trans (rs_sq_le (by unfold rs_ab; omega)) (Nat.le_add_right _ _)
  · subst z
    rw [show 1 - 1 = 0 from rfl, rs_k0 hk, n1 (by decide)] at h
    rw [n1 (by decide)]
    exact Nat.le_trans (rs_sq_le (by unfold rs_ab; omega)) (Nat.le_add_left _ _)
def rs_nL (a b t m key nn : Nat) (L : List rs_I) : List rs_I := if key ≤ nn then (m + 1, b, 1 - t, 0) :: (a, m, 1 - t, rs_sq nn key) :: L else (a, m, 1 - t, 0) :: (m + 1, b, 1 - t, rs_sq nn key) :: L
theorem rs_nh_step {p : Int32} {P o : Nat → Int32} {sz a b t d nx ny nn s s' : Nat} {L : List rs_I} {u u' : Int32} (hG : rs_G p P) (hAl : ∀ j, j < sz → rs_V p (o j)) (hnx : nx < 64) (hny : ny < 64) (n0 : t = 0 → nn = nx) (n1 : t ≠ 0 → nn = ny) (hI : rs_Iv p (rs_nO p P o nx ny sz) (rs_hC o) (rs_Nd (rs_d P nx ny) u s) ((a, b, t, d) :: L)) (hab : a < b) (hle : rs_Nl (rs_d P nx ny) u s u' s') (hmid : ∀ k, rs_H p k → o ((a + b) / 2) = nI k → rs_Nd (rs_d P nx ny) u' s' k) :
    rs_Iv p (rs_nO p P o nx ny sz) (rs_hC o) (rs_Nd (rs_d P nx ny) u' s') (rs_nL a b t ((a + b) / 2) (rs_k P (1 - t) (o ((a + b) / 2))) nn L) := by
  have ok := (hI.1 (a, b, t, d) List.mem_cons_self).1
  obtain ⟨g1, g2, g3, n, g4⟩ := ok
  have g2 : b ≤ sz := g2
  have g3 : t < 2 := g3
  have g4 : rs_KD P o n a b t := g4
  obtain ⟨c1, c2, _⟩ := rs_h_kd g4 hab
  have vm := hAl ((a + b) / 2) (by omega)
  have hkey := rs_klt (b := 1 - t) hG vm
  have hnn : nn < 64 := by
    rcases Nat.eq_zero_or_pos t with z | z
    · rw [n0 z]; exact hnx
    · rw [n1 (by omega)]; exact hny
  have sqb := rs_sq_b hnn hkey
  have part := fun d1 d2 => rs_h_parts (d1 := d1) (d2 := d2) ⟨g1, g2, g3, n, g4⟩ hab
  have okL : ∀ it, it ∈ L → rs_nO p P o nx ny sz it := fun it h => hI.1 it (List.mem_cons_of_mem _ h)
  have farL : rs_k P (1 - t) (o ((a + b) / 2)) ≤ nn → ∀ d1 k, rs_H p k → rs_hC o (a, (a + b) / 2, 1 - t, d1) k → rs_sq nn (rs_k P (1 - t) (o ((a + b) / 2))) ≤ rs_d P nx ny k := by
    intro q d1 k hk ⟨j, j1, j2, ej⟩
    have := c1 j j1 j2
    rw [ej] at this
    exact rs_nh_far hk.1 g3 n0 n1 (Or.inl ⟨this, q⟩)
  have farR : nn ≤ rs_k P (1 - t) (o ((a + b) / 2)) → ∀ d1 k, rs_H p k → rs_hC o ((a + b) / 2 + 1, b, 1 - t, d1) k → rs_sq nn (rs_k P (1 - t) (o ((a + b) / 2))) ≤ rs_d P nx ny k := by
    intro q d1 k hk ⟨j, j1, j2, ej⟩
    have := c2 j j1 j2
    rw [ej] at this
    exact rs_nh_far hk.1 g3 n0 n1 (Or.inr ⟨this, q⟩)
  unfold rs_nL
  split
  · rename_i q
    refine rs_Iv_sub hI (fun k h => hle.2 k h) (fun it hit => ?_) (fun it hit k hk c => ?_)
    · rcases List.mem_cons.mp hit with e | hit
      · rw [e]; exact ⟨(part 0 0).2, Nat.zero_le _, fun _ _ _ => Nat.zero_le _⟩
      · rcases List.mem_cons.mp hit with e | hit
        · rw [e]; exact ⟨(part _ 0).1, by show rs_sq _ _ ≤ 4000; omega, farL q _⟩
        · exact okL it hit
    · rcases List.mem_cons.mp hit with e | e
      · subst e
        rcases rs_h_cov (d1 := rs_sq nn (rs_k P (1 - t) (o ((a + b) / 2)))) (d2 := 0) c with z | z | z
        · exact Or.inl (hmid k hk z)
        · exact Or.inr ⟨_, List.mem_cons_of_mem _ List.mem_cons_self, z⟩
        · exact Or.inr ⟨_, List.mem_cons_self, z⟩
      · exact Or.inr ⟨it, List.mem_cons_of_mem _ (List.mem_cons_of_mem _ e), c⟩
  · rename_i q
    refine rs_Iv_sub hI (fun k h => hle.2 k h) (fun it hit => ?_) (fun it hit k hk c => ?_)
    · rcases List.mem_cons.mp hit with e | hit
      · rw [e]; exact ⟨(part 0 0).1, Nat.zero_le _, fun _ _ _ => Nat.zero_le _⟩
      · rcases List.mem_cons.mp hit with e | hit
        · rw [e]; exact ⟨(part 0 _).2, by show rs_sq _ _ ≤ 4000; omega, farR (by omega) _⟩
        · exact okL it hit
    · rcases List.mem_cons.mp hit with e | e
      · subst e
        rcases rs_h_cov (d1 := 0) (d2 := rs_sq nn (rs_k P (1 - t) (o ((a + b) / 2)))) c with z | z | z
        · exact Or.inl (hmid k hk z)
        · exact Or.inr ⟨_, List.mem_cons_self, z⟩
        · exact Or.inr ⟨_, List.mem_cons_of_mem _ List.mem_cons_self, z⟩
      · exact Or.inr ⟨it, List.mem_cons_of_mem _ (List.mem_cons_of_mem _ e), c⟩
theorem rs_nh_ms {a b t d key nn : Nat} {L : List rs_I} (hab : a < b) : rs_Ms rs_hw (rs_nL a b t ((a + b) / 2) key nn L) < rs_Ms rs_hw ((a, b, t, d) :: L) := by
  unfold rs_nL
  split <;> simp only [rs_Ms, rs_hw] <;> omega
section
variable {f_present f_size f_lowX f_lowY f_highX f_highY f_found f_nearX f_nearY f_best f_bestSquare f_quads f_levels f_boxes : Int32} {a_placeOf a_order a_quadX a_quadY a_quadSide a_quadPart a_quadCount a_quadFirst a_nextPoint a_lists a_fromLeft a_boxLowX a_boxLowY a_boxHighX a_boxHighY a_boxFirst a_boxParts a_boxOfPoints a_zeros a_bottom a_sorted a_cellFirst a_heapPoint a_heapSplit : Nat → Int32}
theorem rs_nh_116 {post : SX → Prop} {J15 : Int32 → Int32 → Int32 → Int32 → Int32 → Int32 → Int32 → Int32 → Int32 → Int32 → Int32 → Int32 → Int32 → Int32 → Int32 → (Nat → Int32) → (Nat → Int32) → (Nat → Int32) → (Nat → Int32) → (Nat → Int32) → (Nat → Int32) → (Nat → Int32) → (Nat → Int32) → (Nat → Int32) → (Nat → Int32) → (Nat → Int32) → (Nat → Int32) → (Nat → Int32) → (Nat → Int32) → (Nat → Int32) → (Nat → Int32) → (Nat → Int32) → (Nat → Int32) → (Nat → Int32) → (Nat → Int32) → (Nat → Int32) → (Nat → Int32) → (Nat → Int32) → (Nat → Int32) → (Nat → Int32) → (Nat → Int32) → (Nat → Int32) → (Nat → Int32) → Prop} {nx ny a b t m nn sz : Nat} {A B C D : Nat → Int32} {L : List rs_I} (hG : rs_G f_present a_placeOf) (vm : rs_V f_present (a_order m)) (ht : t < 2) (hb : b ≤ 28) (hm : m < 28) (ha : a ≤ 28) (hnn : nn < 64) (hS : rs_St A B C D L) (hL : L.length < 100)
    (hJ : ∀ L' A' B' C' D', rs_St A' B' C' D' L' → L' = rs_nL a b t m (rs_k a_placeOf (1 - t) (a_order m)) nn L → J15 f_present f_size f_lowX f_lowY f_highX f_highY f_found (nI nx) (nI ny) f_best f_bestSquare (nI L'.length) f_quads f_levels f_boxes a_placeOf a_order A' B' C' D' a_quadX a_quadY a_quadSide a_quadPart a_quadCount a_quadFirst a_nextPoint a_lists a_fromLeft a_boxLowX a_boxLowY a_boxHighX a_boxHighY a_boxFirst a_boxParts a_boxOfPoints a_zeros a_bottom a_sorted a_cellFirst a_heapPoint a_heapSplit) : (wX_nearInHalves_116 post J15 (nI a) (nI b) (nI t) (nI m) (nI nn) f_present f_size f_lowX f_lowY f_highX f_highY f_found (nI nx) (nI ny) f_best f_bestSquare (nI L.length) f_quads f_levels f_boxes a_placeOf a_order A B C D a_quadX a_quadY a_quadSide a_quadPart a_quadCount a_quadFirst a_nextPoint a_lists a_fromLeft a_boxLowX a_boxLowY a_boxHighX a_boxHighY a_boxFirst a_boxParts a_boxOfPoints a_zeros a_bottom a_sorted a_cellFirst a_heapPoint a_heapSplit) := by
  have em : (nI m).toNatClampNeg = m := nI_clamp (by omega)
  have hkey := rs_klt (b := 1 - t) hG vm
  have one : (1 : Int32) - nI t = nI (1 - t) := pk_sub (a := 1) (by omega)
  unfold wX_nearInHalves_116
  rw [em]
  refine And.intro (vp_in_nI (by omega) (by decide)) ?_
  have go : ∀ z0 : Int32, z0 = nI (1 - t) → (wX_nearInHalves_133 post J15 (nI a) (nI b) (nI t) (nI m) z0 (a_order m) (nI nn) f_present f_size f_lowX f_lowY f_highX f_highY f_found (nI nx) (nI ny) f_best f_bestSquare (nI L.length) f_quads f_levels f_boxes a_placeOf a_order A B C D a_quadX a_quadY a_quadSide a_quadPart a_quadCount a_quadFirst a_nextPoint a_lists a_fromLeft a_boxLowX a_boxLowY a_boxHighX a_boxHighY a_boxFirst a_boxParts a_boxOfPoints a_zeros a_bottom a_sorted a_cellFirst a_heapPoint a_heapSplit) := by
    intro z0 hz0
    unfold wX_nearInHalves_133
    refine rs_keyOf hG vm (by omega) hz0 (nm_e ?_)
    by_cases q : rs_k a_placeOf (1 - t) (a_order m) ≤ nn
    · refine br_t (by rw [pk_sub q]; exact nI_pos' (by omega)) ?_
      unfold wX_nearInHalves_149
      refine br_t rfl ?_
      unfold wX_nearInHalves_165
      refine br_t rfl ?_
      unfold wX_nearInHalves_176
      refine rs_push (L := L) a m (1 - t) (rs_sq nn (rs_k a_placeOf (1 - t) (a_order m))) hS (by omega) (by omega) (by omega) (by omega) rfl rfl one (rs_sqE _ _) (fun A1 B1 C1 D1 w1 => br_t rfl ?_)
      unfold wX_nearInHalves_201
      refine br_t rfl ?_
      unfold wX_nearInHalves_212
      refine rs_push (L := (a, m, 1 - t, rs_sq nn (rs_k a_placeOf (1 - t) (a_order m))) :: L) (m + 1) b (1 - t) 0 w1 (by rw [List.length_cons]; omega) (by omega) (by omega) (by omega) (nI_1 m) rfl one rfl (fun A2 B2 C2 D2 w2 => hJ _ A2 B2 C2 D2 w2 ?_)
      unfold rs_nL
      rw [if_pos q]
    · refine br_f (Int32.not_le.mpr (pk_sneg (by omega) (by omega))) ?_
      unfold wX_nearInHalves_149
      refine br_f (by decide) ?_
      unfold wX_nearInHalves_165
      refine br_f (by decide) ?_
      unfold wX_nearInHalves_176
      refine rs_push (L := L) (m + 1) b (1 - t) (rs_sq nn (rs_k a_placeOf (1 - t) (a_order m))) hS (by omega) (by omega) (by omega) (by omega) (nI_1 m) rfl one (rs_sqE _ _) (fun A1 B1 C1 D1 w1 => br_f (by decide) ?_)
      unfold wX_nearInHalves_201
      refine br_f (by decide) ?_
      unfold wX_nearInHalves_212
      refine rs_push (L := (m + 1, b, 1 - t, rs_sq nn (rs_k a_placeOf (1 - t) (a_order m))) :: L) a m (1 - t) 0 w1 (by rw [List.length_cons]; omega) (by omega) (by omega) (by omega) rfl rfl one rfl (fun A2 B2 C2 D2 w2 => hJ _ A2 B2 C2 D2 w2 ?_)
      unfold rs_nL
      rw [if_neg q]
  exact pk_eq t 0 (fun y => go 1 (by rw [y]; rfl)) (fun y => go 0 (by rw [show 1 - t = 0 by omega]; rfl))
theorem rs_nh_loop {post : SX → Prop} {nx ny sz : Nat} (hnx : nx < 64) (hny : ny < 64) (hG : rs_G f_present a_placeOf) (hsz : sz ≤ 28) (hV : ∀ j, j < sz → rs_V f_present (a_order j))
    (hp : ∀ u s A B C D, rs_Nn f_present (rs_d a_placeOf nx ny) u s → (∀ k, rs_H f_present k → rs_Nd (rs_d a_placeOf nx ny) u s k) → post (f_present, f_size, f_lowX, f_lowY, f_highX, f_highY, f_found, nI nx, nI ny, u, nI s, nI 0, f_quads, f_levels, f_boxes, a_placeOf, a_order, A, B, C, D, a_quadX, a_quadY, a_quadSide, a_quadPart, a_quadCount, a_quadFirst, a_nextPoint, a_lists, a_fromLeft, a_boxLowX, a_boxLowY, a_boxHighX, a_boxHighY, a_boxFirst, a_boxParts, a_boxOfPoints, a_zeros, a_bottom, a_sorted, a_cellFirst, a_heapPoint, a_heapSplit)) :
    ∀ (n : Nat) (L : List rs_I) (u : Int32) (s : Nat) (A B C D : Nat → Int32), rs_Ms rs_hw L < n → rs_Ms rs_hw L ≤ 57 → rs_St A B C D L → rs_Nn f_present (rs_d a_placeOf nx ny) u s → rs_Iv f_present (rs_nO f_present a_placeOf a_order nx ny sz) (rs_hC a_order) (rs_Nd (rs_d a_placeOf nx ny) u s) L → (wX_nearInHalves_15 post n f_present f_size f_lowX f_lowY f_highX f_highY f_found (nI nx) (nI ny) u (nI s) (nI L.length) f_quads f_levels f_boxes a_placeOf a_order A B C D a_quadX a_quadY a_quadSide a_quadPart a_quadCount a_quadFirst a_nextPoint a_lists a_fromLeft a_boxLowX a_boxLowY a_boxHighX a_boxHighY a_boxFirst a_boxParts a_boxOfPoints a_zeros a_bottom a_sorted a_cellFirst a_heapPoint a_heapSplit) := by
  intro n
  induction n with
  | zero => intro L u s A B C D h; omega
  | succ n ih =>
    intro L u s A B C D hn h57 hS hF hI
    cases L with
    | nil => exact br_t (by decide) (hp u s A B C D hF (rs_Iv_end hI))
    | cons it L =>
      obtain ⟨a, b, t, d⟩ := it
      have len := rs_Ms_len (w := rs_hw) (fun it => by unfold rs_hw; omega) ((a, b, t, d) :: L)
      rw [List.length_cons] at len
      have i : vp_in (nI L.length) 128 := vp_in_nI (by omega) (by decide)
      have e : (nI L.length).toNatClampNeg = L.length := nI_clamp (by omega)
      obtain ⟨s1, s2, s3, s4, s5⟩ := hS
      obtain ⟨⟨g1, g2, g3, _⟩, g4, g5⟩ := hI.1 (a, b, t, d) List.mem_cons_self
      have g1 : a ≤ b := g1
      have g2 : b ≤ sz := g2
      have g3 : t < 2 := g3
      have g4 : d ≤ 4000 := g4
      have hsb := rs_Nn_b hG hnx hny hF
      have drop : (∀ k, rs_H f_present k → rs_hC a_order (a, b, t, d) k → rs_Nd (rs_d a_placeOf nx ny) u s k) → (wX_nearInHalves_15 post n f_present f_size f_lowX f_lowY f_highX f_highY f_found (nI nx) (nI ny) u (nI s) (nI L.length) f_quads f_levels f_boxes a_placeOf a_order A B C D a_quadX a_quadY a_quadSide a_quadPart a_quadCount a_quadFirst a_nextPoint a_lists a_fromLeft a_boxLowX a_boxLowY a_boxHighX a_boxHighY a_boxFirst a_boxParts a_boxOfPoints a_zeros a_bottom a_sorted a_cellFirst a_heapPoint a_heapSplit) := by
        intro hd
        exact ih L u s A B C D (by simp only [rs_Ms, rs_hw] at hn; omega) (by simp only [rs_Ms] at h57; omega) s5 hF (rs_Iv_drop hI (fun _ h => h) hd)
      refine br_f (nI_nle (by rw [List.length_cons]; omega) (by rw [List.length_cons]; omega)) (nm_r (nI_pred L.length) ⟨i, nm_r (e' := nI a) (rs_at (by omega) s1) ⟨i, nm_r (e' := nI b) (rs_at (by omega) s2) ⟨i, nm_r (e' := nI t) (rs_at (by omega) s3) ?_⟩⟩⟩)
      refine pk_le b a (fun z => ?_) (fun z => And.intro i ?_)
      · exact drop (fun k _ c => by obtain ⟨j, j1, j2, _⟩ := c; exact absurd j2 (by show ¬ j < b; have j1 : a ≤ j := j1; omega))
      · refine pk_lt s d (fun y => drop (fun k hk c => Or.inl (Nat.lt_of_lt_of_le y (g5 k hk c)))) (fun y => ?_) (hy := by rw [e]; exact s4)
        have vm := hV ((a + b) / 2) (by omega)
        have im : vp_in (nI ((a + b) / 2)) 32 := vp_in_nI (by omega) (by decide)
        have em : (nI ((a + b) / 2)).toNatClampNeg = (a + b) / 2 := nI_clamp (by omega)
        refine And.intro (by decide) (nm_r (e' := nI ((a + b) / 2)) (by rw [nI_add]; exact pk_div (d := 2) (by omega) (by decide) (by decide)) (And.intro im ?_))
        rw [em]
        refine rs_tryNearV hnx hny hG vm hF (fun u' s' q1 q2 q3 => ?_)
        have R : ∀ nn, (t = 0 → nn = nx) → (t ≠ 0 → nn = ny) → nn < 64 → (wX_nearInHalves_116 post (wX_nearInHalves_15 post n) (nI a) (nI b) (nI t) (nI ((a + b) / 2)) (nI nn) f_present f_size f_lowX f_lowY f_highX f_highY f_found (nI nx) (nI ny) u' (nI s') (nI L.length) f_quads f_levels f_boxes a_placeOf a_order A B C D a_quadX a_quadY a_quadSide a_quadPart a_quadCount a_quadFirst a_nextPoint a_lists a_fromLeft a_boxLowX a_boxLowY a_boxHighX a_boxHighY a_boxFirst a_boxParts a_boxOfPoints a_zeros a_bottom a_sorted a_cellFirst a_heapPoint a_heapSplit) := by
          intro nn n0 n1 hnn
          refine rs_nh_116 (sz := sz) hG vm g3 (by omega) (by omega) (by omega) hnn s5 (by omega) (fun L' A' B' C' D' w' e' => ?_)
          subst e'
          have ms := rs_nh_ms (t := t) (d := d) (key := rs_k a_placeOf (1 - t) (a_order ((a + b) / 2))) (nn := nn) (L := L) z
          exact ih _ u' s' A' B' C' D' (by omega) (by omega) w' q1 (rs_nh_step hG hV hnx hny n0 n1 hI z q2 q3)
        exact pk_eq t 0 (fun y => R nx (fun _ => rfl) (fun y2 => absurd y y2) hnx) (fun y => R ny (fun y2 => absurd y2 y) (fun _ => rfl) hny)
end
section
variable {f_present f_size f_lowX f_lowY f_highX f_highY f_found f_nearX f_nearY f_best f_bestSquare f_waiting f_quads f_levels f_boxes : Int32} {a_placeOf a_order a_waitA a_waitB a_waitC a_waitD a_quadX a_quadY a_quadSide a_quadPart a_quadCount a_quadFirst a_nextPoint a_lists a_fromLeft a_boxLowX a_boxLowY a_boxHighX a_boxHighY a_boxFirst a_boxParts a_boxOfPoints a_zeros a_bottom a_sorted a_cellFirst a_heapPoint a_heapSplit : Nat → Int32}
theorem rs_nearInHalves {post : SX → Prop} {nx ny sz : Nat} (hnx : nx < 64) (hny : ny < 64) (hG : rs_G f_present a_placeOf) (hA : rs_Al f_present sz a_order)
    (hp : ∀ u s o A B C D, rs_Nn f_present (rs_d a_placeOf nx ny) u s → (∀ k, rs_H f_present k → rs_Nd (rs_d a_placeOf nx ny) u s k) → post (f_present, nI sz, f_lowX, f_lowY, f_highX, f_highY, f_found, nI nx, nI ny, u, nI s, nI 0, f_quads, f_levels, f_boxes, a_placeOf, o, A, B, C, D, a_quadX, a_quadY, a_quadSide, a_quadPart, a_quadCount, a_quadFirst, a_nextPoint, a_lists, a_fromLeft, a_boxLowX, a_boxLowY, a_boxHighX, a_boxHighY, a_boxFirst, a_boxParts, a_boxOfPoints, a_zeros, a_bottom, a_sorted, a_cellFirst, a_heapPoint, a_heapSplit)) : wpX_nearInHalves post (f_present, nI sz, f_lowX, f_lowY, f_highX, f_highY, f_found, nI nx, nI ny, -1, 1048576, f_waiting, f_quads, f_levels, f_boxes, a_placeOf, a_order, a_waitA, a_waitB, a_waitC, a_waitD, a_quadX, a_quadY, a_quadSide, a_quadPart, a_quadCount, a_quadFirst, a_nextPoint, a_lists, a_fromLeft, a_boxLowX, a_boxLowY, a_boxHighX, a_boxHighY, a_boxFirst, a_boxParts, a_boxOfPoints, a_zeros, a_bottom, a_sorted, a_cellFirst, a_heapPoint, a_heapSplit) := by
  have hz := hA.1
  unfold wpX_nearInHalves
  refine rs_buildHalves hG hA (fun o A B C D pm kd => ?_)
  have hA' := rs_Al_Pm hA pm
  refine rs_push (L := []) 0 sz 0 0 trivial (by decide) (by omega) (by omega) (by omega) rfl rfl rfl rfl (fun A1 B1 C1 D1 w => Exists.intro 58 ?_)
  refine rs_nh_loop (sz := sz) (f_size := nI sz) hnx hny hG hz hA'.2.1 (fun u s A B C D h1 h2 => hp u s o A B C D h1 h2) 58 [(0, sz, 0, 0)] (-1) 1048576 A1 B1 C1 D1 (by simp only [rs_Ms, rs_hw]; omega) (by simp only [rs_Ms, rs_hw]; omega) w (Or.inl ⟨rfl, rfl⟩) ⟨fun it hit => ?_, fun k hk => Or.inr ⟨(0, sz, 0, 0), List.mem_singleton.mpr rfl, ?_⟩⟩
  · rw [List.mem_singleton.mp hit]
    exact ⟨⟨Nat.zero_le _, Nat.le_refl _, Nat.zero_lt_two, 28, kd⟩, Nat.zero_le _, fun _ _ _ => Nat.zero_le _⟩
  · obtain ⟨j, j1, j2⟩ := hA'.2.2.1 k hk
    exact ⟨j, Nat.zero_le _, j1, j2⟩
end
end
section
/-! quarters: the shape, the lists, and what a new point and a parting do to them -/
def rs_qN (X Y S : Nat → Int32) (q x y s : Nat) : Prop := X q = nI x ∧ Y q = nI y ∧ S q = nI (2 ^ s) ∧ s ≤ 6 ∧ x + 2 ^ s ≤ 64 ∧ y + 2 ^ s ≤ 64
def rs_qin (x y w : Nat) (P : Nat → Int32) (k : Nat) : Prop := x ≤ rs_x P k ∧ rs_x P k < x + w ∧ y ≤ rs_y P k ∧ rs_y P k < y + w
def rs_qi (X Y S P : Nat → Int32) (q k : Nat) : Prop := rs_qin (X q).toNatClampNeg (Y q).toNatClampNeg (S q).toNatClampNeg P k
theorem rs_nm1 {n : Nat} (h : n < 2 ^ 31) : ¬ nI n = -1 := by
  intro e
  have := congrArg Int32.toInt e
  rw [nI_toInt h, show (-1 : Int32).toInt = -1 from by decide] at this
  omega
theorem rs_nd : ∀ (n : Nat) (l : List Nat), l.Nodup → (∀ k, k ∈ l → k < n) → l.length ≤ n
  | 0, l, _, h => by
    cases l with
    | nil => exact Nat.le_refl _
    | cons k l => exact absurd (h k List.mem_cons_self) (by omega)
  | n + 1, l, hd, h => by
    by_cases hn : n ∈ l
    · have h1 : (l.erase n).Nodup := hd.erase n
      have h2 : ∀ x, x ∈ l.erase n → x < n := fun x hx => by
        have hx1 := h x (List.mem_of_mem_erase hx)
        have hx2 : x ≠ n := fun e => by rw [e] at hx; exact (List.Nodup.not_mem_erase hd) hx
        omega
      have h3 := rs_nd n (l.erase n) h1 h2
      rw [List.length_erase_of_mem hn] at h3
      omega
    · have h3 := rs_nd n l hd (fun k hk => by
        have := h k hk
        have : k ≠ n := fun e => hn (by rw [← e]; exact hk)
        omega)
      omega
theorem rs_2s : ∀ s, s ≤ 6 → 1 ≤ 2 ^ s ∧ 2 ^ s ≤ 64 := by decide
theorem rs_qi_N {X Y S P : Nat → Int32} {q k x y s : Nat} (h : rs_qN X Y S q x y s) : rs_qi X Y S P q k ↔ rs_qin x y (2 ^ s) P k := by
  obtain ⟨h1, h2, h3, h4, h5, h6⟩ := h
  have := rs_2s s h4
  unfold rs_qi
  rw [h1, h2, h3, nI_clamp (by omega), nI_clamp (by omega), nI_clamp (by omega)]
/-- the list that begins at v -/
def rs_Ch (N : Nat → Int32) : List Nat → Int32 → Prop
  | [], v => v = -1
  | k :: l, v => v = nI k ∧ k < 28 ∧ rs_Ch N l (N k)
theorem rs_Ch_up {N : Nat → Int32} {j : Nat} {x : Int32} : ∀ {l : List Nat} {v : Int32}, ¬ j ∈ l → rs_Ch N l v → rs_Ch (upd N j x) l v
  | [], _, _, h => h
  | k :: l, v, hj, h => by
    have h1 : k ≠ j := fun e => hj (by rw [e]; exact List.mem_cons_self)
    exact ⟨h.1, h.2.1, by rw [pk_un h1]; exact rs_Ch_up (fun z => hj (List.mem_cons_of_mem _ z)) h.2.2⟩
theorem rs_Ch_28 {N : Nat → Int32} : ∀ {l : List Nat} {v : Int32}, rs_Ch N l v → ∀ k, k ∈ l → k < 28
  | [], _, _, _, hk => by cases hk
  | j :: l, _, h, k, hk => by
    rcases List.mem_cons.mp hk with e | e
    · rw [e]; exact h.2.1
    · exact rs_Ch_28 h.2.2 k e
theorem rs_Ch_v {N : Nat → Int32} {l : List Nat} {v : Int32} (h : rs_Ch N l v) : vp_nar .byte v = v := by
  cases l with
  | nil => rw [show v = -1 from h]; exact rs_nbm
  | cons k l => rw [h.1]; exact rs_nb (by have := h.2.1; omega)
def rs_q4 (X Y S : Nat → Int32) (c x y s : Nat) : Prop := rs_qN X Y S c x y s ∧ rs_qN X Y S (c + 1) (x + 2 ^ s) y s ∧ rs_qN X Y S (c + 2) x (y + 2 ^ s) s ∧ rs_qN X Y S (c + 3) (x + 2 ^ s) (y + 2 ^ s) s
def rs_qT (X Y S Pt : Nat → Int32) (nq : Nat) : Prop := ∀ q, q < nq → ∃ x y s, rs_qN X Y S q x y s ∧ (Pt q = -1 ∨ ∃ c s', Pt q = nI c ∧ c + 3 < nq ∧ s = s' + 1 ∧ rs_q4 X Y S c x y s')
def rs_qD (X Y S Pt P : Nat → Int32) (nq : Nat) : Prop := ∀ q q' k, q < nq → q' < nq → Pt q = -1 → Pt q' = -1 → rs_qi X Y S P q k → rs_qi X Y S P q' k → q = q'
def rs_qL1 (X Y S P Ct F N : Nat → Int32) (ins : Nat → Prop) (q : Nat) (l : List Nat) : Prop := rs_Ch N l (F q) ∧ l.Nodup ∧ Ct q = nI l.length ∧ ∀ k, k ∈ l ↔ (ins k ∧ rs_qi X Y S P q k)
def rs_qL (X Y S Pt P Ct F N : Nat → Int32) (ins : Nat → Prop) (nq : Nat) : Prop := ∀ q, q < nq → Pt q = -1 → ∃ l, rs_qL1 X Y S P Ct F N ins q l
/-- a child holds what its parent's quarter holds -/
theorem rs_q4_in {X Y S P : Nat → Int32} {c x y s k : Nat} (hs : s < 6) (h : rs_q4 X Y S c x y s) (hk : rs_qin x y (2 ^ (s + 1)) P k) : rs_qi X Y S P (c + ((if rs_x P k < x + 2 ^ s then 0 else 1) + (if rs_y P k < y + 2 ^ s then 0 else 2))) k := by
  have h2 : 2 ^ (s + 1) = 2 * 2 ^ s := by rw [Nat.pow_succ, Nat.mul_comm]
  obtain ⟨a, b, d, e⟩ := h
  obtain ⟨g1, g2, g3, g4⟩ := hk
  rw [h2] at g2 g4
  by_cases z : rs_x P k < x + 2 ^ s <;> by_cases w : rs_y P k < y + 2 ^ s
  · rw [if_pos z, if_pos w]
    exact (rs_qi_N a).mpr ⟨g1, z, g3, w⟩
  · rw [if_pos z, if_neg w]
    exact (rs_qi_N d).mpr ⟨g1, z, by omega, by omega⟩
  · rw [if_neg z, if_pos w]
    exact (rs_qi_N b).mpr ⟨by omega, by omega, g3, w⟩
  · rw [if_neg z, if_neg w]
    exact (rs_qi_N e).mpr ⟨by omega, by omega, by omega, by omega⟩
theorem rs_q4_sub {X Y S P : Nat → Int32} {c x y s k i : Nat} (h : rs_q4 X Y S c x y s) (hi : i < 4) (hk : rs_qi X Y S P (c + i) k) : rs_qin x y (2 ^ (s + 1)) P k := by
  have h2 : 2 ^ (s + 1) = 2 * 2 ^ s := by rw [Nat.pow_succ, Nat.mul_comm]
  obtain ⟨a, b, d, e⟩ := h
  rw [h2]
  rcases (show i = 0 ∨ i = 1 ∨ i = 2 ∨ i = 3 by omega) with z | z | z | z <;> subst z
  · obtain ⟨g1, g2, g3, g4⟩ := (rs_qi_N a).mp hk
    exact ⟨by omega, by omega, by omega, by omega⟩
  · obtain ⟨g1, g2, g3, g4⟩ := (rs_qi_N b).mp hk
    exact ⟨by omega, by omega, by omega, by omega⟩
  · obtain ⟨g1, g2, g3, g4⟩ := (rs_qi_N d).mp hk
    exact ⟨by omega, by omega, by omega, by omega⟩
  · obtain ⟨g1, g2, g3, g4⟩ := (rs_qi_N e).mp hk
    exact ⟨by omega, by omega, by omega, by omega⟩
theorem rs_q4_inj {X Y S P : Nat → Int32} {c x y s k i j : Nat} (h : rs_q4 X Y S c x y s) (hi : i < 4) (hj : j < 4) (h1 : rs_qi X Y S P (c + i) k) (h2 : rs_qi X Y S P (c + j) k) : i = j := by
  obtain ⟨a, b, d, e⟩ := h
  rcases (show i = 0 ∨ i = 1 ∨ i = 2 ∨ i = 3 by omega) with z | z | z | z <;> subst z <;> rcases (show j = 0 ∨ j = 1 ∨ j = 2 ∨ j = 3 by omega) with z | z | z | z <;> subst z <;> first
    | rfl
    | (exfalso
       first | rw [show c + 0 = c from rfl, rs_qi_N a] at h1 | rw [rs_qi_N b] at h1 | rw [rs_qi_N d] at h1 | rw [rs_qi_N e] at h1
       first | rw [show c + 0 = c from rfl, rs_qi_N a] at h2 | rw [rs_qi_N b] at h2 | rw [rs_qi_N d] at h2 | rw [rs_qi_N e] at h2
       obtain ⟨g1, g2, g3, g4⟩ := h1
       obtain ⟨f1, f2, f3, f4⟩ := h2
       omega)
/-- a new point at the front of a leaf's list -/
theorem rs_qL_put {X Y S Pt P Ct F N : Nat → Int32} {ins : Nat → Prop} {nq q k : Nat} (hD : rs_qD X Y S Pt P nq) (hL : rs_qL X Y S Pt P Ct F N ins nq) (hq : q < nq) (hlf : Pt q = -1) (hk : k < 28) (hn : ¬ ins k) (hin : rs_qi X Y S P q k) : rs_qL X Y S Pt P (upd Ct q (Ct q + 1)) (upd F q (nI k)) (upd N k (F q)) (fun j => ins j ∨ j = k) nq := by
  intro q' hq' hlf'
  obtain ⟨l, c1, c2, c3, c5⟩ := hL q' hq' hlf'
  have nk : ¬ k ∈ l := fun z => hn ((c5 k).mp z).1
  by_cases e : q' = q
  · subst e
    refine ⟨k :: l, ?_, List.nodup_cons.mpr ⟨nk, c2⟩, ?_, fun j => ?_⟩
    · rw [pk_us]
      exact ⟨rfl, hk, by rw [pk_us]; exact rs_Ch_up nk c1⟩
    · rw [pk_us, c3, nI_1, List.length_cons]
    · rw [List.mem_cons, c5 j]
      constructor
      · rintro (z | z)
        · rw [z]; exact ⟨Or.inr rfl, hin⟩
        · exact ⟨Or.inl z.1, z.2⟩
      · rintro ⟨z | z, w⟩
        · exact Or.inr ⟨z, w⟩
        · exact Or.inl z
  · refine ⟨l, ?_, c2, by rw [pk_un e]; exact c3, fun j => ?_⟩
    · rw [pk_un e]
      exact rs_Ch_up nk c1
    · rw [c5 j]
      constructor
      · rintro ⟨z, w⟩; exact ⟨Or.inl z, w⟩
      · rintro ⟨z | z, w⟩
        · exact ⟨z, w⟩
        · rw [z] at w
          exact absurd (hD q' q k hq' hq hlf' hlf w hin) e
theorem rs_qL_ins {X Y S Pt P Ct F N : Nat → Int32} {ins ins' : Nat → Prop} {nq : Nat} (h : rs_qL X Y S Pt P Ct F N ins nq) (e : ∀ k, ins k ↔ ins' k) : rs_qL X Y S Pt P Ct F N ins' nq := by
  intro q hq hp
  obtain ⟨l, c1, c2, c3, c5⟩ := h q hq hp
  exact ⟨l, c1, c2, c3, fun k => by rw [c5 k, e k]⟩
theorem rs_q4_n {X Y S : Nat → Int32} {c x y s i : Nat} (h : rs_q4 X Y S c x y s) (hi : i < 4) : ∃ x' y', rs_qN X Y S (c + i) x' y' s := by
  rcases (show i = 0 ∨ i = 1 ∨ i = 2 ∨ i = 3 by omega) with z | z | z | z <;> subst z
  · exact ⟨_, _, h.1⟩
  · exact ⟨_, _, h.2.1⟩
  · exact ⟨_, _, h.2.2.1⟩
  · exact ⟨_, _, h.2.2.2⟩
def rs_u4 (X : Nat → Int32) (n : Nat) (a b c d : Int32) : Nat → Int32 := upd (upd (upd (upd X n a) (n + 1) b) (n + 2) c) (n + 3) d
theorem rs_u4_lt {X : Nat → Int32} {n j : Nat} {a b c d : Int32} (h : j < n) : rs_u4 X n a b c d j = X j := by
  unfold rs_u4
  rw [pk_un (by omega), pk_un (by omega), pk_un (by omega), pk_un (by omega)]
theorem rs_u4_0 {X : Nat → Int32} {n : Nat} {a b c d : Int32} : rs_u4 X n a b c d n = a := by
  unfold rs_u4
  rw [pk_un (by omega), pk_un (by omega), pk_un (by omega), pk_us]
theorem rs_u4_1 {X : Nat → Int32} {n : Nat} {a b c d : Int32} : rs_u4 X n a b c d (n + 1) = b := by
  unfold rs_u4
  rw [pk_un (by omega), pk_un (by omega), pk_us]
theorem rs_u4_2 {X : Nat → Int32} {n : Nat} {a b c d : Int32} : rs_u4 X n a b c d (n + 2) = c := by
  unfold rs_u4
  rw [pk_un (by omega), pk_us]
theorem rs_u4_3 {X : Nat → Int32} {n : Nat} {a b c d : Int32} : rs_u4 X n a b c d (n + 3) = d := by
  unfold rs_u4
  rw [pk_us]
theorem rs_u4_c {X : Nat → Int32} {n i : Nat} {a : Int32} (h : i < 4) : rs_u4 X n a a a a (n + i) = a := by
  rcases (show i = 0 ∨ i = 1 ∨ i = 2 ∨ i = 3 by omega) with z | z | z | z <;> subst z
  · exact rs_u4_0
  · exact rs_u4_1
  · exact rs_u4_2
  · exact rs_u4_3
theorem rs_qN_c {X Y S X' Y' S' : Nat → Int32} {q x y s : Nat} (h1 : X' q = X q) (h2 : Y' q = Y q) (h3 : S' q = S q) (h : rs_qN X Y S q x y s) : rs_qN X' Y' S' q x y s := ⟨h1.trans h.1, h2.trans h.2.1, h3.trans h.2.2.1, h.2.2.2⟩
theorem rs_qi_c {X Y S X' Y' S' P : Nat → Int32} {q k : Nat} (h1 : X' q = X q) (h2 : Y' q = Y q) (h3 : S' q = S q) : rs_qi X' Y' S' P q k ↔ rs_qi X Y S P q k := by
  unfold rs_qi
  rw [h1, h2, h3]
section
variable {X Y S Pt P Ct F N : Nat → Int32} {ins : Nat → Prop} {nq q x y s : Nat} {l : List Nat}
/-- a leaf is parted: four new leaves without points; its own points are out for now -/
theorem rs_q_split (hT : rs_qT X Y S Pt nq) (hD : rs_qD X Y S Pt P nq) (hL : rs_qL X Y S Pt P Ct F N ins nq) (hq : q < nq) (hlf : Pt q = -1) (hN : rs_qN X Y S q x y (s + 1)) (hl : rs_qL1 X Y S P Ct F N ins q l) (hnq : nq < 704) :
    rs_qT (rs_u4 X nq (nI x) (nI (x + 2 ^ s)) (nI x) (nI (x + 2 ^ s))) (rs_u4 Y nq (nI y) (nI y) (nI (y + 2 ^ s)) (nI (y + 2 ^ s))) (rs_u4 S nq (nI (2 ^ s)) (nI (2 ^ s)) (nI (2 ^ s)) (nI (2 ^ s))) (upd (rs_u4 Pt nq (-1) (-1) (-1) (-1)) q (nI nq)) (nq + 4) ∧
    rs_q4 (rs_u4 X nq (nI x) (nI (x + 2 ^ s)) (nI x) (nI (x + 2 ^ s))) (rs_u4 Y nq (nI y) (nI y) (nI (y + 2 ^ s)) (nI (y + 2 ^ s))) (rs_u4 S nq (nI (2 ^ s)) (nI (2 ^ s)) (nI (2 ^ s)) (nI (2 ^ s))) nq x y s ∧
    rs_qD (rs_u4 X nq (nI x) (nI (x + 2 ^ s)) (nI x) (nI (x + 2 ^ s))) (rs_u4 Y nq (nI y) (nI y) (nI (y + 2 ^ s)) (nI (y + 2 ^ s))) (rs_u4 S nq (nI (2 ^ s)) (nI (2 ^ s)) (nI (2 ^ s)) (nI (2 ^ s))) (upd (rs_u4 Pt nq (-1) (-1) (-1) (-1)) q (nI nq)) P (nq + 4) ∧
    rs_qL (rs_u4 X nq (nI x) (nI (x + 2 ^ s)) (nI x) (nI (x + 2 ^ s))) (rs_u4 Y nq (nI y) (nI y) (nI (y + 2 ^ s)) (nI (y + 2 ^ s))) (rs_u4 S nq (nI (2 ^ s)) (nI (2 ^ s)) (nI (2 ^ s)) (nI (2 ^ s))) (upd (rs_u4 Pt nq (-1) (-1) (-1) (-1)) q (nI nq)) P (rs_u4 Ct nq 0 0 0 0) (rs_u4 F nq (-1) (-1) (-1) (-1)) N (fun k => ins k ∧ ¬ k ∈ l) (nq + 4) := by
  have h2 : 2 ^ (s + 1) = 2 * 2 ^ s := by rw [Nat.pow_succ, Nat.mul_comm]
  generalize hX : rs_u4 X nq (nI x) (nI (x + 2 ^ s)) (nI x) (nI (x + 2 ^ s)) = X'
  generalize hY : rs_u4 Y nq (nI y) (nI y) (nI (y + 2 ^ s)) (nI (y + 2 ^ s)) = Y'
  generalize hSS : rs_u4 S nq (nI (2 ^ s)) (nI (2 ^ s)) (nI (2 ^ s)) (nI (2 ^ s)) = S'
  have oX : ∀ j, j < nq → X' j = X j := fun j h => by rw [← hX]; exact rs_u4_lt h
  have oY : ∀ j, j < nq → Y' j = Y j := fun j h => by rw [← hY]; exact rs_u4_lt h
  have oS : ∀ j, j < nq → S' j = S j := fun j h => by rw [← hSS]; exact rs_u4_lt h
  obtain ⟨n1, n2, n3, n4, n5, n6⟩ := hN
  rw [h2] at n5 n6
  have q4 : rs_q4 X' Y' S' nq x y s := by
    refine ⟨⟨?_, ?_, ?_, by omega, by omega, by omega⟩, ⟨?_, ?_, ?_, by omega, by omega, by omega⟩, ⟨?_, ?_, ?_, by omega, by omega, by omega⟩, ⟨?_, ?_, ?_, by omega, by omega, by omega⟩⟩
    · rw [← hX]; exact rs_u4_0
    · rw [← hY]; exact rs_u4_0
    · rw [← hSS]; exact rs_u4_0
    · rw [← hX]; exact rs_u4_1
    · rw [← hY]; exact rs_u4_1
    · rw [← hSS]; exact rs_u4_1
    · rw [← hX]; exact rs_u4_2
    · rw [← hY]; exact rs_u4_2
    · rw [← hSS]; exact rs_u4_2
    · rw [← hX]; exact rs_u4_3
    · rw [← hY]; exact rs_u4_3
    · rw [← hSS]; exact rs_u4_3
  have hq' : rs_qN X Y S q x y (s + 1) := ⟨n1, n2, n3, n4, by rw [h2]; exact n5, by rw [h2]; exact n6⟩
  have pO : ∀ j, j < nq → j ≠ q → upd (rs_u4 Pt nq (-1) (-1) (-1) (-1)) q (nI nq) j = Pt j := fun j h h' => by rw [pk_un h']; exact rs_u4_lt h
  have pN : ∀ i, i < 4 → upd (rs_u4 Pt nq (-1) (-1) (-1) (-1)) q (nI nq) (nq + i) = -1 := fun i h => by rw [pk_un (by omega)]; exact rs_u4_c h
  have pq : upd (rs_u4 Pt nq (-1) (-1) (-1) (-1)) q (nI nq) q = nI nq := pk_us
  generalize upd (rs_u4 Pt nq (-1) (-1) (-1) (-1)) q (nI nq) = Pt' at pO pN pq
  have chN : ∀ i, i < 4 → ∃ x' y', rs_qN X' Y' S' (nq + i) x' y' s := fun i hi => rs_q4_n q4 hi
  have keep4 : ∀ {c a b t}, c + 3 < nq → rs_q4 X Y S c a b t → rs_q4 X' Y' S' c a b t := by
    intro c a b t hc h
    exact ⟨rs_qN_c (oX _ (by omega)) (oY _ (by omega)) (oS _ (by omega)) h.1, rs_qN_c (oX _ (by omega)) (oY _ (by omega)) (oS _ (by omega)) h.2.1, rs_qN_c (oX _ (by omega)) (oY _ (by omega)) (oS _ (by omega)) h.2.2.1, rs_qN_c (oX _ (by omega)) (oY _ (by omega)) (oS _ (by omega)) h.2.2.2⟩
  -- a leaf of the new tree: an old one other than q, or a new one
  have lf : ∀ j, j < nq + 4 → Pt' j = -1 → (j < nq ∧ j ≠ q ∧ Pt j = -1) ∨ ∃ i, i < 4 ∧ j = nq + i := by
    intro j hj hp
    rcases Nat.lt_or_ge j nq with z | z
    · have jq : j ≠ q := by
        intro e
        rw [e, pq] at hp
        exact rs_nm1 (by omega) hp
      exact Or.inl ⟨z, jq, by rw [← pO j z jq]; exact hp⟩
    · exact Or.inr ⟨j - nq, by omega, by omega⟩
  have sub : ∀ i k, i < 4 → rs_qi X' Y' S' P (nq + i) k → rs_qi X Y S P q k := fun i k hi h => (rs_qi_N hq').mpr (rs_q4_sub q4 hi h)
  refine ⟨fun j hj => ?_, q4, fun j j' k hj hj' hp hp' hi hi' => ?_, fun j hj hp => ?_⟩
  · rcases Nat.lt_or_ge j nq with z | z
    · obtain ⟨a, b, t, g1, g2⟩ := hT j z
      by_cases e : j = q
      · subst e
        exact ⟨x, y, s + 1, rs_qN_c (oX _ z) (oY _ z) (oS _ z) hq', Or.inr ⟨nq, s, pq, by omega, rfl, q4⟩⟩
      · refine ⟨a, b, t, rs_qN_c (oX _ z) (oY _ z) (oS _ z) g1, ?_⟩
        rcases g2 with g2 | ⟨c, t', g2, g3, g4, g5⟩
        · exact Or.inl (by rw [pO j z e]; exact g2)
        · exact Or.inr ⟨c, t', by rw [pO j z e]; exact g2, by omega, g4, keep4 g3 g5⟩
    · obtain ⟨i, hi, rfl⟩ : ∃ i, i < 4 ∧ j = nq + i := ⟨j - nq, by omega, by omega⟩
      obtain ⟨a, b, g⟩ := chN i hi
      exact ⟨a, b, s, g, Or.inl (pN i hi)⟩
  · rcases lf j hj hp with ⟨a1, a2, a3⟩ | ⟨i, i1, rfl⟩ <;> rcases lf j' hj' hp' with ⟨b1, b2, b3⟩ | ⟨i', i1', rfl⟩
    · rw [rs_qi_c (oX _ a1) (oY _ a1) (oS _ a1)] at hi
      rw [rs_qi_c (oX _ b1) (oY _ b1) (oS _ b1)] at hi'
      exact hD j j' k a1 b1 a3 b3 hi hi'
    · rw [rs_qi_c (oX _ a1) (oY _ a1) (oS _ a1)] at hi
      exact absurd (hD j q k a1 hq a3 hlf hi (sub i' k i1' hi')) a2
    · rw [rs_qi_c (oX _ b1) (oY _ b1) (oS _ b1)] at hi'
      exact absurd (hD j' q k b1 hq b3 hlf hi' (sub i k i1 hi)) b2
    · rw [rs_q4_inj q4 i1 i1' hi hi']
  · obtain ⟨_, _, _, l5⟩ := hl
    rcases lf j hj hp with ⟨a1, a2, a3⟩ | ⟨i, i1, rfl⟩
    · obtain ⟨m, c1, c2, c3, c5⟩ := hL j a1 a3
      refine ⟨m, by rw [rs_u4_lt a1]; exact c1, c2, by rw [rs_u4_lt a1]; exact c3, fun k => ?_⟩
      rw [c5 k, rs_qi_c (oX _ a1) (oY _ a1) (oS _ a1)]
      constructor
      · rintro ⟨z, w⟩
        exact ⟨⟨z, fun v => a2 (hD j q k a1 hq a3 hlf w ((l5 k).mp v).2)⟩, w⟩
      · rintro ⟨⟨z, _⟩, w⟩
        exact ⟨z, w⟩
    · refine ⟨[], by rw [rs_u4_c i1]; exact rfl, List.nodup_nil, by rw [rs_u4_c i1]; rfl, fun k => ?_⟩
      constructor
      · intro z; cases z
      · rintro ⟨⟨z, w⟩, v⟩
        exact absurd ((l5 k).mpr ⟨z, sub i k i1 v⟩) w
end
end
section
/-! quarters: the building -/
section
variable {f_present f_size f_lowX f_lowY f_highX f_highY f_found f_nearX f_nearY f_best f_bestSquare f_waiting f_levels f_boxes : Int32} {a_placeOf a_order a_waitA a_waitB a_waitC a_waitD a_lists a_fromLeft a_boxLowX a_boxLowY a_boxHighX a_boxHighY a_boxFirst a_boxParts a_boxOfPoints a_zeros a_bottom a_sorted a_cellFirst a_heapPoint a_heapSplit : Nat → Int32} {X Y S Pt Ct F N : Nat → Int32}
theorem rs_newQuad {post : Int32 → SX → Prop} {nq x y w : Nat} {x' y' w' : Int32} (hnq : nq < 704) (hx : x < 128) (hy : y < 128) (hw : w < 128) (ex : x' = nI x) (ey : y' = nI y) (ew : w' = nI w)
    (hp : post (nI nq) (f_present, f_size, f_lowX, f_lowY, f_highX, f_highY, f_found, f_nearX, f_nearY, f_best, f_bestSquare, f_waiting, nI (nq + 1), f_levels, f_boxes, a_placeOf, a_order, a_waitA, a_waitB, a_waitC, a_waitD, upd X nq (nI x), upd Y nq (nI y), upd S nq (nI w), upd Pt nq (-1), upd Ct nq 0, upd F nq (-1), N, a_lists, a_fromLeft, a_boxLowX, a_boxLowY, a_boxHighX, a_boxHighY, a_boxFirst, a_boxParts, a_boxOfPoints, a_zeros, a_bottom, a_sorted, a_cellFirst, a_heapPoint, a_heapSplit)) : wpX_newQuad post (f_present, f_size, f_lowX, f_lowY, f_highX, f_highY, f_found, f_nearX, f_nearY, f_best, f_bestSquare, f_waiting, nI nq, f_levels, f_boxes, a_placeOf, a_order, a_waitA, a_waitB, a_waitC, a_waitD, X, Y, S, Pt, Ct, F, N, a_lists, a_fromLeft, a_boxLowX, a_boxLowY, a_boxHighX, a_boxHighY, a_boxFirst, a_boxParts, a_boxOfPoints, a_zeros, a_bottom, a_sorted, a_cellFirst, a_heapPoint, a_heapSplit) x' y' w' := by
  subst ex ey ew
  have i : vp_in (nI nq) 704 := vp_in_nI hnq (by decide)
  have e : (nI nq).toNatClampNeg = nq := nI_clamp (by omega)
  have z0 : vp_nar .byte 0 = 0 := rs_nb (n := 0) (by decide)
  unfold wpX_newQuad
  refine nm_r (nI_1 nq) ⟨i, nm_r (e' := upd X nq (nI x)) (by rw [e, rs_nb2 hx]) ⟨i, nm_r (e' := upd Y nq (nI y)) (by rw [e, rs_nb2 hy]) ⟨i, nm_r (e' := upd S nq (nI w)) (by rw [e, rs_nb2 hw]) ⟨i, nm_r (e' := upd Pt nq (-1)) (by rw [e, rs_nsm]) ⟨i, nm_r (e' := upd Ct nq 0) (by rw [e, z0]) ⟨i, nm_r (e' := upd F nq (-1)) (by rw [e, rs_nbm]) hp⟩⟩⟩⟩⟩⟩
theorem rs_putInto {post : SX → Prop} {nq q k c : Nat} (hq : q < 704) (hk : k < 28) (hF : vp_nar .byte (F q) = F q) (hc : c < 100) (hC : Ct q = nI c)
    (hp : post (f_present, f_size, f_lowX, f_lowY, f_highX, f_highY, f_found, f_nearX, f_nearY, f_best, f_bestSquare, f_waiting, nI nq, f_levels, f_boxes, a_placeOf, a_order, a_waitA, a_waitB, a_waitC, a_waitD, X, Y, S, Pt, upd Ct q (Ct q + 1), upd F q (nI k), upd N k (F q), a_lists, a_fromLeft, a_boxLowX, a_boxLowY, a_boxHighX, a_boxHighY, a_boxFirst, a_boxParts, a_boxOfPoints, a_zeros, a_bottom, a_sorted, a_cellFirst, a_heapPoint, a_heapSplit)) : wpX_putInto post (f_present, f_size, f_lowX, f_lowY, f_highX, f_highY, f_found, f_nearX, f_nearY, f_best, f_bestSquare, f_waiting, nI nq, f_levels, f_boxes, a_placeOf, a_order, a_waitA, a_waitB, a_waitC, a_waitD, X, Y, S, Pt, Ct, F, N, a_lists, a_fromLeft, a_boxLowX, a_boxLowY, a_boxHighX, a_boxHighY, a_boxFirst, a_boxParts, a_boxOfPoints, a_zeros, a_bottom, a_sorted, a_cellFirst, a_heapPoint, a_heapSplit) (nI q) (nI k) := by
  have i : vp_in (nI q) 704 := vp_in_nI hq (by decide)
  have e : (nI q).toNatClampNeg = q := nI_clamp (by omega)
  have i2 : vp_in (nI k) 28 := vp_in_nI hk (by decide)
  have e2 : (nI k).toNatClampNeg = k := nI_clamp (by omega)
  unfold wpX_putInto
  refine ⟨i, i2, nm_r (e' := upd N k (F q)) (by rw [e, e2, hF]) ⟨i, nm_r (e' := upd F q (nI k)) (by rw [e, rs_nb2 (by omega)]) ⟨i, i, nm_r (e' := upd Ct q (Ct q + 1)) ?_ hp⟩⟩⟩
  rw [e, hC, nI_1, rs_nb2 (by omega)]
theorem rs_partFor {post : Int32 → Prop} {nq q k c x y s : Nat} (hq : q < 704) (hk : k < 28) (hok : rs_ok a_placeOf k) (hN : rs_qN X Y S q x y (s + 1)) (hc : c < 704) (hP : Pt q = nI c)
    (hp : post (nI (c + ((if rs_x a_placeOf k < x + 2 ^ s then 0 else 1) + (if rs_y a_placeOf k < y + 2 ^ s then 0 else 2))))) : wpX_partFor post (f_present, f_size, f_lowX, f_lowY, f_highX, f_highY, f_found, f_nearX, f_nearY, f_best, f_bestSquare, f_waiting, nI nq, f_levels, f_boxes, a_placeOf, a_order, a_waitA, a_waitB, a_waitC, a_waitD, X, Y, S, Pt, Ct, F, N, a_lists, a_fromLeft, a_boxLowX, a_boxLowY, a_boxHighX, a_boxHighY, a_boxFirst, a_boxParts, a_boxOfPoints, a_zeros, a_bottom, a_sorted, a_cellFirst, a_heapPoint, a_heapSplit) (nI q) (nI k) := by
  have i : vp_in (nI q) 704 := vp_in_nI hq (by decide)
  have e : (nI q).toNatClampNeg = q := nI_clamp (by omega)
  obtain ⟨n1, n2, n3, n4, n5, n6⟩ := hN
  have h2 : 2 ^ (s + 1) = 2 * 2 ^ s := by rw [Nat.pow_succ, Nat.mul_comm]
  have hb := rs_2s (s + 1) n4
  rw [h2] at n3 n5 n6 hb
  have hxk := rs_xlt a_placeOf k
  have hyk := rs_ylt hok
  have hd : nI (2 * 2 ^ s) / 2 = nI (2 ^ s) := by
    have := pk_div (a := 2 * 2 ^ s) (d := 2) (by omega) (by decide) (by decide)
    rw [show 2 * 2 ^ s / 2 = 2 ^ s by omega] at this
    exact this
  unfold wpX_partFor
  refine And.intro i (And.intro (by decide) (nm_r (e' := nI (2 ^ s)) (by rw [e, n3]; exact hd) (rs_xOf hk hok (And.intro i ?_))))
  rw [e, n1, nI_add]
  have R : ∀ z : Nat, z < 2 → (z = if rs_x a_placeOf k < x + 2 ^ s then 0 else 1) → (wX_partFor_30 post (nI q) (nI k) (nI (2 ^ s)) (nI z) f_present f_size f_lowX f_lowY f_highX f_highY f_found f_nearX f_nearY f_best f_bestSquare f_waiting (nI nq) f_levels f_boxes a_placeOf a_order a_waitA a_waitB a_waitC a_waitD X Y S Pt Ct F N a_lists a_fromLeft a_boxLowX a_boxLowY a_boxHighX a_boxHighY a_boxFirst a_boxParts a_boxOfPoints a_zeros a_bottom a_sorted a_cellFirst a_heapPoint a_heapSplit) := by
    intro z hz ez
    unfold wX_partFor_30 wX_partFor_53
    rw [e, n2, hP]
    refine rs_yOf hk hok ⟨i, ?_⟩
    rw [nI_add, nI_add]
    refine pk_lt (rs_y a_placeOf k) (y + 2 ^ s) (fun v => ⟨i, ?_⟩) (fun v => ⟨i, ?_⟩)
    · rw [if_pos (show rs_y a_placeOf k < y + 2 ^ s from v), ← ez] at hp
      have e3 : nI (c + z) + 0 = nI (c + (z + 0)) := nI_add (c + z) 0
      rw [e3]
      exact hp
    · rw [if_neg (show ¬ rs_y a_placeOf k < y + 2 ^ s by omega), ← ez] at hp
      have e3 : nI (c + z) + 2 = nI (c + (z + 2)) := nI_add (c + z) 2
      rw [e3]
      exact hp
  exact pk_lt (rs_x a_placeOf k) (x + 2 ^ s) (fun v => R 0 (by decide) (by rw [if_pos v])) (fun v => R 1 (by decide) (by rw [if_neg (by omega)]))
theorem rs_sp_loop {post : SX → Prop} {nq q c x y s : Nat} (hG : rs_G f_present a_placeOf) (hq : q < nq) (hnq : nq ≤ 704) (hD : rs_qD X Y S Pt a_placeOf nq) (hN : rs_qN X Y S q x y (s + 1)) (hP : Pt q = nI c) (hc : c + 3 < nq) (h4 : rs_q4 X Y S c x y s) (hlf : ∀ i, i < 4 → Pt (c + i) = -1) :
    ∀ (rest : List Nat) (n : Nat) (Ct F N : Nat → Int32) (ins : Nat → Prop) (x6 : Int32), rest.length < n → rs_Ch N rest x6 → rest.Nodup → (∀ k, k ∈ rest → ¬ ins k ∧ rs_H f_present k ∧ rs_qin x y (2 ^ (s + 1)) a_placeOf k) → rs_qL X Y S Pt a_placeOf Ct F N ins nq →
    (∀ Ct F N, rs_qL X Y S Pt a_placeOf Ct F N (fun k => ins k ∨ k ∈ rest) nq → post (f_present, f_size, f_lowX, f_lowY, f_highX, f_highY, f_found, f_nearX, f_nearY, f_best, f_bestSquare, f_waiting, nI nq, f_levels, f_boxes, a_placeOf, a_order, a_waitA, a_waitB, a_waitC, a_waitD, X, Y, S, Pt, Ct, F, N, a_lists, a_fromLeft, a_boxLowX, a_boxLowY, a_boxHighX, a_boxHighY, a_boxFirst, a_boxParts, a_boxOfPoints, a_zeros, a_bottom, a_sorted, a_cellFirst, a_heapPoint, a_heapSplit)) → (wX_splitQuad_86 post (nI q) n x6 f_present f_size f_lowX f_lowY f_highX f_highY f_found f_nearX f_nearY f_best f_bestSquare f_waiting (nI nq) f_levels f_boxes a_placeOf a_order a_waitA a_waitB a_waitC a_waitD X Y S Pt Ct F N a_lists a_fromLeft a_boxLowX a_boxLowY a_boxHighX a_boxHighY a_boxFirst a_boxParts a_boxOfPoints a_zeros a_bottom a_sorted a_cellFirst a_heapPoint a_heapSplit) := by
  intro rest
  induction rest with
  | nil =>
    intro n Ct F N ins x6 hn hch _ _ hL hp
    obtain ⟨m, rfl⟩ : ∃ m, n = m + 1 := ⟨n - 1, by rw [List.length_nil] at hn; omega⟩
    have e : x6 = -1 := hch
    subst e
    refine br_t (by decide) (hp Ct F N (rs_qL_ins hL (fun k => ⟨Or.inl, fun z => z.elim id (fun w => by cases w)⟩)))
  | cons k rest ih =>
    intro n Ct F N ins x6 hn hch hnd hr hL hp
    obtain ⟨m, rfl⟩ : ∃ m, n = m + 1 := ⟨n - 1, by rw [List.length_cons] at hn; omega⟩
    obtain ⟨e, hk, hch⟩ := hch
    subst e
    obtain ⟨nd1, nd2⟩ := List.nodup_cons.mp hnd
    obtain ⟨r1, r2, r3⟩ := hr k List.mem_cons_self
    have hs6 : s + 1 ≤ 6 := hN.2.2.2.1
    have hin := rs_q4_in (P := a_placeOf) (by omega) h4 r3
    refine br_f (nI_pos (by omega)) (And.intro (vp_in_nI hk (by decide)) ?_)
    rw [nI_clamp (show k < 2 ^ 31 by omega)]
    refine nm_e (rs_partFor (by omega) hk (hG k r2) hN (by omega) hP ?_)
    have hj : ((if rs_x a_placeOf k < x + 2 ^ s then 0 else 1) + (if rs_y a_placeOf k < y + 2 ^ s then 0 else 2)) < 4 := by split <;> split <;> omega
    generalize ((if rs_x a_placeOf k < x + 2 ^ s then 0 else 1) + (if rs_y a_placeOf k < y + 2 ^ s then 0 else 2)) = j at hin hj
    obtain ⟨l, c1, c2, c3, c5⟩ := hL (c + j) (by omega) (hlf j hj)
    have hlen := rs_nd 28 l c2 (rs_Ch_28 c1)
    refine rs_putInto (by omega) hk (rs_Ch_v c1) (by omega) c3 ?_
    refine ih m _ _ _ (fun i => ins i ∨ i = k) (N k) (by rw [List.length_cons] at hn; omega) (rs_Ch_up nd1 hch) nd2 (fun i hi => ?_) (rs_qL_put hD hL (by omega) (hlf j hj) hk r1 hin) (fun Ct F N hL' => hp Ct F N (rs_qL_ins hL' (fun i => ?_)))
    · obtain ⟨q1, q2, q3⟩ := hr i (List.mem_cons_of_mem _ hi)
      refine ⟨fun z => z.elim q1 (fun w => nd1 (by rw [← w]; exact hi)), q2, q3⟩
    · rw [List.mem_cons]
      constructor
      · rintro ((z | z) | z)
        · exact Or.inl z
        · exact Or.inr (Or.inl z)
        · exact Or.inr (Or.inr z)
      · rintro (z | z | z)
        · exact Or.inl (Or.inl z)
        · exact Or.inl (Or.inr z)
        · exact Or.inr z
theorem rs_splitQuad {post : SX → Prop} {nq q x y s : Nat} {ins : Nat → Prop} (hG : rs_G f_present a_placeOf) (hi : ∀ k, ins k → rs_H f_present k) (hq : q < nq) (hnq : nq + 4 ≤ 704) (hT : rs_qT X Y S Pt nq) (hD : rs_qD X Y S Pt a_placeOf nq) (hL : rs_qL X Y S Pt a_placeOf Ct F N ins nq) (hN : rs_qN X Y S q x y (s + 1)) (hlf : Pt q = -1) (h0 : rs_qN X Y S 0 0 0 6)
    (hp : ∀ X' Y' S' Pt' Ct' F' N' nq', nq' = nq + 4 → rs_qT X' Y' S' Pt' nq' → rs_qD X' Y' S' Pt' a_placeOf nq' → rs_qL X' Y' S' Pt' a_placeOf Ct' F' N' ins nq' → rs_qN X' Y' S' q x y (s + 1) → ¬ Pt' q = -1 → rs_qN X' Y' S' 0 0 0 6 → post (f_present, f_size, f_lowX, f_lowY, f_highX, f_highY, f_found, f_nearX, f_nearY, f_best, f_bestSquare, f_waiting, nI nq', f_levels, f_boxes, a_placeOf, a_order, a_waitA, a_waitB, a_waitC, a_waitD, X', Y', S', Pt', Ct', F', N', a_lists, a_fromLeft, a_boxLowX, a_boxLowY, a_boxHighX, a_boxHighY, a_boxFirst, a_boxParts, a_boxOfPoints, a_zeros, a_bottom, a_sorted, a_cellFirst, a_heapPoint, a_heapSplit)) : wpX_splitQuad post (f_present, f_size, f_lowX, f_lowY, f_highX, f_highY, f_found, f_nearX, f_nearY, f_best, f_bestSquare, f_waiting, nI nq, f_levels, f_boxes, a_placeOf, a_order, a_waitA, a_waitB, a_waitC, a_waitD, X, Y, S, Pt, Ct, F, N, a_lists, a_fromLeft, a_boxLowX, a_boxLowY, a_boxHighX, a_boxHighY, a_boxFirst, a_boxParts, a_boxOfPoints, a_zeros, a_bottom, a_sorted, a_cellFirst, a_heapPoint, a_heapSplit) (nI q) := by
  have i : vp_in (nI q) 704 := vp_in_nI (by omega) (by decide)
  have e : (nI q).toNatClampNeg = q := nI_clamp (by omega)
  have h2 : 2 ^ (s + 1) = 2 * 2 ^ s := by rw [Nat.pow_succ, Nat.mul_comm]
  have hN' := hN
  obtain ⟨n1, n2, n3, n4, n5, n6⟩ := hN
  have hb := rs_2s (s + 1) n4
  rw [h2] at n3 n5 n6 hb
  have hd : nI (2 * 2 ^ s) / 2 = nI (2 ^ s) := by
    have := pk_div (a := 2 * 2 ^ s) (d := 2) (by omega) (by decide) (by decide)
    rw [show 2 * 2 ^ s / 2 = 2 ^ s by omega] at this
    exact this
  obtain ⟨l, hl⟩ := hL q hq hlf
  obtain ⟨t1, t2, t3, t4⟩ := rs_q_split hT hD hL hq hlf hN' hl (by omega)
  obtain ⟨c1, c2, c3, c5⟩ := hl
  unfold wpX_splitQuad
  refine And.intro i (And.intro (by decide) (nm_r (e' := nI (2 ^ s)) (by rw [e, n3]; exact hd) (And.intro i (nm_r (e' := nI x) (by rw [e]; exact n1) (And.intro i (nm_r (e' := nI y) (by rw [e]; exact n2) ?_))))))
  refine rs_newQuad (x := x) (y := y) (w := 2 ^ s) (by omega) (by omega) (by omega) (by omega) rfl rfl rfl ?_
  refine rs_newQuad (x := x + 2 ^ s) (y := y) (w := 2 ^ s) (by omega) (by omega) (by omega) (by omega) (nI_add _ _) rfl rfl ?_
  refine rs_newQuad (x := x) (y := y + 2 ^ s) (w := 2 ^ s) (by omega) (by omega) (by omega) (by omega) rfl (nI_add _ _) rfl ?_
  refine rs_newQuad (x := x + 2 ^ s) (y := y + 2 ^ s) (w := 2 ^ s) (by omega) (by omega) (by omega) (by omega) (nI_add _ _) (nI_add _ _) rfl ?_
  refine And.intro i (nm_r (e' := upd (rs_u4 Pt nq (-1) (-1) (-1) (-1)) q (nI nq)) ?_ (And.intro i (nm_r (e' := F q) ?_ (Exists.intro (l.length + 1) ?_))))
  · rw [e, rs_ns2 (show nq < 32768 by omega)]
    rfl
  · rw [e]
    exact rs_u4_lt hq
  · have np : upd (rs_u4 Pt nq (-1) (-1) (-1) (-1)) q (nI nq) q = nI nq := pk_us
    refine rs_sp_loop (nq := nq + 4) (c := nq) hG (by omega) hnq t3 (rs_qN_c (rs_u4_lt hq) (rs_u4_lt hq) (rs_u4_lt hq) hN') np (by omega) t2 (fun j hj => ?_) l (l.length + 1) _ _ N (fun k => ins k ∧ ¬ k ∈ l) (F q) (by omega) c1 c2 (fun k hk => ?_) t4 (fun Ct' F' N' hL' => ?_)
    · rw [pk_un (by omega)]
      exact rs_u4_c hj
    · have := (c5 k).mp hk
      exact ⟨fun z => z.2 hk, hi k this.1, (rs_qi_N hN').mp this.2⟩
    · refine hp _ _ _ _ Ct' F' N' (nq + 4) rfl t1 t3 (rs_qL_ins hL' (fun k => ⟨fun z => z.elim (fun w => w.1) (fun w => ((c5 k).mp w).1), fun z => ?_⟩)) (rs_qN_c (rs_u4_lt hq) (rs_u4_lt hq) (rs_u4_lt hq) hN') (by rw [np]; exact rs_nm1 (by omega)) (rs_qN_c (rs_u4_lt (by omega)) (rs_u4_lt (by omega)) (rs_u4_lt (by omega)) h0)
      by_cases w : k ∈ l
      · exact Or.inr w
      · exact Or.inl ⟨z, w⟩
theorem rs_bq_in {post : SX → Prop} {J16 : Int32 → Int32 → Int32 → Int32 → Int32 → Int32 → Int32 → Int32 → Int32 → Int32 → Int32 → Int32 → Int32 → Int32 → Int32 → Int32 → (Nat → Int32) → (Nat → Int32) → (Nat → Int32) → (Nat → Int32) → (Nat → Int32) → (Nat → Int32) → (Nat → Int32) → (Nat → Int32) → (Nat → Int32) → (Nat → Int32) → (Nat → Int32) → (Nat → Int32) → (Nat → Int32) → (Nat → Int32) → (Nat → Int32) → (Nat → Int32) → (Nat → Int32) → (Nat → Int32) → (Nat → Int32) → (Nat → Int32) → (Nat → Int32) → (Nat → Int32) → (Nat → Int32) → (Nat → Int32) → (Nat → Int32) → (Nat → Int32) → (Nat → Int32) → (Nat → Int32) → Prop} {i k Bd : Nat} {ins : Nat → Prop} (hG : rs_G f_present a_placeOf) (hi : ∀ k, ins k → rs_H f_present k) (hBd : Bd ≤ 700) (hk : rs_H f_present k) (hn : ¬ ins k)
    (hJ : ∀ X Y S Pt Ct F N nq, nq ≤ Bd → rs_qT X Y S Pt nq → rs_qD X Y S Pt a_placeOf nq → rs_qL X Y S Pt a_placeOf Ct F N (fun j => ins j ∨ j = k) nq → 0 < nq → rs_qN X Y S 0 0 0 6 → J16 (nI (i + 1)) f_present f_size f_lowX f_lowY f_highX f_highY f_found f_nearX f_nearY f_best f_bestSquare f_waiting (nI nq) f_levels f_boxes a_placeOf a_order a_waitA a_waitB a_waitC a_waitD X Y S Pt Ct F N a_lists a_fromLeft a_boxLowX a_boxLowY a_boxHighX a_boxHighY a_boxFirst a_boxParts a_boxOfPoints a_zeros a_bottom a_sorted a_cellFirst a_heapPoint a_heapSplit) :
    ∀ (n : Nat) (X Y S Pt Ct F N : Nat → Int32) (nq q x y s : Nat), q < nq → rs_qN X Y S q x y s → rs_qin x y (2 ^ s) a_placeOf k → ((Pt q = -1 ∧ 2 * s + 2 < n ∧ nq + 4 * s ≤ Bd) ∨ (¬ Pt q = -1 ∧ 2 * s + 1 < n ∧ nq + 4 * s ≤ Bd + 4)) → rs_qT X Y S Pt nq → rs_qD X Y S Pt a_placeOf nq → rs_qL X Y S Pt a_placeOf Ct F N ins nq → rs_qN X Y S 0 0 0 6 →
    (wX_buildQuads_36 post J16 (nI i) (nI k) n (nI q) 0 f_present f_size f_lowX f_lowY f_highX f_highY f_found f_nearX f_nearY f_best f_bestSquare f_waiting (nI nq) f_levels f_boxes a_placeOf a_order a_waitA a_waitB a_waitC a_waitD X Y S Pt Ct F N a_lists a_fromLeft a_boxLowX a_boxLowY a_boxHighX a_boxHighY a_boxFirst a_boxParts a_boxOfPoints a_zeros a_bottom a_sorted a_cellFirst a_heapPoint a_heapSplit) := by
  intro n
  induction n with
  | zero =>
    intro X Y S Pt Ct F N nq q x y s _ _ _ h
    omega
  | succ n ih =>
    intro X Y S Pt Ct F N nq q x y s hq hN hin hh hT hD hL h0
    have hnq : nq ≤ 704 := by omega
    have iq : vp_in (nI q) 704 := vp_in_nI (by omega) (by decide)
    have e : (nI q).toNatClampNeg = q := nI_clamp (by omega)
    obtain ⟨x', y', s', hN2, hc⟩ := hT q hq
    refine br_t rfl (And.intro iq ?_)
    rw [e]
    rcases hh with ⟨hlf, hf, hb⟩ | ⟨hlf, hf, hb⟩
    · obtain ⟨l, hl⟩ := hL q hq hlf
      have hl' := hl
      obtain ⟨c1, c2, c3, c5⟩ := hl
      have hlen := rs_nd 28 l c2 (rs_Ch_28 c1)
      have put : (wX_buildQuads_80 post J16 (wX_buildQuads_36 post J16 (nI i) (nI k) n) (nI i) (nI k) (nI q) f_present f_size f_lowX f_lowY f_highX f_highY f_found f_nearX f_nearY f_best f_bestSquare f_waiting (nI nq) f_levels f_boxes a_placeOf a_order a_waitA a_waitB a_waitC a_waitD X Y S Pt Ct F N a_lists a_fromLeft a_boxLowX a_boxLowY a_boxHighX a_boxHighY a_boxFirst a_boxParts a_boxOfPoints a_zeros a_bottom a_sorted a_cellFirst a_heapPoint a_heapSplit) := by
        unfold wX_buildQuads_80
        refine rs_putInto (by omega) hk.1 (rs_Ch_v c1) (by omega) c3 ?_
        obtain ⟨m, rfl⟩ : ∃ m, n = m + 1 := ⟨n - 1, by omega⟩
        refine br_f (by decide) (nm_r (nI_1 i) (hJ X Y S Pt _ _ _ nq (by omega) hT hD (rs_qL_put hD hL hq hlf hk.1 hn ((rs_qi_N hN).mpr hin)) (by omega) h0))
      refine br_t (by rw [hlf]; decide) (And.intro iq (pk_lt l.length 2 (fun _ => put) (fun _ => And.intro iq ?_) (hx := c3)))
      have hs := hN.2.2.1
      cases s with
      | zero => exact br_t (by rw [hs]; rfl) put
      | succ s =>
        have hs6 := hN.2.2.2.1
        have hb2 := rs_2s s (by omega)
        refine br_f (fun z => ?_) (rs_splitQuad hG hi hq (by omega) hT hD hL hN hlf h0 (fun X' Y' S' Pt' Ct' F' N' nq' enq t1 t2 t3 t4 t5 t6 => ?_))
        · rw [hs] at z
          have z : nI (2 ^ (s + 1)) = nI 1 := z
          rw [Nat.pow_succ] at z
          have := (nI_eq (by omega) (by omega)).mp z
          omega
        · exact ih X' Y' S' Pt' Ct' F' N' nq' q x y (s + 1) (by omega) t4 hin (Or.inr ⟨t5, by omega, by omega⟩) t1 t2 t3 t6
    · rcases hc with hc | ⟨c, t, hc1, hc2, hc3, hc4⟩
      · exact absurd hc hlf
      · subst hc3
        have es : s = t + 1 := by
          have a := hN.2.2.1
          have b := hN2.2.2.1
          have a6 := hN.2.2.2.1
          have b6 := hN2.2.2.2.1
          rw [a] at b
          have h1 := rs_2s s a6
          have h2 := rs_2s (t + 1) b6
          have := (nI_eq (by omega) (by omega)).mp b
          exact (Nat.pow_right_inj (by decide)).mp this
        subst es
        have ex : x' = x ∧ y' = y := by
          have ht := rs_2s (t + 1) hN.2.2.2.1
          obtain ⟨a1, a2, _, _, a5, a6⟩ := hN
          obtain ⟨b1, b2, _, _, b5, b6⟩ := hN2
          rw [a1] at b1
          rw [a2] at b2
          exact ⟨((nI_eq (by omega) (by omega)).mp b1).symm, ((nI_eq (by omega) (by omega)).mp b2).symm⟩
        obtain ⟨rfl, rfl⟩ := ex
        have hs6 : t + 1 ≤ 6 := hN.2.2.2.1
        have hin2 := rs_q4_in (P := a_placeOf) (by omega) hc4 hin
        refine br_f (by rw [hc1]; exact nI_pos (by omega)) (rs_partFor (by omega) hk.1 (hG k hk) hN (by omega) hc1 ?_)
        have hj : ((if rs_x a_placeOf k < x' + 2 ^ t then 0 else 1) + (if rs_y a_placeOf k < y' + 2 ^ t then 0 else 2)) < 4 := by split <;> split <;> omega
        generalize ((if rs_x a_placeOf k < x' + 2 ^ t then 0 else 1) + (if rs_y a_placeOf k < y' + 2 ^ t then 0 else 2)) = j at hin2 hj
        obtain ⟨x2, y2, hN3⟩ := rs_q4_n hc4 hj
        refine ih X Y S Pt Ct F N nq (c + j) x2 y2 t (by omega) hN3 ((rs_qi_N hN3).mp hin2) ?_ hT hD hL h0
        by_cases w : Pt (c + j) = -1
        · exact Or.inl ⟨w, by omega, by omega⟩
        · exact Or.inr ⟨w, by omega, by omega⟩
end
def rs_ins (p : Int32) (o : Nat → Int32) (i k : Nat) : Prop := rs_H p k ∧ ∃ j, j < i ∧ o j = nI k
section
variable {f_present f_size f_lowX f_lowY f_highX f_highY f_found f_nearX f_nearY f_best f_bestSquare f_waiting f_levels f_boxes : Int32} {a_placeOf a_order a_waitA a_waitB a_waitC a_waitD a_lists a_fromLeft a_boxLowX a_boxLowY a_boxHighX a_boxHighY a_boxFirst a_boxParts a_boxOfPoints a_zeros a_bottom a_sorted a_cellFirst a_heapPoint a_heapSplit : Nat → Int32}
theorem rs_bq_out {post : SX → Prop} {sz : Nat} (hG : rs_G f_present a_placeOf) (hA : rs_Al f_present sz a_order)
    (hp : ∀ X Y S Pt Ct F N nq, nq ≤ 704 → 0 < nq → rs_qT X Y S Pt nq → rs_qL X Y S Pt a_placeOf Ct F N (rs_H f_present) nq → rs_qN X Y S 0 0 0 6 → post (f_present, nI sz, f_lowX, f_lowY, f_highX, f_highY, f_found, f_nearX, f_nearY, f_best, f_bestSquare, f_waiting, nI nq, f_levels, f_boxes, a_placeOf, a_order, a_waitA, a_waitB, a_waitC, a_waitD, X, Y, S, Pt, Ct, F, N, a_lists, a_fromLeft, a_boxLowX, a_boxLowY, a_boxHighX, a_boxHighY, a_boxFirst, a_boxParts, a_boxOfPoints, a_zeros, a_bottom, a_sorted, a_cellFirst, a_heapPoint, a_heapSplit)) :
    ∀ (n i nq : Nat) (X Y S Pt Ct F N : Nat → Int32), sz < n + i → i ≤ sz → nq ≤ 1 + 24 * i → 0 < nq → rs_qT X Y S Pt nq → rs_qD X Y S Pt a_placeOf nq → rs_qL X Y S Pt a_placeOf Ct F N (rs_ins f_present a_order i) nq → rs_qN X Y S 0 0 0 6 → (wX_buildQuads_16 post n (nI i) f_present (nI sz) f_lowX f_lowY f_highX f_highY f_found f_nearX f_nearY f_best f_bestSquare f_waiting (nI nq) f_levels f_boxes a_placeOf a_order a_waitA a_waitB a_waitC a_waitD X Y S Pt Ct F N a_lists a_fromLeft a_boxLowX a_boxLowY a_boxHighX a_boxHighY a_boxFirst a_boxParts a_boxOfPoints a_zeros a_bottom a_sorted a_cellFirst a_heapPoint a_heapSplit) := by
  obtain ⟨hz, a1, a2, a3⟩ := hA
  intro n
  induction n with
  | zero => intro i nq X Y S Pt Ct F N h1 h2; omega
  | succ n ih =>
    intro i nq X Y S Pt Ct F N h1 h2 h3 h4 hT hD hL h0
    refine pk_le sz i (fun z => ?_) (fun z => ?_)
    · refine hp X Y S Pt Ct F N nq (by omega) h4 hT (rs_qL_ins hL (fun k => ⟨fun w => w.1, fun w => ⟨w, ?_⟩⟩)) h0
      obtain ⟨j, j1, j2⟩ := a2 k w
      exact ⟨j, by omega, j2⟩
    · obtain ⟨k, hk, ek⟩ := a1 i z
      have h28 := hk.1
      refine And.intro (vp_in_nI (by omega) (by decide)) (nm_r (e' := nI k) (by rw [nI_clamp (by omega)]; exact ek) (Exists.intro 16 ?_))
      refine rs_bq_in (Bd := 25 + 24 * i) (ins := rs_ins f_present a_order i) hG (fun k h => h.1) (by omega) hk ?_ (fun X Y S Pt Ct F N nq b1 b2 b3 b4 b5 b6 => ?_) 16 X Y S Pt Ct F N nq 0 0 0 6 h4 h0 ?_ ?_ hT hD hL h0
      · rintro ⟨_, j, j1, j2⟩
        have := a3 j i (by omega) z (by rw [j2, ek])
        omega
      · refine ih (i + 1) nq X Y S Pt Ct F N (by omega) (by omega) (by omega) b5 b2 b3 (rs_qL_ins b4 (fun j => ?_)) b6
        constructor
        · rintro (⟨w1, t, w2, w3⟩ | w)
          · exact ⟨w1, t, by omega, w3⟩
          · rw [w]; exact ⟨hk, i, by omega, ek⟩
        · rintro ⟨w1, t, w2, w3⟩
          rcases Nat.lt_or_ge t i with v | v
          · exact Or.inl ⟨w1, t, v, w3⟩
          · have et : t = i := by omega
            rw [et, ek] at w3
            have hj := w1.1
            exact Or.inr ((nI_eq (by omega) (by omega)).mp w3).symm
      · have hx := rs_xlt a_placeOf k
        have hy := rs_ylt (hG k hk)
        exact ⟨Nat.zero_le _, by show rs_x a_placeOf k < 0 + 2 ^ 6; omega, Nat.zero_le _, by show rs_y a_placeOf k < 0 + 2 ^ 6; omega⟩
      · by_cases w : Pt 0 = -1
        · exact Or.inl ⟨w, by omega, by omega⟩
        · exact Or.inr ⟨w, by omega, by omega⟩
theorem rs_buildQuads {post : SX → Prop} {sz : Nat} {f_quads : Int32} {a_quadX a_quadY a_quadSide a_quadPart a_quadCount a_quadFirst a_nextPoint : Nat → Int32} (hG : rs_G f_present a_placeOf) (hA : rs_Al f_present sz a_order)
    (hp : ∀ X Y S Pt Ct F N nq, nq ≤ 704 → 0 < nq → rs_qT X Y S Pt nq → rs_qL X Y S Pt a_placeOf Ct F N (rs_H f_present) nq → rs_qN X Y S 0 0 0 6 → post (f_present, nI sz, f_lowX, f_lowY, f_highX, f_highY, f_found, f_nearX, f_nearY, f_best, f_bestSquare, f_waiting, nI nq, f_levels, f_boxes, a_placeOf, a_order, a_waitA, a_waitB, a_waitC, a_waitD, X, Y, S, Pt, Ct, F, N, a_lists, a_fromLeft, a_boxLowX, a_boxLowY, a_boxHighX, a_boxHighY, a_boxFirst, a_boxParts, a_boxOfPoints, a_zeros, a_bottom, a_sorted, a_cellFirst, a_heapPoint, a_heapSplit)) : wpX_buildQuads post (f_present, nI sz, f_lowX, f_lowY, f_highX, f_highY, f_found, f_nearX, f_nearY, f_best, f_bestSquare, f_waiting, f_quads, f_levels, f_boxes, a_placeOf, a_order, a_waitA, a_waitB, a_waitC, a_waitD, a_quadX, a_quadY, a_quadSide, a_quadPart, a_quadCount, a_quadFirst, a_nextPoint, a_lists, a_fromLeft, a_boxLowX, a_boxLowY, a_boxHighX, a_boxHighY, a_boxFirst, a_boxParts, a_boxOfPoints, a_zeros, a_bottom, a_sorted, a_cellFirst, a_heapPoint, a_heapSplit) := by
  unfold wpX_buildQuads
  refine rs_newQuad (nq := 0) (x := 0) (y := 0) (w := 64) (by decide) (by decide) (by decide) (by decide) rfl rfl rfl (Exists.intro (sz + 1) ?_)
  have h0 : rs_qN (upd a_quadX 0 (nI 0)) (upd a_quadY 0 (nI 0)) (upd a_quadSide 0 (nI 64)) 0 0 0 6 := ⟨pk_us, pk_us, pk_us, by decide, by decide, by decide⟩
  refine rs_bq_out hG hA hp (sz + 1) 0 1 _ _ _ _ _ _ _ (by omega) (by omega) (by omega) (by omega) (fun q hq => ?_) (fun q q' k hq hq' _ _ _ _ => by omega) (fun q hq _ => ?_) h0
  · have e : q = 0 := by omega
    subst e
    exact ⟨0, 0, 6, h0, Or.inl pk_us⟩
  · have e : q = 0 := by omega
    subst e
    refine ⟨[], by show upd a_quadFirst 0 (-1) 0 = -1; exact pk_us, List.nodup_nil, by show upd a_quadCount 0 0 0 = nI 0; exact pk_us, fun k => ⟨fun z => (by cases z), ?_⟩⟩
    rintro ⟨⟨_, j, j1, _⟩, _⟩
    omega
end
end
section
/-! quarters: the search, the nearest, around -/
theorem rs_2inj {s t : Nat} (hs : s ≤ 6) (ht : t ≤ 6) (h : nI (2 ^ s) = nI (2 ^ t)) : s = t := by
  have h1 := rs_2s s hs
  have h2 := rs_2s t ht
  exact (Nat.pow_right_inj (by decide)).mp ((nI_eq (by omega) (by omega)).mp h)
def rs_qp (S : Nat → Int32) : List rs_I → Prop
  | [] => True
  | it :: L => (∃ s, s ≤ 6 ∧ S it.1 = nI (2 ^ s) ∧ L.length + 3 * s ≤ 18) ∧ rs_qp S L
def rs_qw (S : Nat → Int32) (it : rs_I) : Nat := 2 * ((S it.1).toNatClampNeg * (S it.1).toNatClampNeg) - 1
def rs_qc (c : Nat) (L : List rs_I) : List rs_I := (c + 3, 0, 0, 0) :: (c + 2, 0, 0, 0) :: (c + 1, 0, 0, 0) :: (c, 0, 0, 0) :: L
theorem rs_qw_N {X Y S : Nat → Int32} {q x y s : Nat} (h : rs_qN X Y S q x y s) (b t d : Nat) : rs_qw S (q, b, t, d) = 2 * (2 ^ s * 2 ^ s) - 1 := by
  have := rs_2s s h.2.2.2.1
  unfold rs_qw
  show 2 * ((S q).toNatClampNeg * (S q).toNatClampNeg) - 1 = _
  rw [h.2.2.1, nI_clamp (by omega)]
theorem rs_qw_c {X Y S : Nat → Int32} {q c x y x' y' s b t d : Nat} {L : List rs_I} (h : rs_qN X Y S q x y (s + 1)) (h4 : rs_q4 X Y S c x' y' s) : rs_Ms (rs_qw S) (rs_qc c L) < rs_Ms (rs_qw S) ((q, b, t, d) :: L) := by
  have hb := rs_2s s h4.1.2.2.2.1
  unfold rs_qc
  simp only [rs_Ms]
  rw [rs_qw_N h, rs_qw_N h4.1, rs_qw_N h4.2.1, rs_qw_N h4.2.2.1, rs_qw_N h4.2.2.2]
  have h2 : 2 ^ (s + 1) * 2 ^ (s + 1) = 4 * (2 ^ s * 2 ^ s) := by rw [Nat.pow_succ]; grind
  have h3 := Nat.mul_le_mul hb.1 hb.1
  rw [h2]
  omega
theorem rs_qp_c {X Y S : Nat → Int32} {q c x y x' y' s b t d : Nat} {L : List rs_I} (h : rs_qN X Y S q x y (s + 1)) (h4 : rs_q4 X Y S c x' y' s) (hp : rs_qp S ((q, b, t, d) :: L)) : rs_qp S (rs_qc c L) := by
  obtain ⟨⟨s0, p1, p2, p3⟩, p4⟩ := hp
  have e : s + 1 = s0 := rs_2inj h.2.2.2.1 p1 (by rw [← h.2.2.1]; exact p2)
  have h6 := h4.1.2.2.2.1
  exact ⟨⟨s, h6, h4.2.2.2.2.2.1, by simp only [List.length_cons]; omega⟩, ⟨s, h6, h4.2.2.1.2.2.1, by simp only [List.length_cons]; omega⟩, ⟨s, h6, h4.2.1.2.2.1, by simp only [List.length_cons]; omega⟩, ⟨s, h6, h4.1.2.2.1, by omega⟩, p4⟩
theorem rs_qIv_c {p : Int32} {X Y S P : Nat → Int32} {q c x y s b t d nq : Nat} {L : List rs_I} {Dn : Nat → Prop} (h : rs_qN X Y S q x y (s + 1)) (h4 : rs_q4 X Y S c x y s) (hc : c + 3 < nq) (hI : rs_Iv p (fun it => it.1 < nq) (fun it k => rs_qi X Y S P it.1 k) Dn ((q, b, t, d) :: L)) : rs_Iv p (fun it => it.1 < nq) (fun it k => rs_qi X Y S P it.1 k) Dn (rs_qc c L) := by
  refine rs_Iv_sub hI (fun _ z => z) (fun it hit => ?_) (fun it hit k hk z => ?_)
  · unfold rs_qc at hit
    rcases List.mem_cons.mp hit with e | hit
    · rw [e]; exact hc
    · rcases List.mem_cons.mp hit with e | hit
      · rw [e]; show c + 2 < nq; omega
      · rcases List.mem_cons.mp hit with e | hit
        · rw [e]; show c + 1 < nq; omega
        · rcases List.mem_cons.mp hit with e | hit
          · rw [e]; show c < nq; omega
          · exact hI.1 it (List.mem_cons_of_mem _ hit)
  · refine Or.inr ?_
    unfold rs_qc
    rcases List.mem_cons.mp hit with e | e
    · subst e
      have z : rs_qi X Y S P q k := z
      have w := rs_q4_in (P := P) (by have := h.2.2.2.1; omega) h4 ((rs_qi_N h).mp z)
      have hj : ((if rs_x P k < x + 2 ^ s then 0 else 1) + (if rs_y P k < y + 2 ^ s then 0 else 2)) < 4 := by split <;> split <;> omega
      generalize ((if rs_x P k < x + 2 ^ s then 0 else 1) + (if rs_y P k < y + 2 ^ s then 0 else 2)) = j at w hj
      rcases (show j = 0 ∨ j = 1 ∨ j = 2 ∨ j = 3 by omega) with z | z | z | z <;> subst z
      · exact ⟨(c, 0, 0, 0), by simp, w⟩
      · exact ⟨(c + 1, 0, 0, 0), by simp, w⟩
      · exact ⟨(c + 2, 0, 0, 0), by simp, w⟩
      · exact ⟨(c + 3, 0, 0, 0), by simp, w⟩
    · exact ⟨it, by simp [e], z⟩
section
variable {f_present f_size f_lowX f_lowY f_highX f_highY f_found f_nearX f_nearY f_best f_bestSquare f_waiting f_quads f_levels f_boxes : Int32} {a_placeOf a_order a_waitA a_waitB a_waitC a_waitD a_quadX a_quadY a_quadSide a_quadPart a_quadCount a_quadFirst a_nextPoint a_lists a_fromLeft a_boxLowX a_boxLowY a_boxHighX a_boxHighY a_boxFirst a_boxParts a_boxOfPoints a_zeros a_bottom a_sorted a_cellFirst a_heapPoint a_heapSplit : Nat → Int32}
theorem rs_pushParts {post : SX → Prop} {q c : Nat} {L : List rs_I} {A B C D : Nat → Int32} (hq : q < 704) (hP : a_quadPart q = nI c) (hc : c + 3 < 704) (hS : rs_St A B C D L) (hL : L.length + 4 ≤ 128)
    (hp : ∀ A B C D, rs_St A B C D (rs_qc c L) → post (f_present, f_size, f_lowX, f_lowY, f_highX, f_highY, f_found, f_nearX, f_nearY, f_best, f_bestSquare, nI (rs_qc c L).length, f_quads, f_levels, f_boxes, a_placeOf, a_order, A, B, C, D, a_quadX, a_quadY, a_quadSide, a_quadPart, a_quadCount, a_quadFirst, a_nextPoint, a_lists, a_fromLeft, a_boxLowX, a_boxLowY, a_boxHighX, a_boxHighY, a_boxFirst, a_boxParts, a_boxOfPoints, a_zeros, a_bottom, a_sorted, a_cellFirst, a_heapPoint, a_heapSplit)) : wpX_pushParts post (f_present, f_size, f_lowX, f_lowY, f_highX, f_highY, f_found, f_nearX, f_nearY, f_best, f_bestSquare, nI L.length, f_quads, f_levels, f_boxes, a_placeOf, a_order, A, B, C, D, a_quadX, a_quadY, a_quadSide, a_quadPart, a_quadCount, a_quadFirst, a_nextPoint, a_lists, a_fromLeft, a_boxLowX, a_boxLowY, a_boxHighX, a_boxHighY, a_boxFirst, a_boxParts, a_boxOfPoints, a_zeros, a_bottom, a_sorted, a_cellFirst, a_heapPoint, a_heapSplit) (nI q) := by
  have iq : vp_in (nI q) 704 := vp_in_nI hq (by decide)
  have e : (nI q).toNatClampNeg = q := nI_clamp (by omega)
  unfold wpX_pushParts
  refine Exists.intro 5 (br_f (by decide) (And.intro iq ?_))
  rw [e, hP]
  refine rs_push (L := L) c 0 0 0 hS (by omega) (by omega) (by omega) (by omega) (nI_add c 0) rfl rfl rfl (fun A B C D w => nm_r (e' := 1) (by decide) (br_f (by decide) (And.intro iq ?_)))
  rw [e, hP]
  refine rs_push (L := (c, 0, 0, 0) :: L) (c + 1) 0 0 0 w (by simp only [List.length_cons]; omega) (by omega) (by omega) (by omega) (nI_add c 1) rfl rfl rfl (fun A B C D w => nm_r (e' := 2) (by decide) (br_f (by decide) (And.intro iq ?_)))
  rw [e, hP]
  refine rs_push (L := (c + 1, 0, 0, 0) :: (c, 0, 0, 0) :: L) (c + 2) 0 0 0 w (by simp only [List.length_cons]; omega) (by omega) (by omega) (by omega) (nI_add c 2) rfl rfl rfl (fun A B C D w => nm_r (e' := 3) (by decide) (br_f (by decide) (And.intro iq ?_)))
  rw [e, hP]
  refine rs_push (L := (c + 2, 0, 0, 0) :: (c + 1, 0, 0, 0) :: (c, 0, 0, 0) :: L) (c + 3) 0 0 0 w (by simp only [List.length_cons]; omega) (by omega) (by omega) (by omega) (nI_add c 3) rfl rfl rfl (fun A B C D w => nm_r (e' := 4) (by decide) (br_t (by decide) ?_))
  exact hp A B C D w
theorem rs_sqQuad {post : Int32 → Prop} {q x y s nx ny : Nat} (hq : q < 704) (hnx : nx < 64) (hny : ny < 64) (hN : rs_qN a_quadX a_quadY a_quadSide q x y s) (hp : post (nI (rs_bq x y (x + (2 ^ s - 1)) (y + (2 ^ s - 1)) nx ny))) : wpX_squareToQuad post (f_present, f_size, f_lowX, f_lowY, f_highX, f_highY, f_found, nI nx, nI ny, f_best, f_bestSquare, f_waiting, f_quads, f_levels, f_boxes, a_placeOf, a_order, a_waitA, a_waitB, a_waitC, a_waitD, a_quadX, a_quadY, a_quadSide, a_quadPart, a_quadCount, a_quadFirst, a_nextPoint, a_lists, a_fromLeft, a_boxLowX, a_boxLowY, a_boxHighX, a_boxHighY, a_boxFirst, a_boxParts, a_boxOfPoints, a_zeros, a_bottom, a_sorted, a_cellFirst, a_heapPoint, a_heapSplit) (nI q) := by
  have iq : vp_in (nI q) 704 := vp_in_nI hq (by decide)
  have e : (nI q).toNatClampNeg = q := nI_clamp (by omega)
  obtain ⟨n1, n2, n3, n4, n5, n6⟩ := hN
  have hb := rs_2s s n4
  unfold wpX_squareToQuad
  refine And.intro iq (nm_r (e' := nI (2 ^ s - 1)) (by rw [e, n3]; exact pk_sub (b := 1) hb.1) (And.intro iq (And.intro iq (And.intro iq (And.intro iq ?_)))))
  rw [e, n1, n2, nI_add, nI_add]
  exact rs_sqBox (by omega) (by omega) (by omega) (by omega) hnx hny hp
end
section
variable {f_present f_size f_lowX f_lowY f_highX f_highY f_nearX f_nearY f_best f_bestSquare f_levels f_boxes : Int32} {a_placeOf a_order a_lists a_fromLeft a_boxLowX a_boxLowY a_boxHighX a_boxHighY a_boxFirst a_boxParts a_boxOfPoints a_zeros a_bottom a_sorted a_cellFirst a_heapPoint a_heapSplit : Nat → Int32} {X Y S Pt Ct F N : Nat → Int32}
theorem rs_sq_list {post : SX → Prop} {J17 : Int32 → Int32 → Int32 → Int32 → Int32 → Int32 → Int32 → Int32 → Int32 → Int32 → Int32 → Int32 → Int32 → Int32 → Int32 → (Nat → Int32) → (Nat → Int32) → (Nat → Int32) → (Nat → Int32) → (Nat → Int32) → (Nat → Int32) → (Nat → Int32) → (Nat → Int32) → (Nat → Int32) → (Nat → Int32) → (Nat → Int32) → (Nat → Int32) → (Nat → Int32) → (Nat → Int32) → (Nat → Int32) → (Nat → Int32) → (Nat → Int32) → (Nat → Int32) → (Nat → Int32) → (Nat → Int32) → (Nat → Int32) → (Nat → Int32) → (Nat → Int32) → (Nat → Int32) → (Nat → Int32) → (Nat → Int32) → (Nat → Int32) → (Nat → Int32) → Prop} {f_waiting : Int32} {a_waitA a_waitB a_waitC a_waitD : Nat → Int32} {nq lx ly hx hy : Nat} (hlx : lx < 64) (hly : ly < 64) (hhx : hx < 64) (hhy : hy < 64) (hG : rs_G f_present a_placeOf) :
    ∀ (l : List Nat) (n : Nat) (v f : Int32), l.length < n → rs_Ch N l v → (∀ k, k ∈ l → rs_H f_present k) → rs_Sn f_present (rs_Q a_placeOf lx ly hx hy) f →
    (∀ f', rs_Sn f_present (rs_Q a_placeOf lx ly hx hy) f' → rs_Le f f' → (∀ k, k ∈ l → rs_Fi (rs_Q a_placeOf lx ly hx hy) f' k) → J17 f_present f_size (nI lx) (nI ly) (nI hx) (nI hy) f' f_nearX f_nearY f_best f_bestSquare f_waiting (nI nq) f_levels f_boxes a_placeOf a_order a_waitA a_waitB a_waitC a_waitD X Y S Pt Ct F N a_lists a_fromLeft a_boxLowX a_boxLowY a_boxHighX a_boxHighY a_boxFirst a_boxParts a_boxOfPoints a_zeros a_bottom a_sorted a_cellFirst a_heapPoint a_heapSplit) → (wX_searchQuads_148 post J17 n v f_present f_size (nI lx) (nI ly) (nI hx) (nI hy) f f_nearX f_nearY f_best f_bestSquare f_waiting (nI nq) f_levels f_boxes a_placeOf a_order a_waitA a_waitB a_waitC a_waitD X Y S Pt Ct F N a_lists a_fromLeft a_boxLowX a_boxLowY a_boxHighX a_boxHighY a_boxFirst a_boxParts a_boxOfPoints a_zeros a_bottom a_sorted a_cellFirst a_heapPoint a_heapSplit) := by
  intro l
  induction l with
  | nil =>
    intro n v f hn hc _ hF hJ
    obtain ⟨m, rfl⟩ : ∃ m, n = m + 1 := ⟨n - 1, by rw [List.length_nil] at hn; omega⟩
    have e : v = -1 := hc
    subst e
    exact br_t (by decide) (hJ f hF (rs_Le_r f) (fun k z => by cases z))
  | cons k l ih =>
    intro n v f hn hc hl hF hJ
    obtain ⟨m, rfl⟩ : ∃ m, n = m + 1 := ⟨n - 1, by rw [List.length_cons] at hn; omega⟩
    obtain ⟨e, hk, hc⟩ := hc
    subst e
    refine br_f (nI_pos (by omega)) (rs_test hlx hly hhx hhy hG (hl k List.mem_cons_self) hF (fun f' q1 q2 q3 => ?_))
    refine And.intro (vp_in_nI hk (by decide)) (nm_r (e' := N k) (by rw [nI_clamp (by omega)]) (ih m _ f' (by rw [List.length_cons] at hn; omega) hc (fun k z => hl k (List.mem_cons_of_mem _ z)) q1 (fun f'' r1 r2 r3 => hJ f'' r1 (rs_Le_t q2 r2) (fun j hj => ?_))))
    rcases List.mem_cons.mp hj with e | e
    · rw [e]; exact rs_Fi_m r2 q3
    · exact r3 j e
theorem rs_sq_loop {post : SX → Prop} {nq lx ly hx hy : Nat} (hlx : lx < 64) (hly : ly < 64) (hhx : hx < 64) (hhy : hy < 64) (hG : rs_G f_present a_placeOf) (hnq : nq ≤ 704) (hT : rs_qT X Y S Pt nq) (hL : rs_qL X Y S Pt a_placeOf Ct F N (rs_H f_present) nq)
    (hp : ∀ f A B C D, rs_Sn f_present (rs_Q a_placeOf lx ly hx hy) f → (∀ k, rs_H f_present k → rs_Fi (rs_Q a_placeOf lx ly hx hy) f k) → post (f_present, f_size, nI lx, nI ly, nI hx, nI hy, f, f_nearX, f_nearY, f_best, f_bestSquare, nI 0, nI nq, f_levels, f_boxes, a_placeOf, a_order, A, B, C, D, X, Y, S, Pt, Ct, F, N, a_lists, a_fromLeft, a_boxLowX, a_boxLowY, a_boxHighX, a_boxHighY, a_boxFirst, a_boxParts, a_boxOfPoints, a_zeros, a_bottom, a_sorted, a_cellFirst, a_heapPoint, a_heapSplit)) :
    ∀ (n : Nat) (L : List rs_I) (f : Int32) (A B C D : Nat → Int32), rs_Ms (rs_qw S) L < n → rs_qp S L → rs_St A B C D L → rs_Sn f_present (rs_Q a_placeOf lx ly hx hy) f → rs_Iv f_present (fun it => it.1 < nq) (fun it k => rs_qi X Y S a_placeOf it.1 k) (rs_Fi (rs_Q a_placeOf lx ly hx hy) f) L → (wX_searchQuads_17 post n f_present f_size (nI lx) (nI ly) (nI hx) (nI hy) f f_nearX f_nearY f_best f_bestSquare (nI L.length) (nI nq) f_levels f_boxes a_placeOf a_order A B C D X Y S Pt Ct F N a_lists a_fromLeft a_boxLowX a_boxLowY a_boxHighX a_boxHighY a_boxFirst a_boxParts a_boxOfPoints a_zeros a_bottom a_sorted a_cellFirst a_heapPoint a_heapSplit) := by
  intro n
  induction n with
  | zero => intro L f A B C D h; omega
  | succ n ih =>
    intro L f A B C D hn hP hS hF hI
    cases L with
    | nil => exact br_t (by decide) (hp f A B C D hF (rs_Iv_end hI))
    | cons it L =>
      obtain ⟨q, b, t, d⟩ := it
      have hP' := hP
      obtain ⟨⟨s0, p1, p2, p3⟩, p4⟩ := hP
      have hq : q < nq := hI.1 (q, b, t, d) List.mem_cons_self
      obtain ⟨x, y, s, hN, hc⟩ := hT q hq
      have i : vp_in (nI L.length) 128 := vp_in_nI (by omega) (by decide)
      have e : (nI L.length).toNatClampNeg = L.length := nI_clamp (by omega)
      have iq : vp_in (nI q) 704 := vp_in_nI (by omega) (by decide)
      have eq : (nI q).toNatClampNeg = q := nI_clamp (by omega)
      obtain ⟨s1, s2, s3, s4, s5⟩ := hS
      have hN' := hN
      obtain ⟨n1, n2, n3, n4, n5, n6⟩ := hN
      have hb := rs_2s s n4
      have wpos : 1 ≤ rs_qw S (q, b, t, d) := by
        rw [rs_qw_N hN']
        have := Nat.mul_le_mul hb.1 hb.1
        omega
      have drop : (∀ k, rs_H f_present k → rs_qin x y (2 ^ s) a_placeOf k → rs_Fi (rs_Q a_placeOf lx ly hx hy) f k) → (wX_searchQuads_17 post n f_present f_size (nI lx) (nI ly) (nI hx) (nI hy) f f_nearX f_nearY f_best f_bestSquare (nI L.length) (nI nq) f_levels f_boxes a_placeOf a_order A B C D X Y S Pt Ct F N a_lists a_fromLeft a_boxLowX a_boxLowY a_boxHighX a_boxHighY a_boxFirst a_boxParts a_boxOfPoints a_zeros a_bottom a_sorted a_cellFirst a_heapPoint a_heapSplit) := by
        intro hd
        exact ih L f A B C D (by simp only [rs_Ms] at hn; omega) p4 s5 hF (rs_Iv_drop hI (fun _ h => h) (fun k hk z => hd k hk ((rs_qi_N hN').mp z)))
      have no : (∀ k, rs_H f_present k → rs_qin x y (2 ^ s) a_placeOf k → ¬ rs_Q a_placeOf lx ly hx hy k) → (wX_searchQuads_113 post (wX_searchQuads_17 post n) (nI q) f_present f_size (nI lx) (nI ly) (nI hx) (nI hy) f f_nearX f_nearY f_best f_bestSquare (nI L.length) (nI nq) f_levels f_boxes a_placeOf a_order A B C D X Y S Pt Ct F N a_lists a_fromLeft a_boxLowX a_boxLowY a_boxHighX a_boxHighY a_boxFirst a_boxParts a_boxOfPoints a_zeros a_bottom a_sorted a_cellFirst a_heapPoint a_heapSplit) := by
        intro hd
        unfold wX_searchQuads_113 wX_searchQuads_114
        refine br_t rfl ?_
        unfold wX_searchQuads_136
        exact br_t rfl (drop (fun k hk z w => absurd w (hd k hk z)))
      have e2 : nI (2 ^ s) - 1 = nI (2 ^ s - 1) := pk_sub (b := 1) hb.1
      refine br_f (nI_nle (by rw [List.length_cons]; omega) (by rw [List.length_cons]; omega)) (nm_r (nI_pred L.length) ⟨i, nm_r (e' := nI q) (rs_at (by omega) s1) ⟨iq, nm_r (e' := nI (2 ^ s - 1)) (by rw [eq, n3]; exact e2) ⟨iq, ?_⟩⟩⟩)
      rw [eq, n1, n2, nI_add, nI_add]
      refine pk_lt hx x (fun z => no (fun k _ w v => by have := w.1; have := v.2.1; omega)) fun z1 => ⟨iq, pk_lt (x + (2 ^ s - 1)) lx (fun z => no (fun k _ w v => by have := w.2.1; have := v.1; omega)) fun z2 => ⟨iq, pk_lt hy y (fun z => no (fun k _ w v => by have := w.2.2.1; have := v.2.2.2; omega)) fun z3 => ⟨iq, pk_lt (y + (2 ^ s - 1)) ly (fun z => no (fun k _ w v => by have := w.2.2.2; have := v.2.2.1; omega)) fun z4 => ?_⟩⟩⟩
      unfold wX_searchQuads_114
      refine br_f (by decide) ⟨iq, ?_⟩
      rw [eq]
      rcases hc with hc | ⟨c, s', hc1, hc2, hc3, hc4⟩
      · rw [hc]
        refine br_t (by decide) ?_
        unfold wX_searchQuads_136
        obtain ⟨l, l1, l2, l3, l4⟩ := hL q hq hc
        refine br_f (by decide) ⟨iq, nm_r (e' := F q) (by rw [eq]) (Exists.intro (l.length + 1) (rs_sq_list hlx hly hhx hhy hG l (l.length + 1) (F q) f (by omega) l1 (fun k hk => ((l4 k).mp hk).1) hF (fun f' q1 q2 q3 => ?_)))⟩
        exact ih L f' A B C D (by simp only [rs_Ms] at hn; omega) p4 s5 q1 (rs_Iv_drop hI (fun k h => rs_Fi_m q2 h) (fun k hk z => q3 k ((l4 k).mpr ⟨hk, z⟩)))
      · rw [hc1]
        subst hc3
        refine br_f (nI_pos (by omega)) (rs_pushParts (c := c) (by omega) hc1 (by omega) s5 (by omega) (fun A' B' C' D' w => ?_))
        have ms := rs_qw_c (b := b) (t := t) (d := d) (L := L) hN' hc4
        exact ih (rs_qc c L) f A' B' C' D' (by omega) (rs_qp_c hN' hc4 hP') w hF (rs_qIv_c hN' hc4 hc2 hI)
end
section
variable {f_present f_size f_lowX f_lowY f_highX f_highY f_found f_nearX f_nearY f_best f_bestSquare f_waiting f_quads f_levels f_boxes : Int32} {a_placeOf a_order a_waitA a_waitB a_waitC a_waitD a_quadX a_quadY a_quadSide a_quadPart a_quadCount a_quadFirst a_nextPoint a_lists a_fromLeft a_boxLowX a_boxLowY a_boxHighX a_boxHighY a_boxFirst a_boxParts a_boxOfPoints a_zeros a_bottom a_sorted a_cellFirst a_heapPoint a_heapSplit : Nat → Int32}
theorem rs_searchQuads {post : SX → Prop} {lx ly hx hy sz : Nat} (hlx : lx < 64) (hly : ly < 64) (hhx : hx < 64) (hhy : hy < 64) (hG : rs_G f_present a_placeOf) (hA : rs_Al f_present sz a_order)
    (hp : ∀ f A B C D X Y S Pt Ct F N nq, rs_Sn f_present (rs_Q a_placeOf lx ly hx hy) f → (∀ k, rs_H f_present k → rs_Fi (rs_Q a_placeOf lx ly hx hy) f k) → post (f_present, nI sz, nI lx, nI ly, nI hx, nI hy, f, f_nearX, f_nearY, f_best, f_bestSquare, nI 0, nI nq, f_levels, f_boxes, a_placeOf, a_order, A, B, C, D, X, Y, S, Pt, Ct, F, N, a_lists, a_fromLeft, a_boxLowX, a_boxLowY, a_boxHighX, a_boxHighY, a_boxFirst, a_boxParts, a_boxOfPoints, a_zeros, a_bottom, a_sorted, a_cellFirst, a_heapPoint, a_heapSplit)) : wpX_searchQuads post (f_present, nI sz, nI lx, nI ly, nI hx, nI hy, 0, f_nearX, f_nearY, f_best, f_bestSquare, f_waiting, f_quads, f_levels, f_boxes, a_placeOf, a_order, a_waitA, a_waitB, a_waitC, a_waitD, a_quadX, a_quadY, a_quadSide, a_quadPart, a_quadCount, a_quadFirst, a_nextPoint, a_lists, a_fromLeft, a_boxLowX, a_boxLowY, a_boxHighX, a_boxHighY, a_boxFirst, a_boxParts, a_boxOfPoints, a_zeros, a_bottom, a_sorted, a_cellFirst, a_heapPoint, a_heapSplit) := by
  unfold wpX_searchQuads
  refine rs_buildQuads hG hA (fun X Y S Pt Ct F N nq h1 h2 h3 h4 h5 => ?_)
  refine rs_push (L := []) 0 0 0 0 trivial (by decide) (by omega) (by omega) (by omega) rfl rfl rfl rfl (fun A1 B1 C1 D1 w => Exists.intro 8192 ?_)
  refine rs_sq_loop (nq := nq) (f_size := nI sz) hlx hly hhx hhy hG h1 h3 h4 (fun f A B C D g1 g2 => hp f A B C D X Y S Pt Ct F N nq g1 g2) 8192 [(0, 0, 0, 0)] 0 A1 B1 C1 D1 (by simp only [rs_Ms]; rw [rs_qw_N h5]; decide) ⟨⟨6, by decide, h5.2.2.1, by decide⟩, trivial⟩ w rs_Sn_0 ⟨fun it hit => ?_, fun k hk => Or.inr ⟨(0, 0, 0, 0), List.mem_singleton.mpr rfl, ?_⟩⟩
  · rw [List.mem_singleton.mp hit]
    exact h2
  · have hx := rs_xlt a_placeOf k
    have hy := rs_ylt (hG k hk)
    exact (rs_qi_N h5).mpr ⟨Nat.zero_le _, by show rs_x a_placeOf k < 0 + 2 ^ 6; omega, Nat.zero_le _, by show rs_y a_placeOf k < 0 + 2 ^ 6; omega⟩
end
end
section
/-! quarters: the nearest, around -/
section
variable {f_present f_size f_lowX f_lowY f_highX f_highY f_found f_nearX f_nearY f_levels f_boxes : Int32} {a_placeOf a_order a_lists a_fromLeft a_boxLowX a_boxLowY a_boxHighX a_boxHighY a_boxFirst a_boxParts a_boxOfPoints a_zeros a_bottom a_sorted a_cellFirst a_heapPoint a_heapSplit : Nat → Int32} {X Y S Pt Ct F N : Nat → Int32}
theorem rs_nq_list {post : SX → Prop} {J17 : Int32 → Int32 → Int32 → Int32 → Int32 → Int32 → Int32 → Int32 → Int32 → Int32 → Int32 → Int32 → Int32 → Int32 → Int32 → (Nat → Int32) → (Nat → Int32) → (Nat → Int32) → (Nat → Int32) → (Nat → Int32) → (Nat → Int32) → (Nat → Int32) → (Nat → Int32) → (Nat → Int32) → (Nat → Int32) → (Nat → Int32) → (Nat → Int32) → (Nat → Int32) → (Nat → Int32) → (Nat → Int32) → (Nat → Int32) → (Nat → Int32) → (Nat → Int32) → (Nat → Int32) → (Nat → Int32) → (Nat → Int32) → (Nat → Int32) → (Nat → Int32) → (Nat → Int32) → (Nat → Int32) → (Nat → Int32) → (Nat → Int32) → (Nat → Int32) → Prop} {f_waiting : Int32} {a_waitA a_waitB a_waitC a_waitD : Nat → Int32} {nq nx ny : Nat} (hnx : nx < 64) (hny : ny < 64) (hG : rs_G f_present a_placeOf) :
    ∀ (l : List Nat) (n : Nat) (v u : Int32) (s : Nat), l.length < n → rs_Ch N l v → (∀ k, k ∈ l → rs_H f_present k) → rs_Nn f_present (rs_d a_placeOf nx ny) u s →
    (∀ u' s', rs_Nn f_present (rs_d a_placeOf nx ny) u' s' → rs_Nl (rs_d a_placeOf nx ny) u s u' s' → (∀ k, k ∈ l → rs_Nd (rs_d a_placeOf nx ny) u' s' k) → J17 f_present f_size f_lowX f_lowY f_highX f_highY f_found (nI nx) (nI ny) u' (nI s') f_waiting (nI nq) f_levels f_boxes a_placeOf a_order a_waitA a_waitB a_waitC a_waitD X Y S Pt Ct F N a_lists a_fromLeft a_boxLowX a_boxLowY a_boxHighX a_boxHighY a_boxFirst a_boxParts a_boxOfPoints a_zeros a_bottom a_sorted a_cellFirst a_heapPoint a_heapSplit) → (wX_nearInQuads_94 post J17 n v f_present f_size f_lowX f_lowY f_highX f_highY f_found (nI nx) (nI ny) u (nI s) f_waiting (nI nq) f_levels f_boxes a_placeOf a_order a_waitA a_waitB a_waitC a_waitD X Y S Pt Ct F N a_lists a_fromLeft a_boxLowX a_boxLowY a_boxHighX a_boxHighY a_boxFirst a_boxParts a_boxOfPoints a_zeros a_bottom a_sorted a_cellFirst a_heapPoint a_heapSplit) := by
  intro l
  induction l with
  | nil =>
    intro n v u s hn hc _ hF hJ
    obtain ⟨m, rfl⟩ : ∃ m, n = m + 1 := ⟨n - 1, by rw [List.length_nil] at hn; omega⟩
    have e : v = -1 := hc
    subst e
    exact br_t (by decide) (hJ u s hF (rs_Nl_r _ u s) (fun k z => by cases z))
  | cons k l ih =>
    intro n v u s hn hc hl hF hJ
    obtain ⟨m, rfl⟩ : ∃ m, n = m + 1 := ⟨n - 1, by rw [List.length_cons] at hn; omega⟩
    obtain ⟨e, hk, hc⟩ := hc
    subst e
    refine br_f (nI_pos (by omega)) (rs_tryNear hnx hny hG (hl k List.mem_cons_self) hF (fun u' s' q1 q2 q3 => ?_))
    refine And.intro (vp_in_nI hk (by decide)) (nm_r (e' := N k) (by rw [nI_clamp (by omega)]) (ih m _ u' s' (by rw [List.length_cons] at hn; omega) hc (fun k z => hl k (List.mem_cons_of_mem _ z)) q1 (fun u'' s'' r1 r2 r3 => hJ u'' s'' r1 (rs_Nl_t q2 r2) (fun j hj => ?_))))
    rcases List.mem_cons.mp hj with e | e
    · rw [e]; exact r2.2 k q3
    · exact r3 j e
theorem rs_nq_loop {post : SX → Prop} {nq nx ny : Nat} (hnx : nx < 64) (hny : ny < 64) (hG : rs_G f_present a_placeOf) (hnq : nq ≤ 704) (hT : rs_qT X Y S Pt nq) (hL : rs_qL X Y S Pt a_placeOf Ct F N (rs_H f_present) nq)
    (hp : ∀ u s A B C D, rs_Nn f_present (rs_d a_placeOf nx ny) u s → (∀ k, rs_H f_present k → rs_Nd (rs_d a_placeOf nx ny) u s k) → post (f_present, f_size, f_lowX, f_lowY, f_highX, f_highY, f_found, nI nx, nI ny, u, nI s, nI 0, nI nq, f_levels, f_boxes, a_placeOf, a_order, A, B, C, D, X, Y, S, Pt, Ct, F, N, a_lists, a_fromLeft, a_boxLowX, a_boxLowY, a_boxHighX, a_boxHighY, a_boxFirst, a_boxParts, a_boxOfPoints, a_zeros, a_bottom, a_sorted, a_cellFirst, a_heapPoint, a_heapSplit)) :
    ∀ (n : Nat) (L : List rs_I) (u : Int32) (s : Nat) (A B C D : Nat → Int32), rs_Ms (rs_qw S) L < n → rs_qp S L → rs_St A B C D L → rs_Nn f_present (rs_d a_placeOf nx ny) u s → rs_Iv f_present (fun it => it.1 < nq) (fun it k => rs_qi X Y S a_placeOf it.1 k) (rs_Nd (rs_d a_placeOf nx ny) u s) L → (wX_nearInQuads_17 post n f_present f_size f_lowX f_lowY f_highX f_highY f_found (nI nx) (nI ny) u (nI s) (nI L.length) (nI nq) f_levels f_boxes a_placeOf a_order A B C D X Y S Pt Ct F N a_lists a_fromLeft a_boxLowX a_boxLowY a_boxHighX a_boxHighY a_boxFirst a_boxParts a_boxOfPoints a_zeros a_bottom a_sorted a_cellFirst a_heapPoint a_heapSplit) := by
  intro n
  induction n with
  | zero => intro L u s A B C D h; omega
  | succ n ih =>
    intro L u s A B C D hn hP hS hF hI
    cases L with
    | nil => exact br_t (by decide) (hp u s A B C D hF (rs_Iv_end hI))
    | cons it L =>
      obtain ⟨q, b, t, d⟩ := it
      have hP' := hP
      obtain ⟨⟨s0, p1, p2, p3⟩, p4⟩ := hP
      have hq : q < nq := hI.1 (q, b, t, d) List.mem_cons_self
      obtain ⟨x, y, w, hN, hc⟩ := hT q hq
      have i : vp_in (nI L.length) 128 := vp_in_nI (by omega) (by decide)
      have e : (nI L.length).toNatClampNeg = L.length := nI_clamp (by omega)
      have iq : vp_in (nI q) 704 := vp_in_nI (by omega) (by decide)
      have eq : (nI q).toNatClampNeg = q := nI_clamp (by omega)
      obtain ⟨s1, s2, s3, s4, s5⟩ := hS
      have hb := rs_2s w hN.2.2.2.1
      have hxy : x + 2 ^ w ≤ 64 ∧ y + 2 ^ w ≤ 64 := hN.2.2.2.2
      have wpos : 1 ≤ rs_qw S (q, b, t, d) := by
        rw [rs_qw_N hN]
        have := Nat.mul_le_mul hb.1 hb.1
        omega
      have hsb := rs_Nn_b hG hnx hny hF
      have hbq := rs_bq_b (x0 := x) (y0 := y) (x1 := x + (2 ^ w - 1)) (y1 := y + (2 ^ w - 1)) (by omega) (by omega) hnx hny
      refine br_f (nI_nle (by rw [List.length_cons]; omega) (by rw [List.length_cons]; omega)) (nm_r (nI_pred L.length) ⟨i, nm_r (e' := nI q) (rs_at (by omega) s1) (rs_sqQuad (by omega) hnx hny hN ?_)⟩)
      refine pk_lt s (rs_bq x y (x + (2 ^ w - 1)) (y + (2 ^ w - 1)) nx ny) (fun z => ?_) (fun z => ?_)
      · unfold wX_nearInQuads_61
        refine br_t rfl ?_
        unfold wX_nearInQuads_83
        refine br_t rfl (ih L u s A B C D (by simp only [rs_Ms] at hn; omega) p4 s5 hF (rs_Iv_drop hI (fun _ h => h) (fun k hk v => Or.inl ?_)))
        obtain ⟨v1, v2, v3, v4⟩ := (rs_qi_N hN).mp v
        exact Nat.lt_of_lt_of_le z (rs_bq_le v1 (by omega) v3 (by omega))
      · unfold wX_nearInQuads_61
        refine br_f (by decide) ⟨iq, ?_⟩
        rw [eq]
        rcases hc with hc | ⟨c, s', hc1, hc2, hc3, hc4⟩
        · rw [hc]
          refine br_t (by decide) ?_
          unfold wX_nearInQuads_83
          obtain ⟨l, l1, l2, l3, l4⟩ := hL q hq hc
          refine br_f (by decide) ⟨iq, nm_r (e' := F q) (by rw [eq]) (Exists.intro (l.length + 1) (rs_nq_list hnx hny hG l (l.length + 1) (F q) u s (by omega) l1 (fun k hk => ((l4 k).mp hk).1) hF (fun u' s' q1 q2 q3 => ?_)))⟩
          exact ih L u' s' A B C D (by simp only [rs_Ms] at hn; omega) p4 s5 q1 (rs_Iv_drop hI (fun k h => q2.2 k h) (fun k hk z => q3 k ((l4 k).mpr ⟨hk, z⟩)))
        · rw [hc1]
          subst hc3
          refine br_f (nI_pos (by omega)) (rs_pushParts (c := c) (by omega) hc1 (by omega) s5 (by omega) (fun A' B' C' D' w => ?_))
          have ms := rs_qw_c (b := b) (t := t) (d := d) (L := L) hN hc4
          exact ih (rs_qc c L) u s A' B' C' D' (by omega) (rs_qp_c hN hc4 hP') w hF (rs_qIv_c hN hc4 hc2 hI)
end
section
variable {f_present f_size f_lowX f_lowY f_highX f_highY f_found f_nearX f_nearY f_best f_bestSquare f_waiting f_quads f_levels f_boxes : Int32} {a_placeOf a_order a_waitA a_waitB a_waitC a_waitD a_quadX a_quadY a_quadSide a_quadPart a_quadCount a_quadFirst a_nextPoint a_lists a_fromLeft a_boxLowX a_boxLowY a_boxHighX a_boxHighY a_boxFirst a_boxParts a_boxOfPoints a_zeros a_bottom a_sorted a_cellFirst a_heapPoint a_heapSplit : Nat → Int32}
theorem rs_nearInQuads {post : SX → Prop} {nx ny sz : Nat} (hnx : nx < 64) (hny : ny < 64) (hG : rs_G f_present a_placeOf) (hA : rs_Al f_present sz a_order)
    (hp : ∀ u s A B C D X Y S Pt Ct F N nq, rs_Nn f_present (rs_d a_placeOf nx ny) u s → (∀ k, rs_H f_present k → rs_Nd (rs_d a_placeOf nx ny) u s k) → post (f_present, nI sz, f_lowX, f_lowY, f_highX, f_highY, f_found, nI nx, nI ny, u, nI s, nI 0, nI nq, f_levels, f_boxes, a_placeOf, a_order, A, B, C, D, X, Y, S, Pt, Ct, F, N, a_lists, a_fromLeft, a_boxLowX, a_boxLowY, a_boxHighX, a_boxHighY, a_boxFirst, a_boxParts, a_boxOfPoints, a_zeros, a_bottom, a_sorted, a_cellFirst, a_heapPoint, a_heapSplit)) : wpX_nearInQuads post (f_present, nI sz, f_lowX, f_lowY, f_highX, f_highY, f_found, nI nx, nI ny, -1, 1048576, f_waiting, f_quads, f_levels, f_boxes, a_placeOf, a_order, a_waitA, a_waitB, a_waitC, a_waitD, a_quadX, a_quadY, a_quadSide, a_quadPart, a_quadCount, a_quadFirst, a_nextPoint, a_lists, a_fromLeft, a_boxLowX, a_boxLowY, a_boxHighX, a_boxHighY, a_boxFirst, a_boxParts, a_boxOfPoints, a_zeros, a_bottom, a_sorted, a_cellFirst, a_heapPoint, a_heapSplit) := by
  unfold wpX_nearInQuads
  refine rs_buildQuads hG hA (fun X Y S Pt Ct F N nq h1 h2 h3 h4 h5 => ?_)
  refine rs_push (L := []) 0 0 0 0 trivial (by decide) (by omega) (by omega) (by omega) rfl rfl rfl rfl (fun A1 B1 C1 D1 w => Exists.intro 8192 ?_)
  refine rs_nq_loop (nq := nq) (f_size := nI sz) hnx hny hG h1 h3 h4 (fun u s A B C D g1 g2 => hp u s A B C D X Y S Pt Ct F N nq g1 g2) 8192 [(0, 0, 0, 0)] (-1) 1048576 A1 B1 C1 D1 (by simp only [rs_Ms]; rw [rs_qw_N h5]; decide) ⟨⟨6, by decide, h5.2.2.1, by decide⟩, trivial⟩ w (Or.inl ⟨rfl, rfl⟩) ⟨fun it hit => ?_, fun k hk => Or.inr ⟨(0, 0, 0, 0), List.mem_singleton.mpr rfl, ?_⟩⟩
  · rw [List.mem_singleton.mp hit]
    exact h2
  · have hx := rs_xlt a_placeOf k
    have hy := rs_ylt (hG k hk)
    exact (rs_qi_N h5).mpr ⟨Nat.zero_le _, by show rs_x a_placeOf k < 0 + 2 ^ 6; omega, Nat.zero_le _, by show rs_y a_placeOf k < 0 + 2 ^ 6; omega⟩
end
/-- the set of those around -/
def rs_R (P : Nat → Int32) (nx ny : Nat) (r : Int32) (k : Nat) : Prop := ¬ r < nI (rs_d P nx ny k)
section
variable {f_present f_size f_lowX f_lowY f_highX f_highY f_nearX f_nearY f_best f_bestSquare f_levels f_boxes : Int32} {a_placeOf a_order a_lists a_fromLeft a_boxLowX a_boxLowY a_boxHighX a_boxHighY a_boxFirst a_boxParts a_boxOfPoints a_zeros a_bottom a_sorted a_cellFirst a_heapPoint a_heapSplit : Nat → Int32} {X Y S Pt Ct F N : Nat → Int32}
theorem rs_ar_list {post : SX → Prop} {f_waiting r : Int32} {a_waitA a_waitB a_waitC a_waitD : Nat → Int32} {nq nx ny : Nat} (hG : rs_G f_present a_placeOf) :
    ∀ (l : List Nat) (n : Nat) (v f : Int32), l.length < n → rs_Ch N l v → (∀ k, k ∈ l → rs_H f_present k) → rs_Sn f_present (rs_R a_placeOf nx ny r) f →
    (∀ f', rs_Sn f_present (rs_R a_placeOf nx ny r) f' → rs_Le f f' → (∀ k, k ∈ l → rs_Fi (rs_R a_placeOf nx ny r) f' k) → post (f_present, f_size, f_lowX, f_lowY, f_highX, f_highY, f', nI nx, nI ny, f_best, f_bestSquare, f_waiting, nI nq, f_levels, f_boxes, a_placeOf, a_order, a_waitA, a_waitB, a_waitC, a_waitD, X, Y, S, Pt, Ct, F, N, a_lists, a_fromLeft, a_boxLowX, a_boxLowY, a_boxHighX, a_boxHighY, a_boxFirst, a_boxParts, a_boxOfPoints, a_zeros, a_bottom, a_sorted, a_cellFirst, a_heapPoint, a_heapSplit)) → (wX_takeAround_7 post r f_present f_size f_lowX f_lowY f_highX f_highY (nI nx) (nI ny) f_best f_bestSquare f_waiting (nI nq) f_levels f_boxes a_placeOf a_order a_waitA a_waitB a_waitC a_waitD X Y S Pt Ct F N a_lists a_fromLeft a_boxLowX a_boxLowY a_boxHighX a_boxHighY a_boxFirst a_boxParts a_boxOfPoints a_zeros a_bottom a_sorted a_cellFirst a_heapPoint a_heapSplit n v f) := by
  intro l
  induction l with
  | nil =>
    intro n v f hn hc _ hF hJ
    obtain ⟨m, rfl⟩ : ∃ m, n = m + 1 := ⟨n - 1, by rw [List.length_nil] at hn; omega⟩
    have e : v = -1 := hc
    subst e
    exact br_t (by decide) (hJ f hF (rs_Le_r f) (fun k z => by cases z))
  | cons k l ih =>
    intro n v f hn hc hl hF hJ
    obtain ⟨m, rfl⟩ : ∃ m, n = m + 1 := ⟨n - 1, by rw [List.length_cons] at hn; omega⟩
    obtain ⟨e, hk, hc⟩ := hc
    subst e
    have hH := hl k List.mem_cons_self
    have next : ∀ f', rs_Sn f_present (rs_R a_placeOf nx ny r) f' → rs_Le f f' → rs_Fi (rs_R a_placeOf nx ny r) f' k → vp_in (nI k) 28 ∧ ∀ x : Int32, x = N (nI k).toNatClampNeg → (wX_takeAround_7 post r f_present f_size f_lowX f_lowY f_highX f_highY (nI nx) (nI ny) f_best f_bestSquare f_waiting (nI nq) f_levels f_boxes a_placeOf a_order a_waitA a_waitB a_waitC a_waitD X Y S Pt Ct F N a_lists a_fromLeft a_boxLowX a_boxLowY a_boxHighX a_boxHighY a_boxFirst a_boxParts a_boxOfPoints a_zeros a_bottom a_sorted a_cellFirst a_heapPoint a_heapSplit m x f') := by
      intro f' q1 q2 q3
      refine And.intro (vp_in_nI hk (by decide)) (nm_r (e' := N k) (by rw [nI_clamp (by omega)]) (ih m _ f' (by rw [List.length_cons] at hn; omega) hc (fun k z => hl k (List.mem_cons_of_mem _ z)) q1 (fun f'' r1 r2 r3 => hJ f'' r1 (rs_Le_t q2 r2) (fun j hj => ?_))))
      rcases List.mem_cons.mp hj with e | e
      · rw [e]; exact rs_Fi_m r2 q3
      · exact r3 j e
    refine br_f (nI_pos (by omega)) (rs_squareTo hk (hG k hH) (br_c (fun z => ?_) (fun z => ?_)))
    · unfold wX_takeAround_32
      exact nm_r (rs_or0 f) (next f hF (rs_Le_r f) (fun w => absurd z w))
    · unfold wX_takeAround_32
      have w := rs_Sn_add hF hH z
      exact nm_e (next _ w.1 w.2.1 w.2.2)
theorem rs_ar_loop {post : Int32 → SX → Prop} {nq nx ny : Nat} {r : Int32} (hnx : nx < 64) (hny : ny < 64) (hG : rs_G f_present a_placeOf) (hnq : nq ≤ 704) (hT : rs_qT X Y S Pt nq) (hL : rs_qL X Y S Pt a_placeOf Ct F N (rs_H f_present) nq)
    (hp : ∀ f A B C D, rs_Sn f_present (rs_R a_placeOf nx ny r) f → (∀ k, rs_H f_present k → rs_Fi (rs_R a_placeOf nx ny r) f k) → post f (f_present, f_size, f_lowX, f_lowY, f_highX, f_highY, f, nI nx, nI ny, f_best, f_bestSquare, nI 0, nI nq, f_levels, f_boxes, a_placeOf, a_order, A, B, C, D, X, Y, S, Pt, Ct, F, N, a_lists, a_fromLeft, a_boxLowX, a_boxLowY, a_boxHighX, a_boxHighY, a_boxFirst, a_boxParts, a_boxOfPoints, a_zeros, a_bottom, a_sorted, a_cellFirst, a_heapPoint, a_heapSplit)) :
    ∀ (n : Nat) (L : List rs_I) (f : Int32) (A B C D : Nat → Int32), rs_Ms (rs_qw S) L < n → rs_qp S L → rs_St A B C D L → rs_Sn f_present (rs_R a_placeOf nx ny r) f → rs_Iv f_present (fun it => it.1 < nq) (fun it k => rs_qi X Y S a_placeOf it.1 k) (rs_Fi (rs_R a_placeOf nx ny r) f) L → (wX_around_36 post r n f_present f_size f_lowX f_lowY f_highX f_highY f (nI nx) (nI ny) f_best f_bestSquare (nI L.length) (nI nq) f_levels f_boxes a_placeOf a_order A B C D X Y S Pt Ct F N a_lists a_fromLeft a_boxLowX a_boxLowY a_boxHighX a_boxHighY a_boxFirst a_boxParts a_boxOfPoints a_zeros a_bottom a_sorted a_cellFirst a_heapPoint a_heapSplit) := by
  intro n
  induction n with
  | zero => intro L f A B C D h; omega
  | succ n ih =>
    intro L f A B C D hn hP hS hF hI
    cases L with
    | nil => exact br_t (by decide) (hp f A B C D hF (rs_Iv_end hI))
    | cons it L =>
      obtain ⟨q, b, t, d⟩ := it
      have hP' := hP
      obtain ⟨⟨s0, p1, p2, p3⟩, p4⟩ := hP
      have hq : q < nq := hI.1 (q, b, t, d) List.mem_cons_self
      obtain ⟨x, y, w, hN, hc⟩ := hT q hq
      have i : vp_in (nI L.length) 128 := vp_in_nI (by omega) (by decide)
      have e : (nI L.length).toNatClampNeg = L.length := nI_clamp (by omega)
      have iq : vp_in (nI q) 704 := vp_in_nI (by omega) (by decide)
      have eq : (nI q).toNatClampNeg = q := nI_clamp (by omega)
      obtain ⟨s1, s2, s3, s4, s5⟩ := hS
      have hb := rs_2s w hN.2.2.2.1
      have hxy : x + 2 ^ w ≤ 64 ∧ y + 2 ^ w ≤ 64 := hN.2.2.2.2
      have wpos : 1 ≤ rs_qw S (q, b, t, d) := by
        rw [rs_qw_N hN]
        have := Nat.mul_le_mul hb.1 hb.1
        omega
      refine br_f (nI_nle (by rw [List.length_cons]; omega) (by rw [List.length_cons]; omega)) (nm_r (nI_pred L.length) ⟨i, nm_r (e' := nI q) (rs_at (by omega) s1) (rs_sqQuad (by omega) hnx hny hN (br_c (fun z => ?_) (fun z => ?_)))⟩)
      · unfold wX_around_77
        refine br_t rfl ?_
        unfold wX_around_101
        refine br_t rfl (ih L f A B C D (by simp only [rs_Ms] at hn; omega) p4 s5 hF (rs_Iv_drop hI (fun _ h => h) (fun k hk v a => absurd ?_ a)))
        obtain ⟨v1, v2, v3, v4⟩ := (rs_qi_N hN).mp v
        have hd := rs_d_b (hG k hk) hnx hny
        exact Int32.lt_of_lt_of_le z (nI_le (rs_bq_le v1 (by omega) v3 (by omega)) (by omega))
      · unfold wX_around_77
        refine br_f (by decide) ⟨iq, ?_⟩
        rw [eq]
        rcases hc with hc | ⟨c, s', hc1, hc2, hc3, hc4⟩
        · rw [hc]
          refine br_t (by decide) ?_
          unfold wX_around_101
          refine br_f (by decide) ?_
          unfold wpX_takeAround
          obtain ⟨l, l1, l2, l3, l4⟩ := hL q hq hc
          refine ⟨iq, nm_r (e' := F q) (by rw [eq]) (Exists.intro (l.length + 1) (rs_ar_list hG l (l.length + 1) (F q) f (by omega) l1 (fun k hk => ((l4 k).mp hk).1) hF (fun f' q1 q2 q3 => ?_)))⟩
          exact ih L f' A B C D (by simp only [rs_Ms] at hn; omega) p4 s5 q1 (rs_Iv_drop hI (fun k h => rs_Fi_m q2 h) (fun k hk z => q3 k ((l4 k).mpr ⟨hk, z⟩)))
        · rw [hc1]
          subst hc3
          refine br_f (nI_pos (by omega)) (rs_pushParts (c := c) (by omega) hc1 (by omega) s5 (by omega) (fun A' B' C' D' w => ?_))
          have ms := rs_qw_c (b := b) (t := t) (d := d) (L := L) hN hc4
          exact ih (rs_qc c L) f A' B' C' D' (by omega) (rs_qp_c hN hc4 hP') w hF (rs_qIv_c hN hc4 hc2 hI)
end
end
section
/-! sorted lists, merged upwards: the pure half -/
theorem rs_ix (l k c : Nat) : nI l * nI c + nI k = nI (l * c + k) := by rw [pk_mul, nI_add]
def rs_Lo (G : Nat → Int32) (l lo hi u v : Nat) : Prop := ∀ t, lo ≤ t → t < hi → ∃ r, u ≤ r ∧ r < v ∧ G ((l + 1) * 32 + r) = G (l * 32 + t)
theorem rs_Lo_up {G : Nat → Int32} {l lo hi u v k : Nat} {x : Int32} (h : rs_Lo G l lo hi u v) (hv : v ≤ k) (hh : hi ≤ 32) : rs_Lo (upd G ((l + 1) * 32 + k) x) l lo hi u v := by
  intro t h1 h2
  obtain ⟨r, r1, r2, e⟩ := h t h1 h2
  exact ⟨r, r1, r2, by rw [pk_un (by omega), pk_un (by omega)]; exact e⟩
theorem rs_Lo_w {G : Nat → Int32} {l lo hi u v v' : Nat} (h : rs_Lo G l lo hi u v) (hv : v ≤ v') : rs_Lo G l lo hi u v' := by
  intro t h1 h2
  obtain ⟨r, r1, r2, e⟩ := h t h1 h2
  exact ⟨r, r1, by omega, e⟩
theorem rs_Lo_s {G : Nat → Int32} {l lo i u k : Nat} (h : rs_Lo G l lo i u k) (hk : u ≤ k) (he : G ((l + 1) * 32 + k) = G (l * 32 + i)) : rs_Lo G l lo (i + 1) u (k + 1) := by
  intro t h1 h2
  rcases Nat.lt_or_ge t i with z | z
  · obtain ⟨r, r1, r2, e⟩ := h t h1 z
    exact ⟨r, r1, by omega, e⟩
  · have e : t = i := by omega
    rw [e]
    exact ⟨k, hk, by omega, he⟩
theorem rs_Lo_e {G : Nat → Int32} {l lo hi u v : Nat} (h : hi ≤ lo) : rs_Lo G l lo hi u v := fun t h1 h2 => by omega
/-- what the note at k says, when the merge stands at k2 with i and j -/
def rs_Rc (G Fl : Nat → Int32) (l a m k k2 i j : Nat) : Prop := ∃ c, Fl ((l + 1) * 33 + k) = nI c ∧ a + c ≤ i ∧ c ≤ k - a ∧ m + (k - a - c) ≤ j ∧ rs_Lo G l a (a + c) a k ∧ rs_Lo G l m (m + (k - a - c)) a k ∧ rs_Lo G l (a + c) i k k2 ∧ rs_Lo G l (m + (k - a - c)) j k k2
def rs_MI (κ : Int32 → Nat) (G Fl : Nat → Int32) (l a m e k i j : Nat) : Prop :=
  (a ≤ i ∧ i ≤ m ∧ m ≤ j ∧ j ≤ e ∧ k + m = i + j) ∧
  (∀ r t, a ≤ r → r ≤ t → t < k → κ (G ((l + 1) * 32 + r)) ≤ κ (G ((l + 1) * 32 + t))) ∧
  (∀ r t, a ≤ r → r < k → ((i ≤ t ∧ t < m) ∨ (j ≤ t ∧ t < e)) → κ (G ((l + 1) * 32 + r)) ≤ κ (G (l * 32 + t))) ∧
  (∀ r, a ≤ r → r < k → ∃ t, ((a ≤ t ∧ t < i) ∨ (m ≤ t ∧ t < j)) ∧ G ((l + 1) * 32 + r) = G (l * 32 + t)) ∧
  (∀ k', a ≤ k' → k' < k → rs_Rc G Fl l a m k' k i j) ∧ rs_Lo G l a i a k ∧ rs_Lo G l m j a k
theorem rs_MI_0 {κ : Int32 → Nat} {G Fl : Nat → Int32} {l a m e : Nat} (h1 : a ≤ m) (h2 : m ≤ e) : rs_MI κ G Fl l a m e a a m :=
  ⟨⟨Nat.le_refl _, h1, Nat.le_refl _, h2, rfl⟩, fun r t _ _ _ => by omega, fun r t _ _ _ => by omega, fun r _ _ => by omega, fun k _ _ => by omega, rs_Lo_e (Nat.le_refl _), rs_Lo_e (Nat.le_refl _)⟩
/-- one step: the element t0 of the level below comes to k; di, dj say from which side -/
theorem rs_MI_s {κ : Int32 → Nat} {G Fl : Nat → Int32} {l a m e k i j t0 i2 j2 : Nat} (h : rs_MI κ G Fl l a m e k i j) (hk : a ≤ k) (he : e ≤ 28) (hke : k < e) (hl : l ≤ 4)
    (hs : (t0 = i ∧ i < m ∧ i2 = i + 1 ∧ j2 = j) ∨ (t0 = j ∧ j < e ∧ i2 = i ∧ j2 = j + 1))
    (hle : ∀ t, ((i ≤ t ∧ t < m) ∨ (j ≤ t ∧ t < e)) → κ (G (l * 32 + t0)) ≤ κ (G (l * 32 + t))) :
    rs_MI κ (upd G ((l + 1) * 32 + k) (G (l * 32 + t0))) (upd Fl ((l + 1) * 33 + k) (nI (i - a))) l a m e (k + 1) i2 j2 := by
  obtain ⟨⟨a1, a2, a3, a4, a5⟩, b, c, d, f, g1, g2⟩ := h
  have t28 : t0 < 28 := by omega
  have ht0 : ((i ≤ t0 ∧ t0 < m) ∨ (j ≤ t0 ∧ t0 < e)) := by omega
  have lo : ∀ t, t < 32 → upd G ((l + 1) * 32 + k) (G (l * 32 + t0)) (l * 32 + t) = G (l * 32 + t) := fun t ht => pk_un (by omega)
  have up : ∀ r, r ≠ k → upd G ((l + 1) * 32 + k) (G (l * 32 + t0)) ((l + 1) * 32 + r) = G ((l + 1) * 32 + r) := fun r hr => pk_un (by omega)
  have at_ : upd G ((l + 1) * 32 + k) (G (l * 32 + t0)) ((l + 1) * 32 + k) = G (l * 32 + t0) := pk_us
  have new : upd G ((l + 1) * 32 + k) (G (l * 32 + t0)) ((l + 1) * 32 + k) = upd G ((l + 1) * 32 + k) (G (l * 32 + t0)) (l * 32 + t0) := by rw [at_, lo t0 (by omega)]
  have LoL : ∀ {lo u}, u ≤ k → rs_Lo G l lo i u k → rs_Lo (upd G ((l + 1) * 32 + k) (G (l * 32 + t0))) l lo i2 u (k + 1) := by
    intro lo u hu h
    have h' := rs_Lo_up (x := G (l * 32 + t0)) h (Nat.le_refl k) (by omega)
    rcases hs with ⟨s1, s2, s3, s4⟩ | ⟨s1, s2, s3, s4⟩
    · rw [s3]
      exact rs_Lo_s h' hu (by rw [← s1]; exact new)
    · rw [s3]
      exact rs_Lo_w h' (by omega)
  have LoR : ∀ {lo u}, u ≤ k → rs_Lo G l lo j u k → rs_Lo (upd G ((l + 1) * 32 + k) (G (l * 32 + t0))) l lo j2 u (k + 1) := by
    intro lo u hu h
    have h' := rs_Lo_up (x := G (l * 32 + t0)) h (Nat.le_refl k) (by omega)
    rcases hs with ⟨s1, s2, s3, s4⟩ | ⟨s1, s2, s3, s4⟩
    · rw [s4]
      exact rs_Lo_w h' (by omega)
    · rw [s4]
      exact rs_Lo_s h' hu (by rw [← s1]; exact new)
  refine ⟨by omega, fun r t r1 r2 r3 => ?_, fun r t r1 r2 r3 => ?_, fun r r1 r2 => ?_, fun k' k1 k2 => ?_, LoL hk g1, LoR hk g2⟩
  · by_cases et : t = k
    · rw [et, at_]
      by_cases er : r = k
      · rw [er, at_]; exact Nat.le_refl _
      · rw [up r er]; exact c r t0 r1 (by omega) ht0
    · rw [up t et, up r (by omega)]
      exact b r t r1 r2 (by omega)
  · have r3' : ((i ≤ t ∧ t < m) ∨ (j ≤ t ∧ t < e)) := by omega
    rw [lo t (by omega)]
    by_cases er : r = k
    · rw [er, at_]; exact hle t r3'
    · rw [up r er]; exact c r t r1 (by omega) r3'
  · by_cases er : r = k
    · exact ⟨t0, by omega, by rw [er]; exact new⟩
    · obtain ⟨t, t1, t2⟩ := d r r1 (by omega)
      exact ⟨t, by omega, by rw [up r er, lo t (by omega)]; exact t2⟩
  · by_cases er : k' = k
    · subst er
      refine ⟨i - a, pk_us, by omega, by omega, by omega, ?_, ?_, ?_, ?_⟩
      · rw [show a + (i - a) = i by omega]
        exact rs_Lo_up g1 (Nat.le_refl _) (by omega)
      · rw [show m + (k' - a - (i - a)) = j by omega]
        exact rs_Lo_up g2 (Nat.le_refl _) (by omega)
      · rw [show a + (i - a) = i by omega]
        exact LoL (Nat.le_refl _) (rs_Lo_e (Nat.le_refl _))
      · rw [show m + (k' - a - (i - a)) = j by omega]
        exact LoR (Nat.le_refl _) (rs_Lo_e (Nat.le_refl _))
    · obtain ⟨q, q1, q2, q3, q4, q5, q6, q7, q8⟩ := f k' k1 (by omega)
      exact ⟨q, by rw [pk_un (by omega)]; exact q1, by omega, q3, by omega, rs_Lo_up q5 (by omega) (by omega), rs_Lo_up q6 (by omega) (by omega), LoL (by omega) q7, LoR (by omega) q8⟩
/-- a stretch of a level: sorted, and the order's own stretch as a set -/
def rs_LS (κ : Int32 → Nat) (G o : Nat → Int32) (l a e : Nat) : Prop := (∀ r t, a ≤ r → r ≤ t → t < e → κ (G (l * 32 + r)) ≤ κ (G (l * 32 + t))) ∧ (∀ r, a ≤ r → r < e → ∃ t, a ≤ t ∧ t < e ∧ G (l * 32 + r) = o t) ∧ (∀ t, a ≤ t → t < e → ∃ r, a ≤ r ∧ r < e ∧ G (l * 32 + r) = o t)
def rs_BR (G Fl : Nat → Int32) (l a m e : Nat) : Prop := ∀ k, a ≤ k → k < e → rs_Rc G Fl l a m k e m e
theorem rs_merge {κ : Int32 → Nat} {G Fl o : Nat → Int32} {l a m e i j : Nat} (h : rs_MI κ G Fl l a m e e i j) (hm : a ≤ m) (hme : m ≤ e) (hL : rs_LS κ G o l a m) (hR : rs_LS κ G o l m e) : rs_LS κ G o (l + 1) a e ∧ rs_BR G Fl l a m e := by
  obtain ⟨⟨a1, a2, a3, a4, a5⟩, b, c, d, f, g1, g2⟩ := h
  have ei : i = m := by omega
  have ej : j = e := by omega
  subst ei ej
  refine ⟨⟨b, fun r r1 r2 => ?_, fun t t1 t2 => ?_⟩, f⟩
  · obtain ⟨t, t1, t2⟩ := d r r1 r2
    rcases t1 with t1 | t1
    · obtain ⟨q, q1, q2, q3⟩ := hL.2.1 t t1.1 t1.2
      exact ⟨q, q1, by omega, by rw [t2, q3]⟩
    · obtain ⟨q, q1, q2, q3⟩ := hR.2.1 t t1.1 t1.2
      exact ⟨q, by omega, q2, by rw [t2, q3]⟩
  · rcases Nat.lt_or_ge t i with z | z
    · obtain ⟨q, q1, q2, q3⟩ := hL.2.2 t t1 z
      obtain ⟨r, r1, r2, r3⟩ := g1 q q1 q2
      exact ⟨r, r1, r2, by rw [r3, q3]⟩
    · obtain ⟨q, q1, q2, q3⟩ := hR.2.2 t z t2
      obtain ⟨r, r1, r2, r3⟩ := g2 q q1 q2
      exact ⟨r, r1, r2, by rw [r3, q3]⟩
theorem rs_LS_e {κ : Int32 → Nat} {G o : Nat → Int32} {l a e : Nat} (h : e ≤ a) : rs_LS κ G o l a e := ⟨fun r t _ _ _ => by omega, fun r _ _ => by omega, fun r _ _ => by omega⟩
def rs_Ag (lo hi : Nat) (G G' : Nat → Int32) : Prop := ∀ x, (x < lo ∨ hi ≤ x) → G' x = G x
theorem rs_Ag_r {lo hi : Nat} {G : Nat → Int32} : rs_Ag lo hi G G := fun _ _ => rfl
theorem rs_Ag_u {lo hi k : Nat} {G G' : Nat → Int32} {v : Int32} (h : rs_Ag lo hi G G') (h1 : lo ≤ k) (h2 : k < hi) : rs_Ag lo hi G (upd G' k v) := by
  intro x hx
  rw [pk_un (by omega)]
  exact h x hx
theorem rs_LS_c {κ : Int32 → Nat} {G G' o : Nat → Int32} {l a e : Nat} (hc : ∀ r, a ≤ r → r < e → G' (l * 32 + r) = G (l * 32 + r)) (h : rs_LS κ G o l a e) : rs_LS κ G' o l a e := by
  refine ⟨fun r t r1 r2 r3 => ?_, fun r r1 r2 => ?_, fun t t1 t2 => ?_⟩
  · rw [hc r r1 (by omega), hc t (by omega) r3]; exact h.1 r t r1 r2 r3
  · rw [hc r r1 r2]; exact h.2.1 r r1 r2
  · obtain ⟨r, r1, r2, r3⟩ := h.2.2 t t1 t2
    exact ⟨r, r1, r2, by rw [hc r r1 r2]; exact r3⟩
theorem rs_Lo_c {G G' : Nat → Int32} {l lo hi u v : Nat} (h1 : ∀ r, u ≤ r → r < v → G' ((l + 1) * 32 + r) = G ((l + 1) * 32 + r)) (h2 : ∀ t, lo ≤ t → t < hi → G' (l * 32 + t) = G (l * 32 + t)) (h : rs_Lo G l lo hi u v) : rs_Lo G' l lo hi u v := by
  intro t t1 t2
  obtain ⟨r, r1, r2, r3⟩ := h t t1 t2
  exact ⟨r, r1, r2, by rw [h1 r r1 r2, h2 t t1 t2]; exact r3⟩
theorem rs_BR_c {G G' Fl Fl' : Nat → Int32} {l a m e : Nat} (hm : a ≤ m) (hme : m ≤ e) (h1 : ∀ r, a ≤ r → r < e → G' ((l + 1) * 32 + r) = G ((l + 1) * 32 + r)) (h2 : ∀ r, a ≤ r → r < e → G' (l * 32 + r) = G (l * 32 + r)) (h3 : ∀ r, a ≤ r → r < e → Fl' ((l + 1) * 33 + r) = Fl ((l + 1) * 33 + r)) (h : rs_BR G Fl l a m e) : rs_BR G' Fl' l a m e := by
  intro k k1 k2
  obtain ⟨q, q1, q2, q3, q4, q5, q6, q7, q8⟩ := h k k1 k2
  exact ⟨q, by rw [h3 k k1 k2]; exact q1, q2, q3, q4, rs_Lo_c (fun r r1 r2 => h1 r r1 (by omega)) (fun t t1 t2 => h2 t t1 (by omega)) q5, rs_Lo_c (fun r r1 r2 => h1 r r1 (by omega)) (fun t t1 t2 => h2 t (by omega) (by omega)) q6, rs_Lo_c (fun r r1 r2 => h1 r (by omega) r2) (fun t t1 t2 => h2 t (by omega) (by omega)) q7, rs_Lo_c (fun r r1 r2 => h1 r (by omega) r2) (fun t t1 t2 => h2 t (by omega) (by omega)) q8⟩
/-- level l is whole at the stretch that begins at a -/
def rs_LC (κ : Int32 → Nat) (G Fl o : Nat → Int32) (sz : Nat) : Nat → Nat → Prop
  | 0, a => rs_LS κ G o 0 a (min (a + 1) sz)
  | l + 1, a => rs_LS κ G o (l + 1) a (min (a + 2 ^ (l + 1)) sz) ∧ rs_BR G Fl l a (min (a + 2 ^ l) sz) (min (a + 2 ^ (l + 1)) sz)
theorem rs_LC_S {κ : Int32 → Nat} {G Fl o : Nat → Int32} {sz l a : Nat} (h : rs_LC κ G Fl o sz l a) : rs_LS κ G o l a (min (a + 2 ^ l) sz) := by
  cases l with
  | zero => exact h
  | succ l => exact h.1
theorem rs_2e (l : Nat) : 2 ^ (l + 1) = 2 * 2 ^ l := by rw [Nat.pow_succ, Nat.mul_comm]
/-- a merge at another level or another stretch keeps it -/
theorem rs_LC_c {κ : Int32 → Nat} {G G' Fl Fl' o : Nat → Int32} {sz l a lv b e : Nat} (hsz : sz ≤ 28) (ha : a < sz) (hbe : b ≤ e) (he : e ≤ sz) (hG : rs_Ag (lv * 32 + b) (lv * 32 + e) G G') (hF : rs_Ag (lv * 33 + b) (lv * 33 + e) Fl Fl') (hd : l < lv ∨ (l = lv ∧ a + 2 ^ l ≤ b)) (h : rs_LC κ G Fl o sz l a) : rs_LC κ G' Fl' o sz l a := by
  have gk : ∀ r, r < min (a + 2 ^ l) sz → G' (l * 32 + r) = G (l * 32 + r) := fun r hr => hG _ (by omega)
  cases l with
  | zero => exact rs_LS_c (fun r _ hr => gk r hr) h
  | succ l =>
    have h2 := rs_2e l
    refine ⟨rs_LS_c (fun r _ hr => gk r hr) h.1, rs_BR_c (by omega) (by omega) (fun r _ hr => gk r hr) (fun r _ hr => hG _ (by omega)) (fun r _ hr => hF _ (by omega)) h.2⟩
/-- all levels below lv are whole -/
def rs_LI (κ : Int32 → Nat) (G Fl o : Nat → Int32) (sz lv : Nat) : Prop := ∀ l, l < lv → ∀ c, c * 2 ^ l < sz → rs_LC κ G Fl o sz l (c * 2 ^ l)
theorem rs_shl1 {n : Nat} (h : n < 30) : (1 : Int32) <<< (nI n &&& 31) = nI (2 ^ n) := by
  have hp : 2 ^ n < 2 ^ 30 := Nat.pow_lt_pow_right (by decide) h
  have := pk_shlN (n := 1) (nI n &&& 31) n (s_l n (by omega)) (by rw [Nat.one_mul]; omega)
  rw [Nat.one_mul] at this
  exact this
theorem rs_shl2 {n : Nat} (h : n < 29) : (2 : Int32) <<< (nI n &&& 31) = nI (2 ^ (n + 1)) := by
  have hp : 2 ^ n < 2 ^ 29 := Nat.pow_lt_pow_right (by decide) h
  have := pk_shlN (n := 2) (nI n &&& 31) n (s_l n (by omega)) (by omega)
  rw [rs_2e]
  exact this
end
section
/-! sorted lists: the building -/
section
variable {f_present f_size f_lowX f_lowY f_highX f_highY f_found f_nearX f_nearY f_best f_bestSquare f_waiting f_quads f_boxes : Int32} {a_placeOf a_order a_waitA a_waitB a_waitC a_waitD a_quadX a_quadY a_quadSide a_quadPart a_quadCount a_quadFirst a_nextPoint a_boxLowX a_boxLowY a_boxHighX a_boxHighY a_boxFirst a_boxParts a_boxOfPoints a_zeros a_bottom a_sorted a_cellFirst a_heapPoint a_heapSplit : Nat → Int32}
theorem rs_ml_209 {post : SX → Prop} {J76 : Int32 → Int32 → Int32 → (Nat → Int32) → (Nat → Int32) → (Nat → Int32) → (Nat → Int32) → (Nat → Int32) → (Nat → Int32) → (Nat → Int32) → (Nat → Int32) → (Nat → Int32) → (Nat → Int32) → (Nat → Int32) → (Nat → Int32) → (Nat → Int32) → (Nat → Int32) → (Nat → Int32) → (Nat → Int32) → (Nat → Int32) → (Nat → Int32) → (Nat → Int32) → (Nat → Int32) → (Nat → Int32) → (Nat → Int32) → (Nat → Int32) → (Nat → Int32) → (Nat → Int32) → (Nat → Int32) → (Nat → Int32) → (Nat → Int32) → Prop} {x1 x3 x4 x5 f_levels x9 z0 : Int32} {a_lists a_fromLeft : Nat → Int32} {i j k i2 j2 : Nat} (hs : (¬ x9 = 0 ∧ z0 = 1 ∧ i2 = i + 1 ∧ j2 = j) ∨ (x9 = 0 ∧ z0 = 0 ∧ i2 = i ∧ j2 = j + 1)) (hJ : J76 (nI i2) (nI j2) (nI (k + 1)) a_placeOf a_order a_waitA a_waitB a_waitC a_waitD a_quadX a_quadY a_quadSide a_quadPart a_quadCount a_quadFirst a_nextPoint a_lists a_fromLeft a_boxLowX a_boxLowY a_boxHighX a_boxHighY a_boxFirst a_boxParts a_boxOfPoints a_zeros a_bottom a_sorted a_cellFirst a_heapPoint a_heapSplit) : (wX_mergeLists_209 post J76 x1 x3 x4 x5 (nI j) (nI k) x9 z0 (nI i) f_present f_size f_lowX f_lowY f_highX f_highY f_found f_nearX f_nearY f_best f_bestSquare f_waiting f_quads f_levels f_boxes a_placeOf a_order a_waitA a_waitB a_waitC a_waitD a_quadX a_quadY a_quadSide a_quadPart a_quadCount a_quadFirst a_nextPoint a_lists a_fromLeft a_boxLowX a_boxLowY a_boxHighX a_boxHighY a_boxFirst a_boxParts a_boxOfPoints a_zeros a_bottom a_sorted a_cellFirst a_heapPoint a_heapSplit) := by
  unfold wX_mergeLists_209
  rcases hs with ⟨h1, h2, h3, h4⟩ | ⟨h1, h2, h3, h4⟩
  · subst h2
    rw [h3, h4] at hJ
    exact nm_r (nI_1 i) (br_f h1 (nm_r (nI_add j 0) (nm_r (nI_1 k) hJ)))
  · subst h1 h2
    rw [h3, h4] at hJ
    exact nm_r (nI_add i 0) (br_t rfl (nm_r (nI_1 j) (nm_r (nI_1 k) hJ)))
theorem rs_ml_196 {post : SX → Prop} {J76 : Int32 → Int32 → Int32 → (Nat → Int32) → (Nat → Int32) → (Nat → Int32) → (Nat → Int32) → (Nat → Int32) → (Nat → Int32) → (Nat → Int32) → (Nat → Int32) → (Nat → Int32) → (Nat → Int32) → (Nat → Int32) → (Nat → Int32) → (Nat → Int32) → (Nat → Int32) → (Nat → Int32) → (Nat → Int32) → (Nat → Int32) → (Nat → Int32) → (Nat → Int32) → (Nat → Int32) → (Nat → Int32) → (Nat → Int32) → (Nat → Int32) → (Nat → Int32) → (Nat → Int32) → (Nat → Int32) → (Nat → Int32) → (Nat → Int32) → Prop} {x1 x3 x4 x5 x9 z0 : Int32} {G Fl : Nat → Int32} {l i j k i2 j2 : Nat} (hl : l ≤ 4) (hk : k < 28) (hv : vp_nar .byte z0 = z0) (hs : (x9 = 1 ∧ i2 = i + 1 ∧ j2 = j) ∨ (x9 = 0 ∧ i2 = i ∧ j2 = j + 1)) (hJ : J76 (nI i2) (nI j2) (nI (k + 1)) a_placeOf a_order a_waitA a_waitB a_waitC a_waitD a_quadX a_quadY a_quadSide a_quadPart a_quadCount a_quadFirst a_nextPoint (upd G ((l + 1) * 32 + k) z0) Fl a_boxLowX a_boxLowY a_boxHighX a_boxHighY a_boxFirst a_boxParts a_boxOfPoints a_zeros a_bottom a_sorted a_cellFirst a_heapPoint a_heapSplit) : (wX_mergeLists_196 post J76 x1 x3 x4 x5 (nI i) (nI j) (nI k) x9 z0 (nI (l + 1) * 32 + nI k) f_present f_size f_lowX f_lowY f_highX f_highY f_found f_nearX f_nearY f_best f_bestSquare f_waiting f_quads (nI (l + 1)) f_boxes a_placeOf a_order a_waitA a_waitB a_waitC a_waitD a_quadX a_quadY a_quadSide a_quadPart a_quadCount a_quadFirst a_nextPoint G Fl a_boxLowX a_boxLowY a_boxHighX a_boxHighY a_boxFirst a_boxParts a_boxOfPoints a_zeros a_bottom a_sorted a_cellFirst a_heapPoint a_heapSplit) := by
  have e : nI (l + 1) * 32 + nI k = nI ((l + 1) * 32 + k) := rs_ix (l + 1) _ 32
  rw [e]
  unfold wX_mergeLists_196
  refine ⟨vp_in_nI (by omega) (by decide), nm_r (e' := upd G ((l + 1) * 32 + k) z0) (by rw [nI_clamp (by omega), hv]) ?_⟩
  rcases hs with ⟨h1, h3, h4⟩ | ⟨h1, h3, h4⟩
  · subst h1
    exact br_f (by decide) (rs_ml_209 (Or.inl ⟨by decide, rfl, h3, h4⟩) hJ)
  · subst h1
    exact br_t rfl (rs_ml_209 (Or.inr ⟨rfl, rfl, h3, h4⟩) hJ)
theorem rs_ml_loop {post : SX → Prop} {l a m e : Nat} {G0 F0 : Nat → Int32} (hG : rs_G f_present a_placeOf) (hl : l ≤ 4) (ham : a ≤ m) (hme : m ≤ e) (he : e ≤ 28) (hV : ∀ t, a ≤ t → t < e → rs_V f_present (G0 (l * 32 + t)))
    (hsL : ∀ r t, a ≤ r → r ≤ t → t < m → rs_k a_placeOf 0 (G0 (l * 32 + r)) ≤ rs_k a_placeOf 0 (G0 (l * 32 + t))) (hsR : ∀ r t, m ≤ r → r ≤ t → t < e → rs_k a_placeOf 0 (G0 (l * 32 + r)) ≤ rs_k a_placeOf 0 (G0 (l * 32 + t)))
    (hp : ∀ G Fl i j, rs_Ag ((l + 1) * 32 + a) ((l + 1) * 32 + e) G0 G → rs_Ag ((l + 1) * 33 + a) ((l + 1) * 33 + e) F0 Fl → rs_MI (rs_k a_placeOf 0) G Fl l a m e e i j → post (f_present, f_size, f_lowX, f_lowY, f_highX, f_highY, f_found, f_nearX, f_nearY, f_best, f_bestSquare, f_waiting, f_quads, nI (l + 1), f_boxes, a_placeOf, a_order, a_waitA, a_waitB, a_waitC, a_waitD, a_quadX, a_quadY, a_quadSide, a_quadPart, a_quadCount, a_quadFirst, a_nextPoint, G, Fl, a_boxLowX, a_boxLowY, a_boxHighX, a_boxHighY, a_boxFirst, a_boxParts, a_boxOfPoints, a_zeros, a_bottom, a_sorted, a_cellFirst, a_heapPoint, a_heapSplit)) :
    ∀ (n i j k : Nat) (G Fl : Nat → Int32), e < n + k → k ≤ e → a ≤ k → rs_Ag ((l + 1) * 32 + a) ((l + 1) * 32 + e) G0 G → rs_Ag ((l + 1) * 33 + a) ((l + 1) * 33 + e) F0 Fl → rs_MI (rs_k a_placeOf 0) G Fl l a m e k i j → (wX_mergeLists_76 post (nI a) (nI m) (nI e) (nI (l * 32)) f_present f_size f_lowX f_lowY f_highX f_highY f_found f_nearX f_nearY f_best f_bestSquare f_waiting f_quads (nI (l + 1)) f_boxes n (nI i) (nI j) (nI k) a_placeOf a_order a_waitA a_waitB a_waitC a_waitD a_quadX a_quadY a_quadSide a_quadPart a_quadCount a_quadFirst a_nextPoint G Fl a_boxLowX a_boxLowY a_boxHighX a_boxHighY a_boxFirst a_boxParts a_boxOfPoints a_zeros a_bottom a_sorted a_cellFirst a_heapPoint a_heapSplit) := by
  intro n
  induction n with
  | zero => intro i j k G Fl h1 h2; omega
  | succ n ih =>
    intro i j k G Fl h1 h2 h3 gG gF hM
    have hM' := hM
    obtain ⟨⟨a1, a2, a3, a4, a5⟩, _⟩ := hM
    have lo : ∀ t, t < 32 → G (l * 32 + t) = G0 (l * 32 + t) := fun t ht => gG _ (by omega)
    refine pk_le e k (fun z => ?_) (fun z => ?_)
    · have ek : k = e := by omega
      subst ek
      exact hp G Fl i j gG gF hM'
    · have e33 : nI (l + 1) * 33 + nI k = nI ((l + 1) * 33 + k) := rs_ix (l + 1) _ 33
      have eI : nI (l * 32) + nI i = nI (l * 32 + i) := nI_add _ _
      have eJ : nI (l * 32) + nI j = nI (l * 32 + j) := nI_add _ _
      rw [e33]
      refine And.intro (vp_in_nI (by omega) (by decide)) (nm_r (e' := upd Fl ((l + 1) * 33 + k) (nI (i - a))) (by rw [nI_clamp (by omega), pk_sub a1, rs_nb2 (by omega)]) ?_)
      have left : i < m → (∀ t, ((i ≤ t ∧ t < m) ∨ (j ≤ t ∧ t < e)) → rs_k a_placeOf 0 (G (l * 32 + i)) ≤ rs_k a_placeOf 0 (G (l * 32 + t))) → (wX_mergeLists_147 post (wX_mergeLists_76 post (nI a) (nI m) (nI e) (nI (l * 32)) f_present f_size f_lowX f_lowY f_highX f_highY f_found f_nearX f_nearY f_best f_bestSquare f_waiting f_quads (nI (l + 1)) f_boxes n) (nI a) (nI m) (nI e) (nI (l * 32)) (nI i) (nI j) (nI k) f_present f_size f_lowX f_lowY f_highX f_highY f_found f_nearX f_nearY f_best f_bestSquare f_waiting f_quads (nI (l + 1)) f_boxes a_placeOf a_order a_waitA a_waitB a_waitC a_waitD a_quadX a_quadY a_quadSide a_quadPart a_quadCount a_quadFirst a_nextPoint G (upd Fl ((l + 1) * 33 + k) (nI (i - a))) a_boxLowX a_boxLowY a_boxHighX a_boxHighY a_boxFirst a_boxParts a_boxOfPoints a_zeros a_bottom a_sorted a_cellFirst a_heapPoint a_heapSplit) := by
        intro y hle
        unfold wX_mergeLists_147 wX_mergeLists_152
        rw [eI, nI_clamp (show l * 32 + i < 2 ^ 31 by omega)]
        obtain ⟨q, hq, eq⟩ := hV i a1 (by omega)
        have hv : vp_nar .byte (G (l * 32 + i)) = G (l * 32 + i) := by
          rw [lo i (by omega), eq]
          exact rs_nb (by have := hq.1; omega)
        refine br_f (by decide) ⟨vp_in_nI (by omega) (by decide), rs_ml_196 hl (by omega) hv (Or.inl ⟨rfl, rfl, rfl⟩) ?_⟩
        exact ih (i + 1) j (k + 1) _ _ (by omega) (by omega) (by omega) (rs_Ag_u gG (by omega) (by omega)) (rs_Ag_u gF (by omega) (by omega)) (rs_MI_s hM' h3 he z hl (Or.inl ⟨rfl, y, rfl, rfl⟩) hle)
      have right : j < e → (∀ t, ((i ≤ t ∧ t < m) ∨ (j ≤ t ∧ t < e)) → rs_k a_placeOf 0 (G (l * 32 + j)) ≤ rs_k a_placeOf 0 (G (l * 32 + t))) → (wX_mergeLists_151 post (wX_mergeLists_76 post (nI a) (nI m) (nI e) (nI (l * 32)) f_present f_size f_lowX f_lowY f_highX f_highY f_found f_nearX f_nearY f_best f_bestSquare f_waiting f_quads (nI (l + 1)) f_boxes n) (nI a) (nI m) (nI e) (nI (l * 32)) (nI i) (nI j) (nI k) f_present f_size f_lowX f_lowY f_highX f_highY f_found f_nearX f_nearY f_best f_bestSquare f_waiting f_quads (nI (l + 1)) f_boxes a_placeOf a_order a_waitA a_waitB a_waitC a_waitD a_quadX a_quadY a_quadSide a_quadPart a_quadCount a_quadFirst a_nextPoint G (upd Fl ((l + 1) * 33 + k) (nI (i - a))) a_boxLowX a_boxLowY a_boxHighX a_boxHighY a_boxFirst a_boxParts a_boxOfPoints a_zeros a_bottom a_sorted a_cellFirst a_heapPoint a_heapSplit) := by
        intro y hle
        unfold wX_mergeLists_151 wX_mergeLists_152
        rw [eJ, nI_clamp (show l * 32 + j < 2 ^ 31 by omega)]
        obtain ⟨q, hq, eq⟩ := hV j (by omega) (by omega)
        have hv : vp_nar .byte (G (l * 32 + j)) = G (l * 32 + j) := by
          rw [lo j (by omega), eq]
          exact rs_nb (by have := hq.1; omega)
        refine br_t rfl ⟨vp_in_nI (by omega) (by decide), rs_ml_196 hl (by omega) hv (Or.inr ⟨rfl, rfl, rfl⟩) ?_⟩
        exact ih i (j + 1) (k + 1) _ _ (by omega) (by omega) (by omega) (rs_Ag_u gG (by omega) (by omega)) (rs_Ag_u gF (by omega) (by omega)) (rs_MI_s hM' h3 he z hl (Or.inr ⟨rfl, y, rfl, rfl⟩) hle)
      refine pk_le e j (fun y => left (by omega) (fun t ht => ?_)) (fun y => pk_le m i (fun x => right y (fun t ht => ?_)) (fun x => ?_))
      · rw [lo i (by omega), lo t (by omega)]
        exact hsL i t (by omega) (by omega) (by omega)
      · rw [lo j (by omega), lo t (by omega)]
        exact hsR j t (by omega) (by omega) (by omega)
      · rw [eI, eJ, nI_clamp (show l * 32 + i < 2 ^ 31 by omega), nI_clamp (show l * 32 + j < 2 ^ 31 by omega)]
        obtain ⟨p, hp1, hp2⟩ := hV i a1 (by omega)
        obtain ⟨q, hq1, hq2⟩ := hV j (by omega) y
        have h28p := hp1.1
        have h28q := hq1.1
        have ep := rs_ylt (hG p hp1)
        have eq := rs_ylt (hG q hq1)
        have kp : rs_k a_placeOf 0 (G (l * 32 + i)) = rs_y a_placeOf p := by rw [lo i (by omega), hp2, rs_k0 h28p]
        have kq : rs_k a_placeOf 0 (G (l * 32 + j)) = rs_y a_placeOf q := by rw [lo j (by omega), hq2, rs_k0 h28q]
        have lR : rs_y a_placeOf p ≤ rs_y a_placeOf q → ∀ t, ((i ≤ t ∧ t < m) ∨ (j ≤ t ∧ t < e)) → rs_k a_placeOf 0 (G (l * 32 + i)) ≤ rs_k a_placeOf 0 (G (l * 32 + t)) := by
          intro w t ht
          rcases ht with ht | ht
          · rw [lo i (by omega), lo t (by omega)]
            exact hsL i t (by omega) (by omega) (by omega)
          · refine Nat.le_trans (by rw [kp]; exact w) ?_
            rw [← kq, lo j (by omega), lo t (by omega)]
            exact hsR j t (by omega) (by omega) (by omega)
        have rR : rs_y a_placeOf q ≤ rs_y a_placeOf p → ∀ t, ((i ≤ t ∧ t < m) ∨ (j ≤ t ∧ t < e)) → rs_k a_placeOf 0 (G (l * 32 + j)) ≤ rs_k a_placeOf 0 (G (l * 32 + t)) := by
          intro w t ht
          rcases ht with ht | ht
          · refine Nat.le_trans (by rw [kq]; exact w) ?_
            rw [← kp, lo i (by omega), lo t (by omega)]
            exact hsL i t (by omega) (by omega) (by omega)
          · rw [lo j (by omega), lo t (by omega)]
            exact hsR j t (by omega) (by omega) (by omega)
        have gi : G (l * 32 + i) = nI p := by rw [lo i (by omega)]; exact hp2
        have gj : G (l * 32 + j) = nI q := by rw [lo j (by omega)]; exact hq2
        refine ⟨vp_in_nI (by omega) (by decide), ?_⟩
        rw [gi]
        refine rs_yOf h28p (hG p hp1) ⟨vp_in_nI (by omega) (by decide), ?_⟩
        rw [gj]
        refine rs_yOf h28q (hG q hq1) ?_
        exact pk_lt (rs_y a_placeOf q) (rs_y a_placeOf p) (fun w => right y (rR (by omega))) (fun w => left x (lR w))
theorem rs_mergeLists {post : SX → Prop} {l a sz : Nat} {G F0 : Nat → Int32} (hG : rs_G f_present a_placeOf) (hl : l ≤ 4) (ha : a < sz) (hsz : sz ≤ 28) (hV : ∀ t, t < sz → rs_V f_present (a_order t))
    (hL : rs_LS (rs_k a_placeOf 0) G a_order l a (min (a + 2 ^ l) sz)) (hR : a + 2 ^ l < sz → rs_LS (rs_k a_placeOf 0) G a_order l (a + 2 ^ l) (min (a + 2 ^ l + 2 ^ l) sz))
    (hp : ∀ G' Fl', rs_Ag ((l + 1) * 32 + a) ((l + 1) * 32 + min (a + 2 ^ (l + 1)) sz) G G' → rs_Ag ((l + 1) * 33 + a) ((l + 1) * 33 + min (a + 2 ^ (l + 1)) sz) F0 Fl' → rs_LC (rs_k a_placeOf 0) G' Fl' a_order sz (l + 1) a → post (f_present, nI sz, f_lowX, f_lowY, f_highX, f_highY, f_found, f_nearX, f_nearY, f_best, f_bestSquare, f_waiting, f_quads, nI (l + 1), f_boxes, a_placeOf, a_order, a_waitA, a_waitB, a_waitC, a_waitD, a_quadX, a_quadY, a_quadSide, a_quadPart, a_quadCount, a_quadFirst, a_nextPoint, G', Fl', a_boxLowX, a_boxLowY, a_boxHighX, a_boxHighY, a_boxFirst, a_boxParts, a_boxOfPoints, a_zeros, a_bottom, a_sorted, a_cellFirst, a_heapPoint, a_heapSplit)) : wpX_mergeLists post (f_present, nI sz, f_lowX, f_lowY, f_highX, f_highY, f_found, f_nearX, f_nearY, f_best, f_bestSquare, f_waiting, f_quads, nI (l + 1), f_boxes, a_placeOf, a_order, a_waitA, a_waitB, a_waitC, a_waitD, a_quadX, a_quadY, a_quadSide, a_quadPart, a_quadCount, a_quadFirst, a_nextPoint, G, F0, a_boxLowX, a_boxLowY, a_boxHighX, a_boxHighY, a_boxFirst, a_boxParts, a_boxOfPoints, a_zeros, a_bottom, a_sorted, a_cellFirst, a_heapPoint, a_heapSplit) (nI a) := by
  have h2 := rs_2e l
  have hb : 2 ^ l ≤ 16 := Nat.pow_le_pow_right (by decide) hl
  have hb1 : 1 ≤ 2 ^ l := Nat.one_le_two_pow
  have hR' : rs_LS (rs_k a_placeOf 0) G a_order l (min (a + 2 ^ l) sz) (min (a + 2 ^ (l + 1)) sz) := by
    rcases Nat.lt_or_ge (a + 2 ^ l) sz with z | z
    · rw [Nat.min_eq_left (Nat.le_of_lt z), h2, show a + 2 * 2 ^ l = a + 2 ^ l + 2 ^ l by omega]
      exact hR z
    · exact rs_LS_e (by omega)
  have main : ∀ m e, m = min (a + 2 ^ l) sz → e = min (a + 2 ^ (l + 1)) sz → (wX_mergeLists_54 post (nI a) (nI m) (nI e) f_present (nI sz) f_lowX f_lowY f_highX f_highY f_found f_nearX f_nearY f_best f_bestSquare f_waiting f_quads (nI (l + 1)) f_boxes a_placeOf a_order a_waitA a_waitB a_waitC a_waitD a_quadX a_quadY a_quadSide a_quadPart a_quadCount a_quadFirst a_nextPoint G F0 a_boxLowX a_boxLowY a_boxHighX a_boxHighY a_boxFirst a_boxParts a_boxOfPoints a_zeros a_bottom a_sorted a_cellFirst a_heapPoint a_heapSplit) := by
    intro m e em ee
    rw [← em] at hL hR'
    rw [← ee] at hR' hp
    unfold wX_mergeLists_54
    refine nm_r (e' := nI (l * 32)) (by rw [nI_pred]; exact pk_mul l 32) (Exists.intro (e + 1) ?_)
    refine rs_ml_loop hG hl (by omega) (by omega) (by omega) (fun t t1 t2 => ?_) hL.1 hR'.1 (fun G' Fl' i j g1 g2 hM => hp G' Fl' g1 g2 ?_) (e + 1) a m a G F0 (by omega) (by omega) (Nat.le_refl _) rs_Ag_r rs_Ag_r (rs_MI_0 (by omega) (by omega))
    · rcases Nat.lt_or_ge t m with z | z
      · obtain ⟨q, q1, q2, q3⟩ := hL.2.1 t t1 z
        rw [q3]
        exact hV q (by omega)
      · obtain ⟨q, q1, q2, q3⟩ := hR'.2.1 t z t2
        rw [q3]
        exact hV q (by omega)
    · have keep : ∀ r, r < 32 → G' (l * 32 + r) = G (l * 32 + r) := fun r hr => g1 _ (by omega)
      have := rs_merge hM (by omega) (by omega) (rs_LS_c (fun r _ hr => keep r (by omega)) hL) (rs_LS_c (fun r _ hr => keep r (by omega)) hR')
      rw [em, ee] at this
      exact this
  have s1 : (1 : Int32) <<< ((nI (l + 1) - 1) &&& 31) = nI (2 ^ l) := by rw [nI_pred]; exact rs_shl1 (by omega)
  unfold wpX_mergeLists
  refine nm_r s1 ?_
  rw [nI_add]
  have e2 : nI a + 2 * nI (2 ^ l) = nI (a + 2 ^ (l + 1)) := by
    have := pk_mul 2 (2 ^ l)
    rw [h2, ← nI_add, ← this]
    rfl
  have go : ∀ m, m = min (a + 2 ^ l) sz → (wX_mergeLists_29 post (nI a) (nI (2 ^ l)) (nI m) f_present (nI sz) f_lowX f_lowY f_highX f_highY f_found f_nearX f_nearY f_best f_bestSquare f_waiting f_quads (nI (l + 1)) f_boxes a_placeOf a_order a_waitA a_waitB a_waitC a_waitD a_quadX a_quadY a_quadSide a_quadPart a_quadCount a_quadFirst a_nextPoint G F0 a_boxLowX a_boxLowY a_boxHighX a_boxHighY a_boxFirst a_boxParts a_boxOfPoints a_zeros a_bottom a_sorted a_cellFirst a_heapPoint a_heapSplit) := by
    intro m em
    unfold wX_mergeLists_29
    rw [e2]
    exact pk_le sz (a + 2 ^ (l + 1)) (fun z => main m sz em (by omega)) (fun z => main m _ em (by omega))
  exact pk_le sz (a + 2 ^ l) (fun z => go sz (by omega)) (fun z => go _ (by omega))
/-- the stretches of one level, from left to right -/
theorem rs_bl_60 {post : SX → Prop} {J43 : Int32 → Int32 → Int32 → Int32 → Int32 → Int32 → Int32 → Int32 → Int32 → Int32 → Int32 → Int32 → Int32 → Int32 → Int32 → (Nat → Int32) → (Nat → Int32) → (Nat → Int32) → (Nat → Int32) → (Nat → Int32) → (Nat → Int32) → (Nat → Int32) → (Nat → Int32) → (Nat → Int32) → (Nat → Int32) → (Nat → Int32) → (Nat → Int32) → (Nat → Int32) → (Nat → Int32) → (Nat → Int32) → (Nat → Int32) → (Nat → Int32) → (Nat → Int32) → (Nat → Int32) → (Nat → Int32) → (Nat → Int32) → (Nat → Int32) → (Nat → Int32) → (Nat → Int32) → (Nat → Int32) → (Nat → Int32) → (Nat → Int32) → (Nat → Int32) → Prop} {l sz : Nat} (hG : rs_G f_present a_placeOf) (hl : l ≤ 4) (hsz : sz ≤ 28) (hV : ∀ t, t < sz → rs_V f_present (a_order t))
    (hJ : ∀ G Fl, rs_LI (rs_k a_placeOf 0) G Fl a_order sz (l + 2) → J43 f_present (nI sz) f_lowX f_lowY f_highX f_highY f_found f_nearX f_nearY f_best f_bestSquare f_waiting f_quads (nI (l + 2)) f_boxes a_placeOf a_order a_waitA a_waitB a_waitC a_waitD a_quadX a_quadY a_quadSide a_quadPart a_quadCount a_quadFirst a_nextPoint G Fl a_boxLowX a_boxLowY a_boxHighX a_boxHighY a_boxFirst a_boxParts a_boxOfPoints a_zeros a_bottom a_sorted a_cellFirst a_heapPoint a_heapSplit) :
    ∀ (n c : Nat) (G Fl : Nat → Int32), 0 < n → sz < n + c * 2 ^ (l + 1) → c * 2 ^ (l + 1) < 128 → rs_LI (rs_k a_placeOf 0) G Fl a_order sz (l + 1) → (∀ c', c' < c → c' * 2 ^ (l + 1) < sz → rs_LC (rs_k a_placeOf 0) G Fl a_order sz (l + 1) (c' * 2 ^ (l + 1))) → (wX_buildLists_60 post J43 n (nI (c * 2 ^ (l + 1))) f_present (nI sz) f_lowX f_lowY f_highX f_highY f_found f_nearX f_nearY f_best f_bestSquare f_waiting f_quads (nI (l + 1)) f_boxes a_placeOf a_order a_waitA a_waitB a_waitC a_waitD a_quadX a_quadY a_quadSide a_quadPart a_quadCount a_quadFirst a_nextPoint G Fl a_boxLowX a_boxLowY a_boxHighX a_boxHighY a_boxFirst a_boxParts a_boxOfPoints a_zeros a_bottom a_sorted a_cellFirst a_heapPoint a_heapSplit) := by
  have h2 := rs_2e l
  have hb : 2 ^ l ≤ 16 := Nat.pow_le_pow_right (by decide) hl
  have hb1 : 1 ≤ 2 ^ l := Nat.one_le_two_pow
  have mono : ∀ x y : Nat, x ≤ y → x * 2 ^ (l + 1) ≤ y * 2 ^ (l + 1) := fun x y h => Nat.mul_le_mul_right _ h
  have sm : ∀ x : Nat, (x + 1) * 2 ^ (l + 1) = x * 2 ^ (l + 1) + 2 ^ (l + 1) := fun x => Nat.succ_mul x _
  intro n
  induction n with
  | zero =>
    intro c G Fl h0 h1 h2 hI hC
    omega
  | succ n ih =>
    intro c G Fl h0 h1 h3 hI hC
    refine pk_le sz (c * 2 ^ (l + 1)) (fun z => nm_r (nI_1 (l + 1)) (hJ G Fl (fun l' hl' c' hc' => ?_))) (fun z => ?_)
    · rcases Nat.lt_or_ge l' (l + 1) with w | w
      · exact hI l' w c' hc'
      · have e : l' = l + 1 := by omega
        subst e
        refine hC c' ?_ hc'
        rcases Nat.lt_or_ge c' c with v | v
        · exact v
        · have := mono c c' v
          omega
    · have a2 : c * 2 ^ (l + 1) = (2 * c) * 2 ^ l := by rw [h2]; grind
      have a3 : c * 2 ^ (l + 1) + 2 ^ l = (2 * c + 1) * 2 ^ l := by rw [Nat.succ_mul, a2]
      have sl : (1 : Int32) <<< (nI (l + 1) &&& 31) = nI (2 ^ (l + 1)) := rs_shl1 (by omega)
      refine rs_mergeLists hG hl z hsz hV ?_ (fun w => ?_) (fun G' Fl' g1 g2 g3 => ?_)
      · rw [a2] at z ⊢
        exact rs_LC_S (hI l (by omega) (2 * c) z)
      · rw [a3] at w ⊢
        exact rs_LC_S (hI l (by omega) (2 * c + 1) w)
      · refine nm_r (e' := nI ((c + 1) * 2 ^ (l + 1))) (by rw [sl, nI_add, sm]) ?_
        refine ih (c + 1) G' Fl' (by omega) (by rw [sm]; omega) (by rw [sm]; omega) (fun l' hl' c' hc' => ?_) (fun c' hc' hs' => ?_)
        · exact rs_LC_c hsz hc' (by omega) (by omega) g1 g2 (Or.inl hl') (hI l' hl' c' hc')
        · rcases Nat.lt_or_ge c' c with v | v
          · refine rs_LC_c hsz hs' (by omega) (by omega) g1 g2 (Or.inr ⟨rfl, ?_⟩) (hC c' v hs')
            have := mono (c' + 1) c v
            rw [sm] at this
            exact this
          · have e : c' = c := by omega
            rw [e]
            exact g3
theorem rs_bl_43 {post : SX → Prop} {sz : Nat} (hG : rs_G f_present a_placeOf) (hsz : sz ≤ 28) (hV : ∀ t, t < sz → rs_V f_present (a_order t))
    (hp : ∀ G Fl l, l ≤ 5 → sz ≤ 2 ^ l → rs_LI (rs_k a_placeOf 0) G Fl a_order sz (l + 1) → post (f_present, nI sz, f_lowX, f_lowY, f_highX, f_highY, f_found, f_nearX, f_nearY, f_best, f_bestSquare, f_waiting, f_quads, nI (l + 1), f_boxes, a_placeOf, a_order, a_waitA, a_waitB, a_waitC, a_waitD, a_quadX, a_quadY, a_quadSide, a_quadPart, a_quadCount, a_quadFirst, a_nextPoint, G, Fl, a_boxLowX, a_boxLowY, a_boxHighX, a_boxHighY, a_boxFirst, a_boxParts, a_boxOfPoints, a_zeros, a_bottom, a_sorted, a_cellFirst, a_heapPoint, a_heapSplit)) :
    ∀ (n l : Nat) (G Fl : Nat → Int32), 5 < n + l → l ≤ 5 → rs_LI (rs_k a_placeOf 0) G Fl a_order sz (l + 1) → (wX_buildLists_43 post n f_present (nI sz) f_lowX f_lowY f_highX f_highY f_found f_nearX f_nearY f_best f_bestSquare f_waiting f_quads (nI (l + 1)) f_boxes a_placeOf a_order a_waitA a_waitB a_waitC a_waitD a_quadX a_quadY a_quadSide a_quadPart a_quadCount a_quadFirst a_nextPoint G Fl a_boxLowX a_boxLowY a_boxHighX a_boxHighY a_boxFirst a_boxParts a_boxOfPoints a_zeros a_bottom a_sorted a_cellFirst a_heapPoint a_heapSplit) := by
  intro n
  induction n with
  | zero => intro l G Fl h1 h2; omega
  | succ n ih =>
    intro l G Fl h1 h2 hI
    have s1 : (1 : Int32) <<< ((nI (l + 1) - 1) &&& 31) = nI (2 ^ l) := by rw [nI_pred]; exact rs_shl1 (by omega)
    have hb : 2 ^ l ≤ 32 := Nat.pow_le_pow_right (n := 2) (j := 5) (by decide) h2
    refine pk_le sz (2 ^ l) (fun z => hp G Fl l h2 z hI) (fun z => Exists.intro 29 ?_) (hy := s1)
    have hl : l ≤ 4 := by
      rcases Nat.lt_or_ge l 5 with w | w
      · omega
      · have := Nat.pow_le_pow_right (n := 2) (by decide) w
        omega
    have := rs_bl_60 (post := post) (J43 := wX_buildLists_43 post n) (l := l) hG hl hsz hV (fun G' Fl' hI' => ih (l + 1) G' Fl' (by omega) (by omega) hI') 29 0 G Fl (by omega) (by omega) (by omega) hI (fun c' h => by omega)
    rw [Nat.zero_mul] at this
    exact this
theorem rs_bl_12 {post : SX → Prop} {f_levels : Int32} {sz : Nat} {Fl : Nat → Int32} (hG : rs_G f_present a_placeOf) (hsz : sz ≤ 28) (hV : ∀ t, t < sz → rs_V f_present (a_order t))
    (hp : ∀ G Fl l, l ≤ 5 → sz ≤ 2 ^ l → rs_LI (rs_k a_placeOf 0) G Fl a_order sz (l + 1) → post (f_present, nI sz, f_lowX, f_lowY, f_highX, f_highY, f_found, f_nearX, f_nearY, f_best, f_bestSquare, f_waiting, f_quads, nI (l + 1), f_boxes, a_placeOf, a_order, a_waitA, a_waitB, a_waitC, a_waitD, a_quadX, a_quadY, a_quadSide, a_quadPart, a_quadCount, a_quadFirst, a_nextPoint, G, Fl, a_boxLowX, a_boxLowY, a_boxHighX, a_boxHighY, a_boxFirst, a_boxParts, a_boxOfPoints, a_zeros, a_bottom, a_sorted, a_cellFirst, a_heapPoint, a_heapSplit)) :
    ∀ (n i : Nat) (G : Nat → Int32), sz < n + i → i ≤ sz → (∀ t, t < i → G t = a_order t) → (wX_buildLists_12 post f_present (nI sz) f_lowX f_lowY f_highX f_highY f_found f_nearX f_nearY f_best f_bestSquare f_waiting f_quads f_levels f_boxes n (nI i) a_placeOf a_order a_waitA a_waitB a_waitC a_waitD a_quadX a_quadY a_quadSide a_quadPart a_quadCount a_quadFirst a_nextPoint G Fl a_boxLowX a_boxLowY a_boxHighX a_boxHighY a_boxFirst a_boxParts a_boxOfPoints a_zeros a_bottom a_sorted a_cellFirst a_heapPoint a_heapSplit) := by
  intro n
  induction n with
  | zero => intro i G h1 h2; omega
  | succ n ih =>
    intro i G h1 h2 hc
    refine pk_le sz i (fun z => Exists.intro 6 (rs_bl_43 hG hsz hV hp 6 0 G Fl (by omega) (by omega) (fun l hl c hc' => ?_))) (fun z => ?_)
    · have e : l = 0 := by omega
      subst e
      have e1 : c * 2 ^ 0 = c := Nat.mul_one c
      rw [e1] at hc' ⊢
      have eq : ∀ r, r < sz → G (0 * 32 + r) = a_order r := fun r hr => by rw [Nat.zero_mul, Nat.zero_add]; exact hc r (by omega)
      refine ⟨fun r t r1 r2 r3 => ?_, fun r r1 r2 => ⟨r, r1, r2, eq r (by omega)⟩, fun t t1 t2 => ⟨t, t1, t2, eq t (by omega)⟩⟩
      have : r = t := by omega
      rw [this]
      exact Nat.le_refl _
    · obtain ⟨k, hk, ek⟩ := hV i z
      have h28 := hk.1
      refine ⟨vp_in_nI (by omega) (by decide), vp_in_nI (by omega) (by decide), nm_r (e' := upd G i (a_order i)) (by rw [nI_clamp (by omega), ek, rs_nb (by omega)]) (nm_r (nI_1 i) (ih (i + 1) _ (by omega) (by omega) (fun t ht => ?_)))⟩
      by_cases e : t = i
      · rw [e]; exact pk_us
      · rw [pk_un e]; exact hc t (by omega)
end
section
variable {f_present f_size f_lowX f_lowY f_highX f_highY f_found f_nearX f_nearY f_best f_bestSquare f_waiting f_quads f_levels f_boxes : Int32} {a_placeOf a_order a_waitA a_waitB a_waitC a_waitD a_quadX a_quadY a_quadSide a_quadPart a_quadCount a_quadFirst a_nextPoint a_lists a_fromLeft a_boxLowX a_boxLowY a_boxHighX a_boxHighY a_boxFirst a_boxParts a_boxOfPoints a_zeros a_bottom a_sorted a_cellFirst a_heapPoint a_heapSplit : Nat → Int32}
theorem rs_buildLists {post : SX → Prop} {sz : Nat} (hG : rs_G f_present a_placeOf) (hA : rs_Al f_present sz a_order)
    (hp : ∀ o G Fl l, rs_Al f_present sz o → rs_So (rs_k a_placeOf 1) 0 sz o → l ≤ 5 → sz ≤ 2 ^ l → rs_LI (rs_k a_placeOf 0) G Fl o sz (l + 1) → post (f_present, nI sz, f_lowX, f_lowY, f_highX, f_highY, f_found, f_nearX, f_nearY, f_best, f_bestSquare, f_waiting, f_quads, nI (l + 1), f_boxes, a_placeOf, o, a_waitA, a_waitB, a_waitC, a_waitD, a_quadX, a_quadY, a_quadSide, a_quadPart, a_quadCount, a_quadFirst, a_nextPoint, G, Fl, a_boxLowX, a_boxLowY, a_boxHighX, a_boxHighY, a_boxFirst, a_boxParts, a_boxOfPoints, a_zeros, a_bottom, a_sorted, a_cellFirst, a_heapPoint, a_heapSplit)) : wpX_buildLists post (f_present, nI sz, f_lowX, f_lowY, f_highX, f_highY, f_found, f_nearX, f_nearY, f_best, f_bestSquare, f_waiting, f_quads, f_levels, f_boxes, a_placeOf, a_order, a_waitA, a_waitB, a_waitC, a_waitD, a_quadX, a_quadY, a_quadSide, a_quadPart, a_quadCount, a_quadFirst, a_nextPoint, a_lists, a_fromLeft, a_boxLowX, a_boxLowY, a_boxHighX, a_boxHighY, a_boxFirst, a_boxParts, a_boxOfPoints, a_zeros, a_bottom, a_sorted, a_cellFirst, a_heapPoint, a_heapSplit) := by
  have hz := hA.1
  unfold wpX_buildLists
  refine rs_sort 0 sz 1 hG (by decide) (by decide) hz rfl rfl rfl (fun l _ h => hA.2.1 l h) (fun o pm so => Exists.intro (sz + 1) ?_)
  have hA' := rs_Al_Pm hA pm
  exact rs_bl_12 hG hz hA'.2.1 (fun G Fl l h1 h2 h3 => hp o G Fl l hA' so h1 h2 h3) (sz + 1) 0 a_lists (by omega) (by omega) (fun t h => by omega)
end
end
section
/-! sorted lists: the searches -/
section
variable {f_present f_size f_lowX f_lowY f_highX f_highY f_found f_nearX f_nearY f_best f_bestSquare f_waiting f_quads f_levels f_boxes : Int32} {a_placeOf a_order a_waitA a_waitB a_waitC a_waitD a_quadX a_quadY a_quadSide a_quadPart a_quadCount a_quadFirst a_nextPoint a_lists a_fromLeft a_boxLowX a_boxLowY a_boxHighX a_boxHighY a_boxFirst a_boxParts a_boxOfPoints a_zeros a_bottom a_sorted a_cellFirst a_heapPoint a_heapSplit : Nat → Int32}
theorem rs_pX_loop {post : Int32 → Prop} {X sz : Nat} (hX : X ≤ 64) (hG : rs_G f_present a_placeOf) (hsz : sz ≤ 28) (hV : ∀ j, j < sz → rs_V f_present (a_order j)) (hs : rs_So (rs_k a_placeOf 1) 0 sz a_order)
    (hp : ∀ r, r ≤ sz → (∀ t, t < r → rs_k a_placeOf 1 (a_order t) < X) → (∀ t, r ≤ t → t < sz → X ≤ rs_k a_placeOf 1 (a_order t)) → post (nI r)) :
    ∀ n lo hi, hi < n + lo → lo ≤ hi → hi ≤ sz → (∀ t, t < lo → rs_k a_placeOf 1 (a_order t) < X) → (∀ t, hi ≤ t → t < sz → X ≤ rs_k a_placeOf 1 (a_order t)) → (wX_placeForX_7 post (nI X) f_present (nI sz) f_lowX f_lowY f_highX f_highY f_found f_nearX f_nearY f_best f_bestSquare f_waiting f_quads f_levels f_boxes a_placeOf a_order a_waitA a_waitB a_waitC a_waitD a_quadX a_quadY a_quadSide a_quadPart a_quadCount a_quadFirst a_nextPoint a_lists a_fromLeft a_boxLowX a_boxLowY a_boxHighX a_boxHighY a_boxFirst a_boxParts a_boxOfPoints a_zeros a_bottom a_sorted a_cellFirst a_heapPoint a_heapSplit n (nI lo) (nI hi)) := by
  intro n
  induction n with
  | zero => intro lo hi h1 h2; omega
  | succ n ih =>
    intro lo hi h1 h2 h3 hl hh
    refine pk_le hi lo (fun z => hp lo (by omega) hl (fun t t1 t2 => hh t (by omega) t2)) (fun z => ?_)
    obtain ⟨k, hk, ek⟩ := hV ((lo + hi) / 2) (by omega)
    have h28 := hk.1
    have hxk := rs_xlt a_placeOf k
    have key : rs_k a_placeOf 1 (a_order ((lo + hi) / 2)) = rs_x a_placeOf k := by rw [ek, rs_k1 h28]
    refine And.intro (by decide) (nm_r (e' := nI ((lo + hi) / 2)) (by rw [nI_add]; exact pk_div (d := 2) (by omega) (by decide) (by decide)) (And.intro (vp_in_nI (by omega) (by decide)) ?_))
    rw [nI_clamp (show (lo + hi) / 2 < 2 ^ 31 by omega), ek]
    refine rs_xOf h28 (hG k hk) ?_
    refine pk_le X (rs_x a_placeOf k) (fun y => ?_) (fun y => ?_)
    · unfold wX_placeForX_39
      refine br_t rfl ?_
      unfold wX_placeForX_54
      refine br_t rfl (ih lo ((lo + hi) / 2) (by omega) (by omega) (by omega) hl (fun t t1 t2 => ?_))
      have := hs ((lo + hi) / 2) t (Nat.zero_le _) t1 t2
      omega
    · unfold wX_placeForX_39
      refine br_f (by decide) ?_
      unfold wX_placeForX_54
      rw [nI_1]
      refine br_f (by decide) (ih ((lo + hi) / 2 + 1) hi (by omega) (by omega) h3 (fun t ht => ?_) hh)
      have := hs t ((lo + hi) / 2) (Nat.zero_le _) (by omega) (by omega)
      omega
theorem rs_placeForX {post : Int32 → Prop} {X sz : Nat} {x : Int32} (ex : x = nI X) (hX : X ≤ 64) (hG : rs_G f_present a_placeOf) (hsz : sz ≤ 28) (hV : ∀ j, j < sz → rs_V f_present (a_order j)) (hs : rs_So (rs_k a_placeOf 1) 0 sz a_order)
    (hp : ∀ r, r ≤ sz → (∀ t, t < r → rs_k a_placeOf 1 (a_order t) < X) → (∀ t, r ≤ t → t < sz → X ≤ rs_k a_placeOf 1 (a_order t)) → post (nI r)) : wpX_placeForX post (f_present, nI sz, f_lowX, f_lowY, f_highX, f_highY, f_found, f_nearX, f_nearY, f_best, f_bestSquare, f_waiting, f_quads, f_levels, f_boxes, a_placeOf, a_order, a_waitA, a_waitB, a_waitC, a_waitD, a_quadX, a_quadY, a_quadSide, a_quadPart, a_quadCount, a_quadFirst, a_nextPoint, a_lists, a_fromLeft, a_boxLowX, a_boxLowY, a_boxHighX, a_boxHighY, a_boxFirst, a_boxParts, a_boxOfPoints, a_zeros, a_bottom, a_sorted, a_cellFirst, a_heapPoint, a_heapSplit) x := by
  subst ex
  unfold wpX_placeForX
  exact Exists.intro (sz + 1) (rs_pX_loop hX hG hsz hV hs hp (sz + 1) 0 sz (by omega) (by omega) (Nat.le_refl _) (fun t h => by omega) (fun t h1 h2 => by omega))
theorem rs_pY_loop {post : Int32 → Prop} {Y l a e : Nat} {G : Nat → Int32} (hY : Y < 64) (hl : l ≤ 5) (he : e ≤ 28) (hG : rs_G f_present a_placeOf) (hV : ∀ t, a ≤ t → t < e → rs_V f_present (G (l * 32 + t))) (hs : ∀ r t, a ≤ r → r ≤ t → t < e → rs_k a_placeOf 0 (G (l * 32 + r)) ≤ rs_k a_placeOf 0 (G (l * 32 + t)))
    (hp : ∀ r, a ≤ r → r ≤ e → (∀ t, a ≤ t → t < r → rs_k a_placeOf 0 (G (l * 32 + t)) < Y) → (∀ t, r ≤ t → t < e → Y ≤ rs_k a_placeOf 0 (G (l * 32 + t))) → post (nI r)) :
    ∀ n lo hi, hi < n + lo → a ≤ lo → lo ≤ hi → hi ≤ e → (∀ t, a ≤ t → t < lo → rs_k a_placeOf 0 (G (l * 32 + t)) < Y) → (∀ t, hi ≤ t → t < e → Y ≤ rs_k a_placeOf 0 (G (l * 32 + t))) → (wX_placeForY_6 post (nI l) (nI Y) f_present f_size f_lowX f_lowY f_highX f_highY f_found f_nearX f_nearY f_best f_bestSquare f_waiting f_quads f_levels f_boxes a_placeOf a_order a_waitA a_waitB a_waitC a_waitD a_quadX a_quadY a_quadSide a_quadPart a_quadCount a_quadFirst a_nextPoint G a_fromLeft a_boxLowX a_boxLowY a_boxHighX a_boxHighY a_boxFirst a_boxParts a_boxOfPoints a_zeros a_bottom a_sorted a_cellFirst a_heapPoint a_heapSplit n (nI lo) (nI hi)) := by
  intro n
  induction n with
  | zero => intro lo hi h1 h0 h2; omega
  | succ n ih =>
    intro lo hi h1 h0 h2 h3 hlo hh
    refine pk_le hi lo (fun z => hp lo h0 (by omega) hlo (fun t t1 t2 => hh t (by omega) t2)) (fun z => ?_)
    obtain ⟨k, hk, ek⟩ := hV ((lo + hi) / 2) (by omega) (by omega)
    have h28 := hk.1
    have hyk := rs_ylt (hG k hk)
    have key : rs_k a_placeOf 0 (G (l * 32 + (lo + hi) / 2)) = rs_y a_placeOf k := by rw [ek, rs_k0 h28]
    have e32 : nI l * 32 + nI ((lo + hi) / 2) = nI (l * 32 + (lo + hi) / 2) := rs_ix l _ 32
    refine And.intro (by decide) (nm_r (e' := nI ((lo + hi) / 2)) (by rw [nI_add]; exact pk_div (d := 2) (by omega) (by decide) (by decide)) ?_)
    rw [e32]
    refine And.intro (vp_in_nI (by omega) (by decide)) ?_
    rw [nI_clamp (show l * 32 + (lo + hi) / 2 < 2 ^ 31 by omega), ek]
    refine rs_yOf h28 (hG k hk) ?_
    refine pk_le Y (rs_y a_placeOf k) (fun y => ?_) (fun y => ?_)
    · unfold wX_placeForY_48
      refine br_t rfl ?_
      unfold wX_placeForY_64
      refine br_t rfl (ih lo ((lo + hi) / 2) (by omega) h0 (by omega) (by omega) hlo (fun t t1 t2 => ?_))
      have := hs ((lo + hi) / 2) t (by omega) t1 t2
      omega
    · unfold wX_placeForY_48
      refine br_f (by decide) ?_
      unfold wX_placeForY_64
      rw [nI_1]
      refine br_f (by decide) (ih ((lo + hi) / 2 + 1) hi (by omega) (by omega) (by omega) h3 (fun t t0 ht => ?_) hh)
      have := hs t ((lo + hi) / 2) t0 (by omega) (by omega)
      omega
theorem rs_placeForY {post : Int32 → Prop} {Y l a e : Nat} {G : Nat → Int32} {x : Int32} (ex : x = nI l) (hY : Y < 64) (hl : l ≤ 5) (hae : a ≤ e) (he : e ≤ 28) (hG : rs_G f_present a_placeOf) (hV : ∀ t, a ≤ t → t < e → rs_V f_present (G (l * 32 + t))) (hs : ∀ r t, a ≤ r → r ≤ t → t < e → rs_k a_placeOf 0 (G (l * 32 + r)) ≤ rs_k a_placeOf 0 (G (l * 32 + t)))
    (hp : ∀ r, a ≤ r → r ≤ e → (∀ t, a ≤ t → t < r → rs_k a_placeOf 0 (G (l * 32 + t)) < Y) → (∀ t, r ≤ t → t < e → Y ≤ rs_k a_placeOf 0 (G (l * 32 + t))) → post (nI r)) : wpX_placeForY post (f_present, f_size, f_lowX, f_lowY, f_highX, f_highY, f_found, f_nearX, f_nearY, f_best, f_bestSquare, f_waiting, f_quads, f_levels, f_boxes, a_placeOf, a_order, a_waitA, a_waitB, a_waitC, a_waitD, a_quadX, a_quadY, a_quadSide, a_quadPart, a_quadCount, a_quadFirst, a_nextPoint, G, a_fromLeft, a_boxLowX, a_boxLowY, a_boxHighX, a_boxHighY, a_boxFirst, a_boxParts, a_boxOfPoints, a_zeros, a_bottom, a_sorted, a_cellFirst, a_heapPoint, a_heapSplit) x (nI a) (nI e) (nI Y) := by
  subst ex
  unfold wpX_placeForY
  exact Exists.intro (e + 1) (rs_pY_loop hY hl he hG hV hs hp (e + 1) a e (by omega) (Nat.le_refl _) hae (Nat.le_refl _) (fun t h1 h2 => by omega) (fun t h1 h2 => by omega))
theorem rs_endOf {post : Int32 → Prop} {l a sz : Nat} (hl : l ≤ 5) (ha : a ≤ 28) (hsz : sz ≤ 28) (hp : post (nI (min (a + 2 ^ l) sz))) : wpX_endOf post (f_present, nI sz, f_lowX, f_lowY, f_highX, f_highY, f_found, f_nearX, f_nearY, f_best, f_bestSquare, f_waiting, f_quads, f_levels, f_boxes, a_placeOf, a_order, a_waitA, a_waitB, a_waitC, a_waitD, a_quadX, a_quadY, a_quadSide, a_quadPart, a_quadCount, a_quadFirst, a_nextPoint, a_lists, a_fromLeft, a_boxLowX, a_boxLowY, a_boxHighX, a_boxHighY, a_boxFirst, a_boxParts, a_boxOfPoints, a_zeros, a_bottom, a_sorted, a_cellFirst, a_heapPoint, a_heapSplit) (nI l) (nI a) := by
  have hb : 2 ^ l ≤ 32 := Nat.pow_le_pow_right (n := 2) (j := 5) (by decide) hl
  unfold wpX_endOf
  refine nm_r (e' := nI (a + 2 ^ l)) (by rw [rs_shl1 (by omega), nI_add]) (pk_le sz (a + 2 ^ l) (fun z => ?_) (fun z => ?_))
  · rw [Nat.min_eq_right z] at hp; exact hp
  · rw [Nat.min_eq_left (Nat.le_of_lt z)] at hp; exact hp
theorem rs_tl_loop {post : SX → Prop} {lx ly hx hy l a e : Nat} {G : Nat → Int32} (hhy : hy < 64) (hl : l ≤ 5) (he : e ≤ 28) (hG : rs_G f_present a_placeOf) (hV : ∀ t, a ≤ t → t < e → rs_V f_present (G (l * 32 + t))) (hs : ∀ r t, a ≤ r → r ≤ t → t < e → rs_k a_placeOf 0 (G (l * 32 + r)) ≤ rs_k a_placeOf 0 (G (l * 32 + t)))
    (hQ : ∀ r k, a ≤ r → r < e → rs_H f_present k → G (l * 32 + r) = nI k → rs_y a_placeOf k ≤ hy → rs_Q a_placeOf lx ly hx hy k) (f0 : Int32)
    (hp : ∀ f', rs_Sn f_present (rs_Q a_placeOf lx ly hx hy) f' → rs_Le f0 f' → (∀ r k, a ≤ r → r < e → rs_H f_present k → G (l * 32 + r) = nI k → rs_Fi (rs_Q a_placeOf lx ly hx hy) f' k) → post (f_present, f_size, nI lx, nI ly, nI hx, nI hy, f', f_nearX, f_nearY, f_best, f_bestSquare, f_waiting, f_quads, f_levels, f_boxes, a_placeOf, a_order, a_waitA, a_waitB, a_waitC, a_waitD, a_quadX, a_quadY, a_quadSide, a_quadPart, a_quadCount, a_quadFirst, a_nextPoint, G, a_fromLeft, a_boxLowX, a_boxLowY, a_boxHighX, a_boxHighY, a_boxFirst, a_boxParts, a_boxOfPoints, a_zeros, a_bottom, a_sorted, a_cellFirst, a_heapPoint, a_heapSplit)) :
    ∀ n i f, e < n + i → a ≤ i → i ≤ e → rs_Sn f_present (rs_Q a_placeOf lx ly hx hy) f → rs_Le f0 f → (∀ r k, a ≤ r → r < i → rs_H f_present k → G (l * 32 + r) = nI k → rs_Fi (rs_Q a_placeOf lx ly hx hy) f k) → (wX_takeList_3 post (nI l) (nI e) f_present f_size (nI lx) (nI ly) (nI hx) (nI hy) f_nearX f_nearY f_best f_bestSquare f_waiting f_quads f_levels f_boxes a_placeOf a_order a_waitA a_waitB a_waitC a_waitD a_quadX a_quadY a_quadSide a_quadPart a_quadCount a_quadFirst a_nextPoint G a_fromLeft a_boxLowX a_boxLowY a_boxHighX a_boxHighY a_boxFirst a_boxParts a_boxOfPoints a_zeros a_bottom a_sorted a_cellFirst a_heapPoint a_heapSplit n (nI i) f) := by
  intro n
  induction n with
  | zero => intro i f h1 h2 h3; omega
  | succ n ih =>
    intro i f h1 h2 h3 hF hLe hI
    refine pk_le e i (fun z => hp f hF hLe (fun r k r1 r2 => hI r k r1 (by omega))) (fun z => ?_)
    obtain ⟨k, hk, ek⟩ := hV i h2 z
    have h28 := hk.1
    have hyk := rs_ylt (hG k hk)
    have e32 : nI l * 32 + nI i = nI (l * 32 + i) := rs_ix l _ 32
    rw [e32]
    have ii : vp_in (nI (l * 32 + i)) 192 := vp_in_nI (by omega) (by decide)
    refine And.intro ii ?_
    rw [nI_clamp (show l * 32 + i < 2 ^ 31 by omega), ek]
    refine rs_yOf h28 (hG k hk) (pk_lt hy (rs_y a_placeOf k) (fun y => hp f hF hLe (fun r j r1 r2 hj ej => ?_)) (fun y => And.intro ii (nm_e (nm_r (nI_1 i) ?_))))
    · rcases Nat.lt_or_ge r i with w | w
      · exact hI r j r1 w hj ej
      · intro q
        have := hs i r h2 w r2
        have hj28 := hj.1
        rw [ek, ej, rs_k0 h28, rs_k0 hj28] at this
        have := q.2.2.2
        omega
    · have w := rs_Sn_add hF hk (hQ i k h2 z hk ek y)
      refine ih (i + 1) _ (by omega) (by omega) (by omega) w.1 (rs_Le_t hLe w.2.1) (fun r j r1 r2 hj ej => ?_)
      rcases Nat.lt_or_ge r i with v | v
      · exact rs_Fi_m w.2.1 (hI r j r1 v hj ej)
      · have er : r = i := by omega
        rw [er, ek] at ej
        have hj28 := hj.1
        have : k = j := (nI_eq (by omega) (by omega)).mp ej
        rw [← this]
        exact w.2.2
theorem rs_takeList {post : SX → Prop} {lx ly hx hy l a e : Nat} {G : Nat → Int32} {f : Int32} (hhy : hy < 64) (hl : l ≤ 5) (hae : a ≤ e) (he : e ≤ 28) (hG : rs_G f_present a_placeOf) (hV : ∀ t, a ≤ t → t < e → rs_V f_present (G (l * 32 + t))) (hs : ∀ r t, a ≤ r → r ≤ t → t < e → rs_k a_placeOf 0 (G (l * 32 + r)) ≤ rs_k a_placeOf 0 (G (l * 32 + t)))
    (hQ : ∀ r k, a ≤ r → r < e → rs_H f_present k → G (l * 32 + r) = nI k → rs_y a_placeOf k ≤ hy → rs_Q a_placeOf lx ly hx hy k) (hF : rs_Sn f_present (rs_Q a_placeOf lx ly hx hy) f)
    (hp : ∀ f', rs_Sn f_present (rs_Q a_placeOf lx ly hx hy) f' → rs_Le f f' → (∀ r k, a ≤ r → r < e → rs_H f_present k → G (l * 32 + r) = nI k → rs_Fi (rs_Q a_placeOf lx ly hx hy) f' k) → post (f_present, f_size, nI lx, nI ly, nI hx, nI hy, f', f_nearX, f_nearY, f_best, f_bestSquare, f_waiting, f_quads, f_levels, f_boxes, a_placeOf, a_order, a_waitA, a_waitB, a_waitC, a_waitD, a_quadX, a_quadY, a_quadSide, a_quadPart, a_quadCount, a_quadFirst, a_nextPoint, G, a_fromLeft, a_boxLowX, a_boxLowY, a_boxHighX, a_boxHighY, a_boxFirst, a_boxParts, a_boxOfPoints, a_zeros, a_bottom, a_sorted, a_cellFirst, a_heapPoint, a_heapSplit)) : wpX_takeList post (f_present, f_size, nI lx, nI ly, nI hx, nI hy, f, f_nearX, f_nearY, f_best, f_bestSquare, f_waiting, f_quads, f_levels, f_boxes, a_placeOf, a_order, a_waitA, a_waitB, a_waitC, a_waitD, a_quadX, a_quadY, a_quadSide, a_quadPart, a_quadCount, a_quadFirst, a_nextPoint, G, a_fromLeft, a_boxLowX, a_boxLowY, a_boxHighX, a_boxHighY, a_boxFirst, a_boxParts, a_boxOfPoints, a_zeros, a_bottom, a_sorted, a_cellFirst, a_heapPoint, a_heapSplit) (nI l) (nI a) (nI e) := by
  unfold wpX_takeList
  exact Exists.intro (e + 1) (rs_tl_loop hhy hl he hG hV hs hQ f hp (e + 1) a f (by omega) (Nat.le_refl _) hae hF (rs_Le_r f) (fun r k h1 h2 => by omega))
end
/-- the stretch of the order by x that the question asks for -/
def rs_XR (P o : Nat → Int32) (lx hx sz a b : Nat) : Prop := a ≤ b ∧ b ≤ sz ∧ (∀ t, t < a → rs_k P 1 (o t) < lx) ∧ (∀ t, a ≤ t → t < sz → lx ≤ rs_k P 1 (o t)) ∧ (∀ t, t < b → rs_k P 1 (o t) ≤ hx) ∧ (∀ t, b ≤ t → t < sz → hx < rs_k P 1 (o t))
section
variable {f_present f_size f_lowX f_lowY f_highX f_highY f_nearX f_nearY f_best f_bestSquare f_waiting f_quads f_levels f_boxes : Int32} {a_placeOf a_order a_waitA a_waitB a_waitC a_waitD a_quadX a_quadY a_quadSide a_quadPart a_quadCount a_quadFirst a_nextPoint a_lists a_fromLeft a_boxLowX a_boxLowY a_boxHighX a_boxHighY a_boxFirst a_boxParts a_boxOfPoints a_zeros a_bottom a_sorted a_cellFirst a_heapPoint a_heapSplit : Nat → Int32} {lx ly hx hy sz l a b : Nat}
theorem rs_sl_72 {post : SX → Prop} {J26 : Int32 → Int32 → Int32 → Int32 → Int32 → Int32 → Int32 → Int32 → Int32 → Int32 → Int32 → Int32 → Int32 → Int32 → Int32 → Int32 → (Nat → Int32) → (Nat → Int32) → (Nat → Int32) → (Nat → Int32) → (Nat → Int32) → (Nat → Int32) → (Nat → Int32) → (Nat → Int32) → (Nat → Int32) → (Nat → Int32) → (Nat → Int32) → (Nat → Int32) → (Nat → Int32) → (Nat → Int32) → (Nat → Int32) → (Nat → Int32) → (Nat → Int32) → (Nat → Int32) → (Nat → Int32) → (Nat → Int32) → (Nat → Int32) → (Nat → Int32) → (Nat → Int32) → (Nat → Int32) → (Nat → Int32) → (Nat → Int32) → (Nat → Int32) → (Nat → Int32) → Prop} {f : Int32} {G Fl : Nat → Int32} {c v : Nat} (hly : ly < 64) (hhy : hy < 64) (hG : rs_G f_present a_placeOf) (hsz : sz ≤ 28) (hV : ∀ j, j < sz → rs_V f_present (a_order j)) (hv : v ≤ 5) (hX : rs_XR a_placeOf a_order lx hx sz a b) (h1 : a ≤ c) (h2 : c + 2 ^ v ≤ b) (hS : rs_LS (rs_k a_placeOf 0) G a_order v c (min (c + 2 ^ v) sz)) (hF : rs_Sn f_present (rs_Q a_placeOf lx ly hx hy) f)
    (hJ : ∀ f', rs_Sn f_present (rs_Q a_placeOf lx ly hx hy) f' → rs_Le f f' → (∀ t k, c ≤ t → t < c + 2 ^ v → rs_H f_present k → a_order t = nI k → rs_Fi (rs_Q a_placeOf lx ly hx hy) f' k) → J26 (nI (c + 2 ^ v)) f_present (nI sz) (nI lx) (nI ly) (nI hx) (nI hy) f' f_nearX f_nearY f_best f_bestSquare f_waiting f_quads f_levels f_boxes a_placeOf a_order a_waitA a_waitB a_waitC a_waitD a_quadX a_quadY a_quadSide a_quadPart a_quadCount a_quadFirst a_nextPoint G Fl a_boxLowX a_boxLowY a_boxHighX a_boxHighY a_boxFirst a_boxParts a_boxOfPoints a_zeros a_bottom a_sorted a_cellFirst a_heapPoint a_heapSplit) : (wX_searchLists_72 post J26 (nI b) (nI c) (nI v) f_present (nI sz) (nI lx) (nI ly) (nI hx) (nI hy) f f_nearX f_nearY f_best f_bestSquare f_waiting f_quads f_levels f_boxes a_placeOf a_order a_waitA a_waitB a_waitC a_waitD a_quadX a_quadY a_quadSide a_quadPart a_quadCount a_quadFirst a_nextPoint G Fl a_boxLowX a_boxLowY a_boxHighX a_boxHighY a_boxFirst a_boxParts a_boxOfPoints a_zeros a_bottom a_sorted a_cellFirst a_heapPoint a_heapSplit) := by
  obtain ⟨x1, x2, x3, x4, x5, x6⟩ := hX
  have hb1 : 1 ≤ 2 ^ v := Nat.one_le_two_pow
  have em : min (c + 2 ^ v) sz = c + 2 ^ v := by omega
  rw [em] at hS
  have hVG : ∀ t, c ≤ t → t < c + 2 ^ v → rs_V f_present (G (v * 32 + t)) := by
    intro t t1 t2
    obtain ⟨q, q1, q2, q3⟩ := hS.2.1 t t1 t2
    rw [q3]
    exact hV q (by omega)
  unfold wX_searchLists_72
  refine rs_endOf hv (by omega) hsz ?_
  rw [em]
  refine rs_placeForY rfl hly hv (by omega) (by omega) hG hVG hS.1 (fun r r1 r2 r3 r4 => ?_)
  refine rs_takeList (lx := lx) (ly := ly) (hx := hx) hhy hv r2 (by omega) hG (fun t t1 t2 => hVG t (by omega) t2) (fun i j i1 i2 i3 => hS.1 i j (by omega) i2 i3) (fun i k i1 i2 hk ek hle => ?_) hF (fun f' q1 q2 q3 => hJ f' q1 q2 (fun t k t1 t2 hk ek => ?_))
  · obtain ⟨t, t1, t2, t3⟩ := hS.2.1 i (by omega) i2
    have h28 := hk.1
    have a1 := x4 t (by omega) (by omega)
    have a2 := x5 t (by omega)
    have a3 := r4 i i1 i2
    rw [← t3, ek, rs_k1 h28] at a1 a2
    rw [ek, rs_k0 h28] at a3
    exact ⟨a1, a2, a3, hle⟩
  · obtain ⟨i, i1, i2, i3⟩ := hS.2.2 t t1 t2
    rw [ek] at i3
    rcases Nat.lt_or_ge i r with w | w
    · intro q
      have := r3 i i1 w
      rw [i3, rs_k0 hk.1] at this
      have := q.2.2.1
      omega
    · exact q3 i k w i2 hk i3
theorem rs_sl_34 {post : SX → Prop} {J26 : Int32 → Int32 → Int32 → Int32 → Int32 → Int32 → Int32 → Int32 → Int32 → Int32 → Int32 → Int32 → Int32 → Int32 → Int32 → Int32 → (Nat → Int32) → (Nat → Int32) → (Nat → Int32) → (Nat → Int32) → (Nat → Int32) → (Nat → Int32) → (Nat → Int32) → (Nat → Int32) → (Nat → Int32) → (Nat → Int32) → (Nat → Int32) → (Nat → Int32) → (Nat → Int32) → (Nat → Int32) → (Nat → Int32) → (Nat → Int32) → (Nat → Int32) → (Nat → Int32) → (Nat → Int32) → (Nat → Int32) → (Nat → Int32) → (Nat → Int32) → (Nat → Int32) → (Nat → Int32) → (Nat → Int32) → (Nat → Int32) → (Nat → Int32) → (Nat → Int32) → Prop} {f : Int32} {G Fl : Nat → Int32} {at_ : Nat} (hly : ly < 64) (hhy : hy < 64) (hG : rs_G f_present a_placeOf) (hsz : sz ≤ 28) (hV : ∀ j, j < sz → rs_V f_present (a_order j)) (hl : l ≤ 5) (hX : rs_XR a_placeOf a_order lx hx sz a b) (h1 : a ≤ at_) (hI : rs_LI (rs_k a_placeOf 0) G Fl a_order sz (l + 1)) (hF : rs_Sn f_present (rs_Q a_placeOf lx ly hx hy) f)
    (hJ : ∀ f' d, 0 < d → at_ + d ≤ b → rs_Sn f_present (rs_Q a_placeOf lx ly hx hy) f' → rs_Le f f' → (∀ t k, at_ ≤ t → t < at_ + d → rs_H f_present k → a_order t = nI k → rs_Fi (rs_Q a_placeOf lx ly hx hy) f' k) → J26 (nI (at_ + d)) f_present (nI sz) (nI lx) (nI ly) (nI hx) (nI hy) f' f_nearX f_nearY f_best f_bestSquare f_waiting f_quads (nI (l + 1)) f_boxes a_placeOf a_order a_waitA a_waitB a_waitC a_waitD a_quadX a_quadY a_quadSide a_quadPart a_quadCount a_quadFirst a_nextPoint G Fl a_boxLowX a_boxLowY a_boxHighX a_boxHighY a_boxFirst a_boxParts a_boxOfPoints a_zeros a_bottom a_sorted a_cellFirst a_heapPoint a_heapSplit) :
    ∀ n v, l < n + v → v ≤ l → (∃ c, at_ = c * 2 ^ v) → at_ + 2 ^ v ≤ b → (wX_searchLists_34 post J26 (nI b) (nI at_) f_present (nI sz) (nI lx) (nI ly) (nI hx) (nI hy) f f_nearX f_nearY f_best f_bestSquare f_waiting f_quads (nI (l + 1)) f_boxes a_placeOf a_order a_waitA a_waitB a_waitC a_waitD a_quadX a_quadY a_quadSide a_quadPart a_quadCount a_quadFirst a_nextPoint G Fl a_boxLowX a_boxLowY a_boxHighX a_boxHighY a_boxFirst a_boxParts a_boxOfPoints a_zeros a_bottom a_sorted a_cellFirst a_heapPoint a_heapSplit n (nI v)) := by
  have hbz := hX.2.1
  intro n
  induction n with
  | zero => intro v h1 h2; omega
  | succ n ih =>
    intro v h2 h3 hc hb
    have go : (wX_searchLists_72 post J26 (nI b) (nI at_) (nI v) f_present (nI sz) (nI lx) (nI ly) (nI hx) (nI hy) f f_nearX f_nearY f_best f_bestSquare f_waiting f_quads (nI (l + 1)) f_boxes a_placeOf a_order a_waitA a_waitB a_waitC a_waitD a_quadX a_quadY a_quadSide a_quadPart a_quadCount a_quadFirst a_nextPoint G Fl a_boxLowX a_boxLowY a_boxHighX a_boxHighY a_boxFirst a_boxParts a_boxOfPoints a_zeros a_bottom a_sorted a_cellFirst a_heapPoint a_heapSplit) := by
      obtain ⟨c, rfl⟩ := hc
      have hb1 : 1 ≤ 2 ^ v := Nat.one_le_two_pow
      exact rs_sl_72 hly hhy hG hsz hV (by omega) hX h1 hb (rs_LC_S (hI v (by omega) c (by omega))) hF (fun f' q1 q2 q3 => hJ f' (2 ^ v) (by omega) hb q1 q2 q3)
    have hb2 : 2 ^ (v + 1) ≤ 64 := Nat.pow_le_pow_right (n := 2) (j := 6) (by decide) (by omega)
    have hb3 : 1 ≤ 2 ^ (v + 1) := Nat.one_le_two_pow
    have s2 : (2 : Int32) <<< (nI v &&& 31) = nI (2 ^ (v + 1)) := rs_shl2 (by omega)
    have em : nI at_ &&& (nI (2 ^ (v + 1)) - 1) = nI (at_ % 2 ^ (v + 1)) := by
      have e1 : nI (2 ^ (v + 1)) - 1 = nI (2 ^ (v + 1) - 1) := pk_sub (b := 1) hb3
      rw [e1]
      exact pk_andN (by omega) (v + 1) (pk_tn (by omega))
    have hm : at_ % 2 ^ (v + 1) < 2 ^ (v + 1) := Nat.mod_lt _ (by omega)
    unfold wX_searchLists_34
    rw [s2, em, nI_add, nI_1]
    refine pk_eq (at_ % 2 ^ (v + 1)) 0 (fun z => pk_lt b (at_ + 2 ^ (v + 1)) (fun _ => go) (fun y => pk_le (l + 1) (v + 1) (fun _ => go) (fun w => nm_e ?_))) (fun _ => go)
    exact ih (v + 1) (by omega) (by omega) ⟨at_ / 2 ^ (v + 1), by have := Nat.div_add_mod' at_ (2 ^ (v + 1)); omega⟩ y
theorem rs_sl_26 {post : SX → Prop} {G Fl : Nat → Int32} (hly : ly < 64) (hhy : hy < 64) (hG : rs_G f_present a_placeOf) (hsz : sz ≤ 28) (hV : ∀ j, j < sz → rs_V f_present (a_order j)) (hl : l ≤ 5) (hX : rs_XR a_placeOf a_order lx hx sz a b) (hI : rs_LI (rs_k a_placeOf 0) G Fl a_order sz (l + 1))
    (hp : ∀ f, rs_Sn f_present (rs_Q a_placeOf lx ly hx hy) f → (∀ k, rs_H f_present k → rs_Fi (rs_Q a_placeOf lx ly hx hy) f k) → post (f_present, nI sz, nI lx, nI ly, nI hx, nI hy, f, f_nearX, f_nearY, f_best, f_bestSquare, f_waiting, f_quads, nI (l + 1), f_boxes, a_placeOf, a_order, a_waitA, a_waitB, a_waitC, a_waitD, a_quadX, a_quadY, a_quadSide, a_quadPart, a_quadCount, a_quadFirst, a_nextPoint, G, Fl, a_boxLowX, a_boxLowY, a_boxHighX, a_boxHighY, a_boxFirst, a_boxParts, a_boxOfPoints, a_zeros, a_bottom, a_sorted, a_cellFirst, a_heapPoint, a_heapSplit)) :
    ∀ n at_ f, b < n + at_ → a ≤ at_ → at_ ≤ b → rs_Sn f_present (rs_Q a_placeOf lx ly hx hy) f → (∀ k, rs_H f_present k → rs_Fi (rs_Q a_placeOf lx ly hx hy) f k ∨ ∃ t, at_ ≤ t ∧ t < b ∧ a_order t = nI k) → (wX_searchLists_26 post (nI b) n (nI at_) f_present (nI sz) (nI lx) (nI ly) (nI hx) (nI hy) f f_nearX f_nearY f_best f_bestSquare f_waiting f_quads (nI (l + 1)) f_boxes a_placeOf a_order a_waitA a_waitB a_waitC a_waitD a_quadX a_quadY a_quadSide a_quadPart a_quadCount a_quadFirst a_nextPoint G Fl a_boxLowX a_boxLowY a_boxHighX a_boxHighY a_boxFirst a_boxParts a_boxOfPoints a_zeros a_bottom a_sorted a_cellFirst a_heapPoint a_heapSplit) := by
  have hbz := hX.2.1
  intro n
  induction n with
  | zero => intro at_ f h1 h2 h3; omega
  | succ n ih =>
    intro at_ f h1 h2 h3 hF hP
    refine pk_le b at_ (fun z => hp f hF (fun k hk => (hP k hk).elim id (fun ⟨t, t1, t2, _⟩ => by omega))) (fun z => Exists.intro 7 ?_)
    have := rs_sl_34 (post := post) (J26 := wX_searchLists_26 post (nI b) n) hly hhy hG hsz hV hl hX h2 hI hF (fun f' d d1 d2 q1 q2 q3 => ih (at_ + d) f' (by omega) (by omega) d2 q1 (fun k hk => ?_)) 7 0 (by omega) (by omega) ⟨at_, (Nat.mul_one at_).symm⟩ z
    · exact this
    · rcases hP k hk with w | ⟨t, t1, t2, t3⟩
      · exact Or.inl (rs_Fi_m q2 w)
      · rcases Nat.lt_or_ge t (at_ + d) with v | v
        · exact Or.inl (q3 t k t1 v hk t3)
        · exact Or.inr ⟨t, v, t2, t3⟩
/-- points outside the stretch aren't asked for -/
theorem rs_XR_out {p : Int32} {P o : Nat → Int32} (hA : rs_Al p sz o) (hX : rs_XR P o lx hx sz a b) (f : Int32) : ∀ k, rs_H p k → rs_Fi (rs_Q P lx ly hx hy) f k ∨ ∃ t, a ≤ t ∧ t < b ∧ o t = nI k := by
  intro k hk
  obtain ⟨x1, x2, x3, x4, x5, x6⟩ := hX
  obtain ⟨t, t1, t2⟩ := hA.2.2.1 k hk
  rcases Nat.lt_or_ge t a with z | z
  · refine Or.inl (fun q => ?_)
    have := x3 t z
    rw [t2, rs_k1 hk.1] at this
    have := q.1
    omega
  · rcases Nat.lt_or_ge t b with y | y
    · exact Or.inr ⟨t, z, y, t2⟩
    · refine Or.inl (fun q => ?_)
      have := x6 t y t1
      rw [t2, rs_k1 hk.1] at this
      have := q.2.1
      omega
theorem rs_XR_of {P o : Nat → Int32} (hlh : lx ≤ hx) (ha : a ≤ sz) (hb : b ≤ sz) (h1 : ∀ t, t < a → rs_k P 1 (o t) < lx) (h2 : ∀ t, a ≤ t → t < sz → lx ≤ rs_k P 1 (o t)) (h3 : ∀ t, t < b → rs_k P 1 (o t) < hx + 1) (h4 : ∀ t, b ≤ t → t < sz → hx + 1 ≤ rs_k P 1 (o t)) : rs_XR P o lx hx sz a b := by
  refine ⟨?_, hb, h1, h2, fun t ht => Nat.le_of_lt_succ (h3 t ht), fun t t1 t2 => h4 t t1 t2⟩
  rcases Nat.lt_or_ge b a with z | z
  · have := h1 b z
    have := h4 b (Nat.le_refl _) (by omega)
    omega
  · exact z
theorem rs_searchLists {post : SX → Prop} (hlx : lx < 64) (hly : ly < 64) (hhx : hx < 64) (hhy : hy < 64) (hlh : lx ≤ hx) (hG : rs_G f_present a_placeOf) (hA : rs_Al f_present sz a_order)
    (hp : ∀ f o G Fl l, rs_Sn f_present (rs_Q a_placeOf lx ly hx hy) f → (∀ k, rs_H f_present k → rs_Fi (rs_Q a_placeOf lx ly hx hy) f k) → post (f_present, nI sz, nI lx, nI ly, nI hx, nI hy, f, f_nearX, f_nearY, f_best, f_bestSquare, f_waiting, f_quads, nI (l + 1), f_boxes, a_placeOf, o, a_waitA, a_waitB, a_waitC, a_waitD, a_quadX, a_quadY, a_quadSide, a_quadPart, a_quadCount, a_quadFirst, a_nextPoint, G, Fl, a_boxLowX, a_boxLowY, a_boxHighX, a_boxHighY, a_boxFirst, a_boxParts, a_boxOfPoints, a_zeros, a_bottom, a_sorted, a_cellFirst, a_heapPoint, a_heapSplit)) : wpX_searchLists post (f_present, nI sz, nI lx, nI ly, nI hx, nI hy, 0, f_nearX, f_nearY, f_best, f_bestSquare, f_waiting, f_quads, f_levels, f_boxes, a_placeOf, a_order, a_waitA, a_waitB, a_waitC, a_waitD, a_quadX, a_quadY, a_quadSide, a_quadPart, a_quadCount, a_quadFirst, a_nextPoint, a_lists, a_fromLeft, a_boxLowX, a_boxLowY, a_boxHighX, a_boxHighY, a_boxFirst, a_boxParts, a_boxOfPoints, a_zeros, a_bottom, a_sorted, a_cellFirst, a_heapPoint, a_heapSplit) := by
  have hz := hA.1
  unfold wpX_searchLists
  refine rs_buildLists hG hA (fun o G Fl l hA' hs h1 h2 h3 => ?_)
  refine rs_placeForX rfl (by omega) hG hz hA'.2.1 hs (fun a a1 a2 a3 => ?_)
  refine rs_placeForX (nI_1 hx) (by omega) hG hz hA'.2.1 hs (fun b b1 b2 b3 => Exists.intro (b + 1) ?_)
  have hX := rs_XR_of hlh a1 b1 a2 a3 b2 b3
  exact rs_sl_26 hly hhy hG hz hA'.2.1 h1 hX h3 (fun f q1 q2 => hp f o G Fl l q1 q2) (b + 1) a 0 (by omega) (Nat.le_refl _) hX.1 rs_Sn_0 (rs_XR_out hA' hX 0)
end
end
section
/-! sorted lists: the search by bridges -/
/-- pl is the place in a stretch from which on y isn't below ly -/
def rs_bP (κ : Int32 → Nat) (G : Nat → Int32) (ly v a e pl : Nat) : Prop := a ≤ pl ∧ pl ≤ e ∧ (∀ r, a ≤ r → r < pl → κ (G (v * 32 + r)) < ly) ∧ ∀ r, pl ≤ r → r < e → ly ≤ κ (G (v * 32 + r))
def rs_bO (κ : Int32 → Nat) (G : Nat → Int32) (ly sz l : Nat) (it : rs_I) : Prop := it.1 ≤ l ∧ (∃ c, it.2.1 = c * 2 ^ it.1) ∧ it.2.1 < sz ∧ rs_bP κ G ly it.1 it.2.1 (min (it.2.1 + 2 ^ it.1) sz) it.2.2.1
def rs_bC (o : Nat → Int32) (sz : Nat) (it : rs_I) (k : Nat) : Prop := ∃ t, it.2.1 ≤ t ∧ t < min (it.2.1 + 2 ^ it.1) sz ∧ o t = nI k
def rs_bw (it : rs_I) : Nat := 2 * 2 ^ it.1 - 1
def rs_bp : List rs_I → Prop
  | [] => True
  | it :: L => L.length + it.1 ≤ 5 ∧ rs_bp L
/-- what the note says of the two halves -/
theorem rs_b_half {κ : Int32 → Nat} {G Fl o : Nat → Int32} {ly sz v a pl : Nat} (ha : a < sz) (hC : rs_LC κ G Fl o sz (v + 1) a) (hL : rs_LS κ G o v a (min (a + 2 ^ v) sz)) (hR : a + 2 ^ v < sz → rs_LS κ G o v (a + 2 ^ v) (min (a + 2 ^ v + 2 ^ v) sz)) (hP : rs_bP κ G ly (v + 1) a (min (a + 2 ^ (v + 1)) sz) pl) :
    ∃ c, (pl < min (a + 2 ^ (v + 1)) sz → Fl ((v + 1) * 33 + pl) = nI c) ∧ (¬ pl < min (a + 2 ^ (v + 1)) sz → c = min (a + 2 ^ v) sz - a) ∧ c ≤ pl - a ∧ c ≤ 2 ^ v ∧ rs_bP κ G ly v a (min (a + 2 ^ v) sz) (a + c) ∧ (a + 2 ^ v < sz → rs_bP κ G ly v (a + 2 ^ v) (min (a + 2 ^ v + 2 ^ v) sz) (a + 2 ^ v + (pl - a - c))) := by
  have h2 := rs_2e v
  obtain ⟨p1, p2, p3, p4⟩ := hP
  obtain ⟨c1, c2⟩ := hC
  have e1 : a + 2 ^ v < sz → min (a + 2 ^ v + 2 ^ v) sz = min (a + 2 ^ (v + 1)) sz := fun _ => by omega
  have e2 : a + 2 ^ v < sz → min (a + 2 ^ v) sz = a + 2 ^ v := fun _ => by omega
  by_cases z : pl < min (a + 2 ^ (v + 1)) sz
  · obtain ⟨c, q1, q2, q3, q4, q5, q6, q7, q8⟩ := c2 pl p1 z
    refine ⟨c, fun _ => q1, fun w => absurd z w, q3, by omega, ⟨by omega, q2, fun t t1 t2 => ?_, fun t t1 t2 => ?_⟩, fun w => ⟨by omega, by rw [e1 w]; rw [e2 w] at q4; exact q4, fun t t1 t2 => ?_, fun t t1 t2 => ?_⟩⟩
    · obtain ⟨r, r1, r2, r3⟩ := q5 t t1 t2
      rw [← r3]; exact p3 r r1 r2
    · obtain ⟨r, r1, r2, r3⟩ := q7 t t1 t2
      rw [← r3]; exact p4 r r1 r2
    · rw [e2 w] at q6
      obtain ⟨r, r1, r2, r3⟩ := q6 t t1 t2
      rw [← r3]; exact p3 r r1 r2
    · rw [e1 w] at t2
      rw [e2 w] at q8
      obtain ⟨r, r1, r2, r3⟩ := q8 t t1 t2
      rw [← r3]; exact p4 r r1 r2
  · have all : ∀ t, a ≤ t → t < min (a + 2 ^ (v + 1)) sz → κ (o t) < ly := by
      intro t t1 t2
      obtain ⟨r, r1, r2, r3⟩ := c1.2.2 t t1 t2
      rw [← r3]
      exact p3 r r1 (by omega)
    refine ⟨min (a + 2 ^ v) sz - a, fun w => absurd w z, fun _ => rfl, by omega, by omega, ⟨by omega, by omega, fun t t1 t2 => ?_, fun t t1 t2 => by omega⟩, fun w => ⟨by omega, by omega, fun t t1 t2 => ?_, fun t t1 t2 => by omega⟩⟩
    · obtain ⟨r, r1, r2, r3⟩ := hL.2.1 t t1 (by omega)
      rw [r3]
      exact all r r1 (by omega)
    · obtain ⟨r, r1, r2, r3⟩ := (hR w).2.1 t t1 (by omega)
      rw [r3]
      exact all r (by omega) (by omega)
def rs_bL (v a sz c pl : Nat) (L : List rs_I) : List rs_I := if a + 2 ^ v < sz then (v, a + 2 ^ v, a + 2 ^ v + (pl - a - c), 0) :: (v, a, a + c, 0) :: L else (v, a, a + c, 0) :: L
section
variable {f_present f_size f_lowX f_lowY f_highX f_highY f_nearX f_nearY f_best f_bestSquare f_quads f_levels f_boxes : Int32} {a_placeOf a_order a_quadX a_quadY a_quadSide a_quadPart a_quadCount a_quadFirst a_nextPoint a_lists a_fromLeft a_boxLowX a_boxLowY a_boxHighX a_boxHighY a_boxFirst a_boxParts a_boxOfPoints a_zeros a_bottom a_sorted a_cellFirst a_heapPoint a_heapSplit : Nat → Int32} {lx ly hx hy sz l a b : Nat}
theorem rs_pushHalves {post : SX → Prop} {f_found : Int32} {G Fl A B C D : Nat → Int32} {L : List rs_I} {v s pl c e : Nat} (hv : v ≤ 4) (hs : s < sz) (hsz : sz ≤ 28) (hpl : s ≤ pl) (he : e ≤ 28) (hple : pl ≤ e) (ee : e = min (s + 2 ^ (v + 1)) sz) (hc1 : pl < e → Fl ((v + 1) * 33 + pl) = nI c) (hc2 : ¬ pl < e → c = min (s + 2 ^ v) sz - s) (hc3 : c ≤ pl - s) (hc4 : c ≤ 2 ^ v) (hS : rs_St A B C D L) (hL : L.length < 100)
    (hp : ∀ L' A' B' C' D', rs_St A' B' C' D' L' → L' = rs_bL v s sz c pl L → post (f_present, nI sz, f_lowX, f_lowY, f_highX, f_highY, f_found, f_nearX, f_nearY, f_best, f_bestSquare, nI L'.length, f_quads, f_levels, f_boxes, a_placeOf, a_order, A', B', C', D', a_quadX, a_quadY, a_quadSide, a_quadPart, a_quadCount, a_quadFirst, a_nextPoint, G, Fl, a_boxLowX, a_boxLowY, a_boxHighX, a_boxHighY, a_boxFirst, a_boxParts, a_boxOfPoints, a_zeros, a_bottom, a_sorted, a_cellFirst, a_heapPoint, a_heapSplit)) : wpX_pushHalves post (f_present, nI sz, f_lowX, f_lowY, f_highX, f_highY, f_found, f_nearX, f_nearY, f_best, f_bestSquare, nI L.length, f_quads, f_levels, f_boxes, a_placeOf, a_order, A, B, C, D, a_quadX, a_quadY, a_quadSide, a_quadPart, a_quadCount, a_quadFirst, a_nextPoint, G, Fl, a_boxLowX, a_boxLowY, a_boxHighX, a_boxHighY, a_boxFirst, a_boxParts, a_boxOfPoints, a_zeros, a_bottom, a_sorted, a_cellFirst, a_heapPoint, a_heapSplit) (nI (v + 1)) (nI s) (nI pl) (nI e) := by
  have hb : 2 ^ v ≤ 16 := Nat.pow_le_pow_right (n := 2) (j := 4) (by decide) hv
  have s1 : (1 : Int32) <<< ((nI (v + 1) - 1) &&& 31) = nI (2 ^ v) := by rw [nI_pred]; exact rs_shl1 (by omega)
  have go : (wX_pushHalves_53 post (nI (v + 1)) (nI s) (nI pl) (nI (s + 2 ^ v)) (nI c) f_present (nI sz) f_lowX f_lowY f_highX f_highY f_found f_nearX f_nearY f_best f_bestSquare (nI L.length) f_quads f_levels f_boxes a_placeOf a_order A B C D a_quadX a_quadY a_quadSide a_quadPart a_quadCount a_quadFirst a_nextPoint G Fl a_boxLowX a_boxLowY a_boxHighX a_boxHighY a_boxFirst a_boxParts a_boxOfPoints a_zeros a_bottom a_sorted a_cellFirst a_heapPoint a_heapSplit) := by
    unfold wX_pushHalves_53
    refine rs_push (L := L) v s (s + c) 0 hS (by omega) (by omega) (by omega) (by omega) (nI_pred v) rfl (nI_add s c) rfl (fun A1 B1 C1 D1 w1 => ?_)
    refine pk_le sz (s + 2 ^ v) (fun z => hp _ A1 B1 C1 D1 w1 ?_) (fun z => ?_)
    · unfold rs_bL
      rw [if_neg (by omega)]
    · refine rs_push (L := (v, s, s + c, 0) :: L) v (s + 2 ^ v) (s + 2 ^ v + (pl - s - c)) 0 w1 (by rw [List.length_cons]; omega) (by omega) (by omega) (by omega) (nI_pred v) rfl ?_ rfl (fun A2 B2 C2 D2 w2 => hp _ A2 B2 C2 D2 w2 ?_)
      · rw [nI_add, pk_sub (by omega), pk_sub (by omega)]
        exact congrArg nI (by omega)
      · unfold rs_bL
        rw [if_pos z]
  unfold wpX_pushHalves
  refine nm_r (e' := nI (s + 2 ^ v)) (by rw [s1, nI_add]) ?_
  have R : ∀ m, m = min (s + 2 ^ v) sz → (wX_pushHalves_27 post (nI (v + 1)) (nI s) (nI pl) (nI e) (nI (s + 2 ^ v)) (nI m) f_present (nI sz) f_lowX f_lowY f_highX f_highY f_found f_nearX f_nearY f_best f_bestSquare (nI L.length) f_quads f_levels f_boxes a_placeOf a_order A B C D a_quadX a_quadY a_quadSide a_quadPart a_quadCount a_quadFirst a_nextPoint G Fl a_boxLowX a_boxLowY a_boxHighX a_boxHighY a_boxFirst a_boxParts a_boxOfPoints a_zeros a_bottom a_sorted a_cellFirst a_heapPoint a_heapSplit) := by
    intro m em
    unfold wX_pushHalves_27
    refine nm_r (e' := nI (m - s)) (pk_sub (by omega)) (pk_le e pl (fun z => ?_) (fun z => ?_))
    · rw [em, ← hc2 (by omega)]
      exact go
    · have e33 : nI (v + 1) * 33 + nI pl = nI ((v + 1) * 33 + pl) := rs_ix (v + 1) _ 33
      rw [e33, nI_clamp (show (v + 1) * 33 + pl < 2 ^ 31 by omega), hc1 z]
      exact ⟨vp_in_nI (by omega) (by decide), go⟩
  exact pk_le sz (s + 2 ^ v) (fun z => R sz (by omega)) (fun z => R _ (by omega))
theorem rs_bL_ms {v s c pl x d : Nat} {L : List rs_I} : rs_Ms rs_bw (rs_bL v s sz c pl L) < rs_Ms rs_bw ((v + 1, s, x, d) :: L) := by
  have h2 := rs_2e v
  have hb1 : 1 ≤ 2 ^ v := Nat.one_le_two_pow
  unfold rs_bL
  split <;> simp only [rs_Ms, rs_bw] <;> omega
theorem rs_bL_bp {v s c pl x d : Nat} {L : List rs_I} (h : rs_bp ((v + 1, s, x, d) :: L)) : rs_bp (rs_bL v s sz c pl L) := by
  obtain ⟨h1, h2⟩ := h
  have h1 : L.length + (v + 1) ≤ 5 := h1
  unfold rs_bL
  split
  · exact ⟨by show ((v, s, s + c, 0) :: L).length + v ≤ 5; rw [List.length_cons]; omega, by show L.length + v ≤ 5; omega, h2⟩
  · exact ⟨by show L.length + v ≤ 5; omega, h2⟩
theorem rs_bL_Iv {p : Int32} {κ : Int32 → Nat} {G o : Nat → Int32} {Dn : Nat → Prop} {v s c pl x d : Nat} {L : List rs_I} (hs : s < sz) (hv : v ≤ l) (hal : ∃ q, s = q * 2 ^ (v + 1)) (h1 : rs_bP κ G ly v s (min (s + 2 ^ v) sz) (s + c)) (h2 : s + 2 ^ v < sz → rs_bP κ G ly v (s + 2 ^ v) (min (s + 2 ^ v + 2 ^ v) sz) (s + 2 ^ v + (pl - s - c)))
    (hI : rs_Iv p (rs_bO κ G ly sz l) (rs_bC o sz) Dn ((v + 1, s, x, d) :: L)) : rs_Iv p (rs_bO κ G ly sz l) (rs_bC o sz) Dn (rs_bL v s sz c pl L) := by
  have e2 := rs_2e v
  obtain ⟨q, hq⟩ := hal
  have okA : rs_bO κ G ly sz l (v, s, s + c, 0) := ⟨hv, ⟨2 * q, by show s = 2 * q * 2 ^ v; rw [hq, e2]; grind⟩, hs, h1⟩
  have okB : s + 2 ^ v < sz → rs_bO κ G ly sz l (v, s + 2 ^ v, s + 2 ^ v + (pl - s - c), 0) := fun w => ⟨hv, ⟨2 * q + 1, by show s + 2 ^ v = (2 * q + 1) * 2 ^ v; rw [hq, e2]; grind⟩, w, h2 w⟩
  have okL : ∀ it, it ∈ L → rs_bO κ G ly sz l it := fun it h => hI.1 it (List.mem_cons_of_mem _ h)
  unfold rs_bL
  split
  · rename_i w
    refine rs_Iv_sub hI (fun _ h => h) (fun it hit => ?_) (fun it hit k hk z => Or.inr ?_)
    · rcases List.mem_cons.mp hit with e | hit
      · rw [e]; exact okB w
      · rcases List.mem_cons.mp hit with e | hit
        · rw [e]; exact okA
        · exact okL it hit
    · rcases List.mem_cons.mp hit with e | e
      · subst e
        obtain ⟨t, t1, t2, t3⟩ := z
        have t1 : s ≤ t := t1
        have t2 : t < min (s + 2 ^ (v + 1)) sz := t2
        rcases Nat.lt_or_ge t (s + 2 ^ v) with y | y
        · exact ⟨(v, s, s + c, 0), List.mem_cons_of_mem _ List.mem_cons_self, t, t1, by show t < min (s + 2 ^ v) sz; omega, t3⟩
        · exact ⟨_, List.mem_cons_self, t, y, by show t < min (s + 2 ^ v + 2 ^ v) sz; omega, t3⟩
      · exact ⟨it, List.mem_cons_of_mem _ (List.mem_cons_of_mem _ e), z⟩
  · rename_i w
    refine rs_Iv_sub hI (fun _ h => h) (fun it hit => ?_) (fun it hit k hk z => Or.inr ?_)
    · rcases List.mem_cons.mp hit with e | hit
      · rw [e]; exact okA
      · exact okL it hit
    · rcases List.mem_cons.mp hit with e | e
      · subst e
        obtain ⟨t, t1, t2, t3⟩ := z
        have t1 : s ≤ t := t1
        have t2 : t < min (s + 2 ^ (v + 1)) sz := t2
        exact ⟨(v, s, s + c, 0), List.mem_cons_self, t, t1, by show t < min (s + 2 ^ v) sz; omega, t3⟩
      · exact ⟨it, List.mem_cons_of_mem _ e, z⟩
theorem rs_br_loop {post : SX → Prop} {G Fl : Nat → Int32} (hly : ly < 64) (hhy : hy < 64) (hG : rs_G f_present a_placeOf) (hsz : sz ≤ 28) (hV : ∀ j, j < sz → rs_V f_present (a_order j)) (hl : l ≤ 5) (hX : rs_XR a_placeOf a_order lx hx sz a b) (hLI : rs_LI (rs_k a_placeOf 0) G Fl a_order sz (l + 1))
    (hp : ∀ f A B C D, rs_Sn f_present (rs_Q a_placeOf lx ly hx hy) f → (∀ k, rs_H f_present k → rs_Fi (rs_Q a_placeOf lx ly hx hy) f k) → post (f_present, nI sz, nI lx, nI ly, nI hx, nI hy, f, f_nearX, f_nearY, f_best, f_bestSquare, nI 0, f_quads, nI (l + 1), f_boxes, a_placeOf, a_order, A, B, C, D, a_quadX, a_quadY, a_quadSide, a_quadPart, a_quadCount, a_quadFirst, a_nextPoint, G, Fl, a_boxLowX, a_boxLowY, a_boxHighX, a_boxHighY, a_boxFirst, a_boxParts, a_boxOfPoints, a_zeros, a_bottom, a_sorted, a_cellFirst, a_heapPoint, a_heapSplit)) :
    ∀ (n : Nat) (L : List rs_I) (f : Int32) (A B C D : Nat → Int32), rs_Ms rs_bw L < n → rs_bp L → rs_St A B C D L → rs_Sn f_present (rs_Q a_placeOf lx ly hx hy) f → rs_Iv f_present (rs_bO (rs_k a_placeOf 0) G ly sz l) (rs_bC a_order sz) (rs_Fi (rs_Q a_placeOf lx ly hx hy) f) L → (wX_searchWithBridges_62 post (nI a) (nI b) n f_present (nI sz) (nI lx) (nI ly) (nI hx) (nI hy) f f_nearX f_nearY f_best f_bestSquare (nI L.length) f_quads (nI (l + 1)) f_boxes a_placeOf a_order A B C D a_quadX a_quadY a_quadSide a_quadPart a_quadCount a_quadFirst a_nextPoint G Fl a_boxLowX a_boxLowY a_boxHighX a_boxHighY a_boxFirst a_boxParts a_boxOfPoints a_zeros a_bottom a_sorted a_cellFirst a_heapPoint a_heapSplit) := by
  obtain ⟨x1, x2, x3, x4, x5, x6⟩ := hX
  intro n
  induction n with
  | zero => intro L f A B C D h; omega
  | succ n ih =>
    intro L f A B C D hn hP hS hF hI
    cases L with
    | nil => exact br_t (by decide) (hp f A B C D hF (rs_Iv_end hI))
    | cons it L =>
      obtain ⟨v, s, pl, d⟩ := it
      have hP' := hP
      obtain ⟨p1, p2⟩ := hP
      have p1 : L.length + v ≤ 5 := p1
      obtain ⟨g1, g2, g3, g4⟩ := hI.1 (v, s, pl, d) List.mem_cons_self
      have g1 : v ≤ l := g1
      have g2 : ∃ c, s = c * 2 ^ v := g2
      have g3 : s < sz := g3
      have g4 : rs_bP (rs_k a_placeOf 0) G ly v s (min (s + 2 ^ v) sz) pl := g4
      have i : vp_in (nI L.length) 128 := vp_in_nI (by omega) (by decide)
      have e : (nI L.length).toNatClampNeg = L.length := nI_clamp (by omega)
      obtain ⟨s1, s2, s3, s4, s5⟩ := hS
      have hb : 2 ^ v ≤ 32 := Nat.pow_le_pow_right (n := 2) (j := 5) (by decide) (by omega)
      have hb1 : 1 ≤ 2 ^ v := Nat.one_le_two_pow
      have wpos : 1 ≤ rs_bw (v, s, pl, d) := by unfold rs_bw; show 1 ≤ 2 * 2 ^ v - 1; omega
      have hLC : ∀ w, w ≤ l → ∀ q, q * 2 ^ w < sz → rs_LC (rs_k a_placeOf 0) G Fl a_order sz w (q * 2 ^ w) := fun w hw q hq => hLI w (by omega) q hq
      have hLS : rs_LS (rs_k a_placeOf 0) G a_order v s (min (s + 2 ^ v) sz) := by
        obtain ⟨q, rfl⟩ := g2
        exact rs_LC_S (hLC v g1 q g3)
      have drop : (∀ t, s ≤ t → t < min (s + 2 ^ v) sz → (t < a ∨ b ≤ t)) → (wX_searchWithBridges_62 post (nI a) (nI b) n f_present (nI sz) (nI lx) (nI ly) (nI hx) (nI hy) f f_nearX f_nearY f_best f_bestSquare (nI L.length) f_quads (nI (l + 1)) f_boxes a_placeOf a_order A B C D a_quadX a_quadY a_quadSide a_quadPart a_quadCount a_quadFirst a_nextPoint G Fl a_boxLowX a_boxLowY a_boxHighX a_boxHighY a_boxFirst a_boxParts a_boxOfPoints a_zeros a_bottom a_sorted a_cellFirst a_heapPoint a_heapSplit) := by
        intro hd
        refine ih L f A B C D (by simp only [rs_Ms] at hn; omega) p2 s5 hF (rs_Iv_drop hI (fun _ h => h) (fun k hk ⟨t, t1, t2, t3⟩ q => ?_))
        have t1 : s ≤ t := t1
        have t2 : t < min (s + 2 ^ v) sz := t2
        rcases hd t t1 t2 with w | w
        · have := x3 t w
          rw [t3, rs_k1 hk.1] at this
          have := q.1
          omega
        · have := x6 t w (by omega)
          rw [t3, rs_k1 hk.1] at this
          have := q.2.1
          omega
      refine br_f (nI_nle (by rw [List.length_cons]; omega) (by rw [List.length_cons]; omega)) (nm_r (nI_pred L.length) ⟨i, nm_r (e' := nI v) (rs_at (by omega) s1) ⟨i, nm_r (e' := nI s) (rs_at (by omega) s2) ⟨i, nm_r (e' := nI pl) (rs_at (by omega) s3) (rs_endOf (by omega) (by omega) hsz ?_)⟩⟩⟩)
      have part : (s < a ∨ b < min (s + 2 ^ v) sz) → (wX_searchWithBridges_147 post (wX_searchWithBridges_62 post (nI a) (nI b) n) (nI a) (nI b) (nI v) (nI s) (nI pl) (nI (min (s + 2 ^ v) sz)) f_present (nI sz) (nI lx) (nI ly) (nI hx) (nI hy) f f_nearX f_nearY f_best f_bestSquare (nI L.length) f_quads (nI (l + 1)) f_boxes a_placeOf a_order A B C D a_quadX a_quadY a_quadSide a_quadPart a_quadCount a_quadFirst a_nextPoint G Fl a_boxLowX a_boxLowY a_boxHighX a_boxHighY a_boxFirst a_boxParts a_boxOfPoints a_zeros a_bottom a_sorted a_cellFirst a_heapPoint a_heapSplit) := by
        intro hw
        unfold wX_searchWithBridges_147
        refine pk_le b s (fun z => drop (fun t t1 t2 => by omega)) (fun z1 => pk_le (min (s + 2 ^ v) sz) a (fun z => drop (fun t t1 t2 => by omega)) (fun z2 => ?_))
        cases v with
        | zero => exact br_t (by decide) (drop (fun t t1 t2 => by simp only [Nat.pow_zero] at *; omega))
        | succ v =>
          have hh := rs_2e v
          have hL' : rs_LS (rs_k a_placeOf 0) G a_order v s (min (s + 2 ^ v) sz) := by
            obtain ⟨q, rfl⟩ := g2
            rw [show q * 2 ^ (v + 1) = (2 * q) * 2 ^ v by rw [hh]; grind] at g3 ⊢
            exact rs_LC_S (hLC v (by omega) (2 * q) g3)
          have hR' : s + 2 ^ v < sz → rs_LS (rs_k a_placeOf 0) G a_order v (s + 2 ^ v) (min (s + 2 ^ v + 2 ^ v) sz) := by
            obtain ⟨q, rfl⟩ := g2
            rw [show q * 2 ^ (v + 1) + 2 ^ v = (2 * q + 1) * 2 ^ v by rw [hh]; grind]
            exact fun w => rs_LC_S (hLC v (by omega) (2 * q + 1) w)
          have hC : rs_LC (rs_k a_placeOf 0) G Fl a_order sz (v + 1) s := by
            obtain ⟨q, rfl⟩ := g2
            exact hLC (v + 1) g1 q g3
          obtain ⟨c, c1, c2, c3, c4, c5, c6⟩ := rs_b_half g3 hC hL' hR' g4
          refine br_f (nI_nle (by omega) (by omega)) (rs_pushHalves (by omega) g3 hsz g4.1 (by omega) g4.2.1 rfl c1 c2 c3 c4 s5 (by omega) (fun L' A' B' C' D' w' e' => ?_))
          subst e'
          have ms := rs_bL_ms (sz := sz) (v := v) (s := s) (c := c) (pl := pl) (x := pl) (d := d) (L := L)
          exact ih _ f A' B' C' D' (by omega) (rs_bL_bp hP') w' hF (rs_bL_Iv g3 (by omega) g2 c5 c6 hI)
      refine pk_lt s a (fun z => part (Or.inl z)) (fun z => pk_lt b (min (s + 2 ^ v) sz) (fun y => part (Or.inr y)) (fun y => ?_))
      have hVG : ∀ t, s ≤ t → t < min (s + 2 ^ v) sz → rs_V f_present (G (v * 32 + t)) := by
        intro t t1 t2
        obtain ⟨q, q1, q2, q3⟩ := hLS.2.1 t t1 t2
        rw [q3]
        exact hV q (by omega)
      obtain ⟨b1, b2, b3, b4⟩ := g4
      refine rs_takeList (lx := lx) (ly := ly) (hx := hx) hhy (by omega) b2 (by omega) hG (fun t t1 t2 => hVG t (by omega) t2) (fun i j i1 i2 i3 => hLS.1 i j (by omega) i2 i3) (fun i k i1 i2 hk ek hle => ?_) hF (fun f' q1 q2 q3 => ?_)
      · obtain ⟨t, t1, t2, t3⟩ := hLS.2.1 i (by omega) i2
        have h28 := hk.1
        have a1 := x4 t (by omega) (by omega)
        have a2 := x5 t (by omega)
        have a3 := b4 i i1 i2
        rw [← t3, ek, rs_k1 h28] at a1 a2
        rw [ek, rs_k0 h28] at a3
        exact ⟨a1, a2, a3, hle⟩
      · refine ih L f' A B C D (by simp only [rs_Ms] at hn; omega) p2 s5 q1 (rs_Iv_drop hI (fun k h => rs_Fi_m q2 h) (fun k hk ⟨t, t1, t2, t3⟩ => ?_))
        have t1 : s ≤ t := t1
        have t2 : t < min (s + 2 ^ v) sz := t2
        obtain ⟨i, i1, i2, i3⟩ := hLS.2.2 t t1 t2
        rw [t3] at i3
        rcases Nat.lt_or_ge i pl with w | w
        · intro q
          have := b3 i i1 w
          rw [i3, rs_k0 hk.1] at this
          have := q.2.2.1
          omega
        · exact q3 i k w i2 hk i3
end
section
variable {f_present f_size f_lowX f_lowY f_highX f_highY f_found f_nearX f_nearY f_best f_bestSquare f_waiting f_quads f_levels f_boxes : Int32} {a_placeOf a_order a_waitA a_waitB a_waitC a_waitD a_quadX a_quadY a_quadSide a_quadPart a_quadCount a_quadFirst a_nextPoint a_lists a_fromLeft a_boxLowX a_boxLowY a_boxHighX a_boxHighY a_boxFirst a_boxParts a_boxOfPoints a_zeros a_bottom a_sorted a_cellFirst a_heapPoint a_heapSplit : Nat → Int32} {lx ly hx hy sz : Nat}
theorem rs_searchBridges {post : SX → Prop} (hlx : lx < 64) (hly : ly < 64) (hhx : hx < 64) (hhy : hy < 64) (hlh : lx ≤ hx) (hG : rs_G f_present a_placeOf) (hA : rs_Al f_present sz a_order) (h0 : 0 < sz)
    (hp : ∀ f o G Fl l A B C D, rs_Sn f_present (rs_Q a_placeOf lx ly hx hy) f → (∀ k, rs_H f_present k → rs_Fi (rs_Q a_placeOf lx ly hx hy) f k) → post (f_present, nI sz, nI lx, nI ly, nI hx, nI hy, f, f_nearX, f_nearY, f_best, f_bestSquare, nI 0, f_quads, nI (l + 1), f_boxes, a_placeOf, o, A, B, C, D, a_quadX, a_quadY, a_quadSide, a_quadPart, a_quadCount, a_quadFirst, a_nextPoint, G, Fl, a_boxLowX, a_boxLowY, a_boxHighX, a_boxHighY, a_boxFirst, a_boxParts, a_boxOfPoints, a_zeros, a_bottom, a_sorted, a_cellFirst, a_heapPoint, a_heapSplit)) : wpX_searchWithBridges post (f_present, nI sz, nI lx, nI ly, nI hx, nI hy, 0, f_nearX, f_nearY, f_best, f_bestSquare, f_waiting, f_quads, f_levels, f_boxes, a_placeOf, a_order, a_waitA, a_waitB, a_waitC, a_waitD, a_quadX, a_quadY, a_quadSide, a_quadPart, a_quadCount, a_quadFirst, a_nextPoint, a_lists, a_fromLeft, a_boxLowX, a_boxLowY, a_boxHighX, a_boxHighY, a_boxFirst, a_boxParts, a_boxOfPoints, a_zeros, a_bottom, a_sorted, a_cellFirst, a_heapPoint, a_heapSplit) := by
  have hz := hA.1
  unfold wpX_searchWithBridges
  refine rs_buildLists hG hA (fun o G Fl l hA' hs h1 h2 h3 => ?_)
  refine rs_placeForX rfl (by omega) hG hz hA'.2.1 hs (fun a a1 a2 a3 => ?_)
  refine rs_placeForX (nI_1 hx) (by omega) hG hz hA'.2.1 hs (fun b b1 b2 b3 => ?_)
  have hX := rs_XR_of hlh a1 b1 a2 a3 b2 b3
  have hS0 := rs_LC_S (h3 l (by omega) 0 (by rw [Nat.zero_mul]; exact h0))
  have em : min (0 * 2 ^ l + 2 ^ l) sz = sz := by rw [Nat.zero_mul, Nat.zero_add]; omega
  rw [em, Nat.zero_mul] at hS0
  have hb : 2 ^ l ≤ 32 := Nat.pow_le_pow_right (n := 2) (j := 5) (by decide) h1
  refine rs_placeForY (a := 0) (nI_pred l) hly h1 (Nat.zero_le _) hz hG (fun t _ t2 => ?_) hS0.1 (fun r r1 r2 r3 r4 => ?_)
  · obtain ⟨q, q1, q2, q3⟩ := hS0.2.1 t (Nat.zero_le _) t2
    rw [q3]
    exact hA'.2.1 q q2
  · refine rs_push (L := []) l 0 r 0 trivial (by decide) (by omega) (by omega) (by omega) (nI_pred l) rfl rfl rfl (fun A1 B1 C1 D1 w => Exists.intro 64 ?_)
    refine rs_br_loop hly hhy hG hz hA'.2.1 h1 hX h3 (fun f A B C D q1 q2 => hp f o G Fl l A B C D q1 q2) 64 [(l, 0, r, 0)] 0 A1 B1 C1 D1 ?_ ⟨by show 0 + l ≤ 5; omega, trivial⟩ w rs_Sn_0 ⟨fun it hit => ?_, fun k hk => Or.inr ⟨(l, 0, r, 0), List.mem_singleton.mpr rfl, ?_⟩⟩
    · show rs_bw (l, 0, r, 0) + 0 < 64
      unfold rs_bw
      show 2 * 2 ^ l - 1 + 0 < 64
      omega
    · rw [List.mem_singleton.mp hit]
      have em2 : min (0 + 2 ^ l) sz = sz := by omega
      exact ⟨Nat.le_refl _, ⟨0, (Nat.zero_mul _).symm⟩, h0, by show rs_bP _ _ _ l 0 (min (0 + 2 ^ l) sz) r; rw [em2]; exact ⟨r1, r2, r3, r4⟩⟩
    · obtain ⟨t, t1, t2⟩ := hA'.2.2.1 k hk
      exact ⟨t, Nat.zero_le _, by show t < min (0 + 2 ^ l) sz; omega, t2⟩
end
end
section
/-! boxes: the building -/
/-- a high side so far: none, or x1; q with it gives r -/
def rs_hi (v : Int32) (q r : Nat) : Prop := (v = -1 ∧ r = q) ∨ ∃ x1, x1 < 100 ∧ v = nI x1 ∧ r = max q x1
section
variable {f_present f_size f_lowX f_lowY f_highX f_highY f_found f_nearX f_nearY f_best f_bestSquare f_waiting f_quads f_levels f_boxes : Int32} {a_placeOf a_order a_waitA a_waitB a_waitC a_waitD a_quadX a_quadY a_quadSide a_quadPart a_quadCount a_quadFirst a_nextPoint a_lists a_fromLeft a_boxFirst a_boxParts a_boxOfPoints a_zeros a_bottom a_sorted a_cellFirst a_heapPoint a_heapSplit : Nat → Int32}
theorem rs_wd_81 {post : SX → Prop} {LX LY HX HY : Nat → Int32} {z0 : Int32} {b q v r : Nat} (hb : b < 64) (hq : q < 100) (hv : v < 100) (hz : z0 = nI v) (hr : rs_hi (HY b) q r) (hr2 : r < 100)
    (hp : post (f_present, f_size, f_lowX, f_lowY, f_highX, f_highY, f_found, f_nearX, f_nearY, f_best, f_bestSquare, f_waiting, f_quads, f_levels, f_boxes, a_placeOf, a_order, a_waitA, a_waitB, a_waitC, a_waitD, a_quadX, a_quadY, a_quadSide, a_quadPart, a_quadCount, a_quadFirst, a_nextPoint, a_lists, a_fromLeft, LX, LY, upd HX b (nI v), upd HY b (nI r), a_boxFirst, a_boxParts, a_boxOfPoints, a_zeros, a_bottom, a_sorted, a_cellFirst, a_heapPoint, a_heapSplit)) : (wX_widen_81 post (nI b) (nI q) z0 (nI b) f_present f_size f_lowX f_lowY f_highX f_highY f_found f_nearX f_nearY f_best f_bestSquare f_waiting f_quads f_levels f_boxes a_placeOf a_order a_waitA a_waitB a_waitC a_waitD a_quadX a_quadY a_quadSide a_quadPart a_quadCount a_quadFirst a_nextPoint a_lists a_fromLeft LX LY HX HY a_boxFirst a_boxParts a_boxOfPoints a_zeros a_bottom a_sorted a_cellFirst a_heapPoint a_heapSplit) := by
  have ib : vp_in (nI b) 64 := vp_in_nI hb (by decide)
  have eb : (nI b).toNatClampNeg = b := nI_clamp (by omega)
  subst hz
  unfold wX_widen_81
  rw [eb]
  refine ⟨ib, nm_r (e' := upd HX b (nI v)) (by rw [rs_nb2 (by omega)]) ⟨ib, ?_⟩⟩
  rcases hr with ⟨h1, h2⟩ | ⟨x1, h1, h2, h3⟩
  · rw [h1]
    refine br_f (Int32.not_le.mpr (Int32.lt_of_lt_of_le (by decide : (-1 : Int32) < 0) (nI_pos' (by omega)))) ⟨ib, nm_r (e' := upd HY b (nI r)) (by rw [h2, rs_nb2 (by omega)]) hp⟩
  · rw [h2]
    refine pk_le q x1 (fun z => ⟨ib, ib, nm_r (e' := upd HY b (nI r)) (by rw [h3, rs_nb2 (by omega), Nat.max_eq_right z]) hp⟩) (fun z => ⟨ib, nm_r (e' := upd HY b (nI r)) (by rw [h3, rs_nb2 (by omega), Nat.max_eq_left (Nat.le_of_lt z)]) hp⟩)
theorem rs_wd_52 {post : SX → Prop} {LX LY HX HY : Nat → Int32} {z0 : Int32} {b qx qy v rx ry : Nat} (hb : b < 64) (hqx : qx < 100) (hqy : qy < 100) (hv : v < 100) (hz : z0 = nI v) (hrx : rs_hi (HX b) qx rx) (hry : rs_hi (HY b) qy ry) (hr1 : rx < 100) (hr2 : ry < 100)
    (hp : post (f_present, f_size, f_lowX, f_lowY, f_highX, f_highY, f_found, f_nearX, f_nearY, f_best, f_bestSquare, f_waiting, f_quads, f_levels, f_boxes, a_placeOf, a_order, a_waitA, a_waitB, a_waitC, a_waitD, a_quadX, a_quadY, a_quadSide, a_quadPart, a_quadCount, a_quadFirst, a_nextPoint, a_lists, a_fromLeft, LX, upd LY b (nI v), upd HX b (nI rx), upd HY b (nI ry), a_boxFirst, a_boxParts, a_boxOfPoints, a_zeros, a_bottom, a_sorted, a_cellFirst, a_heapPoint, a_heapSplit)) : (wX_widen_52 post (nI b) (nI qx) (nI qy) z0 (nI b) f_present f_size f_lowX f_lowY f_highX f_highY f_found f_nearX f_nearY f_best f_bestSquare f_waiting f_quads f_levels f_boxes a_placeOf a_order a_waitA a_waitB a_waitC a_waitD a_quadX a_quadY a_quadSide a_quadPart a_quadCount a_quadFirst a_nextPoint a_lists a_fromLeft LX LY HX HY a_boxFirst a_boxParts a_boxOfPoints a_zeros a_bottom a_sorted a_cellFirst a_heapPoint a_heapSplit) := by
  have ib : vp_in (nI b) 64 := vp_in_nI hb (by decide)
  have eb : (nI b).toNatClampNeg = b := nI_clamp (by omega)
  subst hz
  unfold wX_widen_52
  rw [eb]
  refine ⟨ib, nm_r (e' := upd LY b (nI v)) (by rw [rs_nb2 (by omega)]) ⟨ib, ?_⟩⟩
  rcases hrx with ⟨h1, h2⟩ | ⟨x1, h1, h2, h3⟩
  · rw [h1]
    exact br_f (Int32.not_le.mpr (Int32.lt_of_lt_of_le (by decide : (-1 : Int32) < 0) (nI_pos' (by omega)))) (rs_wd_81 (v := rx) hb hqy hr1 (by rw [h2]) hry hr2 hp)
  · rw [h2]
    exact pk_le qx x1 (fun z => ⟨ib, rs_wd_81 (v := rx) hb hqy hr1 (by rw [h3, Nat.max_eq_right z]) hry hr2 hp⟩) (fun z => rs_wd_81 (v := rx) hb hqy hr1 (by rw [h3, Nat.max_eq_left (Nat.le_of_lt z)]) hry hr2 hp)
theorem rs_wd_25 {post : SX → Prop} {LX LY HX HY : Nat → Int32} {z0 : Int32} {b py qx qy v y0 rx ry : Nat} (hb : b < 64) (hpy : py < 100) (hy0 : y0 < 100) (hqx : qx < 100) (hqy : qy < 100) (hv : v < 100) (hz : z0 = nI v) (hLY : LY b = nI y0) (hrx : rs_hi (HX b) qx rx) (hry : rs_hi (HY b) qy ry) (hr1 : rx < 100) (hr2 : ry < 100)
    (hp : post (f_present, f_size, f_lowX, f_lowY, f_highX, f_highY, f_found, f_nearX, f_nearY, f_best, f_bestSquare, f_waiting, f_quads, f_levels, f_boxes, a_placeOf, a_order, a_waitA, a_waitB, a_waitC, a_waitD, a_quadX, a_quadY, a_quadSide, a_quadPart, a_quadCount, a_quadFirst, a_nextPoint, a_lists, a_fromLeft, upd LX b (nI v), upd LY b (nI (min py y0)), upd HX b (nI rx), upd HY b (nI ry), a_boxFirst, a_boxParts, a_boxOfPoints, a_zeros, a_bottom, a_sorted, a_cellFirst, a_heapPoint, a_heapSplit)) : (wX_widen_25 post (nI b) (nI py) (nI qx) (nI qy) z0 (nI b) f_present f_size f_lowX f_lowY f_highX f_highY f_found f_nearX f_nearY f_best f_bestSquare f_waiting f_quads f_levels f_boxes a_placeOf a_order a_waitA a_waitB a_waitC a_waitD a_quadX a_quadY a_quadSide a_quadPart a_quadCount a_quadFirst a_nextPoint a_lists a_fromLeft LX LY HX HY a_boxFirst a_boxParts a_boxOfPoints a_zeros a_bottom a_sorted a_cellFirst a_heapPoint a_heapSplit) := by
  have ib : vp_in (nI b) 64 := vp_in_nI hb (by decide)
  have eb : (nI b).toNatClampNeg = b := nI_clamp (by omega)
  subst hz
  unfold wX_widen_25
  rw [eb, hLY]
  refine ⟨ib, nm_r (e' := upd LX b (nI v)) (by rw [rs_nb2 (by omega)]) ⟨ib, ?_⟩⟩
  exact pk_le y0 py (fun z => ⟨ib, rs_wd_52 (v := min py y0) hb hqx hqy (by omega) (by rw [Nat.min_eq_right z]) hrx hry hr1 hr2 hp⟩) (fun z => rs_wd_52 (v := min py y0) hb hqx hqy (by omega) (by rw [Nat.min_eq_left (Nat.le_of_lt z)]) hrx hry hr1 hr2 hp)
theorem rs_widen {post : SX → Prop} {LX LY HX HY : Nat → Int32} {b px py qx qy x0 y0 rx ry : Nat} (hb : b < 64) (hpx : px < 100) (hpy : py < 100) (hqx : qx < 100) (hqy : qy < 100) (hx0 : x0 < 100) (hy0 : y0 < 100) (hLX : LX b = nI x0) (hLY : LY b = nI y0) (hrx : rs_hi (HX b) qx rx) (hry : rs_hi (HY b) qy ry) (hr1 : rx < 100) (hr2 : ry < 100)
    (hp : post (f_present, f_size, f_lowX, f_lowY, f_highX, f_highY, f_found, f_nearX, f_nearY, f_best, f_bestSquare, f_waiting, f_quads, f_levels, f_boxes, a_placeOf, a_order, a_waitA, a_waitB, a_waitC, a_waitD, a_quadX, a_quadY, a_quadSide, a_quadPart, a_quadCount, a_quadFirst, a_nextPoint, a_lists, a_fromLeft, upd LX b (nI (min px x0)), upd LY b (nI (min py y0)), upd HX b (nI rx), upd HY b (nI ry), a_boxFirst, a_boxParts, a_boxOfPoints, a_zeros, a_bottom, a_sorted, a_cellFirst, a_heapPoint, a_heapSplit)) : wpX_widen post (f_present, f_size, f_lowX, f_lowY, f_highX, f_highY, f_found, f_nearX, f_nearY, f_best, f_bestSquare, f_waiting, f_quads, f_levels, f_boxes, a_placeOf, a_order, a_waitA, a_waitB, a_waitC, a_waitD, a_quadX, a_quadY, a_quadSide, a_quadPart, a_quadCount, a_quadFirst, a_nextPoint, a_lists, a_fromLeft, LX, LY, HX, HY, a_boxFirst, a_boxParts, a_boxOfPoints, a_zeros, a_bottom, a_sorted, a_cellFirst, a_heapPoint, a_heapSplit) (nI b) (nI px) (nI py) (nI qx) (nI qy) := by
  have ib : vp_in (nI b) 64 := vp_in_nI hb (by decide)
  have eb : (nI b).toNatClampNeg = b := nI_clamp (by omega)
  unfold wpX_widen
  refine And.intro ib ?_
  rw [eb, hLX]
  exact pk_le x0 px (fun z => ⟨ib, rs_wd_25 (v := min px x0) hb hpy hy0 hqx hqy (by omega) (by rw [Nat.min_eq_right z]) hLY hrx hry hr1 hr2 hp⟩) (fun z => rs_wd_25 (v := min px x0) hb hpy hy0 hqx hqy (by omega) (by rw [Nat.min_eq_left (Nat.le_of_lt z)]) hLY hrx hry hr1 hr2 hp)
end
/-- what a new box holds: points (1) or boxes (0); gp, gq: its low and high corner -/
def rs_bi (p : Int32) (P o LX LY HX HY : Nat → Int32) (b first parts : Nat) (x3 : Int32) (px py qx qy : Nat → Nat) : Prop :=
  (∀ i, first ≤ i → i < first + parts → px i < 64 ∧ py i < 64 ∧ qx i < 64 ∧ qy i < 64 ∧ px i ≤ qx i ∧ py i ≤ qy i) ∧
  ((x3 = 0 ∧ first + parts ≤ b ∧ ∀ i, first ≤ i → i < first + parts → LX i = nI (px i) ∧ LY i = nI (py i) ∧ HX i = nI (qx i) ∧ HY i = nI (qy i)) ∨
   (x3 = 1 ∧ first + parts ≤ 28 ∧ ∀ i, first ≤ i → i < first + parts → ∃ k, rs_H p k ∧ o i = nI k ∧ px i = rs_x P k ∧ py i = rs_y P k ∧ qx i = rs_x P k ∧ qy i = rs_y P k))
def rs_off (b : Nat) (X X' : Nat → Int32) : Prop := ∀ j, j ≠ b → X' j = X j
theorem rs_off_u {b : Nat} {X X' : Nat → Int32} {v : Int32} (h : rs_off b X X') : rs_off b X (upd X' b v) := fun j hj => by rw [pk_un hj]; exact h j hj
section
variable {f_present f_size f_lowX f_lowY f_highX f_highY f_found f_nearX f_nearY f_best f_bestSquare f_waiting f_quads f_levels f_boxes : Int32} {a_placeOf a_order a_waitA a_waitB a_waitC a_waitD a_quadX a_quadY a_quadSide a_quadPart a_quadCount a_quadFirst a_nextPoint a_lists a_fromLeft a_boxFirst a_boxParts a_boxOfPoints a_zeros a_bottom a_sorted a_cellFirst a_heapPoint a_heapSplit : Nat → Int32} {LX0 LY0 HX0 HY0 : Nat → Int32} {b first parts : Nat} {x3 : Int32} {px py qx qy : Nat → Nat}
/-- one item is taken into the box -/
theorem rs_nb_step {post : Int32 → SX → Prop} {LX LY HX HY : Nat → Int32} {n i x0 y0 rx ry : Nat} (hG : rs_G f_present a_placeOf) (hb : b < 60) (hi1 : first ≤ i) (hi2 : i < first + parts) (hfp : first + parts < 64) (hB : rs_bi f_present a_placeOf a_order LX0 LY0 HX0 HY0 b first parts x3 px py qx qy)
    (o1 : rs_off b LX0 LX) (o2 : rs_off b LY0 LY) (o3 : rs_off b HX0 HX) (o4 : rs_off b HY0 HY) (hx0 : x0 < 100) (hy0 : y0 < 100) (hLX : LX b = nI x0) (hLY : LY b = nI y0) (hrx : rs_hi (HX b) (qx i) rx) (hry : rs_hi (HY b) (qy i) ry) (hr1 : rx < 100) (hr2 : ry < 100)
    (hp : (wX_newBox_79 post (nI first) (nI parts) x3 (nI b) n (nI (i + 1)) f_present f_size f_lowX f_lowY f_highX f_highY f_found f_nearX f_nearY f_best f_bestSquare f_waiting f_quads f_levels f_boxes a_placeOf a_order a_waitA a_waitB a_waitC a_waitD a_quadX a_quadY a_quadSide a_quadPart a_quadCount a_quadFirst a_nextPoint a_lists a_fromLeft (upd LX b (nI (min (px i) x0))) (upd LY b (nI (min (py i) y0))) (upd HX b (nI rx)) (upd HY b (nI ry)) a_boxFirst a_boxParts a_boxOfPoints a_zeros a_bottom a_sorted a_cellFirst a_heapPoint a_heapSplit)) : (wX_newBox_79 post (nI first) (nI parts) x3 (nI b) (n + 1) (nI i) f_present f_size f_lowX f_lowY f_highX f_highY f_found f_nearX f_nearY f_best f_bestSquare f_waiting f_quads f_levels f_boxes a_placeOf a_order a_waitA a_waitB a_waitC a_waitD a_quadX a_quadY a_quadSide a_quadPart a_quadCount a_quadFirst a_nextPoint a_lists a_fromLeft LX LY HX HY a_boxFirst a_boxParts a_boxOfPoints a_zeros a_bottom a_sorted a_cellFirst a_heapPoint a_heapSplit) := by
  obtain ⟨g1, g2⟩ := hB
  obtain ⟨b1, b2, b3, b4, b5, b6⟩ := g1 i hi1 hi2
  have ei : (nI i).toNatClampNeg = i := nI_clamp (by omega)
  refine br_f (by rw [nI_add]; exact nI_ge hi2 (by omega)) ?_
  rcases g2 with ⟨h1, h2, h3⟩ | ⟨h1, h2, h3⟩
  · subst h1
    have ii : vp_in (nI i) 64 := vp_in_nI (by omega) (by decide)
    obtain ⟨e1, e2, e3, e4⟩ := h3 i hi1 hi2
    have ne : i ≠ b := by omega
    rw [ei, o1 i ne, o2 i ne, o3 i ne, o4 i ne, e1, e2, e3, e4]
    exact br_t rfl ⟨ii, ii, ii, ii, rs_widen (by omega) (by omega) (by omega) (by omega) (by omega) hx0 hy0 hLX hLY hrx hry hr1 hr2 (nm_r (nI_1 i) hp)⟩
  · subst h1
    obtain ⟨k, hk, ek, e1, e2, e3, e4⟩ := h3 i hi1 hi2
    rw [e1, e2] at hp
    rw [e3] at hrx
    rw [e4] at hry
    have hx := rs_xlt a_placeOf k
    have hy := rs_ylt (hG k hk)
    rw [ei, ek]
    exact br_f (by decide) ⟨vp_in_nI (by omega) (by decide), nm_e (rs_xOf hk.1 (hG k hk) (rs_yOf hk.1 (hG k hk) (rs_widen (by omega) (by omega) (by omega) (by omega) (by omega) hx0 hy0 hLX hLY hrx hry hr1 hr2 (nm_r (nI_1 i) hp))))⟩
theorem rs_nb_loop {post : Int32 → SX → Prop} (hG : rs_G f_present a_placeOf) (hb : b < 60) (hfp : first + parts < 64) (hB : rs_bi f_present a_placeOf a_order LX0 LY0 HX0 HY0 b first parts x3 px py qx qy)
    (hp : ∀ LX LY HX HY x0 y0 x1 y1, rs_off b LX0 LX → rs_off b LY0 LY → rs_off b HX0 HX → rs_off b HY0 HY → LX b = nI x0 → LY b = nI y0 → HX b = nI x1 → HY b = nI y1 → (x0 ≤ x1 ∧ y0 ≤ y1 ∧ x1 < 64 ∧ y1 < 64) → (∀ j, first ≤ j → j < first + parts → x0 ≤ px j ∧ y0 ≤ py j ∧ qx j ≤ x1 ∧ qy j ≤ y1) → post (nI b) (f_present, f_size, f_lowX, f_lowY, f_highX, f_highY, f_found, f_nearX, f_nearY, f_best, f_bestSquare, f_waiting, f_quads, f_levels, f_boxes, a_placeOf, a_order, a_waitA, a_waitB, a_waitC, a_waitD, a_quadX, a_quadY, a_quadSide, a_quadPart, a_quadCount, a_quadFirst, a_nextPoint, a_lists, a_fromLeft, LX, LY, HX, HY, a_boxFirst, a_boxParts, a_boxOfPoints, a_zeros, a_bottom, a_sorted, a_cellFirst, a_heapPoint, a_heapSplit)) :
    ∀ (n i : Nat) (LX LY HX HY : Nat → Int32) (x0 y0 x1 y1 : Nat), first + parts < n + i → first ≤ i → i ≤ first + parts → rs_off b LX0 LX → rs_off b LY0 LY → rs_off b HX0 HX → rs_off b HY0 HY → LX b = nI x0 → LY b = nI y0 → HX b = nI x1 → HY b = nI y1 → (x0 ≤ x1 ∧ y0 ≤ y1 ∧ x1 < 64 ∧ y1 < 64) → (∀ j, first ≤ j → j < i → x0 ≤ px j ∧ y0 ≤ py j ∧ qx j ≤ x1 ∧ qy j ≤ y1) → (wX_newBox_79 post (nI first) (nI parts) x3 (nI b) n (nI i) f_present f_size f_lowX f_lowY f_highX f_highY f_found f_nearX f_nearY f_best f_bestSquare f_waiting f_quads f_levels f_boxes a_placeOf a_order a_waitA a_waitB a_waitC a_waitD a_quadX a_quadY a_quadSide a_quadPart a_quadCount a_quadFirst a_nextPoint a_lists a_fromLeft LX LY HX HY a_boxFirst a_boxParts a_boxOfPoints a_zeros a_bottom a_sorted a_cellFirst a_heapPoint a_heapSplit) := by
  intro n
  induction n with
  | zero => intro i LX LY HX HY x0 y0 x1 y1 h1 h2 h3; omega
  | succ n ih =>
    intro i LX LY HX HY x0 y0 x1 y1 h1 h2 h3 o1 o2 o3 o4 e1 e2 e3 e4 hh hj
    rcases Nat.lt_or_ge i (first + parts) with z | z
    · obtain ⟨b1, b2, b3, b4, b5, b6⟩ := hB.1 i h2 z
      refine rs_nb_step (rx := max (qx i) x1) (ry := max (qy i) y1) hG hb h2 z hfp hB o1 o2 o3 o4 (by omega) (by omega) e1 e2 (Or.inr ⟨x1, by omega, e3, rfl⟩) (Or.inr ⟨y1, by omega, e4, rfl⟩) (by omega) (by omega) ?_
      refine ih (i + 1) _ _ _ _ (min (px i) x0) (min (py i) y0) (max (qx i) x1) (max (qy i) y1) (by omega) (by omega) (by omega) (rs_off_u o1) (rs_off_u o2) (rs_off_u o3) (rs_off_u o4) pk_us pk_us pk_us pk_us (by omega) (fun j j1 j2 => ?_)
      rcases Nat.lt_or_ge j i with w | w
      · have := hj j j1 w
        omega
      · have e : j = i := by omega
        subst e
        omega
    · refine br_t (by rw [nI_add]; exact nI_le z (by omega)) (hp LX LY HX HY x0 y0 x1 y1 o1 o2 o3 o4 e1 e2 e3 e4 hh (fun j j1 j2 => hj j j1 (by omega)))
end
section
variable {f_present f_size f_lowX f_lowY f_highX f_highY f_found f_nearX f_nearY f_best f_bestSquare f_waiting f_quads f_levels : Int32} {a_placeOf a_order a_waitA a_waitB a_waitC a_waitD a_quadX a_quadY a_quadSide a_quadPart a_quadCount a_quadFirst a_nextPoint a_lists a_fromLeft a_zeros a_bottom a_sorted a_cellFirst a_heapPoint a_heapSplit : Nat → Int32} {LX0 LY0 HX0 HY0 Fs Ps Op : Nat → Int32} {b first parts : Nat} {x3 : Int32} {px py qx qy : Nat → Nat}
theorem rs_newBox {post : Int32 → SX → Prop} {x y : Int32} (ex : x = nI first) (ey : y = nI parts) (hG : rs_G f_present a_placeOf) (hb : b < 60) (hfp : first + parts < 64) (h1 : 1 ≤ parts) (hB : rs_bi f_present a_placeOf a_order LX0 LY0 HX0 HY0 b first parts x3 px py qx qy)
    (hp : ∀ LX LY HX HY x0 y0 x1 y1, rs_off b LX0 LX → rs_off b LY0 LY → rs_off b HX0 HX → rs_off b HY0 HY → LX b = nI x0 → LY b = nI y0 → HX b = nI x1 → HY b = nI y1 → (x0 ≤ x1 ∧ y0 ≤ y1 ∧ x1 < 64 ∧ y1 < 64) → (∀ j, first ≤ j → j < first + parts → x0 ≤ px j ∧ y0 ≤ py j ∧ qx j ≤ x1 ∧ qy j ≤ y1) → post (nI b) (f_present, f_size, f_lowX, f_lowY, f_highX, f_highY, f_found, f_nearX, f_nearY, f_best, f_bestSquare, f_waiting, f_quads, f_levels, nI (b + 1), a_placeOf, a_order, a_waitA, a_waitB, a_waitC, a_waitD, a_quadX, a_quadY, a_quadSide, a_quadPart, a_quadCount, a_quadFirst, a_nextPoint, a_lists, a_fromLeft, LX, LY, HX, HY, upd Fs b (nI first), upd Ps b (nI parts), upd Op b x3, a_zeros, a_bottom, a_sorted, a_cellFirst, a_heapPoint, a_heapSplit)) : wpX_newBox post (f_present, f_size, f_lowX, f_lowY, f_highX, f_highY, f_found, f_nearX, f_nearY, f_best, f_bestSquare, f_waiting, f_quads, f_levels, nI b, a_placeOf, a_order, a_waitA, a_waitB, a_waitC, a_waitD, a_quadX, a_quadY, a_quadSide, a_quadPart, a_quadCount, a_quadFirst, a_nextPoint, a_lists, a_fromLeft, LX0, LY0, HX0, HY0, Fs, Ps, Op, a_zeros, a_bottom, a_sorted, a_cellFirst, a_heapPoint, a_heapSplit) x y x3 := by
  subst ex ey
  have ib : vp_in (nI b) 64 := vp_in_nI (by omega) (by decide)
  have eb : (nI b).toNatClampNeg = b := nI_clamp (by omega)
  have n64 : vp_nar .byte 64 = nI 64 := rs_nb (n := 64) (by decide)
  have nbo : vp_nar .boolean x3 = x3 := by
    rcases hB.2 with ⟨h, _⟩ | ⟨h, _⟩ <;> subst h <;> rfl
  unfold wpX_newBox
  refine nm_r (nI_1 b) ⟨ib, nm_r (e' := upd Fs b (nI first)) (by rw [eb, rs_nb2 (by omega)]) ⟨ib, nm_r (e' := upd Ps b (nI parts)) (by rw [eb, rs_nb2 (by omega)]) ⟨ib, nm_r (e' := upd Op b x3) (by rw [eb, nbo]) ⟨ib, nm_r (e' := upd LX0 b (nI 64)) (by rw [eb, n64]) ⟨ib, nm_r (e' := upd LY0 b (nI 64)) (by rw [eb, n64]) ⟨ib, nm_r (e' := upd HX0 b (-1)) (by rw [eb, rs_nbm]) ⟨ib, nm_r (e' := upd HY0 b (-1)) (by rw [eb, rs_nbm]) (Exists.intro (parts + 2) ?_)⟩⟩⟩⟩⟩⟩⟩
  obtain ⟨b1, b2, b3, b4, b5, b6⟩ := hB.1 first (Nat.le_refl _) (by omega)
  refine rs_nb_step (rx := qx first) (ry := qy first) (x0 := 64) (y0 := 64) hG hb (Nat.le_refl _) (by omega) hfp hB (rs_off_u (fun _ _ => rfl)) (rs_off_u (fun _ _ => rfl)) (rs_off_u (fun _ _ => rfl)) (rs_off_u (fun _ _ => rfl)) (by omega) (by omega) pk_us pk_us (Or.inl ⟨pk_us, rfl⟩) (Or.inl ⟨pk_us, rfl⟩) (by omega) (by omega) ?_
  refine rs_nb_loop hG hb hfp hB hp (parts + 1) (first + 1) _ _ _ _ (min (px first) 64) (min (py first) 64) (qx first) (qy first) (by omega) (by omega) (by omega) (rs_off_u (rs_off_u (fun _ _ => rfl))) (rs_off_u (rs_off_u (fun _ _ => rfl))) (rs_off_u (rs_off_u (fun _ _ => rfl))) (rs_off_u (rs_off_u (fun _ _ => rfl))) pk_us pk_us pk_us pk_us (by omega) (fun j j1 j2 => ?_)
  have e : j = first := by omega
  subst e
  omega
end
end
section
/-! boxes: the levels -/
def rs_nu (g : Nat → Nat) (k v : Nat) : Nat → Nat := fun j => if j = k then v else g j
theorem rs_nu_s {g : Nat → Nat} {k v : Nat} : rs_nu g k v k = v := if_pos rfl
theorem rs_nu_n {g : Nat → Nat} {k v j : Nat} (h : j ≠ k) : rs_nu g k v j = g j := if_neg h
def rs_bx (P o LX LY HX HY Fs Ps Op : Nat → Int32) (sz : Nat) (lo hi : Nat → Nat) (b : Nat) : Prop :=
  ∃ x0 y0 x1 y1 fi pa, (LX b = nI x0 ∧ LY b = nI y0 ∧ HX b = nI x1 ∧ HY b = nI y1) ∧ (x0 ≤ x1 ∧ y0 ≤ y1 ∧ x1 < 64 ∧ y1 < 64) ∧ (Fs b = nI fi ∧ Ps b = nI pa ∧ 1 ≤ pa ∧ pa ≤ 3 ∧ lo b < hi b ∧ hi b ≤ sz) ∧
    (∀ t, lo b ≤ t → t < hi b → x0 ≤ rs_k P 1 (o t) ∧ rs_k P 1 (o t) ≤ x1 ∧ y0 ≤ rs_k P 0 (o t) ∧ rs_k P 0 (o t) ≤ y1) ∧
    ((Op b = 1 ∧ lo b = fi ∧ hi b = fi + pa) ∨ (Op b = 0 ∧ fi + pa ≤ b ∧ lo fi = lo b ∧ hi (fi + pa - 1) = hi b ∧ ∀ i, fi ≤ i → i + 1 < fi + pa → hi i = lo (i + 1)))
theorem rs_bx_c {P o LX LY HX HY Fs Ps Op LX' LY' HX' HY' Fs' Ps' Op' : Nat → Int32} {sz b n : Nat} {lo hi lo' hi' : Nat → Nat} (hb : b < n) (e1 : rs_off n LX LX') (e2 : rs_off n LY LY') (e3 : rs_off n HX HX') (e4 : rs_off n HY HY') (e5 : rs_off n Fs Fs') (e6 : rs_off n Ps Ps') (e7 : rs_off n Op Op') (e8 : ∀ j, j ≠ n → lo' j = lo j) (e9 : ∀ j, j ≠ n → hi' j = hi j)
    (h : rs_bx P o LX LY HX HY Fs Ps Op sz lo hi b) : rs_bx P o LX' LY' HX' HY' Fs' Ps' Op' sz lo' hi' b := by
  obtain ⟨x0, y0, x1, y1, fi, pa, ⟨a1, a2, a3, a4⟩, h2, ⟨c1, c2, c3, c4, c5, c6⟩, h4, h5⟩ := h
  have nb : b ≠ n := by omega
  refine ⟨x0, y0, x1, y1, fi, pa, ⟨by rw [e1 b nb]; exact a1, by rw [e2 b nb]; exact a2, by rw [e3 b nb]; exact a3, by rw [e4 b nb]; exact a4⟩, h2, ⟨by rw [e5 b nb]; exact c1, by rw [e6 b nb]; exact c2, c3, c4, by rw [e8 b nb, e9 b nb]; exact c5, by rw [e9 b nb]; exact c6⟩, by rw [e8 b nb, e9 b nb]; exact h4, ?_⟩
  rw [e7 b nb, e8 b nb, e9 b nb]
  rcases h5 with h5 | ⟨d1, d2, d3, d4, d5⟩
  · exact Or.inl h5
  · refine Or.inr ⟨d1, d2, by rw [e8 fi (by omega)]; exact d3, by rw [e9 _ (by omega)]; exact d4, fun i i1 i2 => ?_⟩
    rw [e9 i (by omega), e8 (i + 1) (by omega)]
    exact d5 i i1 i2
/-- boxes f .. e - 1 lie side by side from 0 to z -/
def rs_Ct (lo hi : Nat → Nat) (f e z : Nat) : Prop := (f = e ∧ z = 0) ∨ (f < e ∧ lo f = 0 ∧ hi (e - 1) = z ∧ ∀ i, f ≤ i → i + 1 < e → hi i = lo (i + 1))
theorem rs_Ct_s {lo hi lo' hi' : Nat → Nat} {f e z z' : Nat} (hfe : f ≤ e) (e8 : ∀ j, j ≠ e → lo' j = lo j) (e9 : ∀ j, j ≠ e → hi' j = hi j) (h1 : lo' e = z) (h2 : hi' e = z') (h : rs_Ct lo hi f e z) : rs_Ct lo' hi' f (e + 1) z' := by
  refine Or.inr ⟨by omega, ?_, by rw [Nat.add_sub_cancel]; exact h2, fun i i1 i2 => ?_⟩
  · rcases h with ⟨a, b⟩ | ⟨a, b, _⟩
    · rw [a, h1, b]
    · rw [e8 f (by omega)]; exact b
  · rcases h with ⟨a, b⟩ | ⟨a, b, c, d⟩
    · omega
    · by_cases z : i + 1 = e
      · rw [z, h1, e9 i (by omega), ← c, show i = e - 1 by omega]
      · rw [e9 i (by omega), e8 (i + 1) z]
        exact d i i1 (by omega)
theorem rs_Ct_k {lo hi lo' hi' : Nat → Nat} {f e n z : Nat} (hen : e ≤ n) (e8 : ∀ j, j ≠ n → lo' j = lo j) (e9 : ∀ j, j ≠ n → hi' j = hi j) (h : rs_Ct lo hi f e z) : rs_Ct lo' hi' f e z := by
  rcases h with h | ⟨a, b, c, d⟩
  · exact Or.inl h
  · exact Or.inr ⟨a, by rw [e8 f (by omega)]; exact b, by rw [e9 _ (by omega)]; exact c, fun i i1 i2 => by rw [e9 i (by omega), e8 (i + 1) (by omega)]; exact d i i1 i2⟩
theorem rs_in3 {lo hi : Nat → Nat} {fi pa t : Nat} (h1 : 1 ≤ pa) (h3 : pa ≤ 3) (hc : ∀ i, fi ≤ i → i + 1 < fi + pa → hi i = lo (i + 1)) (ht : lo fi ≤ t) (ht2 : t < hi (fi + pa - 1)) : ∃ i, fi ≤ i ∧ i < fi + pa ∧ lo i ≤ t ∧ t < hi i := by
  rcases (show pa = 1 ∨ pa = 2 ∨ pa = 3 by omega) with z | z | z
  · subst z
    exact ⟨fi, Nat.le_refl _, by omega, ht, ht2⟩
  · subst z
    have c0 := hc fi (Nat.le_refl _) (by omega)
    rw [show fi + 2 - 1 = fi + 1 by omega] at ht2
    rcases Nat.lt_or_ge t (hi fi) with w | w
    · exact ⟨fi, Nat.le_refl _, by omega, ht, w⟩
    · exact ⟨fi + 1, by omega, by omega, by omega, ht2⟩
  · subst z
    have c0 := hc fi (Nat.le_refl _) (by omega)
    have c1 := hc (fi + 1) (by omega) (by omega)
    rw [show fi + 3 - 1 = fi + 2 by omega] at ht2
    rw [show fi + 1 + 1 = fi + 2 by omega] at c1
    rcases Nat.lt_or_ge t (hi fi) with w | w
    · exact ⟨fi, Nat.le_refl _, by omega, ht, w⟩
    · rcases Nat.lt_or_ge t (hi (fi + 1)) with v | v
      · exact ⟨fi + 1, by omega, by omega, by omega, v⟩
      · exact ⟨fi + 2, by omega, by omega, by omega, ht2⟩
section
variable {f_present f_size f_lowX f_lowY f_highX f_highY f_found f_nearX f_nearY f_best f_bestSquare f_waiting f_quads f_levels : Int32} {a_placeOf a_order a_waitA a_waitB a_waitC a_waitD a_quadX a_quadY a_quadSide a_quadPart a_quadCount a_quadFirst a_nextPoint a_lists a_fromLeft a_zeros a_bottom a_sorted a_cellFirst a_heapPoint a_heapSplit : Nat → Int32} {sz : Nat}
theorem rs_bb_122 {post : SX → Prop} {J113 : Int32 → Int32 → Int32 → Int32 → Int32 → Int32 → Int32 → Int32 → Int32 → Int32 → Int32 → Int32 → Int32 → Int32 → Int32 → Int32 → Int32 → (Nat → Int32) → (Nat → Int32) → (Nat → Int32) → (Nat → Int32) → (Nat → Int32) → (Nat → Int32) → (Nat → Int32) → (Nat → Int32) → (Nat → Int32) → (Nat → Int32) → (Nat → Int32) → (Nat → Int32) → (Nat → Int32) → (Nat → Int32) → (Nat → Int32) → (Nat → Int32) → (Nat → Int32) → (Nat → Int32) → (Nat → Int32) → (Nat → Int32) → (Nat → Int32) → (Nat → Int32) → (Nat → Int32) → (Nat → Int32) → (Nat → Int32) → (Nat → Int32) → (Nat → Int32) → (Nat → Int32) → Prop} {f e : Nat} (hG : rs_G f_present a_placeOf) (hsz : sz ≤ 28) (hfe : f + 2 ≤ e) (hee : e + (e - f) ≤ 20)
    (hJ : ∀ LX LY HX HY Fs Ps Op nb lo hi, nb + (nb - e) ≤ 20 → e < nb → nb - e < e - f → (∀ j, j < nb → rs_bx a_placeOf a_order LX LY HX HY Fs Ps Op sz lo hi j) → rs_Ct lo hi e nb sz → J113 (nI e) (nI nb) f_present (nI sz) f_lowX f_lowY f_highX f_highY f_found f_nearX f_nearY f_best f_bestSquare f_waiting f_quads f_levels (nI nb) a_placeOf a_order a_waitA a_waitB a_waitC a_waitD a_quadX a_quadY a_quadSide a_quadPart a_quadCount a_quadFirst a_nextPoint a_lists a_fromLeft LX LY HX HY Fs Ps Op a_zeros a_bottom a_sorted a_cellFirst a_heapPoint a_heapSplit) :
    ∀ (n fr : Nat) (LX LY HX HY Fs Ps Op : Nat → Int32) (nb : Nat) (lo hi : Nat → Nat), 0 < n → e < n + fr → e ≤ nb → fr = f + 3 * (nb - e) → fr < e + 3 → (∀ j, j < nb → rs_bx a_placeOf a_order LX LY HX HY Fs Ps Op sz lo hi j) → rs_Ct lo hi f e sz → rs_Ct lo hi e nb (if fr < e then lo fr else sz) → (wX_buildBoxes_122 post J113 (nI e) n (nI fr) f_present (nI sz) f_lowX f_lowY f_highX f_highY f_found f_nearX f_nearY f_best f_bestSquare f_waiting f_quads f_levels (nI nb) a_placeOf a_order a_waitA a_waitB a_waitC a_waitD a_quadX a_quadY a_quadSide a_quadPart a_quadCount a_quadFirst a_nextPoint a_lists a_fromLeft LX LY HX HY Fs Ps Op a_zeros a_bottom a_sorted a_cellFirst a_heapPoint a_heapSplit) := by
  intro n
  induction n with
  | zero => intro fr LX LY HX HY Fs Ps Op nb lo hi h0 h1 h2 h3 h4 hB hC1 hC2; omega
  | succ n ih =>
    intro fr LX LY HX HY Fs Ps Op nb lo hi h0 h1 h2 h3 h4 hB hC1 hC2
    refine pk_le e fr (fun z => ?_) (fun z => ?_)
    · rw [if_neg (by omega)] at hC2
      exact hJ LX LY HX HY Fs Ps Op nb lo hi (by omega) (by omega) (by omega) hB hC2
    · rw [if_pos z] at hC2
      have R : ∀ pa : Nat, pa = min 3 (e - fr) → (wX_buildBoxes_141 post J113 (wX_buildBoxes_122 post J113 (nI e) n) (nI e) (nI fr) (nI pa) f_present (nI sz) f_lowX f_lowY f_highX f_highY f_found f_nearX f_nearY f_best f_bestSquare f_waiting f_quads f_levels (nI nb) a_placeOf a_order a_waitA a_waitB a_waitC a_waitD a_quadX a_quadY a_quadSide a_quadPart a_quadCount a_quadFirst a_nextPoint a_lists a_fromLeft LX LY HX HY Fs Ps Op a_zeros a_bottom a_sorted a_cellFirst a_heapPoint a_heapSplit) := by
        intro pa epa
        have hch : ∀ i, fr ≤ i → i < fr + pa → ∃ x0 y0 x1 y1, (LX i = nI x0 ∧ LY i = nI y0 ∧ HX i = nI x1 ∧ HY i = nI y1) ∧ (x0 ≤ x1 ∧ y0 ≤ y1 ∧ x1 < 64 ∧ y1 < 64) ∧ (lo i < hi i ∧ hi i ≤ sz) ∧ (∀ t, lo i ≤ t → t < hi i → x0 ≤ rs_k a_placeOf 1 (a_order t) ∧ rs_k a_placeOf 1 (a_order t) ≤ x1 ∧ y0 ≤ rs_k a_placeOf 0 (a_order t) ∧ rs_k a_placeOf 0 (a_order t) ≤ y1) := by
          intro i i1 i2
          obtain ⟨x0, y0, x1, y1, _, _, g1, g2, ⟨_, _, _, _, g5, g6⟩, g4, _⟩ := hB i (by omega)
          exact ⟨x0, y0, x1, y1, g1, g2, ⟨g5, g6⟩, g4⟩
        have ctg : ∀ i, fr ≤ i → i + 1 < fr + pa → hi i = lo (i + 1) := by
          rcases hC1 with ⟨a, _⟩ | ⟨_, _, _, d⟩
          · omega
          · exact fun i i1 i2 => d i (by omega) (by omega)
        unfold wX_buildBoxes_141
        refine rs_newBox (first := fr) (parts := pa) (b := nb) (px := fun i => (LX i).toNatClampNeg) (py := fun i => (LY i).toNatClampNeg) (qx := fun i => (HX i).toNatClampNeg) (qy := fun i => (HY i).toNatClampNeg) rfl rfl hG (by omega) (by omega) (by omega) ⟨fun i i1 i2 => ?_, Or.inl ⟨rfl, by omega, fun i i1 i2 => ?_⟩⟩ (fun LX' LY' HX' HY' x0 y0 x1 y1 o1 o2 o3 o4 g1 g2 g3 g4 g5 g6 => ?_)
        · obtain ⟨x0, y0, x1, y1, ⟨e1, e2, e3, e4⟩, g2, _⟩ := hch i i1 i2
          dsimp only
          rw [e1, e2, e3, e4, nI_clamp (by omega), nI_clamp (by omega), nI_clamp (by omega), nI_clamp (by omega)]
          omega
        · obtain ⟨x0, y0, x1, y1, ⟨e1, e2, e3, e4⟩, g2, _⟩ := hch i i1 i2
          dsimp only
          rw [e1, e2, e3, e4, nI_clamp (by omega), nI_clamp (by omega), nI_clamp (by omega), nI_clamp (by omega)]
          exact ⟨rfl, rfl, rfl, rfl⟩
        · have e8 : ∀ j, j ≠ nb → rs_nu lo nb (lo fr) j = lo j := fun j h => rs_nu_n h
          have e9 : ∀ j, j ≠ nb → rs_nu hi nb (hi (fr + pa - 1)) j = hi j := fun j h => rs_nu_n h
          have in_ : ∀ t, lo fr ≤ t → t < hi (fr + pa - 1) → x0 ≤ rs_k a_placeOf 1 (a_order t) ∧ rs_k a_placeOf 1 (a_order t) ≤ x1 ∧ y0 ≤ rs_k a_placeOf 0 (a_order t) ∧ rs_k a_placeOf 0 (a_order t) ≤ y1 := by
            intro t t1 t2
            obtain ⟨i, i1, i2, i3, i4⟩ := rs_in3 (by omega) (by omega) ctg t1 t2
            obtain ⟨a0, b0, a1, b1, ⟨e1, e2, e3, e4⟩, q2, _, q4⟩ := hch i i1 i2
            have w := g6 i i1 i2
            rw [e1, e2, e3, e4, nI_clamp (by omega), nI_clamp (by omega), nI_clamp (by omega), nI_clamp (by omega)] at w
            have := q4 t i3 i4
            omega
          have l1 := hch fr (Nat.le_refl _) (by omega)
          obtain ⟨_, _, _, _, _, _, ⟨l2, l3⟩, _⟩ := l1
          have l4 := hch (fr + pa - 1) (by omega) (by omega)
          obtain ⟨_, _, _, _, _, _, ⟨l5, l6⟩, _⟩ := l4
          have lohi : lo fr < hi (fr + pa - 1) := by
            rcases (show pa = 1 ∨ pa = 2 ∨ pa = 3 by omega) with w | w | w
            · rw [w, show fr + 1 - 1 = fr by omega]; exact l2
            · have c0 := ctg fr (Nat.le_refl _) (by omega)
              rw [w, show fr + 2 - 1 = fr + 1 by omega] at l5 ⊢
              omega
            · have c0 := ctg fr (Nat.le_refl _) (by omega)
              have c1 := ctg (fr + 1) (by omega) (by omega)
              obtain ⟨_, _, _, _, _, _, ⟨m2, m3⟩, _⟩ := hch (fr + 1) (by omega) (by omega)
              rw [w, show fr + 3 - 1 = fr + 1 + 1 by omega] at l5 ⊢
              omega
          have nbx : rs_bx a_placeOf a_order LX' LY' HX' HY' (upd Fs nb (nI fr)) (upd Ps nb (nI pa)) (upd Op nb 0) sz (rs_nu lo nb (lo fr)) (rs_nu hi nb (hi (fr + pa - 1))) nb := by
            refine ⟨x0, y0, x1, y1, fr, pa, ⟨g1, g2, g3, g4⟩, g5, ⟨pk_us, pk_us, by omega, by omega, by rw [rs_nu_s, rs_nu_s]; exact lohi, by rw [rs_nu_s]; exact l6⟩, by rw [rs_nu_s, rs_nu_s]; exact in_, Or.inr ⟨pk_us, by omega, by rw [rs_nu_s, e8 fr (by omega)], by rw [rs_nu_s, e9 _ (by omega)], fun i i1 i2 => ?_⟩⟩
            rw [e9 i (by omega), e8 (i + 1) (by omega)]
            exact ctg i i1 i2
          have e3 : nI fr + 3 = nI (fr + 3) := nI_add fr 3
          refine nm_r e3 (ih (fr + 3) LX' LY' HX' HY' _ _ _ (nb + 1) (rs_nu lo nb (lo fr)) (rs_nu hi nb (hi (fr + pa - 1))) (by omega) (by omega) (by omega) (by omega) (by omega) (fun j hj => ?_) (rs_Ct_k h2 e8 e9 hC1) (rs_Ct_s h2 e8 e9 rs_nu_s ?_ hC2))
          · rcases Nat.lt_or_ge j nb with w | w
            · exact rs_bx_c w o1 o2 o3 o4 (rs_off_u (fun _ _ => rfl)) (rs_off_u (fun _ _ => rfl)) (rs_off_u (fun _ _ => rfl)) e8 e9 (hB j w)
            · have ej : j = nb := by omega
              rw [ej]
              exact nbx
          · rw [rs_nu_s]
            rcases hC1 with ⟨a, _⟩ | ⟨_, _, c, d⟩
            · omega
            · split
              · rename_i w
                rw [e8 (fr + 3) (by omega), epa, show min 3 (e - fr) = 3 by omega, show fr + 3 - 1 = fr + 2 by omega]
                exact d (fr + 2) (by omega) (by omega)
              · rename_i w
                rw [epa, show fr + min 3 (e - fr) - 1 = e - 1 by omega]
                exact c
      have e3 : nI fr + 3 = nI (fr + 3) := nI_add fr 3
      rw [e3]
      refine pk_le e (fr + 3) (fun w => ?_) (fun w => R 3 (by omega))
      rw [pk_sub (by omega)]
      exact R (e - fr) (by omega)
theorem rs_bb_113 {post : SX → Prop} (hG : rs_G f_present a_placeOf) (hsz : sz ≤ 28) (h0 : 0 < sz)
    (hp : ∀ LX LY HX HY Fs Ps Op nb lo hi, 0 < nb → nb ≤ 20 → (∀ j, j < nb → rs_bx a_placeOf a_order LX LY HX HY Fs Ps Op sz lo hi j) → lo (nb - 1) = 0 → hi (nb - 1) = sz → post (f_present, nI sz, f_lowX, f_lowY, f_highX, f_highY, f_found, f_nearX, f_nearY, f_best, f_bestSquare, f_waiting, f_quads, f_levels, nI nb, a_placeOf, a_order, a_waitA, a_waitB, a_waitC, a_waitD, a_quadX, a_quadY, a_quadSide, a_quadPart, a_quadCount, a_quadFirst, a_nextPoint, a_lists, a_fromLeft, LX, LY, HX, HY, Fs, Ps, Op, a_zeros, a_bottom, a_sorted, a_cellFirst, a_heapPoint, a_heapSplit)) :
    ∀ (n f nb : Nat) (LX LY HX HY Fs Ps Op : Nat → Int32) (lo hi : Nat → Nat), nb < n + f → f ≤ nb → nb + (nb - f) ≤ 20 → (∀ j, j < nb → rs_bx a_placeOf a_order LX LY HX HY Fs Ps Op sz lo hi j) → rs_Ct lo hi f nb sz → (wX_buildBoxes_113 post n (nI f) (nI nb) f_present (nI sz) f_lowX f_lowY f_highX f_highY f_found f_nearX f_nearY f_best f_bestSquare f_waiting f_quads f_levels (nI nb) a_placeOf a_order a_waitA a_waitB a_waitC a_waitD a_quadX a_quadY a_quadSide a_quadPart a_quadCount a_quadFirst a_nextPoint a_lists a_fromLeft LX LY HX HY Fs Ps Op a_zeros a_bottom a_sorted a_cellFirst a_heapPoint a_heapSplit) := by
  intro n
  induction n with
  | zero => intro f nb LX LY HX HY Fs Ps Op lo hi h1 h2 h3; omega
  | succ n ih =>
    intro f nb LX LY HX HY Fs Ps Op lo hi h1 h2 h3 hB hC
    refine pk_le (nb - f) 1 (fun z => ?_) (fun z => Exists.intro (nb + 1) ?_) (hx := pk_sub h2)
    · rcases hC with ⟨a, b⟩ | ⟨a, b, c, d⟩
      · omega
      · exact hp LX LY HX HY Fs Ps Op nb lo hi (by omega) (by omega) hB (by rw [show nb - 1 = f by omega]; exact b) c
    · refine rs_bb_122 hG hsz (by omega) h3 (fun LX LY HX HY Fs Ps Op nb' lo hi g1 g2 g3 g4 g5 => ih nb nb' LX LY HX HY Fs Ps Op lo hi (by omega) (by omega) g1 g4 g5) (nb + 1) f LX LY HX HY Fs Ps Op nb lo hi (by omega) (by omega) (Nat.le_refl _) (by omega) (by omega) hB hC (Or.inl ⟨rfl, ?_⟩)
      rw [if_pos (by omega)]
      rcases hC with ⟨a, b⟩ | ⟨a, b, c, d⟩
      · omega
      · exact b
theorem rs_bb_63 {post : SX → Prop} (hG : rs_G f_present a_placeOf) (hA : rs_Al f_present sz a_order) (h0 : 0 < sz)
    (hp : ∀ LX LY HX HY Fs Ps Op nb lo hi, 0 < nb → nb ≤ 20 → (∀ j, j < nb → rs_bx a_placeOf a_order LX LY HX HY Fs Ps Op sz lo hi j) → lo (nb - 1) = 0 → hi (nb - 1) = sz → post (f_present, nI sz, f_lowX, f_lowY, f_highX, f_highY, f_found, f_nearX, f_nearY, f_best, f_bestSquare, f_waiting, f_quads, f_levels, nI nb, a_placeOf, a_order, a_waitA, a_waitB, a_waitC, a_waitD, a_quadX, a_quadY, a_quadSide, a_quadPart, a_quadCount, a_quadFirst, a_nextPoint, a_lists, a_fromLeft, LX, LY, HX, HY, Fs, Ps, Op, a_zeros, a_bottom, a_sorted, a_cellFirst, a_heapPoint, a_heapSplit)) :
    ∀ (n fr nb : Nat) (LX LY HX HY Fs Ps Op : Nat → Int32) (lo hi : Nat → Nat), 0 < n → sz < n + fr → fr = 3 * nb → fr < sz + 3 → (∀ j, j < nb → rs_bx a_placeOf a_order LX LY HX HY Fs Ps Op sz lo hi j) → rs_Ct lo hi 0 nb (min fr sz) → (wX_buildBoxes_63 post n (nI fr) f_present (nI sz) f_lowX f_lowY f_highX f_highY f_found f_nearX f_nearY f_best f_bestSquare f_waiting f_quads f_levels (nI nb) a_placeOf a_order a_waitA a_waitB a_waitC a_waitD a_quadX a_quadY a_quadSide a_quadPart a_quadCount a_quadFirst a_nextPoint a_lists a_fromLeft LX LY HX HY Fs Ps Op a_zeros a_bottom a_sorted a_cellFirst a_heapPoint a_heapSplit) := by
  obtain ⟨hsz, hV, _, _⟩ := hA
  intro n
  induction n with
  | zero => intro fr nb LX LY HX HY Fs Ps Op lo hi h9 h1 h2 h3; omega
  | succ n ih =>
    intro fr nb LX LY HX HY Fs Ps Op lo hi h9 h1 h2 h3 hB hC
    refine pk_le sz fr (fun z => Exists.intro (nb + 1) ?_) (fun z => ?_)
    · rw [Nat.min_eq_right z] at hC
      exact rs_bb_113 hG hsz h0 hp (nb + 1) 0 nb LX LY HX HY Fs Ps Op lo hi (by omega) (by omega) (by omega) hB hC
    · have R : ∀ pa : Nat, pa = min 3 (sz - fr) → (wX_buildBoxes_91 post (wX_buildBoxes_63 post n) (nI fr) (nI pa) f_present (nI sz) f_lowX f_lowY f_highX f_highY f_found f_nearX f_nearY f_best f_bestSquare f_waiting f_quads f_levels (nI nb) a_placeOf a_order a_waitA a_waitB a_waitC a_waitD a_quadX a_quadY a_quadSide a_quadPart a_quadCount a_quadFirst a_nextPoint a_lists a_fromLeft LX LY HX HY Fs Ps Op a_zeros a_bottom a_sorted a_cellFirst a_heapPoint a_heapSplit) := by
        intro pa epa
        unfold wX_buildBoxes_91
        refine rs_newBox (first := fr) (parts := pa) (b := nb) (px := fun i => rs_k a_placeOf 1 (a_order i)) (py := fun i => rs_k a_placeOf 0 (a_order i)) (qx := fun i => rs_k a_placeOf 1 (a_order i)) (qy := fun i => rs_k a_placeOf 0 (a_order i)) rfl rfl hG (by omega) (by omega) (by omega) ⟨fun i i1 i2 => ?_, Or.inr ⟨rfl, by omega, fun i i1 i2 => ?_⟩⟩ (fun LX' LY' HX' HY' x0 y0 x1 y1 o1 o2 o3 o4 g1 g2 g3 g4 g5 g6 => ?_)
        · have a := rs_klt (b := 1) hG (hV i (by omega))
          have b := rs_klt (b := 0) hG (hV i (by omega))
          exact ⟨a, b, a, b, Nat.le_refl _, Nat.le_refl _⟩
        · obtain ⟨k, hk, ek⟩ := hV i (by omega)
          dsimp only
          rw [ek, rs_k1 hk.1, rs_k0 hk.1]
          exact ⟨k, hk, rfl, rfl, rfl, rfl, rfl⟩
        · have e8 : ∀ j, j ≠ nb → rs_nu lo nb fr j = lo j := fun j h => rs_nu_n h
          have e9 : ∀ j, j ≠ nb → rs_nu hi nb (fr + pa) j = hi j := fun j h => rs_nu_n h
          have e3 : nI fr + 3 = nI (fr + 3) := nI_add fr 3
          refine nm_r e3 (ih (fr + 3) (nb + 1) LX' LY' HX' HY' _ _ _ (rs_nu lo nb fr) (rs_nu hi nb (fr + pa)) (by omega) (by omega) (by omega) (by omega) (fun j hj => ?_) (rs_Ct_s (Nat.zero_le _) e8 e9 (by rw [rs_nu_s]; omega) (by rw [rs_nu_s]; omega) hC))
          rcases Nat.lt_or_ge j nb with w | w
          · exact rs_bx_c w o1 o2 o3 o4 (rs_off_u (fun _ _ => rfl)) (rs_off_u (fun _ _ => rfl)) (rs_off_u (fun _ _ => rfl)) e8 e9 (hB j w)
          · have ej : j = nb := by omega
            subst ej
            refine ⟨x0, y0, x1, y1, fr, pa, ⟨g1, g2, g3, g4⟩, g5, ⟨pk_us, pk_us, by omega, by omega, by rw [rs_nu_s, rs_nu_s]; omega, by rw [rs_nu_s]; omega⟩, ?_, Or.inl ⟨pk_us, rs_nu_s, rs_nu_s⟩⟩
            rw [rs_nu_s, rs_nu_s]
            intro t t1 t2
            have w := g6 t t1 t2
            exact ⟨w.1, w.2.2.1, w.2.1, w.2.2.2⟩
      have e3 : nI fr + 3 = nI (fr + 3) := nI_add fr 3
      rw [e3]
      refine pk_le sz (fr + 3) (fun w => ?_) (fun w => R 3 (by omega))
      rw [pk_sub (by omega)]
      exact R (sz - fr) (by omega)
end
section
variable {f_present f_size f_lowX f_lowY f_highX f_highY f_found f_nearX f_nearY f_best f_bestSquare f_waiting f_quads f_levels f_boxes : Int32} {a_placeOf a_waitA a_waitB a_waitC a_waitD a_quadX a_quadY a_quadSide a_quadPart a_quadCount a_quadFirst a_nextPoint a_lists a_fromLeft a_boxLowX a_boxLowY a_boxHighX a_boxHighY a_boxFirst a_boxParts a_boxOfPoints a_zeros a_bottom a_sorted a_cellFirst a_heapPoint a_heapSplit : Nat → Int32} {sz : Nat}
theorem rs_bb_17 {post : SX → Prop} (hG : rs_G f_present a_placeOf) (h0 : 0 < sz)
    (hp : ∀ o LX LY HX HY Fs Ps Op nb lo hi, rs_Al f_present sz o → 0 < nb → nb ≤ 20 → (∀ j, j < nb → rs_bx a_placeOf o LX LY HX HY Fs Ps Op sz lo hi j) → lo (nb - 1) = 0 → hi (nb - 1) = sz → post (f_present, nI sz, f_lowX, f_lowY, f_highX, f_highY, f_found, f_nearX, f_nearY, f_best, f_bestSquare, f_waiting, f_quads, f_levels, nI nb, a_placeOf, o, a_waitA, a_waitB, a_waitC, a_waitD, a_quadX, a_quadY, a_quadSide, a_quadPart, a_quadCount, a_quadFirst, a_nextPoint, a_lists, a_fromLeft, LX, LY, HX, HY, Fs, Ps, Op, a_zeros, a_bottom, a_sorted, a_cellFirst, a_heapPoint, a_heapSplit)) :
    ∀ (n fr : Nat) (o : Nat → Int32), 0 < n → sz < n + fr → fr < 64 → rs_Al f_present sz o → (wX_buildBoxes_17 post n (nI fr) f_present (nI sz) f_lowX f_lowY f_highX f_highY f_found f_nearX f_nearY f_best f_bestSquare f_waiting f_quads f_levels 0 a_placeOf o a_waitA a_waitB a_waitC a_waitD a_quadX a_quadY a_quadSide a_quadPart a_quadCount a_quadFirst a_nextPoint a_lists a_fromLeft a_boxLowX a_boxLowY a_boxHighX a_boxHighY a_boxFirst a_boxParts a_boxOfPoints a_zeros a_bottom a_sorted a_cellFirst a_heapPoint a_heapSplit) := by
  intro n
  induction n with
  | zero => intro fr o h9 h1 h2 hA; have := hA.1; omega
  | succ n ih =>
    intro fr o h9 h1 h2 hA
    have hsz := hA.1
    refine pk_le sz fr (fun z => Exists.intro (sz + 1) ?_) (fun z => ?_)
    · exact rs_bb_63 hG hA h0 (fun LX LY HX HY Fs Ps Op nb lo hi a1 a2 a3 a4 a5 => hp o LX LY HX HY Fs Ps Op nb lo hi hA a1 a2 a3 a4 a5) (sz + 1) 0 0 a_boxLowX a_boxLowY a_boxHighX a_boxHighY a_boxFirst a_boxParts a_boxOfPoints (fun _ => 0) (fun _ => 0) (by omega) (by omega) rfl (by omega) (fun j hj => by omega) (Or.inl ⟨rfl, by omega⟩)
    · have R : ∀ to : Nat, to ≤ sz → (wX_buildBoxes_47 post (wX_buildBoxes_17 post n) (nI fr) (nI to) f_present (nI sz) f_lowX f_lowY f_highX f_highY f_found f_nearX f_nearY f_best f_bestSquare f_waiting f_quads f_levels 0 a_placeOf o a_waitA a_waitB a_waitC a_waitD a_quadX a_quadY a_quadSide a_quadPart a_quadCount a_quadFirst a_nextPoint a_lists a_fromLeft a_boxLowX a_boxLowY a_boxHighX a_boxHighY a_boxFirst a_boxParts a_boxOfPoints a_zeros a_bottom a_sorted a_cellFirst a_heapPoint a_heapSplit) := by
        intro to hto
        unfold wX_buildBoxes_47
        refine rs_sort fr to 0 hG (by decide) (by omega) (by omega) rfl rfl rfl (fun l _ g => hA.2.1 l (by omega)) (fun o' pm _ => ?_)
        have e9 : nI fr + 9 = nI (fr + 9) := nI_add fr 9
        exact nm_r e9 (ih (fr + 9) o' (by omega) (by omega) (by omega) (rs_Al_Pm hA (rs_Pm_mono (Nat.zero_le _) hto pm)))
      have e9 : nI fr + 9 = nI (fr + 9) := nI_add fr 9
      rw [e9]
      exact pk_le sz (fr + 9) (fun w => R sz (Nat.le_refl _)) (fun w => R (fr + 9) (by omega))
theorem rs_buildBoxes {post : SX → Prop} {o : Nat → Int32} (hG : rs_G f_present a_placeOf) (hA : rs_Al f_present sz o) (h0 : 0 < sz)
    (hp : ∀ o LX LY HX HY Fs Ps Op nb lo hi, rs_Al f_present sz o → 0 < nb → nb ≤ 20 → (∀ j, j < nb → rs_bx a_placeOf o LX LY HX HY Fs Ps Op sz lo hi j) → lo (nb - 1) = 0 → hi (nb - 1) = sz → post (f_present, nI sz, f_lowX, f_lowY, f_highX, f_highY, f_found, f_nearX, f_nearY, f_best, f_bestSquare, f_waiting, f_quads, f_levels, nI nb, a_placeOf, o, a_waitA, a_waitB, a_waitC, a_waitD, a_quadX, a_quadY, a_quadSide, a_quadPart, a_quadCount, a_quadFirst, a_nextPoint, a_lists, a_fromLeft, LX, LY, HX, HY, Fs, Ps, Op, a_zeros, a_bottom, a_sorted, a_cellFirst, a_heapPoint, a_heapSplit)) : wpX_buildBoxes post (f_present, nI sz, f_lowX, f_lowY, f_highX, f_highY, f_found, f_nearX, f_nearY, f_best, f_bestSquare, f_waiting, f_quads, f_levels, f_boxes, a_placeOf, o, a_waitA, a_waitB, a_waitC, a_waitD, a_quadX, a_quadY, a_quadSide, a_quadPart, a_quadCount, a_quadFirst, a_nextPoint, a_lists, a_fromLeft, a_boxLowX, a_boxLowY, a_boxHighX, a_boxHighY, a_boxFirst, a_boxParts, a_boxOfPoints, a_zeros, a_bottom, a_sorted, a_cellFirst, a_heapPoint, a_heapSplit) := by
  have hz := hA.1
  unfold wpX_buildBoxes
  refine rs_sort 0 sz 1 hG (by decide) (by decide) hz rfl rfl rfl (fun l _ h => hA.2.1 l h) (fun o' pm _ => Exists.intro (sz + 1) ?_)
  exact rs_bb_17 hG h0 hp (sz + 1) 0 o' (by omega) (by omega) (by omega) (rs_Al_Pm hA pm)
end
end
section
/-! boxes: the search -/
def rs_xl (f : Nat) : Nat → List rs_I → List rs_I
  | 0, L => L
  | m + 1, L => (f + m, 0, 0, 0) :: rs_xl f m L
theorem rs_xl_mem {f : Nat} {it : rs_I} {L : List rs_I} : ∀ {m : Nat}, it ∈ rs_xl f m L ↔ (∃ i, f ≤ i ∧ i < f + m ∧ it = (i, 0, 0, 0)) ∨ it ∈ L
  | 0 => ⟨Or.inr, fun h => h.elim (fun ⟨i, h1, h2, _⟩ => by omega) id⟩
  | m + 1 => by
    rw [rs_xl, List.mem_cons, rs_xl_mem]
    constructor
    · rintro (h | ⟨i, h1, h2, h3⟩ | h)
      · exact Or.inl ⟨f + m, by omega, by omega, h⟩
      · exact Or.inl ⟨i, h1, by omega, h3⟩
      · exact Or.inr h
    · rintro (⟨i, h1, h2, h3⟩ | h)
      · rcases Nat.lt_or_ge i (f + m) with z | z
        · exact Or.inr (Or.inl ⟨i, h1, z, h3⟩)
        · exact Or.inl (by rw [h3, show i = f + m by omega])
      · exact Or.inr (Or.inr h)
theorem rs_xl_len {f : Nat} {L : List rs_I} : ∀ {m : Nat}, (rs_xl f m L).length = L.length + m
  | 0 => rfl
  | m + 1 => by rw [rs_xl, List.length_cons, rs_xl_len]; omega
def rs_xw (it : rs_I) : Nat := 4 ^ it.1
theorem rs_xl_ms {f b : Nat} {L : List rs_I} : ∀ {m : Nat}, f + m ≤ b → 4 * rs_Ms rs_xw (rs_xl f m L) ≤ m * 4 ^ b + 4 * rs_Ms rs_xw L
  | 0, _ => by simp only [rs_xl]; omega
  | m + 1, h => by
    have ih := rs_xl_ms (f := f) (b := b) (L := L) (m := m) (by omega)
    have h1 : 4 ^ (f + m) ≤ 4 ^ (b - 1) := Nat.pow_le_pow_right (by decide) (by omega)
    have h2 : 4 ^ b = 4 * 4 ^ (b - 1) := by
      rw [show b = (b - 1) + 1 by omega, Nat.pow_succ, Nat.mul_comm, Nat.add_sub_cancel]
    simp only [rs_xl, rs_Ms]
    show 4 * (4 ^ (f + m) + _) ≤ _
    rw [Nat.succ_mul m (4 ^ b)]
    omega
def rs_xp : List rs_I → Prop
  | [] => True
  | it :: L => L.length + 2 * it.1 ≤ 40 ∧ rs_xp L
theorem rs_xl_xp {f b : Nat} {L : List rs_I} (hb : L.length + 2 * b ≤ 40) (hL : rs_xp L) : ∀ {m : Nat}, m ≤ 3 → f + m ≤ b → rs_xp (rs_xl f m L)
  | 0, _, _ => hL
  | m + 1, h3, h => ⟨by show (rs_xl f m L).length + 2 * (f + m) ≤ 40; rw [rs_xl_len]; omega, rs_xl_xp hb hL (by omega) (by omega)⟩
def rs_xC (o : Nat → Int32) (lo hi : Nat → Nat) (it : rs_I) (k : Nat) : Prop := ∃ t, lo it.1 ≤ t ∧ t < hi it.1 ∧ o t = nI k
section
variable {f_present f_size f_lowX f_lowY f_highX f_highY f_nearX f_nearY f_best f_bestSquare f_quads f_levels : Int32} {a_placeOf a_order a_quadX a_quadY a_quadSide a_quadPart a_quadCount a_quadFirst a_nextPoint a_lists a_fromLeft a_zeros a_bottom a_sorted a_cellFirst a_heapPoint a_heapSplit : Nat → Int32} {sz nb lx ly hx hy : Nat} {LX LY HX HY Fs Ps Op : Nat → Int32}
/-- a box of boxes: they wait -/
theorem rs_xs_push {post : SX → Prop} {J22 : Int32 → Int32 → Int32 → Int32 → Int32 → Int32 → Int32 → Int32 → Int32 → Int32 → Int32 → Int32 → Int32 → Int32 → Int32 → (Nat → Int32) → (Nat → Int32) → (Nat → Int32) → (Nat → Int32) → (Nat → Int32) → (Nat → Int32) → (Nat → Int32) → (Nat → Int32) → (Nat → Int32) → (Nat → Int32) → (Nat → Int32) → (Nat → Int32) → (Nat → Int32) → (Nat → Int32) → (Nat → Int32) → (Nat → Int32) → (Nat → Int32) → (Nat → Int32) → (Nat → Int32) → (Nat → Int32) → (Nat → Int32) → (Nat → Int32) → (Nat → Int32) → (Nat → Int32) → (Nat → Int32) → (Nat → Int32) → (Nat → Int32) → (Nat → Int32) → Prop} {f : Int32} {b fi pa : Nat} {L : List rs_I} (hb : b < 60) (hFs : Fs b = nI fi) (hPs : Ps b = nI pa) (hOp : Op b = 0) (hfp : fi + pa < 60) (hL : L.length + pa < 128) (hJ : ∀ A B C D, rs_St A B C D (rs_xl fi pa L) → J22 f_present (nI sz) (nI lx) (nI ly) (nI hx) (nI hy) f f_nearX f_nearY f_best f_bestSquare (nI (rs_xl fi pa L).length) f_quads f_levels (nI nb) a_placeOf a_order A B C D a_quadX a_quadY a_quadSide a_quadPart a_quadCount a_quadFirst a_nextPoint a_lists a_fromLeft LX LY HX HY Fs Ps Op a_zeros a_bottom a_sorted a_cellFirst a_heapPoint a_heapSplit) :
    ∀ (n m : Nat) (A B C D : Nat → Int32), pa < n + m → m ≤ pa → rs_St A B C D (rs_xl fi m L) → (wX_searchBoxes_114 post J22 (nI b) 1 n (nI (fi + m)) f_present (nI sz) (nI lx) (nI ly) (nI hx) (nI hy) f f_nearX f_nearY f_best f_bestSquare (nI (rs_xl fi m L).length) f_quads f_levels (nI nb) a_placeOf a_order A B C D a_quadX a_quadY a_quadSide a_quadPart a_quadCount a_quadFirst a_nextPoint a_lists a_fromLeft LX LY HX HY Fs Ps Op a_zeros a_bottom a_sorted a_cellFirst a_heapPoint a_heapSplit) := by
  have ib : vp_in (nI b) 64 := vp_in_nI (by omega) (by decide)
  have eb : (nI b).toNatClampNeg = b := nI_clamp (by omega)
  intro n
  induction n with
  | zero => intro m A B C D h1 h2; omega
  | succ n ih =>
    intro m A B C D h1 h2 hS
    refine br_f (by decide) ⟨ib, ib, ?_⟩
    rw [eb, hFs, hPs, nI_add]
    refine pk_le (fi + pa) (fi + m) (fun z => ?_) (fun z => ⟨ib, ?_⟩)
    · have e : m = pa := by omega
      subst e
      exact hJ A B C D hS
    · rw [hOp]
      refine br_t rfl (rs_push (L := rs_xl fi m L) (fi + m) 0 0 0 hS (by rw [rs_xl_len]; omega) (by omega) (by omega) (by omega) rfl rfl rfl rfl (fun A' B' C' D' w => ?_))
      exact nm_r (nI_1 (fi + m)) (ih (m + 1) A' B' C' D' (by omega) (by omega) w)
/-- a box of points: they are tested -/
theorem rs_xs_test {post : SX → Prop} {J22 : Int32 → Int32 → Int32 → Int32 → Int32 → Int32 → Int32 → Int32 → Int32 → Int32 → Int32 → Int32 → Int32 → Int32 → Int32 → (Nat → Int32) → (Nat → Int32) → (Nat → Int32) → (Nat → Int32) → (Nat → Int32) → (Nat → Int32) → (Nat → Int32) → (Nat → Int32) → (Nat → Int32) → (Nat → Int32) → (Nat → Int32) → (Nat → Int32) → (Nat → Int32) → (Nat → Int32) → (Nat → Int32) → (Nat → Int32) → (Nat → Int32) → (Nat → Int32) → (Nat → Int32) → (Nat → Int32) → (Nat → Int32) → (Nat → Int32) → (Nat → Int32) → (Nat → Int32) → (Nat → Int32) → (Nat → Int32) → (Nat → Int32) → (Nat → Int32) → Prop} {f_waiting : Int32} {a_waitA a_waitB a_waitC a_waitD : Nat → Int32} {b fi pa : Nat} (hlx : lx < 64) (hly : ly < 64) (hhx : hx < 64) (hhy : hy < 64) (hG : rs_G f_present a_placeOf) (hV : ∀ j, j < sz → rs_V f_present (a_order j)) (hsz : sz ≤ 28) (hb : b < 60) (hFs : Fs b = nI fi) (hPs : Ps b = nI pa) (hOp : Op b = 1) (hfp : fi + pa ≤ sz) (f0 : Int32)
    (hJ : ∀ f', rs_Sn f_present (rs_Q a_placeOf lx ly hx hy) f' → rs_Le f0 f' → (∀ t k, fi ≤ t → t < fi + pa → rs_H f_present k → a_order t = nI k → rs_Fi (rs_Q a_placeOf lx ly hx hy) f' k) → J22 f_present (nI sz) (nI lx) (nI ly) (nI hx) (nI hy) f' f_nearX f_nearY f_best f_bestSquare f_waiting f_quads f_levels (nI nb) a_placeOf a_order a_waitA a_waitB a_waitC a_waitD a_quadX a_quadY a_quadSide a_quadPart a_quadCount a_quadFirst a_nextPoint a_lists a_fromLeft LX LY HX HY Fs Ps Op a_zeros a_bottom a_sorted a_cellFirst a_heapPoint a_heapSplit) :
    ∀ (n m : Nat) (f : Int32), pa < n + m → m ≤ pa → rs_Sn f_present (rs_Q a_placeOf lx ly hx hy) f → rs_Le f0 f → (∀ t k, fi ≤ t → t < fi + m → rs_H f_present k → a_order t = nI k → rs_Fi (rs_Q a_placeOf lx ly hx hy) f k) → (wX_searchBoxes_114 post J22 (nI b) 1 n (nI (fi + m)) f_present (nI sz) (nI lx) (nI ly) (nI hx) (nI hy) f f_nearX f_nearY f_best f_bestSquare f_waiting f_quads f_levels (nI nb) a_placeOf a_order a_waitA a_waitB a_waitC a_waitD a_quadX a_quadY a_quadSide a_quadPart a_quadCount a_quadFirst a_nextPoint a_lists a_fromLeft LX LY HX HY Fs Ps Op a_zeros a_bottom a_sorted a_cellFirst a_heapPoint a_heapSplit) := by
  have ib : vp_in (nI b) 64 := vp_in_nI (by omega) (by decide)
  have eb : (nI b).toNatClampNeg = b := nI_clamp (by omega)
  intro n
  induction n with
  | zero => intro m f h1 h2; omega
  | succ n ih =>
    intro m f h1 h2 hF hLe hD
    refine br_f (by decide) ⟨ib, ib, ?_⟩
    rw [eb, hFs, hPs, nI_add]
    refine pk_le (fi + pa) (fi + m) (fun z => ?_) (fun z => ⟨ib, ?_⟩)
    · exact hJ f hF hLe (fun t k t1 t2 => hD t k t1 (by omega))
    · rw [hOp]
      refine br_f (by decide) ⟨vp_in_nI (by omega) (by decide), ?_⟩
      rw [nI_clamp (show fi + m < 2 ^ 31 by omega)]
      refine rs_testV hlx hly hhx hhy hG (hV (fi + m) (by omega)) hF (fun f' q1 q2 q3 => nm_r (nI_1 (fi + m)) (ih (m + 1) f' (by omega) (by omega) q1 (rs_Le_t hLe q2) (fun t k t1 t2 hk ek => ?_)))
      rcases Nat.lt_or_ge t (fi + m) with w | w
      · exact rs_Fi_m q2 (hD t k t1 w hk ek)
      · have e : t = fi + m := by omega
        rw [e] at ek
        exact q3 k hk ek
theorem rs_xs_loop {post : SX → Prop} {lo hi : Nat → Nat} (hlx : lx < 64) (hly : ly < 64) (hhx : hx < 64) (hhy : hy < 64) (hG : rs_G f_present a_placeOf) (hV : ∀ j, j < sz → rs_V f_present (a_order j)) (hsz : sz ≤ 28) (hnb : nb ≤ 20) (hB : ∀ j, j < nb → rs_bx a_placeOf a_order LX LY HX HY Fs Ps Op sz lo hi j)
    (hp : ∀ f A B C D, rs_Sn f_present (rs_Q a_placeOf lx ly hx hy) f → (∀ k, rs_H f_present k → rs_Fi (rs_Q a_placeOf lx ly hx hy) f k) → post (f_present, nI sz, nI lx, nI ly, nI hx, nI hy, f, f_nearX, f_nearY, f_best, f_bestSquare, nI 0, f_quads, f_levels, nI nb, a_placeOf, a_order, A, B, C, D, a_quadX, a_quadY, a_quadSide, a_quadPart, a_quadCount, a_quadFirst, a_nextPoint, a_lists, a_fromLeft, LX, LY, HX, HY, Fs, Ps, Op, a_zeros, a_bottom, a_sorted, a_cellFirst, a_heapPoint, a_heapSplit)) :
    ∀ (n : Nat) (L : List rs_I) (f : Int32) (A B C D : Nat → Int32), rs_Ms rs_xw L < n → rs_xp L → rs_St A B C D L → rs_Sn f_present (rs_Q a_placeOf lx ly hx hy) f → rs_Iv f_present (fun it => it.1 < nb) (rs_xC a_order lo hi) (rs_Fi (rs_Q a_placeOf lx ly hx hy) f) L → (wX_searchBoxes_22 post n f_present (nI sz) (nI lx) (nI ly) (nI hx) (nI hy) f f_nearX f_nearY f_best f_bestSquare (nI L.length) f_quads f_levels (nI nb) a_placeOf a_order A B C D a_quadX a_quadY a_quadSide a_quadPart a_quadCount a_quadFirst a_nextPoint a_lists a_fromLeft LX LY HX HY Fs Ps Op a_zeros a_bottom a_sorted a_cellFirst a_heapPoint a_heapSplit) := by
  intro n
  induction n with
  | zero => intro L f A B C D h; omega
  | succ n ih =>
    intro L f A B C D hn hP hS hF hI
    cases L with
    | nil => exact br_t (by decide) (hp f A B C D hF (rs_Iv_end hI))
    | cons it L =>
      obtain ⟨b, b', t, d⟩ := it
      obtain ⟨p1, p2⟩ := hP
      have p1 : L.length + 2 * b ≤ 40 := p1
      have hb : b < nb := hI.1 (b, b', t, d) List.mem_cons_self
      obtain ⟨x0, y0, x1, y1, fi, pa, ⟨a1, a2, a3, a4⟩, g2, ⟨c1, c2, c3, c4, c5, c6⟩, g4, g5⟩ := hB b hb
      have i : vp_in (nI L.length) 128 := vp_in_nI (by omega) (by decide)
      have e : (nI L.length).toNatClampNeg = L.length := nI_clamp (by omega)
      have ib : vp_in (nI b) 64 := vp_in_nI (by omega) (by decide)
      have eb : (nI b).toNatClampNeg = b := nI_clamp (by omega)
      obtain ⟨s1, s2, s3, s4, s5⟩ := hS
      have wpos : 1 ≤ rs_xw (b, b', t, d) := Nat.pos_of_ne_zero (by unfold rs_xw; exact Nat.ne_of_gt (Nat.pow_pos (by decide)))
      have hms : rs_Ms rs_xw L < n := by simp only [rs_Ms] at hn; omega
      have no : (∀ k, rs_H f_present k → (∃ q, lo b ≤ q ∧ q < hi b ∧ a_order q = nI k) → ¬ rs_Q a_placeOf lx ly hx hy k) → vp_in (nI b) 64 ∧ ∀ x : Int32, x = Fs b → ∃ n', (wX_searchBoxes_114 post (wX_searchBoxes_22 post n) (nI b) 0 n' x f_present (nI sz) (nI lx) (nI ly) (nI hx) (nI hy) f f_nearX f_nearY f_best f_bestSquare (nI L.length) f_quads f_levels (nI nb) a_placeOf a_order A B C D a_quadX a_quadY a_quadSide a_quadPart a_quadCount a_quadFirst a_nextPoint a_lists a_fromLeft LX LY HX HY Fs Ps Op a_zeros a_bottom a_sorted a_cellFirst a_heapPoint a_heapSplit) := by
        intro hd
        exact ⟨ib, fun x _ => ⟨1, br_t rfl (ih L f A B C D hms p2 s5 hF (rs_Iv_drop hI (fun _ h => h) (fun k hk z w => absurd w (hd k hk z))))⟩⟩
      have key : ∀ k q, rs_H f_present k → lo b ≤ q → q < hi b → a_order q = nI k → x0 ≤ rs_x a_placeOf k ∧ rs_x a_placeOf k ≤ x1 ∧ y0 ≤ rs_y a_placeOf k ∧ rs_y a_placeOf k ≤ y1 := by
        intro k q hk q1 q2 q3
        have := g4 q q1 q2
        rw [q3, rs_k1 hk.1, rs_k0 hk.1] at this
        exact this
      refine br_f (nI_nle (by rw [List.length_cons]; omega) (by rw [List.length_cons]; omega)) (nm_r (nI_pred L.length) ⟨i, nm_r (e' := nI b) (rs_at (by omega) s1) ⟨ib, ?_⟩⟩)
      rw [eb, a1, a2, a3, a4]
      refine pk_lt hx x0 (fun z => no (fun k hk ⟨q, q1, q2, q3⟩ w => by have := key k q hk q1 q2 q3; have := w.2.1; omega)) fun z1 => ⟨ib, pk_lt x1 lx (fun z => no (fun k hk ⟨q, q1, q2, q3⟩ w => by have := key k q hk q1 q2 q3; have := w.1; omega)) fun z2 => ⟨ib, pk_lt hy y0 (fun z => no (fun k hk ⟨q, q1, q2, q3⟩ w => by have := key k q hk q1 q2 q3; have := w.2.2.2; omega)) fun z3 => ⟨ib, pk_lt y1 ly (fun z => no (fun k hk ⟨q, q1, q2, q3⟩ w => by have := key k q hk q1 q2 q3; have := w.2.2.1; omega)) fun z4 => ⟨ib, ?_⟩⟩⟩⟩
      rw [c1]
      refine nm_e ?_
      rcases g5 with ⟨h1, h2, h3⟩ | ⟨h1, h2, h3, h4, h5⟩
      · refine ⟨pa + 1, rs_xs_test hlx hly hhx hhy hG hV hsz (show b < 60 by omega) c1 c2 h1 (by omega) f (fun f' q1 q2 q3 => ih L f' A B C D hms p2 s5 q1 (rs_Iv_drop hI (fun k h => rs_Fi_m q2 h) (fun k hk ⟨q, r1, r2, r3⟩ => ?_))) (pa + 1) 0 f (by omega) (by omega) hF (rs_Le_r f) (fun t k t1 t2 => by omega)⟩
        have r1 : lo b ≤ q := r1
        have r2 : q < hi b := r2
        exact q3 q k (by omega) (by omega) hk r3
      · refine ⟨pa + 1, rs_xs_push (L := L) (show b < 60 by omega) c1 c2 h1 (by omega) (by omega) (fun A' B' C' D' w => ?_) (pa + 1) 0 A B C D (by omega) (by omega) s5⟩
        have ms := rs_xl_ms (f := fi) (b := b) (L := L) (m := pa) h2
        have m3 : pa * 4 ^ b ≤ 3 * 4 ^ b := Nat.mul_le_mul_right _ c4
        have wb : rs_xw (b, b', t, d) = 4 ^ b := rfl
        refine ih (rs_xl fi pa L) f A' B' C' D' (by simp only [rs_Ms] at hn; omega) (rs_xl_xp p1 p2 c4 h2) w hF (rs_Iv_sub hI (fun _ h => h) (fun it hit => ?_) (fun it hit k hk z => Or.inr ?_))
        · rcases rs_xl_mem.mp hit with ⟨j, j1, j2, j3⟩ | h
          · rw [j3]; show j < nb; omega
          · exact hI.1 it (List.mem_cons_of_mem _ h)
        · rcases List.mem_cons.mp hit with e | e
          · subst e
            obtain ⟨q, q1, q2, q3⟩ := z
            have q1 : lo b ≤ q := q1
            have q2 : q < hi b := q2
            obtain ⟨j, j1, j2, j3, j4⟩ := rs_in3 c3 c4 h5 (show lo fi ≤ q by omega) (show q < hi (fi + pa - 1) by omega)
            exact ⟨(j, 0, 0, 0), rs_xl_mem.mpr (Or.inl ⟨j, j1, j2, rfl⟩), q, j3, j4, q3⟩
          · exact ⟨it, rs_xl_mem.mpr (Or.inr e), z⟩
end
section
variable {f_present f_size f_lowX f_lowY f_highX f_highY f_found f_nearX f_nearY f_best f_bestSquare f_waiting f_quads f_levels f_boxes : Int32} {a_placeOf a_order a_waitA a_waitB a_waitC a_waitD a_quadX a_quadY a_quadSide a_quadPart a_quadCount a_quadFirst a_nextPoint a_lists a_fromLeft a_boxLowX a_boxLowY a_boxHighX a_boxHighY a_boxFirst a_boxParts a_boxOfPoints a_zeros a_bottom a_sorted a_cellFirst a_heapPoint a_heapSplit : Nat → Int32} {sz lx ly hx hy : Nat}
theorem rs_searchBoxes {post : SX → Prop} (hlx : lx < 64) (hly : ly < 64) (hhx : hx < 64) (hhy : hy < 64) (hG : rs_G f_present a_placeOf) (hA : rs_Al f_present sz a_order) (h0 : 0 < sz)
    (hp : ∀ f o LX LY HX HY Fs Ps Op nb A B C D, rs_Sn f_present (rs_Q a_placeOf lx ly hx hy) f → (∀ k, rs_H f_present k → rs_Fi (rs_Q a_placeOf lx ly hx hy) f k) → post (f_present, nI sz, nI lx, nI ly, nI hx, nI hy, f, f_nearX, f_nearY, f_best, f_bestSquare, nI 0, f_quads, f_levels, nI nb, a_placeOf, o, A, B, C, D, a_quadX, a_quadY, a_quadSide, a_quadPart, a_quadCount, a_quadFirst, a_nextPoint, a_lists, a_fromLeft, LX, LY, HX, HY, Fs, Ps, Op, a_zeros, a_bottom, a_sorted, a_cellFirst, a_heapPoint, a_heapSplit)) : wpX_searchBoxes post (f_present, nI sz, nI lx, nI ly, nI hx, nI hy, 0, f_nearX, f_nearY, f_best, f_bestSquare, f_waiting, f_quads, f_levels, f_boxes, a_placeOf, a_order, a_waitA, a_waitB, a_waitC, a_waitD, a_quadX, a_quadY, a_quadSide, a_quadPart, a_quadCount, a_quadFirst, a_nextPoint, a_lists, a_fromLeft, a_boxLowX, a_boxLowY, a_boxHighX, a_boxHighY, a_boxFirst, a_boxParts, a_boxOfPoints, a_zeros, a_bottom, a_sorted, a_cellFirst, a_heapPoint, a_heapSplit) := by
  unfold wpX_searchBoxes
  refine rs_buildBoxes hG hA h0 (fun o LX LY HX HY Fs Ps Op nb lo hi hA' n1 n2 hB hl hh => ?_)
  have e1 : nI nb - 1 = nI (nb - 1) := pk_sub (b := 1) n1
  refine rs_push (L := []) (nb - 1) 0 0 0 trivial (by decide) (by omega) (by omega) (by omega) e1 rfl rfl rfl (fun A1 B1 C1 D1 w => Exists.intro (rs_Ms rs_xw [(nb - 1, 0, 0, 0)] + 1) ?_)
  refine rs_xs_loop hlx hly hhx hhy hG hA'.2.1 hA'.1 n2 hB (fun f A B C D q1 q2 => hp f o LX LY HX HY Fs Ps Op nb A B C D q1 q2) _ [(nb - 1, 0, 0, 0)] 0 A1 B1 C1 D1 (Nat.lt_succ_self _) ⟨by show 0 + 2 * (nb - 1) ≤ 40; omega, trivial⟩ w rs_Sn_0 ⟨fun it hit => ?_, fun k hk => Or.inr ⟨_, List.mem_singleton.mpr rfl, ?_⟩⟩
  · rw [List.mem_singleton.mp hit]
    show nb - 1 < nb
    omega
  · obtain ⟨t, t1, t2⟩ := hA'.2.2.1 k hk
    exact ⟨t, by show lo (nb - 1) ≤ t; omega, by show t < hi (nb - 1); omega, t2⟩
end
end
section
/-! counting -/
noncomputable def rs_b1 (P : Prop) : Nat := @ite Nat P (Classical.propDecidable P) 1 0
theorem rs_b1_t {P : Prop} (h : P) : rs_b1 P = 1 := by unfold rs_b1; rw [if_pos h]
theorem rs_b1_f {P : Prop} (h : ¬ P) : rs_b1 P = 0 := by unfold rs_b1; rw [if_neg h]
theorem rs_b1_e {P Q : Prop} (h : P ↔ Q) : rs_b1 P = rs_b1 Q := by
  by_cases p : P
  · rw [rs_b1_t p, rs_b1_t (h.mp p)]
  · rw [rs_b1_f p, rs_b1_f (fun q => p (h.mpr q))]
theorem rs_b1_le (P : Prop) : rs_b1 P ≤ 1 := by
  by_cases p : P
  · rw [rs_b1_t p]; exact Nat.le_refl _
  · rw [rs_b1_f p]; omega
theorem rs_b1_m {P Q : Prop} (h : P → Q) : rs_b1 P ≤ rs_b1 Q := by
  by_cases p : P
  · rw [rs_b1_t p, rs_b1_t (h p)]; exact Nat.le_refl _
  · rw [rs_b1_f p]; omega
noncomputable def rs_cn (P : Nat → Prop) : Nat → Nat
  | 0 => 0
  | k + 1 => rs_cn P k + rs_b1 (P k)
theorem rs_cn_e {P Q : Nat → Prop} : ∀ {N : Nat}, (∀ k, k < N → (P k ↔ Q k)) → rs_cn P N = rs_cn Q N
  | 0, _ => rfl
  | N + 1, h => by
    have a := rs_cn_e (P := P) (Q := Q) (N := N) (fun k hk => h k (by omega))
    have b := rs_b1_e (h N (by omega))
    simp only [rs_cn]; omega
theorem rs_cn_m {P Q : Nat → Prop} : ∀ {N : Nat}, (∀ k, k < N → P k → Q k) → rs_cn P N ≤ rs_cn Q N
  | 0, _ => Nat.le_refl _
  | N + 1, h => by
    have a := rs_cn_m (P := P) (Q := Q) (N := N) (fun k hk => h k (by omega))
    have b := rs_b1_m (h N (by omega))
    simp only [rs_cn]; omega
theorem rs_cn_lt {P Q : Nat → Prop} {a : Nat} (hp : ¬ P a) (hq : Q a) : ∀ {N : Nat}, (∀ k, k < N → P k → Q k) → a < N → rs_cn P N < rs_cn Q N
  | 0, _, h => by omega
  | N + 1, h, ha => by
    simp only [rs_cn]
    rcases Nat.lt_or_ge a N with z | z
    · have x := rs_cn_lt hp hq (N := N) (fun k hk => h k (by omega)) z
      have b := rs_b1_m (h N (by omega))
      omega
    · have e : a = N := by omega
      subst e
      have x := rs_cn_m (P := P) (Q := Q) (N := a) (fun k hk => h k (by omega))
      rw [rs_b1_t hq, rs_b1_f hp]; omega
theorem rs_cn_le (P : Nat → Prop) : ∀ N, rs_cn P N ≤ N
  | 0 => Nat.le_refl _
  | N + 1 => by have := rs_cn_le P N; have := rs_b1_le (P N); simp only [rs_cn]; omega
theorem rs_cn_add {P : Nat → Prop} {a : Nat} (hp : ¬ P a) : ∀ {N : Nat}, a < N → rs_cn (fun k => P k ∨ k = a) N = rs_cn P N + 1
  | 0, h => by omega
  | N + 1, h => by
    simp only [rs_cn]
    rcases Nat.lt_or_ge a N with z | z
    · rw [rs_cn_add hp z]
      have : rs_b1 (P N ∨ N = a) = rs_b1 (P N) := rs_b1_e ⟨fun q => q.elim id (fun e => by omega), Or.inl⟩
      omega
    · have e : a = N := by omega
      subst e
      have x : rs_cn (fun k => P k ∨ k = a) a = rs_cn P a := rs_cn_e (fun k hk => ⟨fun q => q.elim id (fun e => by omega), Or.inl⟩)
      rw [x, rs_b1_t (Or.inr rfl), rs_b1_f hp]
/-! the order by squares, and the rank in it -/
def rs_lx (d : Nat → Nat) (i k : Nat) : Prop := d i < d k ∨ (d i = d k ∧ i < k)
noncomputable def rs_rk (p : Int32) (d : Nat → Nat) (k : Nat) : Nat := rs_cn (fun i => rs_H p i ∧ rs_lx d i k) 28
theorem rs_rk_inj {p : Int32} {d : Nat → Nat} {k k' : Nat} (hk : rs_H p k) (hk' : rs_H p k') (h : rs_rk p d k = rs_rk p d k') : k = k' := by
  have key : ∀ a b, rs_H p a → rs_lx d a b → rs_rk p d a < rs_rk p d b := by
    intro a b ha hl
    refine rs_cn_lt (a := a) (fun z => ?_) ⟨ha, hl⟩ (fun i _ z => ⟨z.1, ?_⟩) ha.1
    · have := z.2
      unfold rs_lx at this
      omega
    · have := z.2
      unfold rs_lx at this hl ⊢
      omega
  rcases Nat.lt_trichotomy (d k) (d k') with z | z | z
  · have := key k k' hk (Or.inl z)
    omega
  · rcases Nat.lt_trichotomy k k' with y | y | y
    · have := key k k' hk (Or.inr ⟨z, y⟩)
      omega
    · exact y
    · have := key k' k hk' (Or.inr ⟨z.symm, y⟩)
      omega
  · have := key k' k hk' (Or.inl z)
    omega
/-! sums over what waits -/
def rs_sm (g : Nat → Nat) : Nat → Nat
  | 0 => 0
  | n + 1 => rs_sm g n + g n
theorem rs_sm_e {g g' : Nat → Nat} : ∀ {n : Nat}, (∀ t, t < n → g' t = g t) → rs_sm g' n = rs_sm g n
  | 0, _ => rfl
  | n + 1, h => by simp only [rs_sm]; rw [rs_sm_e (fun t ht => h t (by omega)), h n (by omega)]
theorem rs_sm_r {g g' : Nat → Nat} {r v : Nat} : ∀ {n : Nat}, r < n → (∀ t, t < n → t ≠ r → g' t = g t) → g' r = v → rs_sm g' n + g r = rs_sm g n + v
  | 0, h, _, _ => by omega
  | n + 1, h, h1, h2 => by
    simp only [rs_sm]
    by_cases e : r = n
    · subst e
      rw [rs_sm_e (fun t ht => h1 t (by omega) (by omega)), h2]
      omega
    · have := rs_sm_r (g := g) (g' := g') (r := r) (v := v) (n := n) (by omega) (fun t ht => h1 t (by omega)) h2
      rw [h1 n (by omega) (fun z => e z.symm)]
      omega
theorem rs_sm_drop {g g' : Nat → Nat} {r w : Nat} (hr : r ≤ w) (h1 : ∀ t, t < w → t ≠ r → g' t = g t) (h2 : r < w → g' r = g w) : rs_sm g' w + g r = rs_sm g (w + 1) := by
  simp only [rs_sm]
  rcases Nat.lt_or_ge r w with z | z
  · exact rs_sm_r z h1 (h2 z)
  · have e : r = w := by omega
    subst e
    rw [rs_sm_e (fun t ht => h1 t ht (by omega))]
theorem rs_sm_ge {g : Nat → Nat} : ∀ {n : Nat}, (∀ t, t < n → 1 ≤ g t) → n ≤ rs_sm g n
  | 0, _ => Nat.le_refl _
  | n + 1, h => by
    have := rs_sm_ge (g := g) (n := n) (fun t ht => h t (by omega))
    have := h n (by omega)
    simp only [rs_sm]
    omega
/-! what waits in browse: boxes (0) and points (1) -/
def rs_eO (p : Int32) (nb : Nat) (q d : Nat → Nat) (a b c : Int32) : Prop := (∃ x, x < nb ∧ a = nI x ∧ b = nI 0 ∧ c = nI (q x)) ∨ (∃ k, rs_H p k ∧ a = nI k ∧ b = nI 1 ∧ c = nI (d k))
def rs_eC (o : Nat → Int32) (lo hi : Nat → Nat) (a b : Int32) (k : Nat) : Prop := (b = nI 0 ∧ ∃ s, lo a.toNatClampNeg ≤ s ∧ s < hi a.toNatClampNeg ∧ o s = nI k) ∨ (b = nI 1 ∧ a = nI k)
def rs_e1 (lo hi : Nat → Nat) (a b : Int32) : Nat := if b = nI 0 then hi a.toNatClampNeg - lo a.toNatClampNeg else 1
def rs_e2 (a b : Int32) : Nat := if b = nI 0 then 4 ^ (a.toNatClampNeg + 1) else 1
def rs_ER (o : Nat → Int32) (a b : Nat) (k : Nat) : Prop := ∃ s, a ≤ s ∧ s < b ∧ o s = nI k
theorem rs_01 : ¬ nI 1 = nI 0 := by decide
section
variable {p : Int32} {o : Nat → Int32} {lo hi : Nat → Nat} {nb : Nat} {q d : Nat → Nat} {j M : Nat}
def rs_BJ (p : Int32) (o : Nat → Int32) (lo hi : Nat → Nat) (nb : Nat) (q d : Nat → Nat) (j M w : Nat) (A B D : Nat → Int32) (Pp : Nat → Prop) (Ex : Nat → Prop) (x y : Nat) : Prop :=
  (∀ t, t < w → rs_eO p nb q d (A t) (B t) (D t)) ∧
  (∀ k, rs_H p k → ¬ Pp k → (∃ t, t < w ∧ rs_eC o lo hi (A t) (B t) k) ∨ Ex k) ∧
  (∀ k t t', rs_H p k → t < w → t' < w → rs_eC o lo hi (A t) (B t) k → rs_eC o lo hi (A t') (B t') k → t = t') ∧
  (∀ k t, rs_H p k → t < w → rs_eC o lo hi (A t) (B t) k → ¬ Pp k ∧ ¬ Ex k) ∧
  (∀ k, Pp k → rs_H p k ∧ ¬ Ex k ∧ rs_rk p d k ≠ j) ∧
  (∀ k k', Pp k → rs_H p k' → ¬ Pp k' → rs_lx d k k') ∧
  rs_sm (fun t => rs_e1 lo hi (A t) (B t)) w + x ≤ 28 ∧ rs_sm (fun t => rs_e2 (A t) (B t)) w + y ≤ M
theorem rs_BJ_ex {w x y x' y' M' : Nat} {A B D : Nat → Int32} {Pp Ex Ex' : Nat → Prop} (h : rs_BJ p o lo hi nb q d j M w A B D Pp Ex x y) (he : ∀ k, rs_H p k → (Ex k ↔ Ex' k)) (hx : x' ≤ x) (hy : y' + M ≤ y + M') : rs_BJ p o lo hi nb q d j M' w A B D Pp Ex' x' y' := by
  obtain ⟨h1, h2, h3, h4, h5, h6, h7, h8⟩ := h
  refine ⟨h1, fun k hk hn => (h2 k hk hn).elim Or.inl (fun z => Or.inr ((he k hk).mp z)), h3, fun k t hk ht hc => ⟨(h4 k t hk ht hc).1, fun z => (h4 k t hk ht hc).2 ((he k hk).mpr z)⟩, fun k hk => ?_, h6, by omega, by omega⟩
  obtain ⟨a, b, c⟩ := h5 k hk
  exact ⟨a, fun z => b ((he k a).mpr z), c⟩
/-- one entry is taken out, the last one takes its place -/
theorem rs_BJ_drop {w r y : Nat} {A B D : Nat → Int32} {Pp : Nat → Prop} (h : rs_BJ p o lo hi nb q d j M (w + 1) A B D Pp (fun _ => False) 0 y) (hr : r ≤ w) : rs_BJ p o lo hi nb q d j M w (upd A r (A w)) (upd B r (B w)) (upd D r (D w)) Pp (rs_eC o lo hi (A r) (B r)) (rs_e1 lo hi (A r) (B r)) (rs_e2 (A r) (B r)) := by
  obtain ⟨h1, h2, h3, h4, h5, h6, h7, h8⟩ := h
  -- the old place of an entry
  have pl : ∀ t, t < w → ∃ t', t' < w + 1 ∧ t' ≠ r ∧ (t ≠ r → t' = t) ∧ (t = r → t' = w) ∧ upd A r (A w) t = A t' ∧ upd B r (B w) t = B t' ∧ upd D r (D w) t = D t' := by
    intro t ht
    by_cases e : t = r
    · subst e
      exact ⟨w, by omega, by omega, fun z => absurd rfl z, fun _ => rfl, pk_us, pk_us, pk_us⟩
    · exact ⟨t, by omega, e, fun _ => rfl, fun z => absurd z e, pk_un e, pk_un e, pk_un e⟩
  refine ⟨fun t ht => ?_, fun k hk hn => ?_, fun k t t' hk ht ht' hc hc' => ?_, fun k t hk ht hc => ?_, fun k hk => ?_, h6, ?_, ?_⟩
  · obtain ⟨t', a1, _, _, _, a5, a6, a7⟩ := pl t ht
    rw [a5, a6, a7]
    exact h1 t' a1
  · rcases h2 k hk hn with ⟨t, ht, hc⟩ | z
    · by_cases e : t = r
      · subst e
        exact Or.inr hc
      · by_cases e2 : t = w
        · subst e2
          exact Or.inl ⟨r, by omega, by rw [pk_us, pk_us]; exact hc⟩
        · exact Or.inl ⟨t, by omega, by rw [pk_un e, pk_un e]; exact hc⟩
    · exact z.elim
  · obtain ⟨s, a1, a2, a3, a4, a5, a6, _⟩ := pl t ht
    obtain ⟨s', b1, b2, b3, b4, b5, b6, _⟩ := pl t' ht'
    rw [a5, a6] at hc
    rw [b5, b6] at hc'
    have := h3 k s s' hk a1 b1 hc hc'
    by_cases e : t = r <;> by_cases e' : t' = r
    · omega
    · have := a4 e
      have := b3 e'
      omega
    · have := a3 e
      have := b4 e'
      omega
    · have := a3 e
      have := b3 e'
      omega
  · obtain ⟨s, a1, a2, a3, a4, a5, a6, _⟩ := pl t ht
    rw [a5, a6] at hc
    exact ⟨(h4 k s hk a1 hc).1, fun z => a2 (h3 k s r hk a1 (by omega) hc z)⟩
  · obtain ⟨a, b, c⟩ := h5 k hk
    exact ⟨a, fun z => (h4 k r a (by omega) z).1 hk, c⟩
  · have := rs_sm_drop (g := fun t => rs_e1 lo hi (A t) (B t)) (g' := fun t => rs_e1 lo hi (upd A r (A w) t) (upd B r (B w) t)) hr (fun t _ e => by rw [pk_un e, pk_un e]) (fun _ => by rw [pk_us, pk_us])
    omega
  · have := rs_sm_drop (g := fun t => rs_e2 (A t) (B t)) (g' := fun t => rs_e2 (upd A r (A w) t) (upd B r (B w) t)) hr (fun t _ e => by rw [pk_un e, pk_un e]) (fun _ => by rw [pk_us, pk_us])
    omega
/-- a part of what is out comes back as an entry -/
theorem rs_BJ_push {w x y a m b : Nat} {A B D : Nat → Int32} {ea eb ec : Int32} {Pp : Nat → Prop} (hinj : ∀ s t k, s < b → t < b → rs_H p k → o s = nI k → o t = nI k → s = t) (h : rs_BJ p o lo hi nb q d j M w A B D Pp (rs_ER o a b) x y) (hab : a ≤ m) (hmb : m ≤ b) (hO : rs_eO p nb q d ea eb ec) (hC : ∀ k, rs_H p k → (rs_eC o lo hi ea eb k ↔ rs_ER o a m k)) {x' y' : Nat} (hx : x' + rs_e1 lo hi ea eb ≤ x) (hy : y' + rs_e2 ea eb ≤ y) :
    rs_BJ p o lo hi nb q d j M (w + 1) (upd A w ea) (upd B w eb) (upd D w ec) Pp (rs_ER o m b) x' y' := by
  obtain ⟨h1, h2, h3, h4, h5, h6, h7, h8⟩ := h
  have sub1 : ∀ k, rs_ER o a m k → rs_ER o a b k := fun k ⟨s, s1, s2, s3⟩ => ⟨s, s1, by omega, s3⟩
  have sub2 : ∀ k, rs_ER o m b k → rs_ER o a b k := fun k ⟨s, s1, s2, s3⟩ => ⟨s, by omega, s2, s3⟩
  have dis : ∀ k, rs_H p k → rs_ER o a m k → ¬ rs_ER o m b k := by
    intro k hk ⟨s, s1, s2, s3⟩ ⟨t, t1, t2, t3⟩
    have := hinj s t k (by omega) t2 hk s3 t3
    omega
  have old : ∀ t, t < w → upd A w ea t = A t ∧ upd B w eb t = B t ∧ upd D w ec t = D t := fun t ht => ⟨pk_un (by omega), pk_un (by omega), pk_un (by omega)⟩
  refine ⟨fun t ht => ?_, fun k hk hn => ?_, fun k t t' hk ht ht' hc hc' => ?_, fun k t hk ht hc => ?_, fun k hk => ?_, h6, ?_, ?_⟩
  · rcases Nat.lt_or_ge t w with z | z
    · rw [(old t z).1, (old t z).2.1, (old t z).2.2]; exact h1 t z
    · have e : t = w := by omega
      subst e
      rw [pk_us, pk_us, pk_us]; exact hO
  · rcases h2 k hk hn with ⟨t, ht, hc⟩ | ⟨s, s1, s2, s3⟩
    · exact Or.inl ⟨t, by omega, by rw [(old t ht).1, (old t ht).2.1]; exact hc⟩
    · rcases Nat.lt_or_ge s m with z | z
      · exact Or.inl ⟨w, by omega, by rw [pk_us, pk_us]; exact (hC k hk).mpr ⟨s, s1, z, s3⟩⟩
      · exact Or.inr ⟨s, z, s2, s3⟩
  · rcases Nat.lt_or_ge t w with z | z <;> rcases Nat.lt_or_ge t' w with z' | z'
    · rw [(old t z).1, (old t z).2.1] at hc
      rw [(old t' z').1, (old t' z').2.1] at hc'
      exact h3 k t t' hk z z' hc hc'
    · rw [(old t z).1, (old t z).2.1] at hc
      have e : t' = w := by omega
      rw [e, pk_us, pk_us] at hc'
      exact absurd (sub1 k ((hC k hk).mp hc')) (h4 k t hk z hc).2
    · rw [(old t' z').1, (old t' z').2.1] at hc'
      have e : t = w := by omega
      rw [e, pk_us, pk_us] at hc
      exact absurd (sub1 k ((hC k hk).mp hc)) (h4 k t' hk z' hc').2
    · omega
  · rcases Nat.lt_or_ge t w with z | z
    · rw [(old t z).1, (old t z).2.1] at hc
      exact ⟨(h4 k t hk z hc).1, fun v => (h4 k t hk z hc).2 (sub2 k v)⟩
    · have e : t = w := by omega
      rw [e, pk_us, pk_us] at hc
      have hc := (hC k hk).mp hc
      exact ⟨fun v => (h5 k v).2.1 (sub1 k hc), dis k hk hc⟩
  · obtain ⟨a1, a2, a3⟩ := h5 k hk
    exact ⟨a1, fun z => a2 (sub2 k z), a3⟩
  · simp only [rs_sm]
    rw [pk_us, pk_us, rs_sm_e (g := fun t => rs_e1 lo hi (A t) (B t)) (fun t ht => by rw [(old t ht).1, (old t ht).2.1])]
    omega
  · simp only [rs_sm]
    rw [pk_us, pk_us, rs_sm_e (g := fun t => rs_e2 (A t) (B t)) (fun t ht => by rw [(old t ht).1, (old t ht).2.1])]
    omega
/-- the rank of the point that is out, and which comes before all that wait -/
theorem rs_BJ_rk {w x y k : Nat} {A B D : Nat → Int32} {Pp : Nat → Prop} (h : rs_BJ p o lo hi nb q d j M w A B D Pp (fun i => i = k) x y) (hk : rs_H p k) (hmin : ∀ i, rs_H p i → ¬ Pp i → i ≠ k → rs_lx d k i) : rs_rk p d k = rs_cn Pp 28 := by
  obtain ⟨h1, h2, h3, h4, h5, h6, h7, h8⟩ := h
  refine rs_cn_e (fun i _ => ⟨fun z => ?_, fun z => ⟨(h5 i z).1, h6 i k z hk (fun v => (h5 k v).2.1 rfl)⟩⟩)
  refine Classical.byContradiction (fun hn => ?_)
  have hl := z.2
  by_cases e : i = k
  · subst e
    unfold rs_lx at hl
    omega
  · have := hmin i z.1 hn e
    unfold rs_lx at hl this
    omega
theorem rs_BJ_pop {w x y k : Nat} {A B D : Nat → Int32} {Pp : Nat → Prop} (h : rs_BJ p o lo hi nb q d j M w A B D Pp (fun i => i = k) x (y + 1)) (hk : rs_H p k) (hmin : ∀ i, rs_H p i → ¬ Pp i → i ≠ k → rs_lx d k i) (hj : rs_rk p d k ≠ j) : rs_BJ p o lo hi nb q d j (M - 1) w A B D (fun i => Pp i ∨ i = k) (fun _ => False) 0 0 ∧ rs_cn (fun i => Pp i ∨ i = k) 28 = rs_cn Pp 28 + 1 := by
  have hrk := rs_BJ_rk h hk hmin
  obtain ⟨h1, h2, h3, h4, h5, h6, h7, h8⟩ := h
  have nk : ¬ Pp k := fun z => (h5 k z).2.1 rfl
  refine ⟨⟨h1, fun i hi hn => ?_, h3, fun i t hi ht hc => ?_, fun i hi => ?_, fun i i' hi hi' hn => ?_, by omega, by omega⟩, rs_cn_add nk hk.1⟩
  · rcases h2 i hi (fun z => hn (Or.inl z)) with z | z
    · exact Or.inl z
    · exact absurd (Or.inr z) hn
  · obtain ⟨a, b⟩ := h4 i t hi ht hc
    exact ⟨fun z => z.elim a b, fun z => z⟩
  · rcases hi with hi | hi
    · exact ⟨(h5 i hi).1, fun z => z, (h5 i hi).2.2⟩
    · rw [hi]; exact ⟨hk, fun z => z, hj⟩
  · rcases hi with hi | hi
    · exact h6 i i' hi hi' (fun z => hn (Or.inl z))
    · rw [hi]; exact hmin i' hi' (fun z => hn (Or.inl z)) (fun z => hn (Or.inr z))
end
end
section
/-! browse: the walk -/
def rs_l3 (A B D : Nat → Int32) (r t : Nat) : Prop := (D r).toNatClampNeg < (D t).toNatClampNeg ∨ ((D r).toNatClampNeg = (D t).toNatClampNeg ∧ ((B r).toNatClampNeg < (B t).toNatClampNeg ∨ ((B r).toNatClampNeg = (B t).toNatClampNeg ∧ (A r).toNatClampNeg ≤ (A t).toNatClampNeg)))
def rs_Nt (A : Nat → Int32) (w : Nat) : Prop := ∀ t, t < w → (A t).toNatClampNeg < 30000 ∧ A t = nI (A t).toNatClampNeg
section
variable {f_present f_size f_lowX f_lowY f_highX f_highY f_found f_nearX f_nearY f_best f_bestSquare f_quads f_levels f_boxes : Int32} {a_placeOf a_order a_quadX a_quadY a_quadSide a_quadPart a_quadCount a_quadFirst a_nextPoint a_lists a_fromLeft a_boxLowX a_boxLowY a_boxHighX a_boxHighY a_boxFirst a_boxParts a_boxOfPoints a_zeros a_bottom a_sorted a_cellFirst a_heapPoint a_heapSplit : Nat → Int32}
theorem rs_nw_83 {post : Int32 → Prop} {J4 : Int32 → Int32 → Prop} {f_waiting : Int32} {A B C D : Nat → Int32} {r i w : Nat} {x3 z0 : Int32} (hw : w ≤ 128) (hr : r < w) (hi : i < w) (hD : rs_Nt D w) (r' : Nat) (hc : (x3 = 1 ∧ r' = i) ∨ (x3 = 0 ∧ (D i).toNatClampNeg = (D r).toNatClampNeg ∧ ((z0 = 1 ∧ r' = i) ∨ (z0 = 0 ∧ r' = r))) ∨ (x3 = 0 ∧ (D i).toNatClampNeg ≠ (D r).toNatClampNeg ∧ r' = r)) (hJ : J4 (nI r') (nI (i + 1))) : (wX_nextWaiting_83 post J4 (nI r) (nI i) x3 z0 f_present f_size f_lowX f_lowY f_highX f_highY f_found f_nearX f_nearY f_best f_bestSquare f_waiting f_quads f_levels f_boxes a_placeOf a_order A B C D a_quadX a_quadY a_quadSide a_quadPart a_quadCount a_quadFirst a_nextPoint a_lists a_fromLeft a_boxLowX a_boxLowY a_boxHighX a_boxHighY a_boxFirst a_boxParts a_boxOfPoints a_zeros a_bottom a_sorted a_cellFirst a_heapPoint a_heapSplit) := by
  have ir : vp_in (nI r) 128 := vp_in_nI (by omega) (by decide)
  have ii : vp_in (nI i) 128 := vp_in_nI (by omega) (by decide)
  have er : (nI r).toNatClampNeg = r := nI_clamp (by omega)
  have ei : (nI i).toNatClampNeg = i := nI_clamp (by omega)
  unfold wX_nextWaiting_83
  rw [er, ei]
  have dr := hD r hr
  have di := hD i hi
  rcases hc with ⟨h1, h2⟩ | ⟨h1, h2, h3⟩ | ⟨h1, h2, h3⟩
  · subst h1 h2
    exact br_f (by decide) (nm_r (nI_1 _) hJ)
  · subst h1
    refine br_t rfl ⟨ii, ir, br_t (by rw [dr.2, di.2, h2]) ?_⟩
    rcases h3 with ⟨g1, g2⟩ | ⟨g1, g2⟩
    · subst g1 g2
      exact br_f (by decide) (nm_r (nI_1 _) hJ)
    · subst g1 g2
      exact br_t rfl (nm_r (nI_1 _) hJ)
  · subst h1 h3
    refine br_t rfl ⟨ii, ir, br_f (fun z => h2 ?_) (nm_r (nI_1 _) hJ)⟩
    rw [z]
theorem rs_nw_32 {post : Int32 → Prop} {J4 : Int32 → Int32 → Prop} {f_waiting : Int32} {A B C D : Nat → Int32} {r i w : Nat} {z0 : Int32} (hw : w ≤ 128) (hr : r < w) (hi : i < w) (hA : rs_Nt A w) (hB : rs_Nt B w) (hD : rs_Nt D w) (hz : (z0 = 1 ∧ (D i).toNatClampNeg < (D r).toNatClampNeg) ∨ (z0 = 0 ∧ (D r).toNatClampNeg ≤ (D i).toNatClampNeg)) (hJ : ∀ r', (r' = r ∧ rs_l3 A B D r i) ∨ (r' = i ∧ rs_l3 A B D i r) → J4 (nI r') (nI (i + 1))) : (wX_nextWaiting_32 post J4 (nI r) (nI i) z0 f_present f_size f_lowX f_lowY f_highX f_highY f_found f_nearX f_nearY f_best f_bestSquare f_waiting f_quads f_levels f_boxes a_placeOf a_order A B C D a_quadX a_quadY a_quadSide a_quadPart a_quadCount a_quadFirst a_nextPoint a_lists a_fromLeft a_boxLowX a_boxLowY a_boxHighX a_boxHighY a_boxFirst a_boxParts a_boxOfPoints a_zeros a_bottom a_sorted a_cellFirst a_heapPoint a_heapSplit) := by
  have ir : vp_in (nI r) 128 := vp_in_nI (by omega) (by decide)
  have ii : vp_in (nI i) 128 := vp_in_nI (by omega) (by decide)
  have er : (nI r).toNatClampNeg = r := nI_clamp (by omega)
  have ei : (nI i).toNatClampNeg = i := nI_clamp (by omega)
  have ar := hA r hr
  have ai := hA i hi
  have br := hB r hr
  have bi := hB i hi
  -- the box's word is 1 when i comes first, at equal squares
  have yes : ((B i).toNatClampNeg < (B r).toNatClampNeg ∨ ((B i).toNatClampNeg = (B r).toNatClampNeg ∧ (A i).toNatClampNeg < (A r).toNatClampNeg)) → (wX_nextWaiting_78 post J4 (nI r) (nI i) z0 f_present f_size f_lowX f_lowY f_highX f_highY f_found f_nearX f_nearY f_best f_bestSquare f_waiting f_quads f_levels f_boxes a_placeOf a_order A B C D a_quadX a_quadY a_quadSide a_quadPart a_quadCount a_quadFirst a_nextPoint a_lists a_fromLeft a_boxLowX a_boxLowY a_boxHighX a_boxHighY a_boxFirst a_boxParts a_boxOfPoints a_zeros a_bottom a_sorted a_cellFirst a_heapPoint a_heapSplit) := by
    intro hy
    unfold wX_nextWaiting_78
    rcases hz with ⟨h1, h2⟩ | ⟨h1, h2⟩
    · exact rs_nw_83 hw hr hi hD i (Or.inl ⟨h1, rfl⟩) (hJ i (Or.inr ⟨rfl, Or.inl h2⟩))
    · by_cases e : (D i).toNatClampNeg = (D r).toNatClampNeg
      · exact rs_nw_83 hw hr hi hD i (Or.inr (Or.inl ⟨h1, e, Or.inl ⟨rfl, rfl⟩⟩)) (hJ i (Or.inr ⟨rfl, Or.inr ⟨e, by omega⟩⟩))
      · exact rs_nw_83 hw hr hi hD r (Or.inr (Or.inr ⟨h1, e, rfl⟩)) (hJ r (Or.inl ⟨rfl, Or.inl (by omega)⟩))
  have no : ((B r).toNatClampNeg < (B i).toNatClampNeg ∨ ((B r).toNatClampNeg = (B i).toNatClampNeg ∧ (A r).toNatClampNeg ≤ (A i).toNatClampNeg)) → (wX_nextWaiting_82 post J4 (nI r) (nI i) z0 f_present f_size f_lowX f_lowY f_highX f_highY f_found f_nearX f_nearY f_best f_bestSquare f_waiting f_quads f_levels f_boxes a_placeOf a_order A B C D a_quadX a_quadY a_quadSide a_quadPart a_quadCount a_quadFirst a_nextPoint a_lists a_fromLeft a_boxLowX a_boxLowY a_boxHighX a_boxHighY a_boxFirst a_boxParts a_boxOfPoints a_zeros a_bottom a_sorted a_cellFirst a_heapPoint a_heapSplit) := by
    intro hy
    unfold wX_nextWaiting_82
    rcases hz with ⟨h1, h2⟩ | ⟨h1, h2⟩
    · exact rs_nw_83 hw hr hi hD i (Or.inl ⟨h1, rfl⟩) (hJ i (Or.inr ⟨rfl, Or.inl h2⟩))
    · by_cases e : (D i).toNatClampNeg = (D r).toNatClampNeg
      · exact rs_nw_83 hw hr hi hD r (Or.inr (Or.inl ⟨h1, e, Or.inr ⟨rfl, rfl⟩⟩)) (hJ r (Or.inl ⟨rfl, Or.inr ⟨e.symm, hy⟩⟩))
      · exact rs_nw_83 hw hr hi hD r (Or.inr (Or.inr ⟨h1, e, rfl⟩)) (hJ r (Or.inl ⟨rfl, Or.inl (by omega)⟩))
  unfold wX_nextWaiting_32
  rw [er, ei]
  refine ⟨ii, ir, pk_lt (B i).toNatClampNeg (B r).toNatClampNeg (fun z => yes (Or.inl z)) (fun z => ⟨ii, ir, pk_eq (B i).toNatClampNeg (B r).toNatClampNeg (fun y => ⟨ii, ir, pk_le (A r).toNatClampNeg (A i).toNatClampNeg (fun x => no (Or.inr ⟨y.symm, x⟩)) (fun x => yes (Or.inr ⟨y, x⟩)) (hx := ar.2) (hy := ai.2)⟩) (fun y => no (Or.inl (by omega))) (hx := bi.2) (hy := br.2)⟩) (hx := bi.2) (hy := br.2)⟩
theorem rs_l3_r {A B D : Nat → Int32} (r : Nat) : rs_l3 A B D r r := Or.inr ⟨rfl, Or.inr ⟨rfl, Nat.le_refl _⟩⟩
theorem rs_l3_t {A B D : Nat → Int32} {r s t : Nat} (h : rs_l3 A B D r s) (h' : rs_l3 A B D s t) : rs_l3 A B D r t := by
  unfold rs_l3 at *
  omega
theorem rs_nw_loop {post : Int32 → Prop} {A B C D : Nat → Int32} {w : Nat} (hw : w ≤ 128) (hA : rs_Nt A w) (hB : rs_Nt B w) (hD : rs_Nt D w) (hp : ∀ r, r < w → (∀ t, t < w → rs_l3 A B D r t) → post (nI r)) :
    ∀ n r i, w < n + i → r < i → i ≤ w → (∀ t, t < i → rs_l3 A B D r t) → (wX_nextWaiting_4 post f_present f_size f_lowX f_lowY f_highX f_highY f_found f_nearX f_nearY f_best f_bestSquare (nI w) f_quads f_levels f_boxes a_placeOf a_order A B C D a_quadX a_quadY a_quadSide a_quadPart a_quadCount a_quadFirst a_nextPoint a_lists a_fromLeft a_boxLowX a_boxLowY a_boxHighX a_boxHighY a_boxFirst a_boxParts a_boxOfPoints a_zeros a_bottom a_sorted a_cellFirst a_heapPoint a_heapSplit n (nI r) (nI i)) := by
  intro n
  induction n with
  | zero => intro r i h1 h2 h3; omega
  | succ n ih =>
    intro r i h1 h2 h3 hm
    have ir : vp_in (nI r) 128 := vp_in_nI (by omega) (by decide)
    have er : (nI r).toNatClampNeg = r := nI_clamp (by omega)
    have ei : (nI i).toNatClampNeg = i := nI_clamp (by omega)
    refine pk_le w i (fun z => hp r (by omega) (fun t ht => hm t (by omega))) (fun z => ?_)
    have ii : vp_in (nI i) 128 := vp_in_nI (by omega) (by decide)
    have dr := hD r (by omega)
    have di := hD i z
    have next : ∀ r', (r' = r ∧ rs_l3 A B D r i) ∨ (r' = i ∧ rs_l3 A B D i r) → (wX_nextWaiting_4 post f_present f_size f_lowX f_lowY f_highX f_highY f_found f_nearX f_nearY f_best f_bestSquare (nI w) f_quads f_levels f_boxes a_placeOf a_order A B C D a_quadX a_quadY a_quadSide a_quadPart a_quadCount a_quadFirst a_nextPoint a_lists a_fromLeft a_boxLowX a_boxLowY a_boxHighX a_boxHighY a_boxFirst a_boxParts a_boxOfPoints a_zeros a_bottom a_sorted a_cellFirst a_heapPoint a_heapSplit n (nI r') (nI (i + 1))) := by
      intro r' hr'
      rcases hr' with ⟨e, hl⟩ | ⟨e, hl⟩
      · rw [e]
        refine ih r (i + 1) (by omega) (by omega) (by omega) (fun t ht => ?_)
        rcases Nat.lt_or_ge t i with y | y
        · exact hm t y
        · rw [show t = i by omega]; exact hl
      · rw [e]
        refine ih i (i + 1) (by omega) (by omega) (by omega) (fun t ht => ?_)
        rcases Nat.lt_or_ge t i with y | y
        · exact rs_l3_t hl (hm t y)
        · rw [show t = i by omega]; exact rs_l3_r i
    refine And.intro ii (And.intro ir ?_)
    rw [er, ei]
    exact pk_le (D r).toNatClampNeg (D i).toNatClampNeg (fun y => rs_nw_32 hw (by omega) z hA hB hD (Or.inr ⟨rfl, y⟩) next) (fun y => rs_nw_32 hw (by omega) z hA hB hD (Or.inl ⟨rfl, y⟩) next) (hx := dr.2) (hy := di.2)
theorem rs_nextWaiting {post : Int32 → Prop} {A B C D : Nat → Int32} {w : Nat} (hw : w ≤ 128) (h0 : 0 < w) (hA : rs_Nt A w) (hB : rs_Nt B w) (hD : rs_Nt D w) (hp : ∀ r, r < w → (∀ t, t < w → rs_l3 A B D r t) → post (nI r)) : wpX_nextWaiting post (f_present, f_size, f_lowX, f_lowY, f_highX, f_highY, f_found, f_nearX, f_nearY, f_best, f_bestSquare, nI w, f_quads, f_levels, f_boxes, a_placeOf, a_order, A, B, C, D, a_quadX, a_quadY, a_quadSide, a_quadPart, a_quadCount, a_quadFirst, a_nextPoint, a_lists, a_fromLeft, a_boxLowX, a_boxLowY, a_boxHighX, a_boxHighY, a_boxFirst, a_boxParts, a_boxOfPoints, a_zeros, a_bottom, a_sorted, a_cellFirst, a_heapPoint, a_heapSplit) := by
  unfold wpX_nextWaiting
  refine Exists.intro (w + 1) (rs_nw_loop hw hA hB hD hp (w + 1) 0 1 (by omega) (by omega) (by omega) (fun t ht => ?_))
  rw [show t = 0 by omega]
  exact rs_l3_r 0
theorem rs_dropWaiting {post : SX → Prop} {A B C D : Nat → Int32} {w r : Nat} (hw : w + 1 ≤ 128) (hr : r ≤ w) (hA : rs_Nt A (w + 1)) (hB : rs_Nt B (w + 1)) (hp : post (f_present, f_size, f_lowX, f_lowY, f_highX, f_highY, f_found, f_nearX, f_nearY, f_best, f_bestSquare, nI w, f_quads, f_levels, f_boxes, a_placeOf, a_order, upd A r (A w), upd B r (B w), C, upd D r (D w), a_quadX, a_quadY, a_quadSide, a_quadPart, a_quadCount, a_quadFirst, a_nextPoint, a_lists, a_fromLeft, a_boxLowX, a_boxLowY, a_boxHighX, a_boxHighY, a_boxFirst, a_boxParts, a_boxOfPoints, a_zeros, a_bottom, a_sorted, a_cellFirst, a_heapPoint, a_heapSplit)) : wpX_dropWaiting post (f_present, f_size, f_lowX, f_lowY, f_highX, f_highY, f_found, f_nearX, f_nearY, f_best, f_bestSquare, nI (w + 1), f_quads, f_levels, f_boxes, a_placeOf, a_order, A, B, C, D, a_quadX, a_quadY, a_quadSide, a_quadPart, a_quadCount, a_quadFirst, a_nextPoint, a_lists, a_fromLeft, a_boxLowX, a_boxLowY, a_boxHighX, a_boxHighY, a_boxFirst, a_boxParts, a_boxOfPoints, a_zeros, a_bottom, a_sorted, a_cellFirst, a_heapPoint, a_heapSplit) (nI r) := by
  have ir : vp_in (nI r) 128 := vp_in_nI (by omega) (by decide)
  have iw : vp_in (nI w) 128 := vp_in_nI (by omega) (by decide)
  have er : (nI r).toNatClampNeg = r := nI_clamp (by omega)
  have ew : (nI w).toNatClampNeg = w := nI_clamp (by omega)
  have a := hA w (by omega)
  have b := hB w (by omega)
  have na : vp_nar .short (A w) = A w := by rw [a.2]; exact rs_ns (by omega)
  have nb : vp_nar .short (B w) = B w := by rw [b.2]; exact rs_ns (by omega)
  unfold wpX_dropWaiting
  refine nm_r (nI_pred w) ⟨iw, ir, nm_r (e' := upd A r (A w)) (by rw [er, ew, na]) ⟨iw, ir, nm_r (e' := upd B r (B w)) (by rw [er, ew, nb]) ⟨iw, ir, nm_r (e' := upd D r (D w)) (by rw [er, ew]) hp⟩⟩⟩
theorem rs_pushA {post : SX → Prop} {A B C D : Nat → Int32} {x y z v : Int32} {w a b c : Nat} (hw : w < 128) (ha : a < 32768) (hb : b < 32768) (hc : c < 32768) (hx : x = nI a) (hy : y = nI b) (hz : z = nI c)
    (hp : post (f_present, f_size, f_lowX, f_lowY, f_highX, f_highY, f_found, f_nearX, f_nearY, f_best, f_bestSquare, nI (w + 1), f_quads, f_levels, f_boxes, a_placeOf, a_order, upd A w (nI a), upd B w (nI b), upd C w (nI c), upd D w v, a_quadX, a_quadY, a_quadSide, a_quadPart, a_quadCount, a_quadFirst, a_nextPoint, a_lists, a_fromLeft, a_boxLowX, a_boxLowY, a_boxHighX, a_boxHighY, a_boxFirst, a_boxParts, a_boxOfPoints, a_zeros, a_bottom, a_sorted, a_cellFirst, a_heapPoint, a_heapSplit)) : wpX_push post (f_present, f_size, f_lowX, f_lowY, f_highX, f_highY, f_found, f_nearX, f_nearY, f_best, f_bestSquare, nI w, f_quads, f_levels, f_boxes, a_placeOf, a_order, A, B, C, D, a_quadX, a_quadY, a_quadSide, a_quadPart, a_quadCount, a_quadFirst, a_nextPoint, a_lists, a_fromLeft, a_boxLowX, a_boxLowY, a_boxHighX, a_boxHighY, a_boxFirst, a_boxParts, a_boxOfPoints, a_zeros, a_bottom, a_sorted, a_cellFirst, a_heapPoint, a_heapSplit) x y z v := by
  subst hx hy hz
  have i : vp_in (nI w) 128 := vp_in_nI hw (by decide)
  have e : (nI w).toNatClampNeg = w := nI_clamp (by omega)
  unfold wpX_push
  refine ⟨i, nm_r (e' := upd A w (nI a)) ?_ ⟨i, nm_r (e' := upd B w (nI b)) ?_ ⟨i, nm_r (e' := upd C w (nI c)) ?_ ⟨i, nm_r (e' := upd D w v) ?_ (nm_r (nI_1 w) hp)⟩⟩⟩⟩
  · rw [e, rs_ns2 ha]
  · rw [e, rs_ns2 hb]
  · rw [e, rs_ns2 hc]
  · rw [e]
end
/-- the square to a box, by its corners -/
def rs_qb (LX LY HX HY : Nat → Int32) (nx ny b : Nat) : Nat := rs_bq (LX b).toNatClampNeg (LY b).toNatClampNeg (HX b).toNatClampNeg (HY b).toNatClampNeg nx ny
section
variable {f_present f_size f_lowX f_lowY f_highX f_highY f_found f_nearX f_nearY f_best f_bestSquare f_quads f_levels : Int32} {a_placeOf a_order a_quadX a_quadY a_quadSide a_quadPart a_quadCount a_quadFirst a_nextPoint a_lists a_fromLeft a_zeros a_bottom a_sorted a_cellFirst a_heapPoint a_heapSplit : Nat → Int32} {sz nb nx ny : Nat} {LX LY HX HY Fs Ps Op : Nat → Int32} {lo hi : Nat → Nat}
theorem rs_sqOfBox {post : Int32 → Prop} {f_waiting : Int32} {a_waitA a_waitB a_waitC a_waitD : Nat → Int32} {b : Nat} {x : Int32} (ex : x = nI b) (hnx : nx < 64) (hny : ny < 64) (hb : b < 60) (hB : rs_bx a_placeOf a_order LX LY HX HY Fs Ps Op sz lo hi b) (hp : post (nI (rs_qb LX LY HX HY nx ny b))) : wpX_squareOfBox post (f_present, nI sz, f_lowX, f_lowY, f_highX, f_highY, f_found, nI nx, nI ny, f_best, f_bestSquare, f_waiting, f_quads, f_levels, nI nb, a_placeOf, a_order, a_waitA, a_waitB, a_waitC, a_waitD, a_quadX, a_quadY, a_quadSide, a_quadPart, a_quadCount, a_quadFirst, a_nextPoint, a_lists, a_fromLeft, LX, LY, HX, HY, Fs, Ps, Op, a_zeros, a_bottom, a_sorted, a_cellFirst, a_heapPoint, a_heapSplit) x := by
  subst ex
  obtain ⟨x0, y0, x1, y1, fi, pa, ⟨a1, a2, a3, a4⟩, g2, _⟩ := hB
  have ib : vp_in (nI b) 64 := vp_in_nI (by omega) (by decide)
  have eb : (nI b).toNatClampNeg = b := nI_clamp (by omega)
  unfold rs_qb at hp
  rw [a1, a2, a3, a4, nI_clamp (by omega), nI_clamp (by omega), nI_clamp (by omega), nI_clamp (by omega)] at hp
  unfold wpX_squareOfBox
  refine And.intro ib (And.intro ib (And.intro ib (And.intro ib ?_)))
  rw [eb, a1, a2, a3, a4]
  exact rs_sqBox (by omega) (by omega) (by omega) (by omega) hnx hny hp
theorem rs_qb_le {b k s : Nat} (hB : rs_bx a_placeOf a_order LX LY HX HY Fs Ps Op sz lo hi b) (hk : k < 28) (h1 : lo b ≤ s) (h2 : s < hi b) (h3 : a_order s = nI k) : rs_qb LX LY HX HY nx ny b ≤ rs_d a_placeOf nx ny k := by
  obtain ⟨x0, y0, x1, y1, fi, pa, ⟨a1, a2, a3, a4⟩, g2, _, g4, _⟩ := hB
  have := g4 s h1 h2
  rw [h3, rs_k1 hk, rs_k0 hk] at this
  unfold rs_qb
  rw [a1, a2, a3, a4, nI_clamp (by omega), nI_clamp (by omega), nI_clamp (by omega), nI_clamp (by omega)]
  exact rs_bq_le this.1 this.2.1 this.2.2.1 this.2.2.2
theorem rs_qb_b {b : Nat} (hnx : nx < 64) (hny : ny < 64) (hB : rs_bx a_placeOf a_order LX LY HX HY Fs Ps Op sz lo hi b) : rs_qb LX LY HX HY nx ny b ≤ 8192 := by
  obtain ⟨x0, y0, x1, y1, fi, pa, ⟨a1, a2, a3, a4⟩, g2, _⟩ := hB
  unfold rs_qb
  rw [a1, a2, a3, a4, nI_clamp (by omega), nI_clamp (by omega), nI_clamp (by omega), nI_clamp (by omega)]
  exact rs_bq_b (by omega) (by omega) hnx hny
/-- one item of a box comes to wait -/
theorem rs_pc_51 {post : SX → Prop} {J7 : Int32 → Int32 → Int32 → Int32 → Int32 → Int32 → Int32 → Int32 → Int32 → Int32 → Int32 → Int32 → Int32 → Int32 → Int32 → Int32 → (Nat → Int32) → (Nat → Int32) → (Nat → Int32) → (Nat → Int32) → (Nat → Int32) → (Nat → Int32) → (Nat → Int32) → (Nat → Int32) → (Nat → Int32) → (Nat → Int32) → (Nat → Int32) → (Nat → Int32) → (Nat → Int32) → (Nat → Int32) → (Nat → Int32) → (Nat → Int32) → (Nat → Int32) → (Nat → Int32) → (Nat → Int32) → (Nat → Int32) → (Nat → Int32) → (Nat → Int32) → (Nat → Int32) → (Nat → Int32) → (Nat → Int32) → (Nat → Int32) → (Nat → Int32) → (Nat → Int32) → Prop} {A B C D : Nat → Int32} {w b i a e : Nat} {v : Int32} (hw : w < 128) (hb : b < 60) (hi : i < 60) (ha : a < 60) (hOp : (Op b = 0 ∧ e = 0 ∧ a = i) ∨ (Op b = 1 ∧ e = 1 ∧ i < 28 ∧ a_order i = nI a))
    (hJ : J7 (nI (i + 1)) f_present (nI sz) f_lowX f_lowY f_highX f_highY f_found (nI nx) (nI ny) f_best f_bestSquare (nI (w + 1)) f_quads f_levels (nI nb) a_placeOf a_order (upd A w (nI a)) (upd B w (nI e)) (upd C w (nI 0)) (upd D w v) a_quadX a_quadY a_quadSide a_quadPart a_quadCount a_quadFirst a_nextPoint a_lists a_fromLeft LX LY HX HY Fs Ps Op a_zeros a_bottom a_sorted a_cellFirst a_heapPoint a_heapSplit) : (wX_pushContents_51 post J7 (nI b) (nI i) v f_present (nI sz) f_lowX f_lowY f_highX f_highY f_found (nI nx) (nI ny) f_best f_bestSquare (nI w) f_quads f_levels (nI nb) a_placeOf a_order A B C D a_quadX a_quadY a_quadSide a_quadPart a_quadCount a_quadFirst a_nextPoint a_lists a_fromLeft LX LY HX HY Fs Ps Op a_zeros a_bottom a_sorted a_cellFirst a_heapPoint a_heapSplit) := by
  have ib : vp_in (nI b) 64 := vp_in_nI (by omega) (by decide)
  have eb : (nI b).toNatClampNeg = b := nI_clamp (by omega)
  unfold wX_pushContents_51
  rw [eb]
  rcases hOp with ⟨h1, h2, h3⟩ | ⟨h1, h2, h3, h4⟩
  · subst h2 h3
    refine ⟨ib, br_t h1 ?_⟩
    unfold wX_pushContents_72
    rw [eb]
    refine ⟨ib, br_t h1 ?_⟩
    unfold wX_pushContents_86
    exact rs_pushA (a := a) (b := 0) (c := 0) hw (by omega) (by omega) (by omega) rfl rfl rfl (nm_r (nI_1 a) hJ)
  · subst h2
    have n0 : ¬ Op b = 0 := by rw [h1]; decide
    rw [nI_clamp (show i < 2 ^ 31 by omega), h4]
    refine ⟨ib, br_f n0 ⟨vp_in_nI (by omega) (by decide), ?_⟩⟩
    unfold wX_pushContents_72
    rw [eb]
    refine ⟨ib, br_f n0 ?_⟩
    unfold wX_pushContents_86
    exact rs_pushA (a := a) (b := 1) (c := 0) hw (by omega) (by omega) (by omega) rfl rfl rfl (nm_r (nI_1 i) hJ)
theorem rs_pc_loop {post : SX → Prop} {b fi pa j M : Nat} {Pp : Nat → Prop} (hnx : nx < 64) (hny : ny < 64) (hG : rs_G f_present a_placeOf) (hA : rs_Al f_present sz a_order) (hnb : nb ≤ 20) (hB : ∀ i, i < nb → rs_bx a_placeOf a_order LX LY HX HY Fs Ps Op sz lo hi i) (hb : b < nb) (hFs : Fs b = nI fi) (hPs : Ps b = nI pa) (hpa : pa ≤ 3) (hpa1 : 1 ≤ pa) (hhi : hi b ≤ sz)
    (hk : (Op b = 1 ∧ lo b = fi ∧ hi b = fi + pa) ∨ (Op b = 0 ∧ fi + pa ≤ b ∧ lo fi = lo b ∧ hi (fi + pa - 1) = hi b ∧ ∀ i, fi ≤ i → i + 1 < fi + pa → hi i = lo (i + 1)))
    (hp : ∀ w A B C D, rs_BJ f_present a_order lo hi nb (rs_qb LX LY HX HY nx ny) (rs_d a_placeOf nx ny) j M w A B D Pp (fun _ => False) 0 0 → post (f_present, nI sz, f_lowX, f_lowY, f_highX, f_highY, f_found, nI nx, nI ny, f_best, f_bestSquare, nI w, f_quads, f_levels, nI nb, a_placeOf, a_order, A, B, C, D, a_quadX, a_quadY, a_quadSide, a_quadPart, a_quadCount, a_quadFirst, a_nextPoint, a_lists, a_fromLeft, LX, LY, HX, HY, Fs, Ps, Op, a_zeros, a_bottom, a_sorted, a_cellFirst, a_heapPoint, a_heapSplit)) :
    ∀ (n i w : Nat) (A B C D : Nat → Int32), fi + pa < n + i → fi ≤ i → i ≤ fi + pa → rs_BJ f_present a_order lo hi nb (rs_qb LX LY HX HY nx ny) (rs_d a_placeOf nx ny) j M w A B D Pp (rs_ER a_order (if i < fi + pa then (if Op b = 1 then i else lo i) else hi b) (hi b)) (hi b - (if i < fi + pa then (if Op b = 1 then i else lo i) else hi b)) ((fi + pa - i) * 4 ^ b) → (wX_pushContents_7 post (nI b) n (nI i) f_present (nI sz) f_lowX f_lowY f_highX f_highY f_found (nI nx) (nI ny) f_best f_bestSquare (nI w) f_quads f_levels (nI nb) a_placeOf a_order A B C D a_quadX a_quadY a_quadSide a_quadPart a_quadCount a_quadFirst a_nextPoint a_lists a_fromLeft LX LY HX HY Fs Ps Op a_zeros a_bottom a_sorted a_cellFirst a_heapPoint a_heapSplit) := by
  obtain ⟨hsz, hV, hV2, hinj⟩ := hA
  have ib : vp_in (nI b) 64 := vp_in_nI (by omega) (by decide)
  have eb : (nI b).toNatClampNeg = b := nI_clamp (by omega)
  have inj : ∀ s t k, s < hi b → t < hi b → rs_H f_present k → a_order s = nI k → a_order t = nI k → s = t := fun s t k h1 h2 _ e1 e2 => hinj s t (by omega) (by omega) (by rw [e1, e2])
  intro n
  induction n with
  | zero => intro i w A B C D h1 h2 h3; omega
  | succ n ih =>
    intro i w A B C D h1 h2 h3 hJ
    have hw28 : w ≤ 28 := by
      have h7 := hJ.2.2.2.2.2.2.1
      have := rs_sm_ge (g := fun t => rs_e1 lo hi (A t) (B t)) (n := w) (fun t ht => ?_)
      · omega
      · rcases hJ.1 t ht with ⟨x, x1, x2, x3, _⟩ | ⟨k, _, _, x3, _⟩
        · obtain ⟨_, _, _, _, _, _, _, _, ⟨_, _, _, _, c5, _⟩, _⟩ := hB x x1
          show 1 ≤ rs_e1 lo hi (A t) (B t)
          unfold rs_e1
          rw [if_pos x3, x2, nI_clamp (by omega)]
          omega
        · show 1 ≤ rs_e1 lo hi (A t) (B t)
          unfold rs_e1
          rw [x3, if_neg rs_01]
          omega
    refine And.intro ib (And.intro ib ?_)
    rw [eb, hFs, hPs, nI_add]
    have hfp : fi + pa < 60 := by rcases hk with h | h <;> omega
    refine pk_le (fi + pa) i (fun z => ?_) (fun z => ⟨ib, ?_⟩)
    · rw [if_neg (by omega)] at hJ
      exact hp w A B C D (rs_BJ_ex hJ (fun k _ => ⟨fun ⟨s, s1, s2, _⟩ => by omega, fun w => w.elim⟩) (by omega) (by omega))
    · rw [if_pos z] at hJ
      have pw : 1 ≤ 4 ^ b := Nat.pow_pos (by decide)
      have em : (fi + pa - i) * 4 ^ b = (fi + pa - (i + 1)) * 4 ^ b + 4 ^ b := by
        rw [← Nat.succ_mul]
        congr 1
        omega
      rcases hk with ⟨k1, k2, k3⟩ | ⟨k1, k2, k3, k4, k5⟩
      · rw [if_pos k1] at hJ
        obtain ⟨k, hk, ek⟩ := hV i (by omega)
        have h28 := hk.1
        rw [k1]
        refine br_f (by decide) ⟨vp_in_nI (by omega) (by decide), ?_⟩
        rw [nI_clamp (show i < 2 ^ 31 by omega), ek]
        refine rs_squareTo h28 (hG k hk) (rs_pc_51 (a := k) (e := 1) (by omega) (by omega) (by omega) (by omega) (Or.inr ⟨k1, rfl, by omega, ek⟩) (ih (i + 1) (w + 1) _ _ _ _ (by omega) (by omega) (by omega) ?_))
        have e2 : (if i + 1 < fi + pa then (if Op b = 1 then i + 1 else lo (i + 1)) else hi b) = i + 1 := by
          by_cases y : i + 1 < fi + pa
          · rw [if_pos y, if_pos k1]
          · rw [if_neg y]; omega
        rw [e2]
        refine rs_BJ_push inj hJ (by omega) (by omega) (Or.inr ⟨k, hk, rfl, rfl, rfl⟩) (fun k' hk' => ?_) ?_ ?_
        · constructor
          · rintro (⟨y, _⟩ | ⟨_, y⟩)
            · exact absurd y rs_01
            · exact ⟨i, Nat.le_refl _, by omega, by rw [ek, y]⟩
          · rintro ⟨s, s1, s2, s3⟩
            have es : s = i := by omega
            rw [es, ek] at s3
            exact Or.inr ⟨rfl, s3⟩
        · unfold rs_e1
          rw [if_neg rs_01]
          omega
        · unfold rs_e2
          rw [if_neg rs_01]
          omega
      · have n1 : ¬ Op b = 1 := by rw [k1]; decide
        rw [if_neg n1] at hJ
        rw [k1]
        have hbi := hB i (by omega)
        refine br_t rfl (rs_sqOfBox rfl hnx hny (by omega) hbi (rs_pc_51 (a := i) (e := 0) (by omega) (by omega) (by omega) (by omega) (Or.inl ⟨k1, rfl, rfl⟩) (ih (i + 1) (w + 1) _ _ _ _ (by omega) (by omega) (by omega) ?_)))
        have lh : ∀ i', i' < b → lo i' < hi i' := by
          intro i' hi'
          obtain ⟨_, _, _, _, _, _, _, _, ⟨_, _, _, _, c5, _⟩, _⟩ := hB i' (by omega)
          exact c5
        have e2 : (if i + 1 < fi + pa then (if Op b = 1 then i + 1 else lo (i + 1)) else hi b) = hi i := by
          by_cases y : i + 1 < fi + pa
          · rw [if_pos y, if_neg n1, k5 i h2 y]
          · rw [if_neg y, ← k4, show fi + pa - 1 = i by omega]
        have hle : hi i ≤ hi b := by
          rcases (show i + 1 = fi + pa ∨ i + 2 = fi + pa ∨ i + 3 = fi + pa by omega) with y | y | y
          · rw [← k4, show fi + pa - 1 = i by omega]; exact Nat.le_refl _
          · have c0 := k5 i h2 (by omega)
            have c1 := lh (i + 1) (by omega)
            rw [← k4, show fi + pa - 1 = i + 1 by omega]; omega
          · have c0 := k5 i h2 (by omega)
            have c1 := lh (i + 1) (by omega)
            have c2 := k5 (i + 1) (by omega) (by omega)
            have c3 := lh (i + 1 + 1) (by omega)
            rw [← k4, show fi + pa - 1 = i + 1 + 1 by omega]; omega
        have hli := lh i (by omega)
        rw [e2]
        refine rs_BJ_push inj hJ (by omega) hle (Or.inl ⟨i, by omega, rfl, rfl, rfl⟩) (fun k' hk' => ?_) ?_ ?_
        · constructor
          · rintro (⟨_, s, s1, s2, s3⟩ | ⟨y, _⟩)
            · rw [nI_clamp (show i < 2 ^ 31 by omega)] at s1 s2
              exact ⟨s, s1, s2, s3⟩
            · exact absurd y.symm rs_01
          · rintro ⟨s, s1, s2, s3⟩
            exact Or.inl ⟨rfl, s, by rw [nI_clamp (show i < 2 ^ 31 by omega)]; exact s1, by rw [nI_clamp (show i < 2 ^ 31 by omega)]; exact s2, s3⟩
        · unfold rs_e1
          rw [if_pos rfl, nI_clamp (show i < 2 ^ 31 by omega)]
          omega
        · unfold rs_e2
          rw [if_pos rfl, nI_clamp (show i < 2 ^ 31 by omega)]
          have : 4 ^ (i + 1) ≤ 4 ^ b := Nat.pow_le_pow_right (by decide) (by omega)
          omega
theorem rs_br_main {post : Int32 → SX → Prop} {j : Nat} (hj : j < 2 ^ 31) (hnx : nx < 64) (hny : ny < 64) (hG : rs_G f_present a_placeOf) (hA : rs_Al f_present sz a_order) (hnb : nb ≤ 20) (hB : ∀ i, i < nb → rs_bx a_placeOf a_order LX LY HX HY Fs Ps Op sz lo hi i)
    (hp : ∀ r w A B C D, ((∃ k, rs_H f_present k ∧ r = nI k ∧ rs_rk f_present (rs_d a_placeOf nx ny) k = j) ∨ (r = -1 ∧ ∀ k, rs_H f_present k → rs_rk f_present (rs_d a_placeOf nx ny) k ≠ j)) → post r (f_present, nI sz, f_lowX, f_lowY, f_highX, f_highY, f_found, nI nx, nI ny, f_best, f_bestSquare, nI w, f_quads, f_levels, nI nb, a_placeOf, a_order, A, B, C, D, a_quadX, a_quadY, a_quadSide, a_quadPart, a_quadCount, a_quadFirst, a_nextPoint, a_lists, a_fromLeft, LX, LY, HX, HY, Fs, Ps, Op, a_zeros, a_bottom, a_sorted, a_cellFirst, a_heapPoint, a_heapSplit)) :
    ∀ (n M w : Nat) (A B C D : Nat → Int32) (Pp : Nat → Prop), M < n → rs_BJ f_present a_order lo hi nb (rs_qb LX LY HX HY nx ny) (rs_d a_placeOf nx ny) j M w A B D Pp (fun _ => False) 0 0 → (wX_browse_35 post (nI j) n (nI (rs_cn Pp 28)) f_present (nI sz) f_lowX f_lowY f_highX f_highY f_found (nI nx) (nI ny) f_best f_bestSquare (nI w) f_quads f_levels (nI nb) a_placeOf a_order A B C D a_quadX a_quadY a_quadSide a_quadPart a_quadCount a_quadFirst a_nextPoint a_lists a_fromLeft LX LY HX HY Fs Ps Op a_zeros a_bottom a_sorted a_cellFirst a_heapPoint a_heapSplit) := by
  intro n
  induction n with
  | zero => intro M w A B C D Pp h; omega
  | succ n ih =>
    intro M w A B C D Pp hM hJ
    have hO := hJ.1
    have e1pos : ∀ t, t < w → 1 ≤ rs_e1 lo hi (A t) (B t) := by
      intro t ht
      rcases hO t ht with ⟨x, x1, x2, x3, _⟩ | ⟨k, _, _, x3, _⟩
      · obtain ⟨_, _, _, _, _, _, _, _, ⟨_, _, _, _, c5, _⟩, _⟩ := hB x x1
        unfold rs_e1
        rw [if_pos x3, x2, nI_clamp (by omega)]
        omega
      · unfold rs_e1
        rw [x3, if_neg rs_01]
        omega
    have hw28 : w ≤ 28 := by
      have h7 := hJ.2.2.2.2.2.2.1
      have := rs_sm_ge (g := fun t => rs_e1 lo hi (A t) (B t)) (n := w) e1pos
      omega
    have hcn := rs_cn_le Pp 28
    cases w with
    | zero =>
      refine br_t (by decide) (hp (-1) 0 A B C D (Or.inr ⟨rfl, fun k hk => ?_⟩))
      refine Classical.byContradiction (fun hn => ?_)
      rcases hJ.2.1 k hk (fun z => hn (hJ.2.2.2.2.1 k z).2.2) with ⟨t, t1, _⟩ | z
      · omega
      · exact z
    | succ w =>
      have db : ∀ k, rs_H f_present k → rs_d a_placeOf nx ny k ≤ 7938 := fun k hk => rs_d_b (hG k hk) hnx hny
      have ntA : rs_Nt A (w + 1) := by
        intro t ht
        rcases hO t ht with ⟨x, x1, x2, _⟩ | ⟨k, k1, x2, _⟩
        · rw [x2, nI_clamp (by omega)]; exact ⟨by omega, rfl⟩
        · have := k1.1
          rw [x2, nI_clamp (by omega)]; exact ⟨by omega, rfl⟩
      have ntB : rs_Nt B (w + 1) := by
        intro t ht
        rcases hO t ht with ⟨_, _, _, x3, _⟩ | ⟨_, _, _, x3, _⟩
        · rw [x3, nI_clamp (by omega)]; exact ⟨by omega, rfl⟩
        · rw [x3, nI_clamp (by omega)]; exact ⟨by omega, rfl⟩
      have ntD : rs_Nt D (w + 1) := by
        intro t ht
        rcases hO t ht with ⟨x, x1, _, _, x4⟩ | ⟨k, k1, _, _, x4⟩
        · have := rs_qb_b hnx hny (hB x x1)
          rw [x4, nI_clamp (by omega)]; exact ⟨by omega, rfl⟩
        · have := db k k1
          rw [x4, nI_clamp (by omega)]; exact ⟨by omega, rfl⟩
      refine br_f (nI_nle (by omega) (by omega)) (rs_nextWaiting (by omega) (by omega) ntA ntB ntD (fun r hr hmin => ?_))
      have ir : vp_in (nI r) 128 := vp_in_nI (by omega) (by decide)
      have er : (nI r).toNatClampNeg = r := nI_clamp (by omega)
      have hd := rs_BJ_drop hJ (show r ≤ w by omega)
      rcases hO r hr with ⟨b, x1, x2, x3, x4⟩ | ⟨k, hk, x2, x3, x4⟩
      · -- a box
        refine And.intro ir (nm_r (e' := nI b) (by rw [er]; exact x2) (And.intro ir ?_))
        rw [er, x3]
        refine br_f (by decide) ?_
        unfold wX_browse_73
        refine rs_dropWaiting (by omega) (by omega) ntA ntB (br_t rfl ?_)
        unfold wX_browse_94
        refine br_t rfl ?_
        unfold wX_browse_105
        refine nm_r (nI_add _ 0) (br_t rfl ?_)
        unfold wpX_pushContents
        have hbb := hB b x1
        obtain ⟨_, _, _, _, fi, pa, _, _, ⟨c1, c2, c3, c4, c5, c6⟩, _, g5⟩ := hbb
        have ib : vp_in (nI b) 64 := vp_in_nI (by omega) (by decide)
        have eb : (nI b).toNatClampNeg = b := nI_clamp (by omega)
        refine And.intro ib (nm_r (e' := nI fi) (by rw [eb]; exact c1) (Exists.intro (fi + pa + 1) ?_))
        have p4 : 4 ^ (b + 1) = 4 * 4 ^ b := by rw [Nat.pow_succ, Nat.mul_comm]
        have pw : 1 ≤ 4 ^ b := Nat.pow_pos (by decide)
        have m3 : pa * 4 ^ b ≤ 3 * 4 ^ b := Nat.mul_le_mul_right _ c4
        have est : (if fi < fi + pa then (if Op b = 1 then fi else lo fi) else hi b) = lo b := by
          rw [if_pos (by omega)]
          rcases g5 with ⟨k1, k2, k3⟩ | ⟨k1, k2, k3, _⟩
          · rw [if_pos k1, k2]
          · rw [if_neg (by rw [k1]; decide), k3]
        have e1b : rs_e1 lo hi (A r) (B r) = hi b - lo b := by unfold rs_e1; rw [if_pos x3, x2, eb]
        have e2b : rs_e2 (A r) (B r) = 4 ^ (b + 1) := by unfold rs_e2; rw [if_pos x3, x2, eb]
        have hM8 := hd.2.2.2.2.2.2.2
        rw [e2b] at hM8
        refine rs_pc_loop (M := M - 4 ^ b) (j := j) (Pp := Pp) hnx hny hG hA hnb hB x1 c1 c2 c4 c3 c6 g5 (fun w' A' B' C' D' hJ' => ?_) (fi + pa + 1) fi w _ _ C _ (by omega) (Nat.le_refl _) (by omega) ?_
        · exact ih (M - 4 ^ b) w' A' B' C' D' Pp (by omega) hJ'
        · rw [est]
          refine rs_BJ_ex hd (fun k _ => ?_) (by rw [e1b]; exact Nat.le_refl _) (by rw [e2b, show fi + pa - fi = pa by omega]; omega)
          constructor
          · rintro (⟨_, s, s1, s2, s3⟩ | ⟨y, _⟩)
            · rw [x2, eb] at s1 s2
              exact ⟨s, s1, s2, s3⟩
            · rw [x3] at y
              exact absurd y.symm rs_01
          · rintro ⟨s, s1, s2, s3⟩
            exact Or.inl ⟨x3, s, by rw [x2, eb]; exact s1, by rw [x2, eb]; exact s2, s3⟩
      · -- a point
        have h28 := hk.1
        have hd' : rs_BJ f_present a_order lo hi nb (rs_qb LX LY HX HY nx ny) (rs_d a_placeOf nx ny) j M w (upd A r (A w)) (upd B r (B w)) (upd D r (D w)) Pp (fun i => i = k) (rs_e1 lo hi (A r) (B r)) (0 + 1) := by
          refine rs_BJ_ex hd (fun i hi => ?_) (Nat.le_refl _) (by unfold rs_e2; rw [x3, if_neg rs_01]; omega)
          have hi28 := hi.1
          constructor
          · rintro (⟨y, _⟩ | ⟨_, y⟩)
            · rw [x3] at y
              exact absurd y rs_01
            · rw [x2] at y
              exact ((nI_eq (by omega) (by omega)).mp y).symm
          · intro y
            rw [y]
            exact Or.inr ⟨x3, x2⟩
        have hmin' : ∀ i, rs_H f_present i → ¬ Pp i → i ≠ k → rs_lx (rs_d a_placeOf nx ny) k i := by
          intro i hi hn hne
          have hi28 := hi.1
          rcases hJ.2.1 i hi hn with ⟨t, t1, tc⟩ | z
          · have hl := hmin t t1
            have hdk := db k hk
            unfold rs_l3 at hl
            rw [x2, x3, x4, nI_clamp (n := k) (by omega), nI_clamp (n := 1) (by omega), nI_clamp (n := rs_d a_placeOf nx ny k) (by omega)] at hl
            rcases hO t t1 with ⟨b, y1, y2, y3, y4⟩ | ⟨k2, y1, y2, y3, y4⟩
            · have hq := rs_qb_b hnx hny (hB b y1)
              rw [y2, y3, y4, nI_clamp (by omega), nI_clamp (by omega), nI_clamp (by omega)] at hl
              rcases tc with ⟨_, s, s1, s2, s3⟩ | ⟨y, _⟩
              · rw [y2, nI_clamp (by omega)] at s1 s2
                have := rs_qb_le (nx := nx) (ny := ny) (hB b y1) hi28 s1 s2 s3
                exact Or.inl (by omega)
              · rw [y3] at y
                exact absurd y.symm rs_01
            · have hk2 := y1.1
              have hdk2 := db k2 y1
              rw [y2, y3, y4, nI_clamp (n := k2) (by omega), nI_clamp (n := 1) (by omega), nI_clamp (n := rs_d a_placeOf nx ny k2) (by omega)] at hl
              rcases tc with ⟨y, _⟩ | ⟨_, y⟩
              · rw [y3] at y
                exact absurd y rs_01
              · rw [y2] at y
                have e := (nI_eq (by omega) (by omega)).mp y
                subst e
                unfold rs_lx
                omega
          · exact z.elim
        have hrk := rs_BJ_rk hd' hk hmin'
        refine And.intro ir (nm_r (e' := nI k) (by rw [er]; exact x2) (And.intro ir ?_))
        rw [er, x3]
        refine br_t rfl ?_
        unfold wX_browse_73
        refine rs_dropWaiting (by omega) (by omega) ntA ntB (br_f (by decide) ?_)
        refine pk_eq (rs_cn Pp 28) j (fun z => hp (nI k) w _ _ C _ (Or.inl ⟨k, hk, rfl, by rw [hrk]; exact z⟩)) (fun z => ?_)
        unfold wX_browse_94
        refine br_f (by decide) ?_
        unfold wX_browse_105
        have hpop := rs_BJ_pop hd' hk hmin' (by rw [hrk]; exact z)
        have hM8 := hd'.2.2.2.2.2.2.2
        refine nm_r (nI_1 _) (br_f (by decide) ?_)
        rw [← hpop.2]
        exact ih (M - 1) w _ _ C _ (fun i => Pp i ∨ i = k) (by omega) hpop.1
end
section
variable {f_present f_size f_lowX f_lowY f_highX f_highY f_found f_nearX f_nearY f_best f_bestSquare f_waiting f_quads f_levels f_boxes : Int32} {a_placeOf a_order a_waitA a_waitB a_waitC a_waitD a_quadX a_quadY a_quadSide a_quadPart a_quadCount a_quadFirst a_nextPoint a_lists a_fromLeft a_boxLowX a_boxLowY a_boxHighX a_boxHighY a_boxFirst a_boxParts a_boxOfPoints a_zeros a_bottom a_sorted a_cellFirst a_heapPoint a_heapSplit : Nat → Int32} {sz nx ny : Nat}
theorem rs_browse {post : Int32 → SX → Prop} {j : Nat} {x : Int32} (ex : x = nI j) (hj : j < 2 ^ 31) (hnx : nx < 64) (hny : ny < 64) (hG : rs_G f_present a_placeOf) (hA : rs_Al f_present sz a_order) (h0 : 0 < sz)
    (hp : ∀ r o LX LY HX HY Fs Ps Op nb w A B C D, ((∃ k, rs_H f_present k ∧ r = nI k ∧ rs_rk f_present (rs_d a_placeOf nx ny) k = j) ∨ (r = -1 ∧ ∀ k, rs_H f_present k → rs_rk f_present (rs_d a_placeOf nx ny) k ≠ j)) → post r (f_present, nI sz, f_lowX, f_lowY, f_highX, f_highY, f_found, nI nx, nI ny, f_best, f_bestSquare, nI w, f_quads, f_levels, nI nb, a_placeOf, o, A, B, C, D, a_quadX, a_quadY, a_quadSide, a_quadPart, a_quadCount, a_quadFirst, a_nextPoint, a_lists, a_fromLeft, LX, LY, HX, HY, Fs, Ps, Op, a_zeros, a_bottom, a_sorted, a_cellFirst, a_heapPoint, a_heapSplit)) : wpX_browse post (f_present, nI sz, f_lowX, f_lowY, f_highX, f_highY, f_found, nI nx, nI ny, f_best, f_bestSquare, f_waiting, f_quads, f_levels, f_boxes, a_placeOf, a_order, a_waitA, a_waitB, a_waitC, a_waitD, a_quadX, a_quadY, a_quadSide, a_quadPart, a_quadCount, a_quadFirst, a_nextPoint, a_lists, a_fromLeft, a_boxLowX, a_boxLowY, a_boxHighX, a_boxHighY, a_boxFirst, a_boxParts, a_boxOfPoints, a_zeros, a_bottom, a_sorted, a_cellFirst, a_heapPoint, a_heapSplit) x := by
  subst ex
  unfold wpX_browse
  refine rs_buildBoxes hG hA h0 (fun o LX LY HX HY Fs Ps Op nb lo hi hA' n1 n2 hB hl hh => ?_)
  have e1 : nI nb - 1 = nI (nb - 1) := pk_sub (b := 1) n1
  have hbx := hB (nb - 1) (by omega)
  refine rs_sqOfBox e1 hnx hny (by omega) hbx (rs_pushA (w := 0) (a := nb - 1) (b := 0) (c := 0) (by decide) (by omega) (by omega) (by omega) e1 rfl rfl ?_)
  have c0 : rs_cn (fun _ => False) 28 = 0 := by
    have : ∀ n, rs_cn (fun _ => False) n = 0 := by
      intro n
      induction n with
      | zero => rfl
      | succ n ih => simp only [rs_cn]; rw [ih, rs_b1_f (fun z => z)]
    exact this 28
  have main := rs_br_main (post := post) hj hnx hny hG hA' n2 hB (fun r w A B C D h => hp r o LX LY HX HY Fs Ps Op nb w A B C D h) (4 ^ nb + 1) (4 ^ nb) 1 (upd a_waitA 0 (nI (nb - 1))) (upd a_waitB 0 (nI 0)) (upd a_waitC 0 (nI 0)) (upd a_waitD 0 (nI (rs_qb LX LY HX HY nx ny (nb - 1)))) (fun _ => False) (Nat.lt_succ_self _) ?_
  · rw [c0] at main
    exact Exists.intro (4 ^ nb + 1) main
  · have eb : (nI (nb - 1)).toNatClampNeg = nb - 1 := nI_clamp (by omega)
    refine ⟨fun t ht => ?_, fun k hk _ => Or.inl ⟨0, by omega, ?_⟩, fun k t t' _ h1 h2 _ _ => by omega, fun k t _ _ _ => ⟨fun z => z, fun z => z⟩, fun k z => z.elim, fun k k' z => z.elim, ?_, ?_⟩
    · rw [show t = 0 by omega, pk_us, pk_us, pk_us]
      exact Or.inl ⟨nb - 1, by omega, rfl, rfl, rfl⟩
    · rw [pk_us, pk_us]
      obtain ⟨t, t1, t2⟩ := hA'.2.2.1 k hk
      exact Or.inl ⟨rfl, t, by rw [eb]; omega, by rw [eb]; omega, t2⟩
    · simp only [rs_sm]
      rw [pk_us, pk_us]
      unfold rs_e1
      rw [if_pos rfl, eb]
      have := hA'.1
      omega
    · simp only [rs_sm]
      rw [pk_us, pk_us]
      unfold rs_e2
      rw [if_pos rfl, eb, show nb - 1 + 1 = nb by omega]
      omega
end
end
section
/-! by the digits of y -/
def rs_dg (P : Nat → Int32) (l : Nat) (v : Int32) : Nat := rs_k P 0 v / 2 ^ (5 - l) % 2
def rs_cz (g : Nat → Nat) : Nat → Nat
  | 0 => 0
  | i + 1 => rs_cz g i + (if g i = 0 then 1 else 0)
theorem rs_cz_e {g g' : Nat → Nat} : ∀ {n : Nat}, (∀ j, j < n → g' j = g j) → rs_cz g' n = rs_cz g n
  | 0, _ => rfl
  | n + 1, h => by simp only [rs_cz]; rw [rs_cz_e (fun j hj => h j (by omega)), h n (by omega)]
theorem rs_cz_m (g : Nat → Nat) (i : Nat) : ∀ j, i ≤ j → rs_cz g i ≤ rs_cz g j ∧ rs_cz g j + i ≤ rs_cz g i + j
  | 0, h => by
    have e : i = 0 := by omega
    subst e
    exact ⟨Nat.le_refl _, Nat.le_refl _⟩
  | j + 1, h => by
    rcases Nat.lt_or_ge j i with z | z
    · have e : i = j + 1 := by omega
      subst e
      exact ⟨Nat.le_refl _, Nat.le_refl _⟩
    · have := rs_cz_m g i j z
      simp only [rs_cz]
      split <;> omega
theorem rs_cz_le (g : Nat → Nat) (i : Nat) : rs_cz g i ≤ i := by
  have := (rs_cz_m g 0 i (Nat.zero_le _)).2
  simp only [rs_cz] at this
  omega
theorem rs_cz_z {g : Nat → Nat} {c : Nat} : ∀ {i : Nat}, c < rs_cz g i → ∃ j, j < i ∧ g j = 0 ∧ rs_cz g j = c
  | 0, h => by simp only [rs_cz] at h; omega
  | i + 1, h => by
    simp only [rs_cz] at h
    rcases Nat.lt_or_ge c (rs_cz g i) with z | z
    · obtain ⟨j, h1, h2, h3⟩ := rs_cz_z z
      exact ⟨j, by omega, h2, h3⟩
    · split at h
      · rename_i y
        exact ⟨i, by omega, y, by omega⟩
      · omega
theorem rs_cz_o {g : Nat → Nat} {c : Nat} : ∀ {i : Nat}, c + rs_cz g i < i → ∃ j, j < i ∧ g j ≠ 0 ∧ c + rs_cz g j = j
  | 0, h => by omega
  | i + 1, h => by
    simp only [rs_cz] at h
    rcases Nat.lt_or_ge (c + rs_cz g i) i with z | z
    · obtain ⟨j, h1, h2, h3⟩ := rs_cz_o z
      exact ⟨j, by omega, h2, h3⟩
    · split at h
      · omega
      · rename_i y
        exact ⟨i, by omega, y, by omega⟩
/-- the level l: the counts, and where those before come to -/
def rs_DP (g : Nat → Nat) (B B' : Nat → Int32) (sz n : Nat) : Prop := ∀ i, i < n → (g i = 0 → B' (rs_cz g i) = B i) ∧ (g i ≠ 0 → B' (rs_cz g sz + (i - rs_cz g i)) = B i)
def rs_DL (P : Nat → Int32) (sz : Nat) (B B' Z : Nat → Int32) (l : Nat) : Prop := (∀ i, i ≤ sz → Z (l * 33 + i) = nI (rs_cz (fun j => rs_dg P l (B j)) i)) ∧ rs_DP (fun j => rs_dg P l (B j)) B B' sz sz
theorem rs_DP_s {g : Nat → Nat} {B B' : Nat → Int32} {sz n : Nat} (h : rs_DP g B B' sz n) (hn : n < sz) : rs_DP g B (upd B' (if g n = 0 then rs_cz g n else rs_cz g sz + (n - rs_cz g n)) (B n)) sz (n + 1) := by
  intro i hi
  have hs := rs_cz_le g n
  rcases Nat.lt_or_ge i n with z | z
  · have m1 := rs_cz_m g (i + 1) n z
    have m2 := rs_cz_m g n sz (by omega)
    have m3 := rs_cz_le g i
    simp only [rs_cz] at m1
    refine ⟨fun y => ?_, fun y => ?_⟩
    · rw [if_pos y] at m1
      rw [pk_un]
      · exact (h i z).1 y
      · split <;> omega
    · rw [if_neg y] at m1
      rw [pk_un]
      · exact (h i z).2 y
      · split
        · rename_i w
          have m4 := rs_cz_m g (n + 1) sz hn
          simp only [rs_cz] at m4
          rw [if_pos w] at m4
          omega
        · omega
  · have e : i = n := by omega
    subst e
    exact ⟨fun y => by rw [if_pos y, pk_us], fun y => by rw [if_neg y, pk_us]⟩
/-- every place of the next level comes from one before -/
theorem rs_DP_sur {g : Nat → Nat} {B B' : Nat → Int32} {sz c : Nat} (h : rs_DP g B B' sz sz) (hc : c < sz) : ∃ j, j < sz ∧ B' c = B j ∧ ((g j = 0 ∧ rs_cz g j = c) ∨ (g j ≠ 0 ∧ rs_cz g sz + (j - rs_cz g j) = c)) := by
  rcases Nat.lt_or_ge c (rs_cz g sz) with z | z
  · obtain ⟨j, h1, h2, h3⟩ := rs_cz_z z
    exact ⟨j, h1, by rw [← h3]; exact (h j h1).1 h2, Or.inl ⟨h2, h3⟩⟩
  · obtain ⟨j, h1, h2, h3⟩ := rs_cz_o (g := g) (c := c - rs_cz g sz) (i := sz) (by omega)
    have e : rs_cz g sz + (j - rs_cz g j) = c := by omega
    exact ⟨j, h1, by rw [← e]; exact (h j h1).2 h2, Or.inr ⟨h2, e⟩⟩
section
variable {f_present f_size f_lowX f_lowY f_highX f_highY f_found f_nearX f_nearY f_best f_bestSquare f_waiting f_quads f_levels f_boxes : Int32} {a_placeOf a_order a_waitA a_waitB a_waitC a_waitD a_quadX a_quadY a_quadSide a_quadPart a_quadCount a_quadFirst a_nextPoint a_lists a_fromLeft a_boxLowX a_boxLowY a_boxHighX a_boxHighY a_boxFirst a_boxParts a_boxOfPoints a_cellFirst a_heapPoint a_heapSplit : Nat → Int32} {sz l : Nat}
theorem rs_digitOf {post : Int32 → Prop} {a_zeros a_bottom a_sorted : Nat → Int32} {v : Int32} (hG : rs_G f_present a_placeOf) (hv : rs_V f_present v) (hl : l ≤ 5) (h : post (nI (rs_dg a_placeOf l v))) : wpX_digitOf post (f_present, f_size, f_lowX, f_lowY, f_highX, f_highY, f_found, f_nearX, f_nearY, f_best, f_bestSquare, f_waiting, f_quads, f_levels, f_boxes, a_placeOf, a_order, a_waitA, a_waitB, a_waitC, a_waitD, a_quadX, a_quadY, a_quadSide, a_quadPart, a_quadCount, a_quadFirst, a_nextPoint, a_lists, a_fromLeft, a_boxLowX, a_boxLowY, a_boxHighX, a_boxHighY, a_boxFirst, a_boxParts, a_boxOfPoints, a_zeros, a_bottom, a_sorted, a_cellFirst, a_heapPoint, a_heapSplit) v (nI l) := by
  obtain ⟨k, hk, rfl⟩ := hv
  have hy := rs_ylt (hG k hk)
  unfold rs_dg at h
  rw [rs_k0 hk.1] at h
  have e5 : (5 : Int32) - nI l = nI (5 - l) := pk_sub (a := 5) hl
  have es : nI (rs_y a_placeOf k) >>> ((5 - nI l) &&& 31) = nI (rs_y a_placeOf k / 2 ^ (5 - l)) := by
    rw [e5]
    exact pk_shrN (by omega) _ _ (s_l (5 - l) (by omega))
  have hd : rs_y a_placeOf k / 2 ^ (5 - l) ≤ rs_y a_placeOf k := Nat.div_le_self _ _
  have ea : nI (rs_y a_placeOf k / 2 ^ (5 - l)) &&& 1 = nI (rs_y a_placeOf k / 2 ^ (5 - l) % 2) := pk_andN (m := 1) (by omega) 1 (by decide)
  unfold wpX_digitOf
  refine rs_yOf hk.1 (hG k hk) ?_
  rw [es, ea]
  exact h
theorem rs_dg_2 (P : Nat → Int32) (l : Nat) (v : Int32) : rs_dg P l v < 2 := Nat.mod_lt _ (by decide)
theorem rs_d_210 {post : SX → Prop} {J40 : Int32 → (Nat → Int32) → (Nat → Int32) → (Nat → Int32) → (Nat → Int32) → (Nat → Int32) → (Nat → Int32) → (Nat → Int32) → (Nat → Int32) → (Nat → Int32) → (Nat → Int32) → (Nat → Int32) → (Nat → Int32) → (Nat → Int32) → (Nat → Int32) → (Nat → Int32) → (Nat → Int32) → (Nat → Int32) → (Nat → Int32) → (Nat → Int32) → (Nat → Int32) → (Nat → Int32) → (Nat → Int32) → (Nat → Int32) → (Nat → Int32) → (Nat → Int32) → (Nat → Int32) → (Nat → Int32) → (Nat → Int32) → Prop} {Z So : Nat → Int32} (hsz : sz ≤ 28) (hV : ∀ j, j < sz → rs_V f_present (So j)) (hJ : ∀ B', (∀ j, j < sz → B' j = So j) → J40 (nI (l + 1)) a_placeOf a_order a_waitA a_waitB a_waitC a_waitD a_quadX a_quadY a_quadSide a_quadPart a_quadCount a_quadFirst a_nextPoint a_lists a_fromLeft a_boxLowX a_boxLowY a_boxHighX a_boxHighY a_boxFirst a_boxParts a_boxOfPoints Z B' So a_cellFirst a_heapPoint a_heapSplit) :
    ∀ n i B, sz < n + i → i ≤ sz → (∀ j, j < i → B j = So j) → (wX_buildDigits_210 post J40 (nI l) f_present (nI sz) f_lowX f_lowY f_highX f_highY f_found f_nearX f_nearY f_best f_bestSquare f_waiting f_quads f_levels f_boxes n (nI i) a_placeOf a_order a_waitA a_waitB a_waitC a_waitD a_quadX a_quadY a_quadSide a_quadPart a_quadCount a_quadFirst a_nextPoint a_lists a_fromLeft a_boxLowX a_boxLowY a_boxHighX a_boxHighY a_boxFirst a_boxParts a_boxOfPoints Z B So a_cellFirst a_heapPoint a_heapSplit) := by
  intro n
  induction n with
  | zero => intro i B h1 h2; omega
  | succ n ih =>
    intro i B h1 h2 hI
    refine pk_le sz i (fun z => nm_r (nI_1 l) (hJ B (fun j hj => hI j (by omega)))) (fun z => ?_)
    obtain ⟨k, hk, ek⟩ := hV i z
    have h28 := hk.1
    refine ⟨vp_in_nI (by omega) (by decide), vp_in_nI (by omega) (by decide), nm_r (e' := upd B i (So i)) (by rw [nI_clamp (by omega), ek, rs_nb (by omega)]) (nm_r (nI_1 i) (ih (i + 1) _ (by omega) (by omega) (fun j hj => ?_)))⟩
    by_cases e : j = i
    · rw [e]; exact pk_us
    · rw [pk_un e]; exact hI j (by omega)
theorem rs_d_122 {post : SX → Prop} {J40 : Int32 → (Nat → Int32) → (Nat → Int32) → (Nat → Int32) → (Nat → Int32) → (Nat → Int32) → (Nat → Int32) → (Nat → Int32) → (Nat → Int32) → (Nat → Int32) → (Nat → Int32) → (Nat → Int32) → (Nat → Int32) → (Nat → Int32) → (Nat → Int32) → (Nat → Int32) → (Nat → Int32) → (Nat → Int32) → (Nat → Int32) → (Nat → Int32) → (Nat → Int32) → (Nat → Int32) → (Nat → Int32) → (Nat → Int32) → (Nat → Int32) → (Nat → Int32) → (Nat → Int32) → (Nat → Int32) → (Nat → Int32) → Prop} {Z B : Nat → Int32} (hG : rs_G f_present a_placeOf) (hsz : sz ≤ 28) (hl : l ≤ 5) (hV : ∀ j, j < sz → rs_V f_present (B j))
    (hJ : ∀ B' So, rs_DP (fun j => rs_dg a_placeOf l (B j)) B B' sz sz → J40 (nI (l + 1)) a_placeOf a_order a_waitA a_waitB a_waitC a_waitD a_quadX a_quadY a_quadSide a_quadPart a_quadCount a_quadFirst a_nextPoint a_lists a_fromLeft a_boxLowX a_boxLowY a_boxHighX a_boxHighY a_boxFirst a_boxParts a_boxOfPoints Z B' So a_cellFirst a_heapPoint a_heapSplit) :
    ∀ n i So, sz < n + i → i ≤ sz → rs_DP (fun j => rs_dg a_placeOf l (B j)) B So sz i → (wX_buildDigits_122 post J40 (nI l) f_present (nI sz) f_lowX f_lowY f_highX f_highY f_found f_nearX f_nearY f_best f_bestSquare f_waiting f_quads f_levels f_boxes n (nI (rs_cz (fun j => rs_dg a_placeOf l (B j)) i)) (nI (rs_cz (fun j => rs_dg a_placeOf l (B j)) sz + (i - rs_cz (fun j => rs_dg a_placeOf l (B j)) i))) (nI i) a_placeOf a_order a_waitA a_waitB a_waitC a_waitD a_quadX a_quadY a_quadSide a_quadPart a_quadCount a_quadFirst a_nextPoint a_lists a_fromLeft a_boxLowX a_boxLowY a_boxHighX a_boxHighY a_boxFirst a_boxParts a_boxOfPoints Z B So a_cellFirst a_heapPoint a_heapSplit) := by
  intro n
  induction n with
  | zero => intro i So h1 h2; omega
  | succ n ih =>
    intro i So h1 h2 hI
    generalize hg : (fun j => rs_dg a_placeOf l (B j)) = g at *
    have c1 := rs_cz_le g i
    have c2 := rs_cz_le g sz
    have c3 := rs_cz_m g i sz h2
    refine pk_le sz i (fun z => Exists.intro (sz + 1) ?_) (fun z => ?_)
    · have e : i = sz := by omega
      subst e
      refine rs_d_210 hsz (fun j hj => ?_) (fun B' hB' => hJ B' So (fun j hj => ⟨fun y => ?_, fun y => ?_⟩)) (i + 1) 0 B (by omega) (by omega) (fun j hj => by omega)
      · obtain ⟨q, q1, q2, _⟩ := rs_DP_sur hI hj
        rw [q2]
        exact hV q q1
      · have m := rs_cz_m g (j + 1) i hj
        simp only [rs_cz] at m
        rw [if_pos y] at m
        rw [hB' _ (by omega)]
        exact (hI j hj).1 y
      · have m := rs_cz_m g (j + 1) i hj
        simp only [rs_cz] at m
        rw [if_neg y] at m
        have := rs_cz_le g j
        rw [hB' _ (by omega)]
        exact (hI j hj).2 y
    · obtain ⟨k, hk, ek⟩ := hV i z
      have h28 := hk.1
      have gi : rs_dg a_placeOf l (B i) = g i := by rw [← hg]
      have c4 := rs_cz_m g (i + 1) sz z
      have cs : rs_cz g (i + 1) = rs_cz g i + (if g i = 0 then 1 else 0) := rfl
      refine And.intro (vp_in_nI (by omega) (by decide)) ?_
      rw [nI_clamp (show i < 2 ^ 31 by omega)]
      refine rs_digitOf hG (hV i z) hl ?_
      rw [gi]
      have g2 : g i < 2 := by rw [← gi]; exact rs_dg_2 _ _ _
      have step := rs_DP_s hI z
      refine pk_eq (g i) 0 (fun y => ?_) (fun y => ?_)
      · rw [if_pos y] at cs step
        unfold wX_buildDigits_151
        refine br_f (by decide) ?_
        unfold wX_buildDigits_167
        refine ⟨vp_in_nI (by omega) (by decide), vp_in_nI (by omega) (by decide), nm_r (e' := upd So (rs_cz g i) (B i)) (by rw [nI_clamp (by omega), nI_clamp (by omega), ek, rs_nb (by omega)]) (br_f (by decide) ?_)⟩
        unfold wX_buildDigits_186
        have r := ih (i + 1) _ (by omega) (by omega) step
        rw [cs, show i + 1 - (rs_cz g i + 1) = i - rs_cz g i by omega] at r
        exact nm_r (nI_1 _) (br_f (by decide) (nm_r (nI_add _ 0) (nm_r (nI_1 i) r)))
      · rw [if_neg y] at cs step
        unfold wX_buildDigits_151
        refine br_t rfl ?_
        unfold wX_buildDigits_167
        refine ⟨vp_in_nI (by omega) (by decide), vp_in_nI (by omega) (by decide), nm_r (e' := upd So (rs_cz g sz + (i - rs_cz g i)) (B i)) (by rw [nI_clamp (by omega), nI_clamp (by omega), ek, rs_nb (by omega)]) (br_t rfl ?_)⟩
        unfold wX_buildDigits_186
        have r := ih (i + 1) _ (by omega) (by omega) step
        rw [cs, show rs_cz g sz + (i + 1 - (rs_cz g i + 0)) = rs_cz g sz + (i - rs_cz g i) + 1 by omega] at r
        exact nm_r (nI_add _ 0) (br_t rfl (nm_r (nI_1 _) (nm_r (nI_1 i) r)))
theorem rs_d_50 {post : SX → Prop} {J40 : Int32 → (Nat → Int32) → (Nat → Int32) → (Nat → Int32) → (Nat → Int32) → (Nat → Int32) → (Nat → Int32) → (Nat → Int32) → (Nat → Int32) → (Nat → Int32) → (Nat → Int32) → (Nat → Int32) → (Nat → Int32) → (Nat → Int32) → (Nat → Int32) → (Nat → Int32) → (Nat → Int32) → (Nat → Int32) → (Nat → Int32) → (Nat → Int32) → (Nat → Int32) → (Nat → Int32) → (Nat → Int32) → (Nat → Int32) → (Nat → Int32) → (Nat → Int32) → (Nat → Int32) → (Nat → Int32) → (Nat → Int32) → Prop} {Z0 B So : Nat → Int32} (hG : rs_G f_present a_placeOf) (hsz : sz ≤ 28) (hl : l ≤ 5) (hV : ∀ j, j < sz → rs_V f_present (B j))
    (hJ : ∀ Z B' So, rs_Ag (l * 33) (l * 33 + 33) Z0 Z → rs_DL a_placeOf sz B B' Z l → J40 (nI (l + 1)) a_placeOf a_order a_waitA a_waitB a_waitC a_waitD a_quadX a_quadY a_quadSide a_quadPart a_quadCount a_quadFirst a_nextPoint a_lists a_fromLeft a_boxLowX a_boxLowY a_boxHighX a_boxHighY a_boxFirst a_boxParts a_boxOfPoints Z B' So a_cellFirst a_heapPoint a_heapSplit) :
    ∀ n i Z, sz < n + i → i ≤ sz → rs_Ag (l * 33) (l * 33 + 33) Z0 Z → (∀ j, j < i → Z (l * 33 + j) = nI (rs_cz (fun j => rs_dg a_placeOf l (B j)) j)) → (wX_buildDigits_50 post J40 (nI l) f_present (nI sz) f_lowX f_lowY f_highX f_highY f_found f_nearX f_nearY f_best f_bestSquare f_waiting f_quads f_levels f_boxes n (nI (rs_cz (fun j => rs_dg a_placeOf l (B j)) i)) (nI i) a_placeOf a_order a_waitA a_waitB a_waitC a_waitD a_quadX a_quadY a_quadSide a_quadPart a_quadCount a_quadFirst a_nextPoint a_lists a_fromLeft a_boxLowX a_boxLowY a_boxHighX a_boxHighY a_boxFirst a_boxParts a_boxOfPoints Z B So a_cellFirst a_heapPoint a_heapSplit) := by
  intro n
  induction n with
  | zero => intro i Z h1 h2; omega
  | succ n ih =>
    intro i Z h1 h2 hA hI
    have c1 := rs_cz_le (fun j => rs_dg a_placeOf l (B j)) i
    have eS : nI l * 33 + nI sz = nI (l * 33 + sz) := rs_ix l sz 33
    have eI : nI l * 33 + nI i = nI (l * 33 + i) := rs_ix l i 33
    have put : ∀ j, j < i + 1 → upd Z (l * 33 + i) (nI (rs_cz (fun j => rs_dg a_placeOf l (B j)) i)) (l * 33 + j) = nI (rs_cz (fun j => rs_dg a_placeOf l (B j)) j) := by
      intro j hj
      by_cases e : j = i
      · rw [e]; exact pk_us
      · rw [pk_un (by omega)]; exact hI j (by omega)
    refine pk_le sz i (fun z => ?_) (fun z => ?_)
    · have e : i = sz := by omega
      subst e
      rw [eI]
      refine And.intro (vp_in_nI (by omega) (by decide)) (nm_r (e' := upd Z (l * 33 + i) (nI (rs_cz (fun j => rs_dg a_placeOf l (B j)) i))) (by rw [nI_clamp (by omega), rs_nb2 (by omega)]) (Exists.intro (i + 1) ?_))
      exact rs_d_122 hG hsz hl hV (fun B' So hD => hJ _ B' So (rs_Ag_u hA (by omega) (by omega)) ⟨fun j hj => put j (by omega), hD⟩) (i + 1) 0 So (by omega) (by omega) (fun j hj => by omega)
    · rw [eI]
      refine And.intro (vp_in_nI (by omega) (by decide)) (nm_r (e' := upd Z (l * 33 + i) (nI (rs_cz (fun j => rs_dg a_placeOf l (B j)) i))) (by rw [nI_clamp (by omega), rs_nb2 (by omega)]) (And.intro (vp_in_nI (by omega) (by decide)) ?_))
      rw [nI_clamp (show i < 2 ^ 31 by omega)]
      have d2 := rs_dg_2 a_placeOf l (B i)
      have cs : rs_cz (fun j => rs_dg a_placeOf l (B j)) (i + 1) = rs_cz (fun j => rs_dg a_placeOf l (B j)) i + (if rs_dg a_placeOf l (B i) = 0 then 1 else 0) := rfl
      have r := ih (i + 1) _ (by omega) (by omega) (rs_Ag_u hA (by omega) (by omega)) put
      refine rs_digitOf hG (hV i z) hl (pk_eq (rs_dg a_placeOf l (B i)) 0 (fun y => ?_) (fun y => ?_))
      · rw [cs, if_pos y] at r
        exact nm_r (nI_1 _) (nm_r (nI_1 i) r)
      · rw [cs, if_neg y] at r
        exact nm_r (nI_add _ 0) (nm_r (nI_1 i) r)
end
def rs_fu (Bs : Nat → Nat → Int32) (l : Nat) (B : Nat → Int32) : Nat → Nat → Int32 := fun m => if m = l then B else Bs m
theorem rs_fu_s {Bs : Nat → Nat → Int32} {l : Nat} {B : Nat → Int32} : rs_fu Bs l B l = B := if_pos rfl
theorem rs_fu_n {Bs : Nat → Nat → Int32} {l m : Nat} {B : Nat → Int32} (h : m ≠ l) : rs_fu Bs l B m = Bs m := if_neg h
/-- the levels below l, by a row of orders that begins with o -/
def rs_DI (p : Int32) (P : Nat → Int32) (sz l : Nat) (o B Z : Nat → Int32) (Bs : Nat → Nat → Int32) : Prop := (∀ j, j < sz → Bs 0 j = o j) ∧ (∀ m, m < l → rs_DL P sz (Bs m) (Bs (m + 1)) Z m) ∧ (∀ j, j < sz → B j = Bs l j) ∧ ∀ m j, m ≤ l → j < sz → rs_V p (Bs m j)
theorem rs_DL_c {P : Nat → Int32} {sz l l' : Nat} {B B' C C' Z Z' : Nat → Int32} (hsz : sz ≤ 28) (hl : l' < l) (hB : ∀ j, j < sz → C j = B j) (hB' : ∀ j, j < sz → C' j = B' j) (hZ : rs_Ag (l * 33) (l * 33 + 33) Z Z') (h : rs_DL P sz B B' Z l') : rs_DL P sz C C' Z' l' := by
  have eg : ∀ n, n ≤ sz → rs_cz (fun j => rs_dg P l' (C j)) n = rs_cz (fun j => rs_dg P l' (B j)) n := fun n hn => rs_cz_e (fun j hj => by rw [hB j (by omega)])
  refine ⟨fun i hi => ?_, fun i hi => ⟨fun y => ?_, fun y => ?_⟩⟩
  · rw [hZ _ (by omega), eg i hi]; exact h.1 i hi
  · have y : rs_dg P l' (C i) = 0 := y
    rw [hB i hi] at y
    have m := rs_cz_m (fun j => rs_dg P l' (B j)) (i + 1) sz hi
    simp only [rs_cz] at m
    rw [if_pos y] at m
    rw [eg i (by omega), hB' _ (by have := rs_cz_le (fun j => rs_dg P l' (B j)) sz; omega), hB i hi]
    exact (h.2 i hi).1 y
  · have y : rs_dg P l' (C i) ≠ 0 := y
    rw [hB i hi] at y
    have m := rs_cz_m (fun j => rs_dg P l' (B j)) (i + 1) sz hi
    simp only [rs_cz] at m
    rw [if_neg y] at m
    have := rs_cz_le (fun j => rs_dg P l' (B j)) i
    rw [eg i (by omega), eg sz (Nat.le_refl _), hB' _ (by omega), hB i hi]
    exact (h.2 i hi).2 y
section
variable {f_present f_size f_lowX f_lowY f_highX f_highY f_found f_nearX f_nearY f_best f_bestSquare f_waiting f_quads f_levels f_boxes : Int32} {a_placeOf a_order a_waitA a_waitB a_waitC a_waitD a_quadX a_quadY a_quadSide a_quadPart a_quadCount a_quadFirst a_nextPoint a_lists a_fromLeft a_boxLowX a_boxLowY a_boxHighX a_boxHighY a_boxFirst a_boxParts a_boxOfPoints a_cellFirst a_heapPoint a_heapSplit : Nat → Int32} {sz : Nat}
theorem rs_d_40 {post : SX → Prop} (hG : rs_G f_present a_placeOf) (hsz : sz ≤ 28)
    (hp : ∀ Z B So Bs, rs_DI f_present a_placeOf sz 6 a_order B Z Bs → post (f_present, nI sz, f_lowX, f_lowY, f_highX, f_highY, f_found, f_nearX, f_nearY, f_best, f_bestSquare, f_waiting, f_quads, f_levels, f_boxes, a_placeOf, a_order, a_waitA, a_waitB, a_waitC, a_waitD, a_quadX, a_quadY, a_quadSide, a_quadPart, a_quadCount, a_quadFirst, a_nextPoint, a_lists, a_fromLeft, a_boxLowX, a_boxLowY, a_boxHighX, a_boxHighY, a_boxFirst, a_boxParts, a_boxOfPoints, Z, B, So, a_cellFirst, a_heapPoint, a_heapSplit)) :
    ∀ n l Z B So Bs, 6 < n + l → l ≤ 6 → rs_DI f_present a_placeOf sz l a_order B Z Bs → (wX_buildDigits_40 post f_present (nI sz) f_lowX f_lowY f_highX f_highY f_found f_nearX f_nearY f_best f_bestSquare f_waiting f_quads f_levels f_boxes n (nI l) a_placeOf a_order a_waitA a_waitB a_waitC a_waitD a_quadX a_quadY a_quadSide a_quadPart a_quadCount a_quadFirst a_nextPoint a_lists a_fromLeft a_boxLowX a_boxLowY a_boxHighX a_boxHighY a_boxFirst a_boxParts a_boxOfPoints Z B So a_cellFirst a_heapPoint a_heapSplit) := by
  intro n
  induction n with
  | zero => intro l Z B So Bs h1 h2; omega
  | succ n ih =>
    intro l Z B So Bs h1 h2 hI
    obtain ⟨i1, i2, i3, i4⟩ := hI
    refine pk_le 6 l (fun z => ?_) (fun z => Exists.intro (sz + 1) ?_)
    · have e : l = 6 := by omega
      subst e
      exact hp Z B So Bs ⟨i1, i2, i3, i4⟩
    · refine rs_d_50 (Z0 := Z) (So := So) hG hsz (by omega) (fun j hj => by rw [i3 j hj]; exact i4 l j (Nat.le_refl _) hj) (fun Z' B' So' hA hD => ?_) (sz + 1) 0 Z (by omega) (by omega) rs_Ag_r (fun j hj => by omega)
      refine ih (l + 1) Z' B' So' (rs_fu Bs (l + 1) B') (by omega) (by omega) ⟨fun j hj => ?_, fun m hm => ?_, fun j hj => ?_, fun m j hm hj => ?_⟩
      · rw [rs_fu_n (by omega)]; exact i1 j hj
      · rcases Nat.lt_or_ge m l with y | y
        · rw [rs_fu_n (by omega), rs_fu_n (by omega)]
          exact rs_DL_c hsz y (fun j _ => rfl) (fun j _ => rfl) hA (i2 m y)
        · have e : m = l := by omega
          subst e
          rw [rs_fu_n (by omega), rs_fu_s]
          refine ⟨fun i hi => ?_, fun i hi => ⟨fun y => ?_, fun y => ?_⟩⟩
          · rw [rs_cz_e (g := fun j => rs_dg a_placeOf m (B j)) (fun j hj => by rw [i3 j (by omega)])]
            exact hD.1 i hi
          · rw [rs_cz_e (g := fun j => rs_dg a_placeOf m (B j)) (fun j hj => by rw [i3 j (by omega)]), ← i3 i hi]
            have y : rs_dg a_placeOf m (Bs m i) = 0 := y
            rw [← i3 i hi] at y
            exact (hD.2 i hi).1 y
          · rw [rs_cz_e (n := i) (g := fun j => rs_dg a_placeOf m (B j)) (fun j hj => by rw [i3 j (by omega)]), rs_cz_e (n := sz) (g := fun j => rs_dg a_placeOf m (B j)) (fun j hj => by rw [i3 j (by omega)]), ← i3 i hi]
            have y : rs_dg a_placeOf m (Bs m i) ≠ 0 := y
            rw [← i3 i hi] at y
            exact (hD.2 i hi).2 y
      · rw [rs_fu_s]
      · by_cases e : m = l + 1
        · rw [e, rs_fu_s]
          obtain ⟨q, q1, q2, _⟩ := rs_DP_sur hD.2 hj
          rw [q2, i3 q q1]
          exact i4 l q (Nat.le_refl _) q1
        · rw [rs_fu_n e]
          exact i4 m j (by omega) hj
theorem rs_d_12 {post : SX → Prop} {Z So : Nat → Int32} (hG : rs_G f_present a_placeOf) (hsz : sz ≤ 28) (hV : ∀ j, j < sz → rs_V f_present (a_order j))
    (hp : ∀ Z B So Bs, rs_DI f_present a_placeOf sz 6 a_order B Z Bs → post (f_present, nI sz, f_lowX, f_lowY, f_highX, f_highY, f_found, f_nearX, f_nearY, f_best, f_bestSquare, f_waiting, f_quads, f_levels, f_boxes, a_placeOf, a_order, a_waitA, a_waitB, a_waitC, a_waitD, a_quadX, a_quadY, a_quadSide, a_quadPart, a_quadCount, a_quadFirst, a_nextPoint, a_lists, a_fromLeft, a_boxLowX, a_boxLowY, a_boxHighX, a_boxHighY, a_boxFirst, a_boxParts, a_boxOfPoints, Z, B, So, a_cellFirst, a_heapPoint, a_heapSplit)) :
    ∀ n i B, sz < n + i → i ≤ sz → (∀ j, j < i → B j = a_order j) → (wX_buildDigits_12 post f_present (nI sz) f_lowX f_lowY f_highX f_highY f_found f_nearX f_nearY f_best f_bestSquare f_waiting f_quads f_levels f_boxes n (nI i) a_placeOf a_order a_waitA a_waitB a_waitC a_waitD a_quadX a_quadY a_quadSide a_quadPart a_quadCount a_quadFirst a_nextPoint a_lists a_fromLeft a_boxLowX a_boxLowY a_boxHighX a_boxHighY a_boxFirst a_boxParts a_boxOfPoints Z B So a_cellFirst a_heapPoint a_heapSplit) := by
  intro n
  induction n with
  | zero => intro i B h1 h2; omega
  | succ n ih =>
    intro i B h1 h2 hI
    refine pk_le sz i (fun z => Exists.intro 7 (rs_d_40 hG hsz hp 7 0 Z B So (fun _ => a_order) (by omega) (by omega) ⟨fun _ _ => rfl, fun m hm => by omega, fun j hj => hI j (by omega), fun m j _ hj => hV j hj⟩)) (fun z => ?_)
    obtain ⟨k, hk, ek⟩ := hV i z
    have h28 := hk.1
    refine ⟨vp_in_nI (by omega) (by decide), vp_in_nI (by omega) (by decide), nm_r (e' := upd B i (a_order i)) (by rw [nI_clamp (by omega), ek, rs_nb (by omega)]) (nm_r (nI_1 i) (ih (i + 1) _ (by omega) (by omega) (fun j hj => ?_)))⟩
    by_cases e : j = i
    · rw [e]; exact pk_us
    · rw [pk_un e]; exact hI j (by omega)
end
section
variable {f_present f_size f_lowX f_lowY f_highX f_highY f_found f_nearX f_nearY f_best f_bestSquare f_waiting f_quads f_levels f_boxes : Int32} {a_placeOf a_order a_waitA a_waitB a_waitC a_waitD a_quadX a_quadY a_quadSide a_quadPart a_quadCount a_quadFirst a_nextPoint a_lists a_fromLeft a_boxLowX a_boxLowY a_boxHighX a_boxHighY a_boxFirst a_boxParts a_boxOfPoints a_zeros a_bottom a_sorted a_cellFirst a_heapPoint a_heapSplit : Nat → Int32} {sz : Nat}
theorem rs_buildDigits {post : SX → Prop} (hG : rs_G f_present a_placeOf) (hA : rs_Al f_present sz a_order)
    (hp : ∀ o Z B So Bs, rs_Al f_present sz o → rs_So (rs_k a_placeOf 1) 0 sz o → rs_DI f_present a_placeOf sz 6 o B Z Bs → post (f_present, nI sz, f_lowX, f_lowY, f_highX, f_highY, f_found, f_nearX, f_nearY, f_best, f_bestSquare, f_waiting, f_quads, f_levels, f_boxes, a_placeOf, o, a_waitA, a_waitB, a_waitC, a_waitD, a_quadX, a_quadY, a_quadSide, a_quadPart, a_quadCount, a_quadFirst, a_nextPoint, a_lists, a_fromLeft, a_boxLowX, a_boxLowY, a_boxHighX, a_boxHighY, a_boxFirst, a_boxParts, a_boxOfPoints, Z, B, So, a_cellFirst, a_heapPoint, a_heapSplit)) : wpX_buildDigits post (f_present, nI sz, f_lowX, f_lowY, f_highX, f_highY, f_found, f_nearX, f_nearY, f_best, f_bestSquare, f_waiting, f_quads, f_levels, f_boxes, a_placeOf, a_order, a_waitA, a_waitB, a_waitC, a_waitD, a_quadX, a_quadY, a_quadSide, a_quadPart, a_quadCount, a_quadFirst, a_nextPoint, a_lists, a_fromLeft, a_boxLowX, a_boxLowY, a_boxHighX, a_boxHighY, a_boxFirst, a_boxParts, a_boxOfPoints, a_zeros, a_bottom, a_sorted, a_cellFirst, a_heapPoint, a_heapSplit) := by
  have hz := hA.1
  unfold wpX_buildDigits
  refine rs_sort 0 sz 1 hG (by decide) (by decide) hz rfl rfl rfl (fun l _ h => hA.2.1 l h) (fun o pm so => Exists.intro (sz + 1) ?_)
  have hA' := rs_Al_Pm hA pm
  exact rs_d_12 hG hz hA'.2.1 (fun Z B So Bs h => hp o Z B So Bs hA' so h) (sz + 1) 0 a_bottom (by omega) (by omega) (fun t h => by omega)
end
end
section
/-! by the digits of y: the search -/
def rs_gO (p : Int32) (P : Nat → Int32) (Bs : Nat → Nat → Int32) (lx hx sz : Nat) (it : rs_I) : Prop := it.1 ≤ it.2.1 ∧ it.2.1 ≤ sz ∧ it.2.2.1 ≤ 6 ∧ (it.2.2.2 + 2 ^ (6 - it.2.2.1) ≤ 64 ∧ it.2.2.2 % 2 ^ (6 - it.2.2.1) = 0) ∧ ∀ j k, it.1 ≤ j → j < it.2.1 → rs_H p k → Bs it.2.2.1 j = nI k → lx ≤ rs_x P k ∧ rs_x P k ≤ hx ∧ it.2.2.2 ≤ rs_y P k ∧ rs_y P k < it.2.2.2 + 2 ^ (6 - it.2.2.1)
def rs_gC (Bs : Nat → Nat → Int32) (it : rs_I) (k : Nat) : Prop := ∃ j, it.1 ≤ j ∧ j < it.2.1 ∧ Bs it.2.2.1 j = nI k
def rs_gw (it : rs_I) : Nat := 2 * 2 ^ (6 - it.2.2.1) - 1
def rs_gp : List rs_I → Prop
  | [] => True
  | it :: L => L.length ≤ it.2.2.1 ∧ rs_gp L
/-- the two parts of a stretch of a level -/
def rs_gL (a b l d z0 z1 all : Nat) (L : List rs_I) : List rs_I := (all + (a - z0), all + (b - z1), l + 1, d + 2 ^ (5 - l)) :: (z0, z1, l + 1, d) :: L
/-- a number and its digit -/
theorem rs_dig {y d w : Nat} (h1 : d ≤ y) (h2 : y < d + 2 * w) (h3 : d % (2 * w) = 0) (hw : 0 < w) : (y / w % 2 = 0 → y < d + w) ∧ (y / w % 2 ≠ 0 → d + w ≤ y) ∧ d % w = 0 ∧ (d + w) % w = 0 := by
  obtain ⟨c, rfl⟩ : ∃ c, d = 2 * w * c := ⟨d / (2 * w), by have := Nat.div_add_mod d (2 * w); omega⟩
  have e : 2 * w * c = w * (2 * c) := by grind
  have m0 : (w * (2 * c)) % w = 0 := Nat.mul_mod_right w _
  have m1 : (w * (2 * c) + w) % w = 0 := by rw [Nat.add_mod_right]; exact m0
  rw [e] at h1 h2 ⊢
  refine ⟨fun z => ?_, fun z => ?_, m0, m1⟩
  · rcases Nat.lt_or_ge y (w * (2 * c) + w) with v | v
    · exact v
    · have q : y / w = 2 * c + 1 := by
        apply Nat.div_eq_of_lt_le
        · rw [Nat.add_mul, Nat.mul_comm (2 * c) w, Nat.one_mul]; exact v
        · rw [show 2 * c + 1 + 1 = 2 * c + 2 from rfl, Nat.add_mul, Nat.mul_comm (2 * c) w]; exact h2
      rw [q] at z
      omega
  · rcases Nat.lt_or_ge y (w * (2 * c) + w) with v | v
    · have q : y / w = 2 * c := by
        apply Nat.div_eq_of_lt_le
        · rw [Nat.mul_comm (2 * c) w]; exact h1
        · rw [Nat.add_mul, Nat.mul_comm (2 * c) w, Nat.one_mul]; exact v
      rw [q] at z
      omega
    · exact v
theorem rs_gL_Iv {p : Int32} {P o Bt Z : Nat → Int32} {Bs : Nat → Nat → Int32} {lx hx sz a b l d : Nat} {Dn : Nat → Prop} {L : List rs_I} (hG : rs_G p P) (hl : l < 6) (hD : rs_DI p P sz 6 o Bt Z Bs) (hI : rs_Iv p (rs_gO p P Bs lx hx sz) (rs_gC Bs) Dn ((a, b, l, d) :: L)) :
    rs_Iv p (rs_gO p P Bs lx hx sz) (rs_gC Bs) Dn (rs_gL a b l d (rs_cz (fun j => rs_dg P l (Bs l j)) a) (rs_cz (fun j => rs_dg P l (Bs l j)) b) (rs_cz (fun j => rs_dg P l (Bs l j)) sz) L) := by
  obtain ⟨o1, o2, o3, o4, o5⟩ := hI.1 (a, b, l, d) List.mem_cons_self
  have o1 : a ≤ b := o1
  have o2 : b ≤ sz := o2
  have o4 : d + 2 ^ (6 - l) ≤ 64 ∧ d % 2 ^ (6 - l) = 0 := o4
  have o5 : ∀ j k, a ≤ j → j < b → rs_H p k → Bs l j = nI k → lx ≤ rs_x P k ∧ rs_x P k ≤ hx ∧ d ≤ rs_y P k ∧ rs_y P k < d + 2 ^ (6 - l) := o5
  obtain ⟨d1, d2, d3, d4⟩ := hD
  have hDL := (d2 l hl).2
  generalize hg : (fun j => rs_dg P l (Bs l j)) = g at hDL ⊢
  have ge : ∀ j, g j = rs_dg P l (Bs l j) := fun j => by rw [← hg]
  have hp2 : 2 ^ (6 - l) = 2 * 2 ^ (5 - l) := by rw [show 6 - l = (5 - l) + 1 by omega]; exact rs_2e _
  have hpos : 0 < 2 ^ (5 - l) := Nat.pow_pos (by decide)
  have mab := rs_cz_m g a b o1
  have mbs := rs_cz_m g b sz o2
  have la := rs_cz_le g a
  have lb := rs_cz_le g b
  have dig : ∀ k, rs_H p k → rs_dg P l (nI k) = rs_y P k / 2 ^ (5 - l) % 2 := fun k hk => by unfold rs_dg; rw [rs_k0 hk.1]
  rw [hp2] at o4
  have d0 := rs_dig (y := d) (Nat.le_refl _) (by omega) o4.2 hpos
  have okZ : rs_gO p P Bs lx hx sz (rs_cz g a, rs_cz g b, l + 1, d) := by
    refine ⟨mab.1, by show rs_cz g b ≤ sz; omega, by show l + 1 ≤ 6; omega, by show d + 2 ^ (6 - (l + 1)) ≤ 64 ∧ d % 2 ^ (6 - (l + 1)) = 0; rw [show 6 - (l + 1) = 5 - l by omega]; exact ⟨by omega, d0.2.2.1⟩, fun c k c1 c2 hk ek => ?_⟩
    have c1 : rs_cz g a ≤ c := c1
    have c2 : c < rs_cz g b := c2
    have ek : Bs (l + 1) c = nI k := ek
    obtain ⟨j, j1, j2, j3⟩ := rs_DP_sur hDL (show c < sz by omega)
    rcases j3 with ⟨q1, q2⟩ | ⟨q1, q2⟩
    · have ja : a ≤ j := by
        rcases Nat.lt_or_ge j a with w | w
        · have := (rs_cz_m g (j + 1) a w).1
          simp only [rs_cz] at this
          rw [if_pos q1] at this
          omega
        · exact w
      have jb : j < b := by
        rcases Nat.lt_or_ge j b with w | w
        · exact w
        · have := (rs_cz_m g b j w).1
          omega
      rw [ek] at j2
      have t := o5 j k ja jb hk j2.symm
      rw [hp2] at t
      have dd := rs_dig t.2.2.1 t.2.2.2 o4.2 hpos
      rw [ge j, ← j2, dig k hk] at q1
      show lx ≤ rs_x P k ∧ rs_x P k ≤ hx ∧ d ≤ rs_y P k ∧ rs_y P k < d + 2 ^ (6 - (l + 1))
      rw [show 6 - (l + 1) = 5 - l by omega]
      exact ⟨t.1, t.2.1, t.2.2.1, dd.1 q1⟩
    · omega
  have okO : rs_gO p P Bs lx hx sz (rs_cz g sz + (a - rs_cz g a), rs_cz g sz + (b - rs_cz g b), l + 1, d + 2 ^ (5 - l)) := by
    refine ⟨by show rs_cz g sz + (a - rs_cz g a) ≤ rs_cz g sz + (b - rs_cz g b); omega, by show rs_cz g sz + (b - rs_cz g b) ≤ sz; omega, by show l + 1 ≤ 6; omega, by show d + 2 ^ (5 - l) + 2 ^ (6 - (l + 1)) ≤ 64 ∧ (d + 2 ^ (5 - l)) % 2 ^ (6 - (l + 1)) = 0; rw [show 6 - (l + 1) = 5 - l by omega]; exact ⟨by omega, d0.2.2.2⟩, fun c k c1 c2 hk ek => ?_⟩
    have c1 : rs_cz g sz + (a - rs_cz g a) ≤ c := c1
    have c2 : c < rs_cz g sz + (b - rs_cz g b) := c2
    have ek : Bs (l + 1) c = nI k := ek
    obtain ⟨j, j1, j2, j3⟩ := rs_DP_sur hDL (show c < sz by omega)
    rcases j3 with ⟨q1, q2⟩ | ⟨q1, q2⟩
    · have := (rs_cz_m g (j + 1) sz j1).1
      simp only [rs_cz] at this
      rw [if_pos q1] at this
      omega
    · have lj := rs_cz_le g j
      have ja : a ≤ j := by
        rcases Nat.lt_or_ge j a with w | w
        · have := (rs_cz_m g (j + 1) a w).2
          simp only [rs_cz] at this
          rw [if_neg q1] at this
          omega
        · exact w
      have jb : j < b := by
        rcases Nat.lt_or_ge j b with w | w
        · exact w
        · have := (rs_cz_m g b j w).2
          omega
      rw [ek] at j2
      have t := o5 j k ja jb hk j2.symm
      rw [hp2] at t
      have dd := rs_dig t.2.2.1 t.2.2.2 o4.2 hpos
      rw [ge j, ← j2, dig k hk] at q1
      show lx ≤ rs_x P k ∧ rs_x P k ≤ hx ∧ d + 2 ^ (5 - l) ≤ rs_y P k ∧ rs_y P k < d + 2 ^ (5 - l) + 2 ^ (6 - (l + 1))
      rw [show 6 - (l + 1) = 5 - l by omega]
      exact ⟨t.1, t.2.1, dd.2.1 q1, by omega⟩
  unfold rs_gL
  refine rs_Iv_sub hI (fun _ h => h) (fun it hit => ?_) (fun it hit k hk z => Or.inr ?_)
  · rcases List.mem_cons.mp hit with e | hit
    · rw [e]; exact okO
    · rcases List.mem_cons.mp hit with e | hit
      · rw [e]; exact okZ
      · exact hI.1 it (List.mem_cons_of_mem _ hit)
  · rcases List.mem_cons.mp hit with e | e
    · subst e
      obtain ⟨j, j1, j2, j3⟩ := z
      have j1 : a ≤ j := j1
      have j2 : j < b := j2
      have j3 : Bs l j = nI k := j3
      have maj := rs_cz_m g a j j1
      have mjb := rs_cz_m g (j + 1) b j2
      have lj := rs_cz_le g j
      simp only [rs_cz] at mjb
      by_cases y : g j = 0
      · rw [if_pos y] at mjb
        exact ⟨_, List.mem_cons_of_mem _ List.mem_cons_self, rs_cz g j, by show rs_cz g a ≤ rs_cz g j; omega, by show rs_cz g j < rs_cz g b; omega, by show Bs (l + 1) (rs_cz g j) = nI k; rw [(hDL j (by omega)).1 y]; exact j3⟩
      · rw [if_neg y] at mjb
        exact ⟨_, List.mem_cons_self, rs_cz g sz + (j - rs_cz g j), by show rs_cz g sz + (a - rs_cz g a) ≤ rs_cz g sz + (j - rs_cz g j); omega, by show rs_cz g sz + (j - rs_cz g j) < rs_cz g sz + (b - rs_cz g b); omega, by show Bs (l + 1) (rs_cz g sz + (j - rs_cz g j)) = nI k; rw [(hDL j (by omega)).2 y]; exact j3⟩
    · exact ⟨it, List.mem_cons_of_mem _ (List.mem_cons_of_mem _ e), z⟩
section
variable {f_present f_size f_lowX f_lowY f_highX f_highY f_nearX f_nearY f_best f_bestSquare f_quads f_levels f_boxes : Int32} {a_placeOf a_order a_quadX a_quadY a_quadSide a_quadPart a_quadCount a_quadFirst a_nextPoint a_lists a_fromLeft a_boxLowX a_boxLowY a_boxHighX a_boxHighY a_boxFirst a_boxParts a_boxOfPoints a_cellFirst a_heapPoint a_heapSplit : Nat → Int32} {sz lx ly hx hy : Nat} {Z Bt So : Nat → Int32}
theorem rs_g_157 {post : SX → Prop} {J37 : Int32 → Int32 → Int32 → Int32 → Int32 → Int32 → Int32 → Int32 → Int32 → Int32 → Int32 → Int32 → Int32 → Int32 → Int32 → (Nat → Int32) → (Nat → Int32) → (Nat → Int32) → (Nat → Int32) → (Nat → Int32) → (Nat → Int32) → (Nat → Int32) → (Nat → Int32) → (Nat → Int32) → (Nat → Int32) → (Nat → Int32) → (Nat → Int32) → (Nat → Int32) → (Nat → Int32) → (Nat → Int32) → (Nat → Int32) → (Nat → Int32) → (Nat → Int32) → (Nat → Int32) → (Nat → Int32) → (Nat → Int32) → (Nat → Int32) → (Nat → Int32) → (Nat → Int32) → (Nat → Int32) → (Nat → Int32) → (Nat → Int32) → (Nat → Int32) → Prop} {f_waiting : Int32} {a_waitA a_waitB a_waitC a_waitD : Nat → Int32} {a b : Nat} (hb : b ≤ 28) (hV : ∀ j, a ≤ j → j < b → rs_V f_present (Bt j)) (hQ : ∀ j k, a ≤ j → j < b → rs_H f_present k → Bt j = nI k → rs_Q a_placeOf lx ly hx hy k) (f0 : Int32)
    (hJ : ∀ f', rs_Sn f_present (rs_Q a_placeOf lx ly hx hy) f' → rs_Le f0 f' → (∀ j k, a ≤ j → j < b → rs_H f_present k → Bt j = nI k → rs_Fi (rs_Q a_placeOf lx ly hx hy) f' k) → J37 f_present (nI sz) (nI lx) (nI ly) (nI hx) (nI hy) f' f_nearX f_nearY f_best f_bestSquare f_waiting f_quads f_levels f_boxes a_placeOf a_order a_waitA a_waitB a_waitC a_waitD a_quadX a_quadY a_quadSide a_quadPart a_quadCount a_quadFirst a_nextPoint a_lists a_fromLeft a_boxLowX a_boxLowY a_boxHighX a_boxHighY a_boxFirst a_boxParts a_boxOfPoints Z Bt So a_cellFirst a_heapPoint a_heapSplit) :
    ∀ n i f, b < n + i → a ≤ i → i ≤ b → rs_Sn f_present (rs_Q a_placeOf lx ly hx hy) f → rs_Le f0 f → (∀ j k, a ≤ j → j < i → rs_H f_present k → Bt j = nI k → rs_Fi (rs_Q a_placeOf lx ly hx hy) f k) → (wX_searchDigits_157 post J37 (nI b) f_present (nI sz) (nI lx) (nI ly) (nI hx) (nI hy) f_nearX f_nearY f_best f_bestSquare f_waiting f_quads f_levels f_boxes a_placeOf a_order a_waitA a_waitB a_waitC a_waitD a_quadX a_quadY a_quadSide a_quadPart a_quadCount a_quadFirst a_nextPoint a_lists a_fromLeft a_boxLowX a_boxLowY a_boxHighX a_boxHighY a_boxFirst a_boxParts a_boxOfPoints Z Bt So a_cellFirst a_heapPoint a_heapSplit n (nI i) f) := by
  intro n
  induction n with
  | zero => intro i f h1 h2 h3; omega
  | succ n ih =>
    intro i f h1 h2 h3 hF hLe hI
    refine pk_le b i (fun z => hJ f hF hLe (fun j k j1 j2 => hI j k j1 (by omega))) (fun z => And.intro (vp_in_nI (by omega) (by decide)) ?_)
    obtain ⟨k, hk, ek⟩ := hV i h2 z
    have h28 := hk.1
    rw [nI_clamp (show i < 2 ^ 31 by omega), ek]
    have w := rs_Sn_add hF hk (hQ i k h2 z hk ek)
    refine nm_e (nm_r (nI_1 i) (ih (i + 1) _ (by omega) (by omega) (by omega) w.1 (rs_Le_t hLe w.2.1) (fun j q j1 j2 hq eq => ?_)))
    rcases Nat.lt_or_ge j i with v | v
    · exact rs_Fi_m w.2.1 (hI j q j1 v hq eq)
    · have e : j = i := by omega
      rw [e, ek] at eq
      have hq28 := hq.1
      have : k = q := (nI_eq (by omega) (by omega)).mp eq
      rw [← this]
      exact w.2.2
theorem rs_g_191 {post : SX → Prop} {J37 : Int32 → Int32 → Int32 → Int32 → Int32 → Int32 → Int32 → Int32 → Int32 → Int32 → Int32 → Int32 → Int32 → Int32 → Int32 → (Nat → Int32) → (Nat → Int32) → (Nat → Int32) → (Nat → Int32) → (Nat → Int32) → (Nat → Int32) → (Nat → Int32) → (Nat → Int32) → (Nat → Int32) → (Nat → Int32) → (Nat → Int32) → (Nat → Int32) → (Nat → Int32) → (Nat → Int32) → (Nat → Int32) → (Nat → Int32) → (Nat → Int32) → (Nat → Int32) → (Nat → Int32) → (Nat → Int32) → (Nat → Int32) → (Nat → Int32) → (Nat → Int32) → (Nat → Int32) → (Nat → Int32) → (Nat → Int32) → (Nat → Int32) → (Nat → Int32) → Prop} {f : Int32} {A B C D : Nat → Int32} {a b l d z0 z1 all : Nat} {L : List rs_I} (hsz : sz ≤ 28) (hl : l ≤ 5) (hab : a ≤ b) (hb : b ≤ sz) (hd : d < 64) (e0 : Z (l * 33 + a) = nI z0) (e1 : Z (l * 33 + b) = nI z1) (e2 : Z (l * 33 + sz) = nI all) (h0 : z0 ≤ a) (h1 : z1 ≤ b) (h2 : all ≤ sz) (hS : rs_St A B C D L) (hL : L.length < 100)
    (hJ : ∀ A B C D, rs_St A B C D (rs_gL a b l d z0 z1 all L) → J37 f_present (nI sz) (nI lx) (nI ly) (nI hx) (nI hy) f f_nearX f_nearY f_best f_bestSquare (nI (rs_gL a b l d z0 z1 all L).length) f_quads f_levels f_boxes a_placeOf a_order A B C D a_quadX a_quadY a_quadSide a_quadPart a_quadCount a_quadFirst a_nextPoint a_lists a_fromLeft a_boxLowX a_boxLowY a_boxHighX a_boxHighY a_boxFirst a_boxParts a_boxOfPoints Z Bt So a_cellFirst a_heapPoint a_heapSplit) : (wX_searchDigits_191 post J37 (nI a) (nI b) (nI l) (nI d) 1 f_present (nI sz) (nI lx) (nI ly) (nI hx) (nI hy) f f_nearX f_nearY f_best f_bestSquare (nI L.length) f_quads f_levels f_boxes a_placeOf a_order A B C D a_quadX a_quadY a_quadSide a_quadPart a_quadCount a_quadFirst a_nextPoint a_lists a_fromLeft a_boxLowX a_boxLowY a_boxHighX a_boxHighY a_boxFirst a_boxParts a_boxOfPoints Z Bt So a_cellFirst a_heapPoint a_heapSplit) := by
  have ea : nI l * 33 + nI a = nI (l * 33 + a) := rs_ix l a 33
  have eb : nI l * 33 + nI b = nI (l * 33 + b) := rs_ix l b 33
  have es : nI l * 33 + nI sz = nI (l * 33 + sz) := rs_ix l sz 33
  have hw : 2 ^ (5 - l) ≤ 32 := Nat.pow_le_pow_right (n := 2) (j := 5) (by decide) (by omega)
  have e5 : (5 : Int32) - nI l = nI (5 - l) := pk_sub (a := 5) hl
  unfold wX_searchDigits_191
  rw [ea, eb, es, nI_clamp (show l * 33 + a < 2 ^ 31 by omega), nI_clamp (show l * 33 + b < 2 ^ 31 by omega), nI_clamp (show l * 33 + sz < 2 ^ 31 by omega), e0, e1, e2, e5, rs_shl1 (show 5 - l < 30 by omega)]
  refine br_f (by decide) ⟨vp_in_nI (by omega) (by decide), nm_e ⟨vp_in_nI (by omega) (by decide), nm_e ⟨vp_in_nI (by omega) (by decide), nm_e ?_⟩⟩⟩
  refine rs_push (L := L) z0 z1 (l + 1) d hS (by omega) (by omega) (by omega) (by omega) rfl rfl (nI_1 l) rfl (fun A1 B1 C1 D1 w1 => ?_)
  refine rs_push (L := (z0, z1, l + 1, d) :: L) (all + (a - z0)) (all + (b - z1)) (l + 1) (d + 2 ^ (5 - l)) w1 (by rw [List.length_cons]; omega) (by omega) (by omega) (by omega) ?_ ?_ (nI_1 l) (nI_add _ _) (fun A2 B2 C2 D2 w2 => hJ A2 B2 C2 D2 w2)
  · rw [nI_add, pk_sub (by omega), show all + a - z0 = all + (a - z0) by omega]
  · rw [nI_add, pk_sub (by omega), show all + b - z1 = all + (b - z1) by omega]
theorem rs_g_loop {post : SX → Prop} {o : Nat → Int32} {Bs : Nat → Nat → Int32} (hly : ly < 64) (hhy : hy < 64) (hG : rs_G f_present a_placeOf) (hsz : sz ≤ 28) (hD : rs_DI f_present a_placeOf sz 6 o Bt Z Bs)
    (hp : ∀ f A B C D, rs_Sn f_present (rs_Q a_placeOf lx ly hx hy) f → (∀ k, rs_H f_present k → rs_Fi (rs_Q a_placeOf lx ly hx hy) f k) → post (f_present, nI sz, nI lx, nI ly, nI hx, nI hy, f, f_nearX, f_nearY, f_best, f_bestSquare, nI 0, f_quads, f_levels, f_boxes, a_placeOf, a_order, A, B, C, D, a_quadX, a_quadY, a_quadSide, a_quadPart, a_quadCount, a_quadFirst, a_nextPoint, a_lists, a_fromLeft, a_boxLowX, a_boxLowY, a_boxHighX, a_boxHighY, a_boxFirst, a_boxParts, a_boxOfPoints, Z, Bt, So, a_cellFirst, a_heapPoint, a_heapSplit)) :
    ∀ (n : Nat) (L : List rs_I) (f : Int32) (A B C D : Nat → Int32), rs_Ms rs_gw L < n → rs_gp L → rs_St A B C D L → rs_Sn f_present (rs_Q a_placeOf lx ly hx hy) f → rs_Iv f_present (rs_gO f_present a_placeOf Bs lx hx sz) (rs_gC Bs) (rs_Fi (rs_Q a_placeOf lx ly hx hy) f) L → (wX_searchDigits_37 post n f_present (nI sz) (nI lx) (nI ly) (nI hx) (nI hy) f f_nearX f_nearY f_best f_bestSquare (nI L.length) f_quads f_levels f_boxes a_placeOf a_order A B C D a_quadX a_quadY a_quadSide a_quadPart a_quadCount a_quadFirst a_nextPoint a_lists a_fromLeft a_boxLowX a_boxLowY a_boxHighX a_boxHighY a_boxFirst a_boxParts a_boxOfPoints Z Bt So a_cellFirst a_heapPoint a_heapSplit) := by
  have hD' := hD
  obtain ⟨d1, d2, d3, d4⟩ := hD
  intro n
  induction n with
  | zero => intro L f A B C D h; omega
  | succ n ih =>
    intro L f A B C D hn hP hS hF hI
    cases L with
    | nil => exact br_t (by decide) (hp f A B C D hF (rs_Iv_end hI))
    | cons it L =>
      obtain ⟨a, b, l, d⟩ := it
      obtain ⟨p1, p2⟩ := hP
      have p1 : L.length ≤ l := p1
      obtain ⟨o1, o2, o3, o4, o5⟩ := hI.1 (a, b, l, d) List.mem_cons_self
      have o1 : a ≤ b := o1
      have o2 : b ≤ sz := o2
      have o3 : l ≤ 6 := o3
      have o4 : d + 2 ^ (6 - l) ≤ 64 ∧ d % 2 ^ (6 - l) = 0 := o4
      have o5 : ∀ j k, a ≤ j → j < b → rs_H f_present k → Bs l j = nI k → lx ≤ rs_x a_placeOf k ∧ rs_x a_placeOf k ≤ hx ∧ d ≤ rs_y a_placeOf k ∧ rs_y a_placeOf k < d + 2 ^ (6 - l) := o5
      have i : vp_in (nI L.length) 128 := vp_in_nI (by omega) (by decide)
      have e : (nI L.length).toNatClampNeg = L.length := nI_clamp (by omega)
      obtain ⟨s1, s2, s3, s4, s5⟩ := hS
      have hpw : 1 ≤ 2 ^ (6 - l) := Nat.one_le_two_pow
      have wv : rs_gw (a, b, l, d) = 2 * 2 ^ (6 - l) - 1 := rfl
      have hms : rs_Ms rs_gw L < n := by simp only [rs_Ms] at hn; omega
      have e6 : (6 : Int32) - nI l = nI (6 - l) := pk_sub (a := 6) o3
      have drop : (∀ j k, a ≤ j → j < b → rs_H f_present k → Bs l j = nI k → ¬ rs_Q a_placeOf lx ly hx hy k) → (wX_searchDigits_139 post (wX_searchDigits_37 post n) (nI a) (nI b) (nI l) (nI d) f_present (nI sz) (nI lx) (nI ly) (nI hx) (nI hy) f f_nearX f_nearY f_best f_bestSquare (nI L.length) f_quads f_levels f_boxes a_placeOf a_order A B C D a_quadX a_quadY a_quadSide a_quadPart a_quadCount a_quadFirst a_nextPoint a_lists a_fromLeft a_boxLowX a_boxLowY a_boxHighX a_boxHighY a_boxFirst a_boxParts a_boxOfPoints Z Bt So a_cellFirst a_heapPoint a_heapSplit) := by
        intro hd
        unfold wX_searchDigits_139 wX_searchDigits_140
        refine br_t rfl ?_
        unfold wX_searchDigits_191
        exact br_t rfl (ih L f A B C D hms p2 s5 hF (rs_Iv_drop hI (fun _ h => h) (fun k hk ⟨j, j1, j2, j3⟩ w => absurd w (hd j k j1 j2 hk j3))))
      refine br_f (nI_nle (by rw [List.length_cons]; omega) (by rw [List.length_cons]; omega)) (nm_r (nI_pred L.length) ⟨i, nm_r (e' := nI a) (rs_at (by omega) s1) ⟨i, nm_r (e' := nI b) (rs_at (by omega) s2) ⟨i, nm_r (e' := nI l) (rs_at (by omega) s3) ⟨i, nm_r (e' := nI d) (rs_at (by omega) s4) (nm_r (e' := nI (d + 2 ^ (6 - l) - 1)) ?_ ?_)⟩⟩⟩⟩)
      · rw [e6, rs_shl1 (by omega), nI_add]
        exact pk_sub (b := 1) (by omega)
      refine pk_le b a (fun z => drop (fun j k j1 j2 => by omega)) (fun z1 => pk_lt hy d (fun z => drop (fun j k j1 j2 hk ek q => ?_)) (fun z2 => pk_lt (d + 2 ^ (6 - l) - 1) ly (fun z => drop (fun j k j1 j2 hk ek q => ?_)) (fun z3 => ?_)))
      · have := o5 j k j1 j2 hk ek
        have := q.2.2.2
        omega
      · have := o5 j k j1 j2 hk ek
        have := q.2.2.1
        omega
      · unfold wX_searchDigits_140
        refine br_f (by decide) (pk_eq l 6 (fun y => Exists.intro (b + 1) ?_) (fun y => ?_))
        · subst y
          rw [show 6 - 6 = 0 from rfl, Nat.pow_zero] at o5 z3
          refine rs_g_157 (by omega) (fun j j1 j2 => by rw [d3 j (by omega)]; exact d4 6 j (Nat.le_refl _) (by omega)) (fun j k j1 j2 hk ek => ?_) f (fun f' q1 q2 q3 => ?_) (b + 1) a f (by omega) (Nat.le_refl _) (by omega) hF (rs_Le_r f) (fun j k j1 j2 => by omega)
          · rw [d3 j (by omega)] at ek
            have := o5 j k j1 j2 hk ek
            exact ⟨this.1, this.2.1, by omega, by omega⟩
          · refine ih L f' A B C D hms p2 s5 q1 (rs_Iv_drop hI (fun k h => rs_Fi_m q2 h) (fun k hk ⟨j, j1, j2, j3⟩ => ?_))
            have j1 : a ≤ j := j1
            have j2 : j < b := j2
            exact q3 j k j1 j2 hk (by rw [d3 j (by omega)]; exact j3)
        · have hZ := (d2 l (by omega)).1
          have hp2 : 2 ^ (6 - l) = 2 * 2 ^ (5 - l) := by rw [show 6 - l = (5 - l) + 1 by omega]; exact rs_2e _
          have hps : 1 ≤ 2 ^ (5 - l) := Nat.one_le_two_pow
          refine rs_g_191 hsz (by omega) o1 o2 (by omega) (hZ a (by omega)) (hZ b o2) (hZ sz (Nat.le_refl _)) (rs_cz_le _ _) (rs_cz_le _ _) (rs_cz_le _ _) s5 (by omega) (fun A' B' C' D' w' => ?_)
          refine ih _ f A' B' C' D' ?_ ⟨by show ((_, _, l + 1, d) :: L).length ≤ l + 1; rw [List.length_cons]; omega, by show L.length ≤ l + 1; omega, p2⟩ w' hF (rs_gL_Iv hG (by omega) hD' hI)
          have w1 : ∀ x y v, rs_gw (x, y, l + 1, v) = 2 * 2 ^ (5 - l) - 1 := fun x y v => by show 2 * 2 ^ (6 - (l + 1)) - 1 = _; rw [show 6 - (l + 1) = 5 - l by omega]
          unfold rs_gL
          simp only [rs_Ms] at hn ⊢
          rw [w1, w1]
          omega
end
section
variable {f_present f_size f_lowX f_lowY f_highX f_highY f_found f_nearX f_nearY f_best f_bestSquare f_waiting f_quads f_levels f_boxes : Int32} {a_placeOf a_order a_waitA a_waitB a_waitC a_waitD a_quadX a_quadY a_quadSide a_quadPart a_quadCount a_quadFirst a_nextPoint a_lists a_fromLeft a_boxLowX a_boxLowY a_boxHighX a_boxHighY a_boxFirst a_boxParts a_boxOfPoints a_zeros a_bottom a_sorted a_cellFirst a_heapPoint a_heapSplit : Nat → Int32} {sz lx ly hx hy : Nat}
theorem rs_searchDigits {post : SX → Prop} (hlx : lx < 64) (hly : ly < 64) (hhx : hx < 64) (hhy : hy < 64) (hlh : lx ≤ hx) (hG : rs_G f_present a_placeOf) (hA : rs_Al f_present sz a_order)
    (hp : ∀ f o Z Bt So A B C D, rs_Sn f_present (rs_Q a_placeOf lx ly hx hy) f → (∀ k, rs_H f_present k → rs_Fi (rs_Q a_placeOf lx ly hx hy) f k) → post (f_present, nI sz, nI lx, nI ly, nI hx, nI hy, f, f_nearX, f_nearY, f_best, f_bestSquare, nI 0, f_quads, f_levels, f_boxes, a_placeOf, o, A, B, C, D, a_quadX, a_quadY, a_quadSide, a_quadPart, a_quadCount, a_quadFirst, a_nextPoint, a_lists, a_fromLeft, a_boxLowX, a_boxLowY, a_boxHighX, a_boxHighY, a_boxFirst, a_boxParts, a_boxOfPoints, Z, Bt, So, a_cellFirst, a_heapPoint, a_heapSplit)) : wpX_searchDigits post (f_present, nI sz, nI lx, nI ly, nI hx, nI hy, 0, f_nearX, f_nearY, f_best, f_bestSquare, f_waiting, f_quads, f_levels, f_boxes, a_placeOf, a_order, a_waitA, a_waitB, a_waitC, a_waitD, a_quadX, a_quadY, a_quadSide, a_quadPart, a_quadCount, a_quadFirst, a_nextPoint, a_lists, a_fromLeft, a_boxLowX, a_boxLowY, a_boxHighX, a_boxHighY, a_boxFirst, a_boxParts, a_boxOfPoints, a_zeros, a_bottom, a_sorted, a_cellFirst, a_heapPoint, a_heapSplit) := by
  have hz := hA.1
  unfold wpX_searchDigits
  refine rs_buildDigits hG hA (fun o Z Bt So Bs hA' hs hD => ?_)
  refine rs_placeForX rfl (by omega) hG hz hA'.2.1 hs (fun a a1 a2 a3 => ?_)
  refine rs_placeForX (nI_1 hx) (by omega) hG hz hA'.2.1 hs (fun b b1 b2 b3 => ?_)
  have hX := rs_XR_of hlh a1 b1 a2 a3 b2 b3
  have hab := hX.1
  refine rs_push (L := []) a b 0 0 trivial (by decide) (by omega) (by omega) (by omega) rfl rfl rfl rfl (fun A1 B1 C1 D1 w => Exists.intro 128 ?_)
  obtain ⟨d1, d2, d3, d4⟩ := hD
  refine rs_g_loop hly hhy hG hz ⟨d1, d2, d3, d4⟩ (fun f A B C D q1 q2 => hp f o Z Bt So A B C D q1 q2) 128 [(a, b, 0, 0)] 0 A1 B1 C1 D1 (by show rs_gw (a, b, 0, 0) + 0 < 128; show 2 * 2 ^ 6 - 1 + 0 < 128; decide) ⟨Nat.le_refl _, trivial⟩ w rs_Sn_0 ⟨fun it hit => ?_, fun k hk => ?_⟩
  · rw [List.mem_singleton.mp hit]
    refine ⟨hab, b1, Nat.zero_le _, by show 0 + 2 ^ (6 - 0) ≤ 64 ∧ 0 % 2 ^ (6 - 0) = 0; decide, fun j k j1 j2 hk ek => ?_⟩
    have j1 : a ≤ j := j1
    have j2 : j < b := j2
    have ek : Bs 0 j = nI k := ek
    rw [d1 j (by omega)] at ek
    have u1 := a3 j j1 (by omega)
    have u2 := b2 j j2
    rw [ek, rs_k1 hk.1] at u1 u2
    have u3 := rs_ylt (hG k hk)
    exact ⟨u1, by omega, Nat.zero_le _, by show rs_y a_placeOf k < 0 + 2 ^ (6 - 0); omega⟩
  · rcases rs_XR_out (ly := ly) (hy := hy) hA' hX 0 k hk with z | ⟨t, t1, t2, t3⟩
    · exact Or.inl z
    · exact Or.inr ⟨(a, b, 0, 0), List.mem_singleton.mpr rfl, t, t1, t2, by show Bs 0 t = nI k; rw [d1 t (by omega)]; exact t3⟩
end
end
section
/-! cells of eight by eight places -/
def rs_cl (P : Nat → Int32) (k : Nat) : Nat := rs_x P k / 8 + rs_y P k / 8 * 8
def rs_cL (P N F : Nat → Int32) (ins : Nat → Prop) : Prop := ∀ c, c < 64 → ∃ l, rs_Ch N l (F c) ∧ ∀ k, k ∈ l ↔ (ins k ∧ rs_cl P k = c)
theorem rs_cL_put {P N F : Nat → Int32} {ins : Nat → Prop} {k : Nat} (h : rs_cL P N F ins) (hk : k < 28) (hn : ¬ ins k) : rs_cL P (upd N k (F (rs_cl P k))) (upd F (rs_cl P k) (nI k)) (fun j => ins j ∨ j = k) := by
  intro c hc
  obtain ⟨l, c1, c2⟩ := h c hc
  have nk : ¬ k ∈ l := fun z => hn ((c2 k).mp z).1
  by_cases e : c = rs_cl P k
  · refine ⟨k :: l, ?_, fun j => ?_⟩
    · rw [e, pk_us]
      refine ⟨rfl, hk, ?_⟩
      rw [pk_us]
      rw [e] at c1
      exact rs_Ch_up nk c1
    · rw [List.mem_cons, c2 j]
      constructor
      · rintro (z | z)
        · rw [z]; exact ⟨Or.inr rfl, e.symm⟩
        · exact ⟨Or.inl z.1, z.2⟩
      · rintro ⟨z | z, w⟩
        · exact Or.inr ⟨z, w⟩
        · exact Or.inl z
  · refine ⟨l, ?_, fun j => ?_⟩
    · rw [pk_un e]
      exact rs_Ch_up nk c1
    · rw [c2 j]
      constructor
      · rintro ⟨z, w⟩; exact ⟨Or.inl z, w⟩
      · rintro ⟨z | z, w⟩
        · exact ⟨z, w⟩
        · rw [z] at w
          exact absurd w.symm e
theorem rs_cL_ins {P N F : Nat → Int32} {ins ins' : Nat → Prop} (h : rs_cL P N F ins) (e : ∀ k, ins k ↔ ins' k) : rs_cL P N F ins' := by
  intro c hc
  obtain ⟨l, c1, c2⟩ := h c hc
  exact ⟨l, c1, fun k => by rw [c2 k, e k]⟩
section
variable {f_present f_size f_lowX f_lowY f_highX f_highY f_found f_nearX f_nearY f_best f_bestSquare f_waiting f_quads f_levels f_boxes : Int32} {a_placeOf a_order a_waitA a_waitB a_waitC a_waitD a_quadX a_quadY a_quadSide a_quadPart a_quadCount a_quadFirst a_lists a_fromLeft a_boxLowX a_boxLowY a_boxHighX a_boxHighY a_boxFirst a_boxParts a_boxOfPoints a_zeros a_bottom a_sorted a_heapPoint a_heapSplit : Nat → Int32} {sz : Nat}
theorem rs_bc_23 {post : SX → Prop} (hG : rs_G f_present a_placeOf) (hA : rs_Al f_present sz a_order) (hp : ∀ N F, rs_cL a_placeOf N F (rs_H f_present) → post (f_present, nI sz, f_lowX, f_lowY, f_highX, f_highY, f_found, f_nearX, f_nearY, f_best, f_bestSquare, f_waiting, f_quads, f_levels, f_boxes, a_placeOf, a_order, a_waitA, a_waitB, a_waitC, a_waitD, a_quadX, a_quadY, a_quadSide, a_quadPart, a_quadCount, a_quadFirst, N, a_lists, a_fromLeft, a_boxLowX, a_boxLowY, a_boxHighX, a_boxHighY, a_boxFirst, a_boxParts, a_boxOfPoints, a_zeros, a_bottom, a_sorted, F, a_heapPoint, a_heapSplit)) :
    ∀ n i N F, sz < n + i → i ≤ sz → rs_cL a_placeOf N F (rs_ins f_present a_order i) → (wX_buildCells_23 post f_present (nI sz) f_lowX f_lowY f_highX f_highY f_found f_nearX f_nearY f_best f_bestSquare f_waiting f_quads f_levels f_boxes n (nI i) a_placeOf a_order a_waitA a_waitB a_waitC a_waitD a_quadX a_quadY a_quadSide a_quadPart a_quadCount a_quadFirst N a_lists a_fromLeft a_boxLowX a_boxLowY a_boxHighX a_boxHighY a_boxFirst a_boxParts a_boxOfPoints a_zeros a_bottom a_sorted F a_heapPoint a_heapSplit) := by
  obtain ⟨hz, a1, a2, a3⟩ := hA
  intro n
  induction n with
  | zero => intro i N F h1 h2; omega
  | succ n ih =>
    intro i N F h1 h2 hL
    refine pk_le sz i (fun z => hp N F (rs_cL_ins hL (fun k => ⟨fun w => w.1, fun w => ⟨w, ?_⟩⟩))) (fun z => ?_)
    · obtain ⟨j, j1, j2⟩ := a2 k w
      exact ⟨j, by omega, j2⟩
    · obtain ⟨k, hk, ek⟩ := a1 i z
      have h28 := hk.1
      have hx := rs_xlt a_placeOf k
      have hy := rs_ylt (hG k hk)
      have hc : rs_cl a_placeOf k < 64 := by unfold rs_cl; omega
      have e8 : nI (rs_x a_placeOf k) / 8 + nI (rs_y a_placeOf k) / 8 * 8 = nI (rs_cl a_placeOf k) := by
        have q1 : nI (rs_x a_placeOf k) / 8 = nI (rs_x a_placeOf k / 8) := pk_div (d := 8) (by omega) (by decide) (by decide)
        have q2 : nI (rs_y a_placeOf k) / 8 = nI (rs_y a_placeOf k / 8) := pk_div (d := 8) (by omega) (by decide) (by decide)
        have q3 : nI (rs_y a_placeOf k / 8) * 8 = nI (rs_y a_placeOf k / 8 * 8) := pk_mul _ 8
        rw [q1, q2, q3, nI_add]
        rfl
      obtain ⟨l, c1, c2⟩ := hL (rs_cl a_placeOf k) hc
      have nins : ¬ rs_ins f_present a_order i k := by
        rintro ⟨_, j, j1, j2⟩
        have := a3 j i (by omega) z (by rw [j2, ek])
        omega
      have ec : (nI (rs_cl a_placeOf k)).toNatClampNeg = rs_cl a_placeOf k := nI_clamp (by omega)
      have ekk : (nI k).toNatClampNeg = k := nI_clamp (by omega)
      have ic : vp_in (nI (rs_cl a_placeOf k)) 64 := vp_in_nI hc (by decide)
      refine And.intro (vp_in_nI (by omega) (by decide)) (nm_r (e' := nI k) (by rw [nI_clamp (by omega)]; exact ek) (rs_xOf h28 (hG k hk) (And.intro (by decide) (rs_yOf h28 (hG k hk) (And.intro (by decide) (nm_r e8 (And.intro ic (And.intro (vp_in_nI h28 (by decide)) (nm_r (e' := upd N k (F (rs_cl a_placeOf k))) (by rw [ec, ekk, rs_Ch_v c1]) (And.intro ic (nm_r (e' := upd F (rs_cl a_placeOf k) (nI k)) (by rw [ec, rs_nb2 (by omega)]) (nm_r (nI_1 i) (ih (i + 1) _ _ (by omega) (by omega) (rs_cL_ins (rs_cL_put hL h28 nins) (fun j => ?_)))))))))))))))
      constructor
      · rintro (⟨w1, t, w2, w3⟩ | w)
        · exact ⟨w1, t, by omega, w3⟩
        · rw [w]; exact ⟨hk, i, by omega, ek⟩
      · rintro ⟨w1, t, w2, w3⟩
        rcases Nat.lt_or_ge t i with v | v
        · exact Or.inl ⟨w1, t, v, w3⟩
        · have et : t = i := by omega
          rw [et, ek] at w3
          have hj := w1.1
          exact Or.inr ((nI_eq (by omega) (by omega)).mp w3).symm
theorem rs_bc_2 {post : SX → Prop} {N : Nat → Int32} (hG : rs_G f_present a_placeOf) (hA : rs_Al f_present sz a_order) (hp : ∀ N F, rs_cL a_placeOf N F (rs_H f_present) → post (f_present, nI sz, f_lowX, f_lowY, f_highX, f_highY, f_found, f_nearX, f_nearY, f_best, f_bestSquare, f_waiting, f_quads, f_levels, f_boxes, a_placeOf, a_order, a_waitA, a_waitB, a_waitC, a_waitD, a_quadX, a_quadY, a_quadSide, a_quadPart, a_quadCount, a_quadFirst, N, a_lists, a_fromLeft, a_boxLowX, a_boxLowY, a_boxHighX, a_boxHighY, a_boxFirst, a_boxParts, a_boxOfPoints, a_zeros, a_bottom, a_sorted, F, a_heapPoint, a_heapSplit)) :
    ∀ n i F, 64 < n + i → i ≤ 64 → (∀ c, c < i → F c = -1) → (wX_buildCells_2 post f_present (nI sz) f_lowX f_lowY f_highX f_highY f_found f_nearX f_nearY f_best f_bestSquare f_waiting f_quads f_levels f_boxes n (nI i) a_placeOf a_order a_waitA a_waitB a_waitC a_waitD a_quadX a_quadY a_quadSide a_quadPart a_quadCount a_quadFirst N a_lists a_fromLeft a_boxLowX a_boxLowY a_boxHighX a_boxHighY a_boxFirst a_boxParts a_boxOfPoints a_zeros a_bottom a_sorted F a_heapPoint a_heapSplit) := by
  intro n
  induction n with
  | zero => intro i F h1 h2; omega
  | succ n ih =>
    intro i F h1 h2 hI
    refine pk_le 64 i (fun z => Exists.intro (sz + 1) (rs_bc_23 hG hA hp (sz + 1) 0 N F (by omega) (by omega) (fun c hc => ⟨[], hI c (by omega), fun k => ⟨fun z => (by cases z), ?_⟩⟩))) (fun z => ?_)
    · rintro ⟨⟨_, j, j1, _⟩, _⟩
      omega
    · refine And.intro (vp_in_nI z (by decide)) (nm_r (e' := upd F i (-1)) (by rw [nI_clamp (by omega), rs_nbm]) (nm_r (nI_1 i) (ih (i + 1) _ (by omega) (by omega) (fun c hc => ?_))))
      by_cases e : c = i
      · rw [e]; exact pk_us
      · rw [pk_un e]; exact hI c (by omega)
theorem rs_buildCells {post : SX → Prop} {a_nextPoint a_cellFirst : Nat → Int32} (hG : rs_G f_present a_placeOf) (hA : rs_Al f_present sz a_order) (hp : ∀ N F, rs_cL a_placeOf N F (rs_H f_present) → post (f_present, nI sz, f_lowX, f_lowY, f_highX, f_highY, f_found, f_nearX, f_nearY, f_best, f_bestSquare, f_waiting, f_quads, f_levels, f_boxes, a_placeOf, a_order, a_waitA, a_waitB, a_waitC, a_waitD, a_quadX, a_quadY, a_quadSide, a_quadPart, a_quadCount, a_quadFirst, N, a_lists, a_fromLeft, a_boxLowX, a_boxLowY, a_boxHighX, a_boxHighY, a_boxFirst, a_boxParts, a_boxOfPoints, a_zeros, a_bottom, a_sorted, F, a_heapPoint, a_heapSplit)) : wpX_buildCells post (f_present, nI sz, f_lowX, f_lowY, f_highX, f_highY, f_found, f_nearX, f_nearY, f_best, f_bestSquare, f_waiting, f_quads, f_levels, f_boxes, a_placeOf, a_order, a_waitA, a_waitB, a_waitC, a_waitD, a_quadX, a_quadY, a_quadSide, a_quadPart, a_quadCount, a_quadFirst, a_nextPoint, a_lists, a_fromLeft, a_boxLowX, a_boxLowY, a_boxHighX, a_boxHighY, a_boxFirst, a_boxParts, a_boxOfPoints, a_zeros, a_bottom, a_sorted, a_cellFirst, a_heapPoint, a_heapSplit) := by
  unfold wpX_buildCells
  exact Exists.intro 65 (rs_bc_2 hG hA hp 65 0 a_cellFirst (by omega) (by omega) (fun c hc => by omega))
end
section
variable {f_present f_size f_lowX f_lowY f_highX f_highY f_nearX f_nearY f_best f_bestSquare f_waiting f_quads f_levels f_boxes : Int32} {a_placeOf a_order a_waitA a_waitB a_waitC a_waitD a_quadX a_quadY a_quadSide a_quadPart a_quadCount a_quadFirst a_lists a_fromLeft a_boxLowX a_boxLowY a_boxHighX a_boxHighY a_boxFirst a_boxParts a_boxOfPoints a_zeros a_bottom a_sorted a_heapPoint a_heapSplit : Nat → Int32} {sz lx ly hx hy : Nat} {N F : Nat → Int32}
theorem rs_tc_69 {post : SX → Prop} {x3 : Int32} (hlx : lx < 64) (hly : ly < 64) (hhx : hx < 64) (hhy : hy < 64) (hG : rs_G f_present a_placeOf) :
    ∀ (l : List Nat) (n : Nat) (v f : Int32), l.length < n → rs_Ch N l v → (∀ k, k ∈ l → rs_H f_present k) → (¬ x3 = 0 → ∀ k, k ∈ l → rs_Q a_placeOf lx ly hx hy k) → rs_Sn f_present (rs_Q a_placeOf lx ly hx hy) f →
    (∀ f', rs_Sn f_present (rs_Q a_placeOf lx ly hx hy) f' → rs_Le f f' → (∀ k, k ∈ l → rs_Fi (rs_Q a_placeOf lx ly hx hy) f' k) → post (f_present, nI sz, nI lx, nI ly, nI hx, nI hy, f', f_nearX, f_nearY, f_best, f_bestSquare, f_waiting, f_quads, f_levels, f_boxes, a_placeOf, a_order, a_waitA, a_waitB, a_waitC, a_waitD, a_quadX, a_quadY, a_quadSide, a_quadPart, a_quadCount, a_quadFirst, N, a_lists, a_fromLeft, a_boxLowX, a_boxLowY, a_boxHighX, a_boxHighY, a_boxFirst, a_boxParts, a_boxOfPoints, a_zeros, a_bottom, a_sorted, F, a_heapPoint, a_heapSplit)) → (wX_takeCell_69 post x3 f_present (nI sz) (nI lx) (nI ly) (nI hx) (nI hy) f_nearX f_nearY f_best f_bestSquare f_waiting f_quads f_levels f_boxes a_placeOf a_order a_waitA a_waitB a_waitC a_waitD a_quadX a_quadY a_quadSide a_quadPart a_quadCount a_quadFirst N a_lists a_fromLeft a_boxLowX a_boxLowY a_boxHighX a_boxHighY a_boxFirst a_boxParts a_boxOfPoints a_zeros a_bottom a_sorted F a_heapPoint a_heapSplit n v f) := by
  intro l
  induction l with
  | nil =>
    intro n v f hn hc _ _ hF hJ
    obtain ⟨m, rfl⟩ : ∃ m, n = m + 1 := ⟨n - 1, by rw [List.length_nil] at hn; omega⟩
    have e : v = -1 := hc
    subst e
    exact br_t (by decide) (hJ f hF (rs_Le_r f) (fun k z => by cases z))
  | cons k l ih =>
    intro n v f hn hc hl hq hF hJ
    obtain ⟨m, rfl⟩ : ∃ m, n = m + 1 := ⟨n - 1, by rw [List.length_cons] at hn; omega⟩
    obtain ⟨e, hk, hc⟩ := hc
    subst e
    have hH := hl k List.mem_cons_self
    have next : ∀ f', rs_Sn f_present (rs_Q a_placeOf lx ly hx hy) f' → rs_Le f f' → rs_Fi (rs_Q a_placeOf lx ly hx hy) f' k → vp_in (nI k) 28 ∧ ∀ x : Int32, x = N (nI k).toNatClampNeg → (wX_takeCell_69 post x3 f_present (nI sz) (nI lx) (nI ly) (nI hx) (nI hy) f_nearX f_nearY f_best f_bestSquare f_waiting f_quads f_levels f_boxes a_placeOf a_order a_waitA a_waitB a_waitC a_waitD a_quadX a_quadY a_quadSide a_quadPart a_quadCount a_quadFirst N a_lists a_fromLeft a_boxLowX a_boxLowY a_boxHighX a_boxHighY a_boxFirst a_boxParts a_boxOfPoints a_zeros a_bottom a_sorted F a_heapPoint a_heapSplit m x f') := by
      intro f' q1 q2 q3
      refine And.intro (vp_in_nI hk (by decide)) (nm_r (e' := N k) (by rw [nI_clamp (by omega)]) (ih m _ f' (by rw [List.length_cons] at hn; omega) hc (fun k z => hl k (List.mem_cons_of_mem _ z)) (fun h k z => hq h k (List.mem_cons_of_mem _ z)) q1 (fun f'' r1 r2 r3 => hJ f'' r1 (rs_Le_t q2 r2) (fun j hj => ?_))))
      rcases List.mem_cons.mp hj with e | e
      · rw [e]; exact rs_Fi_m r2 q3
      · exact r3 j e
    have add : rs_Q a_placeOf lx ly hx hy k → (wX_takeCell_92 post (wX_takeCell_69 post x3 f_present (nI sz) (nI lx) (nI ly) (nI hx) (nI hy) f_nearX f_nearY f_best f_bestSquare f_waiting f_quads f_levels f_boxes a_placeOf a_order a_waitA a_waitB a_waitC a_waitD a_quadX a_quadY a_quadSide a_quadPart a_quadCount a_quadFirst N a_lists a_fromLeft a_boxLowX a_boxLowY a_boxHighX a_boxHighY a_boxFirst a_boxParts a_boxOfPoints a_zeros a_bottom a_sorted F a_heapPoint a_heapSplit m) x3 (nI k) f f_present (nI sz) (nI lx) (nI ly) (nI hx) (nI hy) f f_nearX f_nearY f_best f_bestSquare f_waiting f_quads f_levels f_boxes a_placeOf a_order a_waitA a_waitB a_waitC a_waitD a_quadX a_quadY a_quadSide a_quadPart a_quadCount a_quadFirst N a_lists a_fromLeft a_boxLowX a_boxLowY a_boxHighX a_boxHighY a_boxFirst a_boxParts a_boxOfPoints a_zeros a_bottom a_sorted F a_heapPoint a_heapSplit) := by
      intro q
      unfold wX_takeCell_92 wX_takeCell_100
      have w := rs_Sn_add hF hH q
      exact nm_e (next _ w.1 w.2.1 w.2.2)
    refine br_f (nI_pos (by omega)) (br_c (fun z => rs_isIn hlx hly hhx hhy hk (hG k hH) (fun q => br_f (by decide) (add q)) (fun q => br_t rfl ?_)) (fun z => add (hq z k List.mem_cons_self)))
    unfold wX_takeCell_100
    exact nm_r (rs_or0 f) (next f hF (rs_Le_r f) (fun w => absurd w q))
theorem rs_takeCell {post : SX → Prop} {f : Int32} {cx cy : Nat} (hlx : lx < 64) (hly : ly < 64) (hhx : hx < 64) (hhy : hy < 64) (hG : rs_G f_present a_placeOf) (hcx : cx < 8) (hcy : cy < 8) (hL : rs_cL a_placeOf N F (rs_H f_present)) (hF : rs_Sn f_present (rs_Q a_placeOf lx ly hx hy) f)
    (hp : ∀ f', rs_Sn f_present (rs_Q a_placeOf lx ly hx hy) f' → rs_Le f f' → (∀ k, rs_H f_present k → rs_x a_placeOf k / 8 = cx → rs_y a_placeOf k / 8 = cy → rs_Fi (rs_Q a_placeOf lx ly hx hy) f' k) → post (f_present, nI sz, nI lx, nI ly, nI hx, nI hy, f', f_nearX, f_nearY, f_best, f_bestSquare, f_waiting, f_quads, f_levels, f_boxes, a_placeOf, a_order, a_waitA, a_waitB, a_waitC, a_waitD, a_quadX, a_quadY, a_quadSide, a_quadPart, a_quadCount, a_quadFirst, N, a_lists, a_fromLeft, a_boxLowX, a_boxLowY, a_boxHighX, a_boxHighY, a_boxFirst, a_boxParts, a_boxOfPoints, a_zeros, a_bottom, a_sorted, F, a_heapPoint, a_heapSplit)) : wpX_takeCell post (f_present, nI sz, nI lx, nI ly, nI hx, nI hy, f, f_nearX, f_nearY, f_best, f_bestSquare, f_waiting, f_quads, f_levels, f_boxes, a_placeOf, a_order, a_waitA, a_waitB, a_waitC, a_waitD, a_quadX, a_quadY, a_quadSide, a_quadPart, a_quadCount, a_quadFirst, N, a_lists, a_fromLeft, a_boxLowX, a_boxLowY, a_boxHighX, a_boxHighY, a_boxFirst, a_boxParts, a_boxOfPoints, a_zeros, a_bottom, a_sorted, F, a_heapPoint, a_heapSplit) (nI cx) (nI cy) := by
  have e1 : nI cx * 8 = nI (cx * 8) := pk_mul cx 8
  have e2 : nI cy * 8 = nI (cy * 8) := pk_mul cy 8
  have e3 : nI (cx * 8) + 7 = nI (cx * 8 + 7) := nI_add _ 7
  have e4 : nI (cy * 8) + 7 = nI (cy * 8 + 7) := nI_add _ 7
  have e5 : 8 * nI cy = nI (8 * cy) := pk_mul 8 cy
  have go : ∀ z0 : Int32, (¬ z0 = 0 → lx ≤ cx * 8 ∧ cx * 8 + 7 ≤ hx ∧ ly ≤ cy * 8 ∧ cy * 8 + 7 ≤ hy) → (wX_takeCell_55 post (nI cx) (nI cy) z0 f_present (nI sz) (nI lx) (nI ly) (nI hx) (nI hy) f f_nearX f_nearY f_best f_bestSquare f_waiting f_quads f_levels f_boxes a_placeOf a_order a_waitA a_waitB a_waitC a_waitD a_quadX a_quadY a_quadSide a_quadPart a_quadCount a_quadFirst N a_lists a_fromLeft a_boxLowX a_boxLowY a_boxHighX a_boxHighY a_boxFirst a_boxParts a_boxOfPoints a_zeros a_bottom a_sorted F a_heapPoint a_heapSplit) := by
    intro z0 hz
    unfold wX_takeCell_55
    rw [e5, nI_add, nI_clamp (show cx + 8 * cy < 2 ^ 31 by omega)]
    obtain ⟨l, c1, c2⟩ := hL (cx + 8 * cy) (by omega)
    have mem : ∀ k, k ∈ l → rs_H f_present k ∧ rs_x a_placeOf k / 8 = cx ∧ rs_y a_placeOf k / 8 = cy := by
      intro k hk
      obtain ⟨h1, h2⟩ := (c2 k).mp hk
      unfold rs_cl at h2
      have := rs_xlt a_placeOf k
      exact ⟨h1, by omega, by omega⟩
    refine ⟨vp_in_nI (by omega) (by decide), nm_e (Exists.intro (l.length + 1) (rs_tc_69 hlx hly hhx hhy hG l (l.length + 1) (F (cx + 8 * cy)) f (by omega) c1 (fun k hk => (mem k hk).1) (fun h k hk => ?_) hF (fun f' q1 q2 q3 => hp f' q1 q2 (fun k hk k1 k2 => q3 k ((c2 k).mpr ⟨hk, ?_⟩)))))⟩
    · have := hz h
      obtain ⟨_, m1, m2⟩ := mem k hk
      exact ⟨by omega, by omega, by omega, by omega⟩
    · unfold rs_cl
      omega
  have no : (wX_takeCell_54 post (nI cx) (nI cy) f_present (nI sz) (nI lx) (nI ly) (nI hx) (nI hy) f f_nearX f_nearY f_best f_bestSquare f_waiting f_quads f_levels f_boxes a_placeOf a_order a_waitA a_waitB a_waitC a_waitD a_quadX a_quadY a_quadSide a_quadPart a_quadCount a_quadFirst N a_lists a_fromLeft a_boxLowX a_boxLowY a_boxHighX a_boxHighY a_boxFirst a_boxParts a_boxOfPoints a_zeros a_bottom a_sorted F a_heapPoint a_heapSplit) := by
    unfold wX_takeCell_54
    exact go 0 (fun h => absurd rfl h)
  unfold wpX_takeCell
  refine pk_lt (cx * 8) lx (fun _ => no) (fun z1 => pk_lt hx (cx * 8 + 7) (fun _ => no) (fun z2 => pk_lt (cy * 8) ly (fun _ => no) (fun z3 => pk_lt hy (cy * 8 + 7) (fun _ => no) (fun z4 => go 1 (fun _ => ⟨z1, z2, z3, z4⟩)) (hy := by rw [e2, e4])) (hx := e2)) (hy := by rw [e1, e3])) (hx := e1)
theorem rs_sc_31 {post : SX → Prop} {J12 : Int32 → Int32 → Int32 → Int32 → Int32 → Int32 → Int32 → Int32 → Int32 → Int32 → Int32 → Int32 → Int32 → Int32 → Int32 → Int32 → (Nat → Int32) → (Nat → Int32) → (Nat → Int32) → (Nat → Int32) → (Nat → Int32) → (Nat → Int32) → (Nat → Int32) → (Nat → Int32) → (Nat → Int32) → (Nat → Int32) → (Nat → Int32) → (Nat → Int32) → (Nat → Int32) → (Nat → Int32) → (Nat → Int32) → (Nat → Int32) → (Nat → Int32) → (Nat → Int32) → (Nat → Int32) → (Nat → Int32) → (Nat → Int32) → (Nat → Int32) → (Nat → Int32) → (Nat → Int32) → (Nat → Int32) → (Nat → Int32) → (Nat → Int32) → (Nat → Int32) → Prop} {cy : Nat} (hlx : lx < 64) (hly : ly < 64) (hhx : hx < 64) (hhy : hy < 64) (hG : rs_G f_present a_placeOf) (hcy : cy < 8) (hL : rs_cL a_placeOf N F (rs_H f_present))
    (hJ : ∀ f, rs_Sn f_present (rs_Q a_placeOf lx ly hx hy) f → (∀ k, rs_H f_present k → rs_y a_placeOf k / 8 < cy + 1 → rs_Fi (rs_Q a_placeOf lx ly hx hy) f k) → J12 (nI (cy + 1)) f_present (nI sz) (nI lx) (nI ly) (nI hx) (nI hy) f f_nearX f_nearY f_best f_bestSquare f_waiting f_quads f_levels f_boxes a_placeOf a_order a_waitA a_waitB a_waitC a_waitD a_quadX a_quadY a_quadSide a_quadPart a_quadCount a_quadFirst N a_lists a_fromLeft a_boxLowX a_boxLowY a_boxHighX a_boxHighY a_boxFirst a_boxParts a_boxOfPoints a_zeros a_bottom a_sorted F a_heapPoint a_heapSplit) :
    ∀ n cx f, 8 < n + cx → cx ≤ 8 → rs_Sn f_present (rs_Q a_placeOf lx ly hx hy) f → (∀ k, rs_H f_present k → (rs_y a_placeOf k / 8 < cy ∨ (rs_y a_placeOf k / 8 = cy ∧ rs_x a_placeOf k / 8 < cx)) → rs_Fi (rs_Q a_placeOf lx ly hx hy) f k) → (wX_searchCells_31 post J12 (nI cy) n (nI cx) f_present (nI sz) (nI lx) (nI ly) (nI hx) (nI hy) f f_nearX f_nearY f_best f_bestSquare f_waiting f_quads f_levels f_boxes a_placeOf a_order a_waitA a_waitB a_waitC a_waitD a_quadX a_quadY a_quadSide a_quadPart a_quadCount a_quadFirst N a_lists a_fromLeft a_boxLowX a_boxLowY a_boxHighX a_boxHighY a_boxFirst a_boxParts a_boxOfPoints a_zeros a_bottom a_sorted F a_heapPoint a_heapSplit) := by
  have ehx : nI hx / 8 = nI (hx / 8) := pk_div (d := 8) (by omega) (by decide) (by decide)
  intro n
  induction n with
  | zero => intro cx f h1 h2; omega
  | succ n ih =>
    intro cx f h1 h2 hF hI
    refine And.intro (by decide) ?_
    rw [ehx]
    refine pk_lt (hx / 8) cx (fun z => nm_r (nI_1 cy) (hJ f hF (fun k hk hy' => ?_))) (fun z => ?_)
    · rcases Nat.lt_or_ge (rs_x a_placeOf k / 8) cx with w | w
      · exact hI k hk (by omega)
      · rcases Nat.lt_or_ge (rs_y a_placeOf k / 8) cy with v | v
        · exact hI k hk (Or.inl v)
        · intro q
          have := q.2.1
          omega
    · refine rs_takeCell hlx hly hhx hhy hG (by omega) hcy hL hF (fun f' q1 q2 q3 => nm_r (nI_1 cx) (ih (cx + 1) f' (by omega) (by omega) q1 (fun k hk hc => ?_)))
      by_cases e : rs_y a_placeOf k / 8 = cy ∧ rs_x a_placeOf k / 8 = cx
      · exact q3 k hk e.2 e.1
      · exact rs_Fi_m q2 (hI k hk (by omega))
theorem rs_sc_12 {post : SX → Prop} (hlx : lx < 64) (hly : ly < 64) (hhx : hx < 64) (hhy : hy < 64) (hG : rs_G f_present a_placeOf) (hL : rs_cL a_placeOf N F (rs_H f_present))
    (hp : ∀ f, rs_Sn f_present (rs_Q a_placeOf lx ly hx hy) f → (∀ k, rs_H f_present k → rs_Fi (rs_Q a_placeOf lx ly hx hy) f k) → post (f_present, nI sz, nI lx, nI ly, nI hx, nI hy, f, f_nearX, f_nearY, f_best, f_bestSquare, f_waiting, f_quads, f_levels, f_boxes, a_placeOf, a_order, a_waitA, a_waitB, a_waitC, a_waitD, a_quadX, a_quadY, a_quadSide, a_quadPart, a_quadCount, a_quadFirst, N, a_lists, a_fromLeft, a_boxLowX, a_boxLowY, a_boxHighX, a_boxHighY, a_boxFirst, a_boxParts, a_boxOfPoints, a_zeros, a_bottom, a_sorted, F, a_heapPoint, a_heapSplit)) :
    ∀ n cy f, 8 < n + cy → cy ≤ 8 → rs_Sn f_present (rs_Q a_placeOf lx ly hx hy) f → (∀ k, rs_H f_present k → rs_y a_placeOf k / 8 < cy → rs_Fi (rs_Q a_placeOf lx ly hx hy) f k) → (wX_searchCells_12 post n (nI cy) f_present (nI sz) (nI lx) (nI ly) (nI hx) (nI hy) f f_nearX f_nearY f_best f_bestSquare f_waiting f_quads f_levels f_boxes a_placeOf a_order a_waitA a_waitB a_waitC a_waitD a_quadX a_quadY a_quadSide a_quadPart a_quadCount a_quadFirst N a_lists a_fromLeft a_boxLowX a_boxLowY a_boxHighX a_boxHighY a_boxFirst a_boxParts a_boxOfPoints a_zeros a_bottom a_sorted F a_heapPoint a_heapSplit) := by
  have ehy : nI hy / 8 = nI (hy / 8) := pk_div (d := 8) (by omega) (by decide) (by decide)
  have elx : nI lx / 8 = nI (lx / 8) := pk_div (d := 8) (by omega) (by decide) (by decide)
  intro n
  induction n with
  | zero => intro cy f h1 h2; omega
  | succ n ih =>
    intro cy f h1 h2 hF hI
    refine And.intro (by decide) ?_
    rw [ehy]
    refine pk_lt (hy / 8) cy (fun z => hp f hF (fun k hk => ?_)) (fun z => And.intro (by decide) (nm_r elx (Exists.intro 9 ?_)))
    · rcases Nat.lt_or_ge (rs_y a_placeOf k / 8) cy with w | w
      · exact hI k hk w
      · intro q
        have := q.2.2.2
        omega
    · refine rs_sc_31 hlx hly hhx hhy hG (by omega) hL (fun f' q1 q2 => ih (cy + 1) f' (by omega) (by omega) q1 q2) 9 (lx / 8) f (by omega) (by omega) hF (fun k hk hc => ?_)
      rcases hc with w | ⟨w1, w2⟩
      · exact hI k hk w
      · intro q
        have := q.1
        omega
end
section
variable {f_present f_size f_lowX f_lowY f_highX f_highY f_found f_nearX f_nearY f_best f_bestSquare f_waiting f_quads f_levels f_boxes : Int32} {a_placeOf a_order a_waitA a_waitB a_waitC a_waitD a_quadX a_quadY a_quadSide a_quadPart a_quadCount a_quadFirst a_nextPoint a_lists a_fromLeft a_boxLowX a_boxLowY a_boxHighX a_boxHighY a_boxFirst a_boxParts a_boxOfPoints a_zeros a_bottom a_sorted a_cellFirst a_heapPoint a_heapSplit : Nat → Int32} {sz lx ly hx hy : Nat}
theorem rs_searchCells {post : SX → Prop} (hlx : lx < 64) (hly : ly < 64) (hhx : hx < 64) (hhy : hy < 64) (hG : rs_G f_present a_placeOf) (hA : rs_Al f_present sz a_order)
    (hp : ∀ f N F, rs_Sn f_present (rs_Q a_placeOf lx ly hx hy) f → (∀ k, rs_H f_present k → rs_Fi (rs_Q a_placeOf lx ly hx hy) f k) → post (f_present, nI sz, nI lx, nI ly, nI hx, nI hy, f, f_nearX, f_nearY, f_best, f_bestSquare, f_waiting, f_quads, f_levels, f_boxes, a_placeOf, a_order, a_waitA, a_waitB, a_waitC, a_waitD, a_quadX, a_quadY, a_quadSide, a_quadPart, a_quadCount, a_quadFirst, N, a_lists, a_fromLeft, a_boxLowX, a_boxLowY, a_boxHighX, a_boxHighY, a_boxFirst, a_boxParts, a_boxOfPoints, a_zeros, a_bottom, a_sorted, F, a_heapPoint, a_heapSplit)) : wpX_searchCells post (f_present, nI sz, nI lx, nI ly, nI hx, nI hy, 0, f_nearX, f_nearY, f_best, f_bestSquare, f_waiting, f_quads, f_levels, f_boxes, a_placeOf, a_order, a_waitA, a_waitB, a_waitC, a_waitD, a_quadX, a_quadY, a_quadSide, a_quadPart, a_quadCount, a_quadFirst, a_nextPoint, a_lists, a_fromLeft, a_boxLowX, a_boxLowY, a_boxHighX, a_boxHighY, a_boxFirst, a_boxParts, a_boxOfPoints, a_zeros, a_bottom, a_sorted, a_cellFirst, a_heapPoint, a_heapSplit) := by
  have ely : nI ly / 8 = nI (ly / 8) := pk_div (d := 8) (by omega) (by decide) (by decide)
  unfold wpX_searchCells
  refine rs_buildCells hG hA (fun N F hL => And.intro (by decide) (nm_r ely (Exists.intro 9 ?_)))
  refine rs_sc_12 hlx hly hhx hhy hG hL (fun f q1 q2 => hp f N F q1 q2) 9 (ly / 8) 0 (by omega) (by omega) rs_Sn_0 (fun k hk hc q => ?_)
  have := q.2.2.1
  omega
end
/-! cells: the nearest, by rings -/
def rs_rg (cx cy c : Nat) : Nat := max (rs_ab (c % 8) cx) (rs_ab (c / 8) cy)
theorem rs_rg_far {P : Nat → Int32} {nx ny k r : Nat} (hok : rs_ok P k) (hnx : nx < 64) (hny : ny < 64) (h : r + 1 ≤ rs_rg (nx / 8) (ny / 8) (rs_cl P k)) : (r * 8 + 1) * (r * 8 + 1) ≤ rs_d P nx ny k := by
  have hx := rs_xlt P k
  have hy := rs_ylt hok
  have e1 : rs_cl P k % 8 = rs_x P k / 8 := by unfold rs_cl; omega
  have e2 : rs_cl P k / 8 = rs_y P k / 8 := by unfold rs_cl; omega
  unfold rs_rg at h
  rw [e1, e2] at h
  unfold rs_d
  rcases Nat.lt_or_ge (rs_ab (rs_x P k / 8) (nx / 8)) (r + 1) with z | z
  · have : r * 8 + 1 ≤ rs_ab (rs_y P k) ny := by unfold rs_ab at *; omega
    exact Nat.le_trans (Nat.mul_le_mul this this) (Nat.le_add_left _ _)
  · have : r * 8 + 1 ≤ rs_ab (rs_x P k) nx := by unfold rs_ab at *; omega
    exact Nat.le_trans (Nat.mul_le_mul this this) (Nat.le_add_right _ _)
section
variable {f_present f_size f_lowX f_lowY f_highX f_highY f_found f_nearX f_nearY f_waiting f_quads f_levels f_boxes : Int32} {a_placeOf a_order a_waitA a_waitB a_waitC a_waitD a_quadX a_quadY a_quadSide a_quadPart a_quadCount a_quadFirst a_lists a_fromLeft a_boxLowX a_boxLowY a_boxHighX a_boxHighY a_boxFirst a_boxParts a_boxOfPoints a_zeros a_bottom a_sorted a_heapPoint a_heapSplit : Nat → Int32} {sz nx ny : Nat} {N F : Nat → Int32}
theorem rs_nr_109 {post : SX → Prop} {J3 : Int32 → Int32 → Int32 → Int32 → Int32 → Int32 → Int32 → Int32 → Int32 → Int32 → Int32 → Int32 → Int32 → Int32 → Int32 → Int32 → (Nat → Int32) → (Nat → Int32) → (Nat → Int32) → (Nat → Int32) → (Nat → Int32) → (Nat → Int32) → (Nat → Int32) → (Nat → Int32) → (Nat → Int32) → (Nat → Int32) → (Nat → Int32) → (Nat → Int32) → (Nat → Int32) → (Nat → Int32) → (Nat → Int32) → (Nat → Int32) → (Nat → Int32) → (Nat → Int32) → (Nat → Int32) → (Nat → Int32) → (Nat → Int32) → (Nat → Int32) → (Nat → Int32) → (Nat → Int32) → (Nat → Int32) → (Nat → Int32) → (Nat → Int32) → (Nat → Int32) → Prop} {x1 x2 x3 : Int32} {c : Nat} (hnx : nx < 64) (hny : ny < 64) (hG : rs_G f_present a_placeOf) :
    ∀ (l : List Nat) (n : Nat) (v u : Int32) (s : Nat), l.length < n → rs_Ch N l v → (∀ k, k ∈ l → rs_H f_present k) → rs_Nn f_present (rs_d a_placeOf nx ny) u s →
    (∀ u' s', rs_Nn f_present (rs_d a_placeOf nx ny) u' s' → rs_Nl (rs_d a_placeOf nx ny) u s u' s' → (∀ k, k ∈ l → rs_Nd (rs_d a_placeOf nx ny) u' s' k) → J3 (nI (c + 1)) f_present (nI sz) f_lowX f_lowY f_highX f_highY f_found (nI nx) (nI ny) u' (nI s') f_waiting f_quads f_levels f_boxes a_placeOf a_order a_waitA a_waitB a_waitC a_waitD a_quadX a_quadY a_quadSide a_quadPart a_quadCount a_quadFirst N a_lists a_fromLeft a_boxLowX a_boxLowY a_boxHighX a_boxHighY a_boxFirst a_boxParts a_boxOfPoints a_zeros a_bottom a_sorted F a_heapPoint a_heapSplit) → (wX_nearInRing_109 post J3 x1 x2 x3 (nI c) n v f_present (nI sz) f_lowX f_lowY f_highX f_highY f_found (nI nx) (nI ny) u (nI s) f_waiting f_quads f_levels f_boxes a_placeOf a_order a_waitA a_waitB a_waitC a_waitD a_quadX a_quadY a_quadSide a_quadPart a_quadCount a_quadFirst N a_lists a_fromLeft a_boxLowX a_boxLowY a_boxHighX a_boxHighY a_boxFirst a_boxParts a_boxOfPoints a_zeros a_bottom a_sorted F a_heapPoint a_heapSplit) := by
  intro l
  induction l with
  | nil =>
    intro n v u s hn hc _ hF hJ
    obtain ⟨m, rfl⟩ : ∃ m, n = m + 1 := ⟨n - 1, by rw [List.length_nil] at hn; omega⟩
    have e : v = -1 := hc
    subst e
    exact br_t (by decide) (nm_r (nI_1 c) (hJ u s hF (rs_Nl_r _ u s) (fun k z => by cases z)))
  | cons k l ih =>
    intro n v u s hn hc hl hF hJ
    obtain ⟨m, rfl⟩ : ∃ m, n = m + 1 := ⟨n - 1, by rw [List.length_cons] at hn; omega⟩
    obtain ⟨e, hk, hc⟩ := hc
    subst e
    refine br_f (nI_pos (by omega)) (rs_tryNear hnx hny hG (hl k List.mem_cons_self) hF (fun u' s' q1 q2 q3 => ?_))
    refine And.intro (vp_in_nI hk (by decide)) (nm_r (e' := N k) (by rw [nI_clamp (by omega)]) (ih m _ u' s' (by rw [List.length_cons] at hn; omega) hc (fun k z => hl k (List.mem_cons_of_mem _ z)) q1 (fun u'' s'' r1 r2 r3 => hJ u'' s'' r1 (rs_Nl_t q2 r2) (fun j hj => ?_))))
    rcases List.mem_cons.mp hj with e | e
    · rw [e]; exact r2.2 k q3
    · exact r3 j e
theorem rs_nr_3 {post : SX → Prop} {cx cy r : Nat} (hnx : nx < 64) (hny : ny < 64) (hG : rs_G f_present a_placeOf) (hcx : cx < 8) (hcy : cy < 8) (hr : r < 8) (hL : rs_cL a_placeOf N F (rs_H f_present))
    (hp : ∀ u s, rs_Nn f_present (rs_d a_placeOf nx ny) u s → (∀ k, rs_H f_present k → rs_rg cx cy (rs_cl a_placeOf k) < r + 1 → rs_Nd (rs_d a_placeOf nx ny) u s k) → post (f_present, nI sz, f_lowX, f_lowY, f_highX, f_highY, f_found, nI nx, nI ny, u, nI s, f_waiting, f_quads, f_levels, f_boxes, a_placeOf, a_order, a_waitA, a_waitB, a_waitC, a_waitD, a_quadX, a_quadY, a_quadSide, a_quadPart, a_quadCount, a_quadFirst, N, a_lists, a_fromLeft, a_boxLowX, a_boxLowY, a_boxHighX, a_boxHighY, a_boxFirst, a_boxParts, a_boxOfPoints, a_zeros, a_bottom, a_sorted, F, a_heapPoint, a_heapSplit)) :
    ∀ n c u s, 64 < n + c → c ≤ 64 → rs_Nn f_present (rs_d a_placeOf nx ny) u s → (∀ k, rs_H f_present k → (rs_rg cx cy (rs_cl a_placeOf k) < r ∨ (rs_rg cx cy (rs_cl a_placeOf k) = r ∧ rs_cl a_placeOf k < c)) → rs_Nd (rs_d a_placeOf nx ny) u s k) → (wX_nearInRing_3 post (nI cx) (nI cy) (nI r) n (nI c) f_present (nI sz) f_lowX f_lowY f_highX f_highY f_found (nI nx) (nI ny) u (nI s) f_waiting f_quads f_levels f_boxes a_placeOf a_order a_waitA a_waitB a_waitC a_waitD a_quadX a_quadY a_quadSide a_quadPart a_quadCount a_quadFirst N a_lists a_fromLeft a_boxLowX a_boxLowY a_boxHighX a_boxHighY a_boxFirst a_boxParts a_boxOfPoints a_zeros a_bottom a_sorted F a_heapPoint a_heapSplit) := by
  intro n
  induction n with
  | zero => intro c u s h1 h2; omega
  | succ n ih =>
    intro c u s h1 h2 hF hI
    refine pk_le 64 c (fun z => hp u s hF (fun k hk hr' => hI k hk ?_)) (fun z => ?_)
    · have hx := rs_xlt a_placeOf k
      have hy := rs_ylt (hG k hk)
      have : rs_cl a_placeOf k < 64 := by unfold rs_cl; omega
      omega
    · have em : nI c - nI c / 8 * 8 = nI (c % 8) := pk_rem (d := 8) (by omega) (by decide) (by decide)
      have ed : nI c / 8 = nI (c / 8) := pk_div (d := 8) (by omega) (by decide) (by decide)
      have b1 : rs_ab (c % 8) cx ≤ 8 := by unfold rs_ab; omega
      have b2 : rs_ab (c / 8) cy ≤ 8 := by unfold rs_ab; omega
      have R : (wX_nearInRing_80 post (wX_nearInRing_3 post (nI cx) (nI cy) (nI r) n) (nI cx) (nI cy) (nI r) (nI c) (nI (rs_rg cx cy c)) f_present (nI sz) f_lowX f_lowY f_highX f_highY f_found (nI nx) (nI ny) u (nI s) f_waiting f_quads f_levels f_boxes a_placeOf a_order a_waitA a_waitB a_waitC a_waitD a_quadX a_quadY a_quadSide a_quadPart a_quadCount a_quadFirst N a_lists a_fromLeft a_boxLowX a_boxLowY a_boxHighX a_boxHighY a_boxFirst a_boxParts a_boxOfPoints a_zeros a_bottom a_sorted F a_heapPoint a_heapSplit) := by
        unfold wX_nearInRing_80
        have hb : rs_rg cx cy c ≤ 8 := by unfold rs_rg; omega
        refine pk_eq (rs_rg cx cy c) r (fun y => ?_) (fun y => ?_)
        · unfold wX_nearInRing_89
          rw [nI_clamp (show c < 2 ^ 31 by omega)]
          obtain ⟨l, c1, c2⟩ := hL c z
          refine br_f (by decide) ⟨vp_in_nI z (by decide), nm_e (Exists.intro (l.length + 1) (rs_nr_109 hnx hny hG l (l.length + 1) (F c) u s (by omega) c1 (fun k hk => ((c2 k).mp hk).1) hF (fun u' s' q1 q2 q3 => ih (c + 1) u' s' (by omega) (by omega) q1 (fun k hk hc => ?_))))⟩
          by_cases e : rs_cl a_placeOf k = c
          · exact q3 k ((c2 k).mpr ⟨hk, e⟩)
          · exact q2.2 k (hI k hk (by omega))
        · unfold wX_nearInRing_89
          refine br_t rfl (Exists.intro 1 (rs_nr_109 hnx hny hG [] 1 (-1) u s (by decide) rfl (fun k z => by cases z) hF (fun u' s' q1 q2 q3 => ih (c + 1) u' s' (by omega) (by omega) q1 (fun k hk hc => ?_))))
          by_cases e : rs_cl a_placeOf k = c
          · rw [e] at hc
            exact q2.2 k (hI k hk (by rw [e]; omega))
          · exact q2.2 k (hI k hk (by omega))
      have R64 : ∀ a b, a = rs_ab (c % 8) cx → b = rs_ab (c / 8) cy → (wX_nearInRing_64 post (wX_nearInRing_3 post (nI cx) (nI cy) (nI r) n) (nI cx) (nI cy) (nI r) (nI c) (nI a) (nI b) f_present (nI sz) f_lowX f_lowY f_highX f_highY f_found (nI nx) (nI ny) u (nI s) f_waiting f_quads f_levels f_boxes a_placeOf a_order a_waitA a_waitB a_waitC a_waitD a_quadX a_quadY a_quadSide a_quadPart a_quadCount a_quadFirst N a_lists a_fromLeft a_boxLowX a_boxLowY a_boxHighX a_boxHighY a_boxFirst a_boxParts a_boxOfPoints a_zeros a_bottom a_sorted F a_heapPoint a_heapSplit) := by
        intro a b ea eb
        unfold wX_nearInRing_64
        refine pk_le a b (fun y => ?_) (fun y => ?_)
        · have : b = rs_rg cx cy c := by unfold rs_rg; omega
          rw [this]; exact R
        · have : a = rs_rg cx cy c := by unfold rs_rg; omega
          rw [this]; exact R
      have R36 : ∀ a, a = rs_ab (c % 8) cx → (wX_nearInRing_36 post (wX_nearInRing_3 post (nI cx) (nI cy) (nI r) n) (nI cx) (nI cy) (nI r) (nI c) (nI a) f_present (nI sz) f_lowX f_lowY f_highX f_highY f_found (nI nx) (nI ny) u (nI s) f_waiting f_quads f_levels f_boxes a_placeOf a_order a_waitA a_waitB a_waitC a_waitD a_quadX a_quadY a_quadSide a_quadPart a_quadCount a_quadFirst N a_lists a_fromLeft a_boxLowX a_boxLowY a_boxHighX a_boxHighY a_boxFirst a_boxParts a_boxOfPoints a_zeros a_bottom a_sorted F a_heapPoint a_heapSplit) := by
        intro a ea
        unfold wX_nearInRing_36
        rw [ed]
        refine ⟨by decide, pk_le cy (c / 8) (fun y => ⟨by decide, ?_⟩) (fun y => ⟨by decide, ?_⟩)⟩
        · rw [pk_sub y]
          exact R64 a _ ea (by unfold rs_ab; omega)
        · rw [pk_sub (Nat.le_of_lt y)]
          exact R64 a _ ea (by unfold rs_ab; omega)
      refine And.intro (by decide) ?_
      rw [em]
      refine pk_le cx (c % 8) (fun y => And.intro (by decide) ?_) (fun y => And.intro (by decide) ?_)
      · rw [pk_sub y]
        exact R36 _ (by unfold rs_ab; omega)
      · rw [pk_sub (Nat.le_of_lt y)]
        exact R36 _ (by unfold rs_ab; omega)
theorem rs_nc_22 {post : SX → Prop} (hnx : nx < 64) (hny : ny < 64) (hG : rs_G f_present a_placeOf) (hL : rs_cL a_placeOf N F (rs_H f_present))
    (hp : ∀ u s, rs_Nn f_present (rs_d a_placeOf nx ny) u s → (∀ k, rs_H f_present k → rs_Nd (rs_d a_placeOf nx ny) u s k) → post (f_present, nI sz, f_lowX, f_lowY, f_highX, f_highY, f_found, nI nx, nI ny, u, nI s, f_waiting, f_quads, f_levels, f_boxes, a_placeOf, a_order, a_waitA, a_waitB, a_waitC, a_waitD, a_quadX, a_quadY, a_quadSide, a_quadPart, a_quadCount, a_quadFirst, N, a_lists, a_fromLeft, a_boxLowX, a_boxLowY, a_boxHighX, a_boxHighY, a_boxFirst, a_boxParts, a_boxOfPoints, a_zeros, a_bottom, a_sorted, F, a_heapPoint, a_heapSplit)) :
    ∀ n r u s, 8 < n + r → r ≤ 8 → rs_Nn f_present (rs_d a_placeOf nx ny) u s → (∀ k, rs_H f_present k → rs_rg (nx / 8) (ny / 8) (rs_cl a_placeOf k) < r → rs_Nd (rs_d a_placeOf nx ny) u s k) → (wX_nearInCells_22 post (nI (nx / 8)) (nI (ny / 8)) n (nI r) f_present (nI sz) f_lowX f_lowY f_highX f_highY f_found (nI nx) (nI ny) u (nI s) f_waiting f_quads f_levels f_boxes a_placeOf a_order a_waitA a_waitB a_waitC a_waitD a_quadX a_quadY a_quadSide a_quadPart a_quadCount a_quadFirst N a_lists a_fromLeft a_boxLowX a_boxLowY a_boxHighX a_boxHighY a_boxFirst a_boxParts a_boxOfPoints a_zeros a_bottom a_sorted F a_heapPoint a_heapSplit) := by
  intro n
  induction n with
  | zero => intro r u s h1 h2; omega
  | succ n ih =>
    intro r u s h1 h2 hF hI
    have hsb := rs_Nn_b hG hnx hny hF
    refine pk_le 8 r (fun z => hp u s hF (fun k hk => hI k hk ?_)) (fun z => ?_)
    · have hx := rs_xlt a_placeOf k
      have hy := rs_ylt (hG k hk)
      unfold rs_rg rs_cl rs_ab
      omega
    · have R : ∀ w : Nat, w ≤ 64 → (∀ k, rs_H f_present k → rs_rg (nx / 8) (ny / 8) (rs_cl a_placeOf k) = r → w * w ≤ rs_d a_placeOf nx ny k) → (wX_nearInCells_44 post (wX_nearInCells_22 post (nI (nx / 8)) (nI (ny / 8)) n) (nI (nx / 8)) (nI (ny / 8)) (nI r) (nI w) f_present (nI sz) f_lowX f_lowY f_highX f_highY f_found (nI nx) (nI ny) u (nI s) f_waiting f_quads f_levels f_boxes a_placeOf a_order a_waitA a_waitB a_waitC a_waitD a_quadX a_quadY a_quadSide a_quadPart a_quadCount a_quadFirst N a_lists a_fromLeft a_boxLowX a_boxLowY a_boxHighX a_boxHighY a_boxFirst a_boxParts a_boxOfPoints a_zeros a_bottom a_sorted F a_heapPoint a_heapSplit) := by
        intro w hw hfar
        have hww : w * w ≤ 64 * 64 := Nat.mul_le_mul hw hw
        unfold wX_nearInCells_44
        rw [pk_mul]
        refine pk_lt s (w * w) (fun y => nm_r (nI_1 r) (ih (r + 1) u s (by omega) (by omega) hF (fun k hk hr => ?_))) (fun y => ?_)
        · rcases Nat.lt_or_ge (rs_rg (nx / 8) (ny / 8) (rs_cl a_placeOf k)) r with v | v
          · exact hI k hk v
          · have := hfar k hk (by omega)
            exact Or.inl (by omega)
        · unfold wpX_nearInRing
          refine Exists.intro 65 (rs_nr_3 hnx hny hG (by omega) (by omega) z hL (fun u' s' q1 q2 => nm_r (nI_1 r) (ih (r + 1) u' s' (by omega) (by omega) q1 q2)) 65 0 u s (by omega) (by omega) hF (fun k hk hc => hI k hk (by omega)))
      refine pk_eq r 0 (fun y => R 0 (by omega) (fun k _ _ => Nat.zero_le _)) (fun y => ?_)
      obtain ⟨m, rfl⟩ : ∃ m, r = m + 1 := ⟨r - 1, by omega⟩
      have e8 : (nI (m + 1) - 1) * 8 + 1 = nI (m * 8 + 1) := by
        rw [nI_pred]
        have q := pk_mul m 8
        have q2 : nI m * 8 = nI (m * 8) := q
        rw [q2]
        exact nI_add _ 1
      rw [e8]
      exact R (m * 8 + 1) (by omega) (fun k hk hr => rs_rg_far (hG k hk) hnx hny (by omega))
end
section
variable {f_present f_size f_lowX f_lowY f_highX f_highY f_found f_nearX f_nearY f_best f_bestSquare f_waiting f_quads f_levels f_boxes : Int32} {a_placeOf a_order a_waitA a_waitB a_waitC a_waitD a_quadX a_quadY a_quadSide a_quadPart a_quadCount a_quadFirst a_nextPoint a_lists a_fromLeft a_boxLowX a_boxLowY a_boxHighX a_boxHighY a_boxFirst a_boxParts a_boxOfPoints a_zeros a_bottom a_sorted a_cellFirst a_heapPoint a_heapSplit : Nat → Int32} {sz nx ny : Nat}
theorem rs_nearInCells {post : SX → Prop} (hnx : nx < 64) (hny : ny < 64) (hG : rs_G f_present a_placeOf) (hA : rs_Al f_present sz a_order)
    (hp : ∀ u s N F, rs_Nn f_present (rs_d a_placeOf nx ny) u s → (∀ k, rs_H f_present k → rs_Nd (rs_d a_placeOf nx ny) u s k) → post (f_present, nI sz, f_lowX, f_lowY, f_highX, f_highY, f_found, nI nx, nI ny, u, nI s, f_waiting, f_quads, f_levels, f_boxes, a_placeOf, a_order, a_waitA, a_waitB, a_waitC, a_waitD, a_quadX, a_quadY, a_quadSide, a_quadPart, a_quadCount, a_quadFirst, N, a_lists, a_fromLeft, a_boxLowX, a_boxLowY, a_boxHighX, a_boxHighY, a_boxFirst, a_boxParts, a_boxOfPoints, a_zeros, a_bottom, a_sorted, F, a_heapPoint, a_heapSplit)) : wpX_nearInCells post (f_present, nI sz, f_lowX, f_lowY, f_highX, f_highY, f_found, nI nx, nI ny, -1, 1048576, f_waiting, f_quads, f_levels, f_boxes, a_placeOf, a_order, a_waitA, a_waitB, a_waitC, a_waitD, a_quadX, a_quadY, a_quadSide, a_quadPart, a_quadCount, a_quadFirst, a_nextPoint, a_lists, a_fromLeft, a_boxLowX, a_boxLowY, a_boxHighX, a_boxHighY, a_boxFirst, a_boxParts, a_boxOfPoints, a_zeros, a_bottom, a_sorted, a_cellFirst, a_heapPoint, a_heapSplit) := by
  have ex : nI nx / 8 = nI (nx / 8) := pk_div (d := 8) (by omega) (by decide) (by decide)
  have ey : nI ny / 8 = nI (ny / 8) := pk_div (d := 8) (by omega) (by decide) (by decide)
  unfold wpX_nearInCells
  refine rs_buildCells hG hA (fun N F hL => And.intro (by decide) (nm_r ex (And.intro (by decide) (nm_r ey (Exists.intro 9 ?_)))))
  exact rs_nc_22 hnx hny hG hL (fun u s q1 q2 => hp u s N F q1 q2) 9 0 (-1) 1048576 (by omega) (by omega) (Or.inl ⟨rfl, rfl⟩) (fun k hk hr => by omega)
end
end
section
/-! a heap that is a tree too -/
def rs_sub (v n : Nat) : Prop := ∃ d, n / 2 ^ d = v
theorem rs_sub_s (v : Nat) : rs_sub v v := ⟨0, by rw [Nat.pow_zero, Nat.div_one]⟩
theorem rs_sub_l {v n : Nat} (h : rs_sub (2 * v) n) : rs_sub v n := by
  obtain ⟨d, h⟩ := h
  exact ⟨d + 1, by rw [Nat.pow_succ, ← Nat.div_div_eq_div_mul, h]; omega⟩
theorem rs_sub_r {v n : Nat} (h : rs_sub (2 * v + 1) n) : rs_sub v n := by
  obtain ⟨d, h⟩ := h
  exact ⟨d + 1, by rw [Nat.pow_succ, ← Nat.div_div_eq_div_mul, h]; omega⟩
theorem rs_sub_le {v n : Nat} (h : rs_sub v n) : v ≤ n := by
  obtain ⟨d, h⟩ := h
  rw [← h]
  exact Nat.div_le_self _ _
theorem rs_sub_dis {v n : Nat} (hv : 1 ≤ v) (h1 : rs_sub (2 * v) n) (h2 : rs_sub (2 * v + 1) n) : False := by
  obtain ⟨d, h1⟩ := h1
  obtain ⟨e, h2⟩ := h2
  have key : ∀ x y, x < y → n / 2 ^ y ≤ n / 2 ^ x / 2 := by
    intro x y hxy
    obtain ⟨z, rfl⟩ : ∃ z, y = x + 1 + z := ⟨y - (x + 1), by omega⟩
    rw [Nat.pow_add, ← Nat.div_div_eq_div_mul, Nat.pow_succ, ← Nat.div_div_eq_div_mul]
    exact Nat.div_le_self _ _
  rcases Nat.lt_trichotomy d e with z | z | z
  · have := key d e z
    rw [h1, h2] at this
    omega
  · subst z
    omega
  · have := key e d z
    rw [h1, h2] at this
    omega
def rs_HT (P o hP hS : Nat → Int32) : Nat → Nat → Nat → Nat → Prop
  | 0, a, b, v => b ≤ a ∧ hP v = -1
  | h + 1, a, b, v => (b ≤ a ∧ hP v = -1) ∨ (a < b ∧ hP v = o a ∧ (∀ j, a ≤ j → j < b → rs_k P 0 (o a) ≤ rs_k P 0 (o j)) ∧ ∃ sp, hS v = nI sp ∧ sp ≤ 64 ∧ (∀ j, a + 1 ≤ j → j < (a + 1 + b) / 2 → rs_k P 1 (o j) ≤ sp) ∧ (∀ j, (a + 1 + b) / 2 ≤ j → j < b → sp ≤ rs_k P 1 (o j)) ∧ rs_HT P o hP hS h (a + 1) ((a + 1 + b) / 2) (2 * v) ∧ rs_HT P o hP hS h ((a + 1 + b) / 2) b (2 * v + 1))
theorem rs_HT_e {P o hP hS : Nat → Int32} {h a b v : Nat} (h1 : b ≤ a) (h2 : hP v = -1) : rs_HT P o hP hS h a b v := by
  cases h with
  | zero => exact ⟨h1, h2⟩
  | succ h => exact Or.inl ⟨h1, h2⟩
theorem rs_HT_c {P o hP hS o' hP' hS' : Nat → Int32} : ∀ {h a b v : Nat}, (∀ j, a ≤ j → j < b → o' j = o j) → (∀ n, rs_sub v n → hP' n = hP n ∧ hS' n = hS n) → rs_HT P o hP hS h a b v → rs_HT P o' hP' hS' h a b v
  | 0, a, b, v, _, hn, h => ⟨h.1, by rw [(hn v (rs_sub_s v)).1]; exact h.2⟩
  | h + 1, a, b, v, ho, hn, hh => by
    rcases hh with ⟨h1, h2⟩ | ⟨h1, h2, h3, sp, h4, h5, h6, h7, h8, h9⟩
    · exact Or.inl ⟨h1, by rw [(hn v (rs_sub_s v)).1]; exact h2⟩
    · refine Or.inr ⟨h1, by rw [(hn v (rs_sub_s v)).1, ho a (Nat.le_refl _) h1]; exact h2, fun j j1 j2 => ?_, sp, by rw [(hn v (rs_sub_s v)).2]; exact h4, h5, fun j j1 j2 => ?_, fun j j1 j2 => ?_, ?_, ?_⟩
      · rw [ho a (Nat.le_refl _) h1, ho j j1 j2]; exact h3 j j1 j2
      · rw [ho j (by omega) (by omega)]; exact h6 j j1 j2
      · rw [ho j (by omega) j2]; exact h7 j j1 j2
      · exact rs_HT_c (fun j j1 j2 => ho j (by omega) (by omega)) (fun n z => hn n (rs_sub_l z)) h8
      · exact rs_HT_c (fun j j1 j2 => ho j (by omega) j2) (fun n z => hn n (rs_sub_r z)) h9
section
variable {f_present f_size f_lowX f_lowY f_highX f_highY f_found f_nearX f_nearY f_best f_bestSquare f_waiting f_quads f_levels f_boxes : Int32} {a_placeOf a_waitA a_waitB a_waitC a_waitD a_quadX a_quadY a_quadSide a_quadPart a_quadCount a_quadFirst a_nextPoint a_lists a_fromLeft a_boxLowX a_boxLowY a_boxHighX a_boxHighY a_boxFirst a_boxParts a_boxOfPoints a_zeros a_bottom a_sorted a_cellFirst a_heapPoint a_heapSplit : Nat → Int32}
/-- the lowest goes to the front, the others keep their order -/
theorem rs_rl_61 {post : SX → Prop} {a b r : Nat} {o : Nat → Int32} (hb : b ≤ 28) (hr : r < b) (hV : ∀ j, a ≤ j → j < b → rs_V f_present (o j)) (hp : ∀ o', rs_Pm a b o o' → (∀ l, o' l = if l = a then o r else if a < l ∧ l ≤ r then o (l - 1) else o l) → post (f_present, f_size, f_lowX, f_lowY, f_highX, f_highY, f_found, f_nearX, f_nearY, f_best, f_bestSquare, f_waiting, f_quads, f_levels, f_boxes, a_placeOf, o', a_waitA, a_waitB, a_waitC, a_waitD, a_quadX, a_quadY, a_quadSide, a_quadPart, a_quadCount, a_quadFirst, a_nextPoint, a_lists, a_fromLeft, a_boxLowX, a_boxLowY, a_boxHighX, a_boxHighY, a_boxFirst, a_boxParts, a_boxOfPoints, a_zeros, a_bottom, a_sorted, a_cellFirst, a_heapPoint, a_heapSplit)) :
    ∀ n j c, j < n + a → a ≤ j → j ≤ r → rs_Pm a b o (upd c j (o r)) → (∀ l, c l = if j < l ∧ l ≤ r then o (l - 1) else o l) → (wX_raiseLowest_61 post (nI a) (o r) f_present f_size f_lowX f_lowY f_highX f_highY f_found f_nearX f_nearY f_best f_bestSquare f_waiting f_quads f_levels f_boxes n (nI j) a_placeOf c a_waitA a_waitB a_waitC a_waitD a_quadX a_quadY a_quadSide a_quadPart a_quadCount a_quadFirst a_nextPoint a_lists a_fromLeft a_boxLowX a_boxLowY a_boxHighX a_boxHighY a_boxFirst a_boxParts a_boxOfPoints a_zeros a_bottom a_sorted a_cellFirst a_heapPoint a_heapSplit) := by
  intro n
  induction n with
  | zero => intro j c h1 h2; omega
  | succ n ih =>
    intro j c h1 h2 h3 hP hc
    obtain ⟨q, hq, eq⟩ := hV r (by omega) hr
    have hvn : vp_nar .byte (o r) = o r := by rw [eq]; exact rs_nb (by have := hq.1; omega)
    refine pk_le j a (fun z => And.intro (vp_in_nI (by omega) (by decide)) (nm_r (e' := upd c a (o r)) (by rw [nI_clamp (by omega), hvn]) (hp _ ?_ (fun l => ?_)))) (fun z => ?_)
    · rw [show a = j by omega] at hP ⊢
      exact hP
    · by_cases e : l = a
      · rw [if_pos e, e, pk_us]
      · rw [if_neg e, pk_un e, hc l, show j = a by omega]
    · obtain ⟨m, rfl⟩ : ∃ m, j = m + 1 := ⟨j - 1, by omega⟩
      have cm : c m = o m := by rw [hc m, if_neg (by omega)]
      obtain ⟨q2, hq2, eq2⟩ := hV m (by omega) (by omega)
      rw [nI_pred, nI_clamp (show m < 2 ^ 31 by omega)]
      refine And.intro (vp_in_nI (by omega) (by decide)) (And.intro (vp_in_nI (by omega) (by decide)) (nm_r (e' := upd c (m + 1) (c m)) (by rw [nI_clamp (by omega), cm, eq2, rs_nb (by have := hq2.1; omega)]) (nm_r (pk_m1 m) (ih m _ (by omega) (by omega) (by omega) (rs_Pm_trans hP (rs_Pm_sw (by omega) (by omega))) (fun l => ?_)))))
      by_cases e : l = m + 1
      · rw [e, pk_us, if_pos (by omega), cm, Nat.add_sub_cancel]
      · rw [pk_un e, hc l]
        by_cases w : m + 1 < l ∧ l ≤ r
        · rw [if_pos w, if_pos (by omega)]
        · rw [if_neg w, if_neg (by omega)]
theorem rs_raise {post : SX → Prop} {a b : Nat} {o : Nat → Int32} (hG : rs_G f_present a_placeOf) (hab : a < b) (hb : b ≤ 28) (hV : ∀ j, a ≤ j → j < b → rs_V f_present (o j)) (hs : rs_So (rs_k a_placeOf 1) a b o)
    (hp : ∀ o', rs_Pm a b o o' → (∀ j, a ≤ j → j < b → rs_k a_placeOf 0 (o' a) ≤ rs_k a_placeOf 0 (o' j)) → rs_So (rs_k a_placeOf 1) (a + 1) b o' → post (f_present, f_size, f_lowX, f_lowY, f_highX, f_highY, f_found, f_nearX, f_nearY, f_best, f_bestSquare, f_waiting, f_quads, f_levels, f_boxes, a_placeOf, o', a_waitA, a_waitB, a_waitC, a_waitD, a_quadX, a_quadY, a_quadSide, a_quadPart, a_quadCount, a_quadFirst, a_nextPoint, a_lists, a_fromLeft, a_boxLowX, a_boxLowY, a_boxHighX, a_boxHighY, a_boxFirst, a_boxParts, a_boxOfPoints, a_zeros, a_bottom, a_sorted, a_cellFirst, a_heapPoint, a_heapSplit)) : wpX_raiseLowest post (f_present, f_size, f_lowX, f_lowY, f_highX, f_highY, f_found, f_nearX, f_nearY, f_best, f_bestSquare, f_waiting, f_quads, f_levels, f_boxes, a_placeOf, o, a_waitA, a_waitB, a_waitC, a_waitD, a_quadX, a_quadY, a_quadSide, a_quadPart, a_quadCount, a_quadFirst, a_nextPoint, a_lists, a_fromLeft, a_boxLowX, a_boxLowY, a_boxHighX, a_boxHighY, a_boxFirst, a_boxParts, a_boxOfPoints, a_zeros, a_bottom, a_sorted, a_cellFirst, a_heapPoint, a_heapSplit) (nI a) (nI b) := by
  have fin : ∀ r, a ≤ r → r < b → (∀ j, a ≤ j → j < b → rs_k a_placeOf 0 (o r) ≤ rs_k a_placeOf 0 (o j)) → (wX_raiseLowest_61 post (nI a) (o r) f_present f_size f_lowX f_lowY f_highX f_highY f_found f_nearX f_nearY f_best f_bestSquare f_waiting f_quads f_levels f_boxes (r + 1) (nI r) a_placeOf o a_waitA a_waitB a_waitC a_waitD a_quadX a_quadY a_quadSide a_quadPart a_quadCount a_quadFirst a_nextPoint a_lists a_fromLeft a_boxLowX a_boxLowY a_boxHighX a_boxHighY a_boxFirst a_boxParts a_boxOfPoints a_zeros a_bottom a_sorted a_cellFirst a_heapPoint a_heapSplit) := by
    intro r r1 r2 hmin
    refine rs_rl_61 hb r2 hV (fun o' pm hf => hp o' pm ?_ ?_) (r + 1) r o (by omega) r1 (Nat.le_refl _) (by rw [rs_upd_id]; exact rs_Pm_refl _ _ _) (fun l => by rw [if_neg (by omega)])
    · have ea : o' a = o r := by rw [hf a, if_pos rfl]
      rw [ea]
      exact rs_Pm_all (Q := fun v => rs_k a_placeOf 0 (o r) ≤ rs_k a_placeOf 0 v) pm hmin
    · intro i j i1 i2 i3
      rw [hf i, hf j, if_neg (show ¬ i = a by omega), if_neg (show ¬ j = a by omega)]
      by_cases wi : a < i ∧ i ≤ r <;> by_cases wj : a < j ∧ j ≤ r
      · rw [if_pos wi, if_pos wj]; exact hs _ _ (by omega) (by omega) (by omega)
      · rw [if_pos wi, if_neg wj]; exact hs _ _ (by omega) (by omega) (by omega)
      · omega
      · rw [if_neg wi, if_neg wj]; exact hs _ _ (by omega) (by omega) (by omega)
  have loop : ∀ n r i, b < n + i → a ≤ r → r < i → i ≤ b → (∀ j, a ≤ j → j < i → rs_k a_placeOf 0 (o r) ≤ rs_k a_placeOf 0 (o j)) → (wX_raiseLowest_7 post (nI a) (nI b) f_present f_size f_lowX f_lowY f_highX f_highY f_found f_nearX f_nearY f_best f_bestSquare f_waiting f_quads f_levels f_boxes a_placeOf o a_waitA a_waitB a_waitC a_waitD a_quadX a_quadY a_quadSide a_quadPart a_quadCount a_quadFirst a_nextPoint a_lists a_fromLeft a_boxLowX a_boxLowY a_boxHighX a_boxHighY a_boxFirst a_boxParts a_boxOfPoints a_zeros a_bottom a_sorted a_cellFirst a_heapPoint a_heapSplit n (nI r) (nI i)) := by
    intro n
    induction n with
    | zero => intro r i h1 h2 h3 h4; omega
    | succ n ih =>
      intro r i h1 h2 h3 h4 hm
      have er : (nI r).toNatClampNeg = r := nI_clamp (by omega)
      have ir : vp_in (nI r) 32 := vp_in_nI (by omega) (by decide)
      refine pk_le b i (fun z => And.intro ir (nm_r (e' := o r) (by rw [er]) (Exists.intro (r + 1) (fin r h2 (by omega) (fun j j1 j2 => hm j j1 (by omega)))))) (fun z => ?_)
      obtain ⟨p, hp1, hp2⟩ := hV i (by omega) z
      obtain ⟨q, hq1, hq2⟩ := hV r h2 (by omega)
      have yp := rs_ylt (hG p hp1)
      have yq := rs_ylt (hG q hq1)
      refine And.intro (vp_in_nI (by omega) (by decide)) ?_
      rw [nI_clamp (show i < 2 ^ 31 by omega), er, hp2, hq2]
      have kp : rs_k a_placeOf 0 (o i) = rs_y a_placeOf p := by rw [hp2, rs_k0 hp1.1]
      have kq : rs_k a_placeOf 0 (o r) = rs_y a_placeOf q := by rw [hq2, rs_k0 hq1.1]
      refine rs_yOf hp1.1 (hG p hp1) (And.intro ir (rs_yOf hq1.1 (hG q hq1) (pk_le (rs_y a_placeOf q) (rs_y a_placeOf p) (fun y => nm_r (nI_1 i) (ih r (i + 1) (by omega) h2 (by omega) (by omega) (fun j j1 j2 => ?_))) (fun y => nm_r (nI_1 i) (ih i (i + 1) (by omega) (by omega) (by omega) (by omega) (fun j j1 j2 => ?_))))))
      · rcases Nat.lt_or_ge j i with w | w
        · exact hm j j1 w
        · rw [show j = i by omega, kp, kq]; exact y
      · rcases Nat.lt_or_ge j i with w | w
        · have := hm j j1 w
          omega
        · rw [show j = i by omega]; exact Nat.le_refl _
  unfold wpX_raiseLowest
  refine nm_r (nI_1 a) (Exists.intro (b + 1) (loop (b + 1) a (a + 1) (by omega) (Nat.le_refl _) (by omega) (by omega) (fun j j1 j2 => ?_)))
  rw [show j = a by omega]
  exact Nat.le_refl _
end
section
variable {f_present f_size f_lowX f_lowY f_highX f_highY f_found f_nearX f_nearY f_best f_bestSquare f_quads f_levels f_boxes : Int32} {a_placeOf a_quadX a_quadY a_quadSide a_quadPart a_quadCount a_quadFirst a_nextPoint a_lists a_fromLeft a_boxLowX a_boxLowY a_boxHighX a_boxHighY a_boxFirst a_boxParts a_boxOfPoints a_zeros a_bottom a_sorted a_cellFirst : Nat → Int32}
theorem rs_bp_item {post : SX → Prop} (hG : rs_G f_present a_placeOf) : ∀ (h a b v n0 n : Nat) (o A B C D hP hS : Nat → Int32) (L : List rs_I), b - a < 2 ^ h → a ≤ b → b ≤ 28 → 1 ≤ v → (v + 1) * 2 ^ h ≤ 64 → L.length + h < 100 → (∀ l, a ≤ l → l < b → rs_V f_present (o l)) → rs_So (rs_k a_placeOf 1) a b o → (∀ m, rs_sub v m → m < 256 → hP m = -1) → rs_St A B C D ((a, b, v, 0) :: L) → 2 * 2 ^ h + n0 ≤ n + 1 →
    (∀ o' A' B' C' D' hP' hS' n', n0 ≤ n' → rs_Pm a b o o' → (∀ m, ¬ rs_sub v m → hP' m = hP m ∧ hS' m = hS m) → rs_HT a_placeOf o' hP' hS' h a b v → rs_St A' B' C' D' L → (wX_buildHeap_48 post n' f_present f_size f_lowX f_lowY f_highX f_highY f_found f_nearX f_nearY f_best f_bestSquare (nI L.length) f_quads f_levels f_boxes a_placeOf o' A' B' C' D' a_quadX a_quadY a_quadSide a_quadPart a_quadCount a_quadFirst a_nextPoint a_lists a_fromLeft a_boxLowX a_boxLowY a_boxHighX a_boxHighY a_boxFirst a_boxParts a_boxOfPoints a_zeros a_bottom a_sorted a_cellFirst hP' hS')) →
    (wX_buildHeap_48 post n f_present f_size f_lowX f_lowY f_highX f_highY f_found f_nearX f_nearY f_best f_bestSquare (nI (L.length + 1)) f_quads f_levels f_boxes a_placeOf o A B C D a_quadX a_quadY a_quadSide a_quadPart a_quadCount a_quadFirst a_nextPoint a_lists a_fromLeft a_boxLowX a_boxLowY a_boxHighX a_boxHighY a_boxFirst a_boxParts a_boxOfPoints a_zeros a_bottom a_sorted a_cellFirst hP hS) := by
  intro h
  induction h with
  | zero =>
    intro a b v n0 n o A B C D hP hS L h1 h2 h3 h4 h5 h6 hV hs hN hSt hn hK
    rw [Nat.pow_zero] at h1 h5 hn
    obtain ⟨n, rfl⟩ : ∃ m, n = m + 1 := ⟨n - 1, by omega⟩
    have i : vp_in (nI L.length) 128 := vp_in_nI (by omega) (by decide)
    obtain ⟨s1, s2, s3, s4, s5⟩ := hSt
    refine br_f (nI_nle (by omega) (by omega)) (nm_r (nI_pred L.length) ⟨i, nm_r (e' := nI a) (rs_at (by omega) s1) ⟨i, nm_r (e' := nI b) (rs_at (by omega) s2) ⟨i, nm_r (e' := nI v) (rs_at (by omega) s3) ?_⟩⟩⟩)
    exact pk_le b a (fun z => hK o A B C D hP hS n (by omega) (rs_Pm_refl _ _ _) (fun _ _ => ⟨rfl, rfl⟩) (rs_HT_e z (hN v (rs_sub_s v) (by omega))) s5) (fun z => absurd z (by omega))
  | succ h ih =>
    intro a b v n0 n o A B C D hP hS L h1 h2 h3 h4 h5 h6 hV hs hN hSt hn hK
    have e2 := rs_2e h
    have pw : 1 ≤ 2 ^ h := Nat.one_le_two_pow
    have hv5 : (v + 1) * 2 ^ (h + 1) = (2 * v + 1 + 1) * 2 ^ h := by rw [e2]; grind
    have hv6 : (2 * v + 1) * 2 ^ h ≤ (2 * v + 1 + 1) * 2 ^ h := Nat.mul_le_mul_right _ (by omega)
    have hv7 : v + 1 ≤ (v + 1) * 2 ^ (h + 1) := Nat.le_mul_of_pos_right _ (Nat.pow_pos (by decide))
    obtain ⟨n, rfl⟩ : ∃ m, n = m + 1 := ⟨n - 1, by omega⟩
    have i : vp_in (nI L.length) 128 := vp_in_nI (by omega) (by decide)
    obtain ⟨s1, s2, s3, s4, s5⟩ := hSt
    refine br_f (nI_nle (by omega) (by omega)) (nm_r (nI_pred L.length) ⟨i, nm_r (e' := nI a) (rs_at (by omega) s1) ⟨i, nm_r (e' := nI b) (rs_at (by omega) s2) ⟨i, nm_r (e' := nI v) (rs_at (by omega) s3) ?_⟩⟩⟩)
    refine pk_le b a (fun z => hK o A B C D hP hS n (by omega) (rs_Pm_refl _ _ _) (fun _ _ => ⟨rfl, rfl⟩) (rs_HT_e z (hN v (rs_sub_s v) (by omega))) s5) (fun z => rs_raise hG z h3 hV hs (fun o1 p1 q1 q2 => ?_))
    have hV1 := rs_Pm_all p1 hV
    obtain ⟨k0, hk0, ek0⟩ := hV1 a (Nat.le_refl _) z
    have em : (nI a + 1 + nI b) / 2 = nI ((a + 1 + b) / 2) := by
      rw [nI_1, nI_add]
      exact pk_div (d := 2) (by omega) (by decide) (by decide)
    have iv : vp_in (nI v) 256 := vp_in_nI (by omega) (by decide)
    have ev : (nI v).toNatClampNeg = v := nI_clamp (by omega)
    refine And.intro (by decide) (nm_r em (And.intro (vp_in_nI (by omega) (by decide)) (And.intro iv (nm_r (e' := upd hP v (o1 a)) ?_ ?_))))
    · rw [ev, nI_clamp (by omega), ek0, rs_nb (by have := hk0.1; omega)]
    have go : ∀ sp : Nat, sp ≤ 64 → (∀ j, a + 1 ≤ j → j < (a + 1 + b) / 2 → rs_k a_placeOf 1 (o1 j) ≤ sp) → (∀ j, (a + 1 + b) / 2 ≤ j → j < b → sp ≤ rs_k a_placeOf 1 (o1 j)) → (wX_buildHeap_154 post (wX_buildHeap_48 post n) (nI a) (nI b) (nI v) (nI ((a + 1 + b) / 2)) (nI sp) (nI v) f_present f_size f_lowX f_lowY f_highX f_highY f_found f_nearX f_nearY f_best f_bestSquare (nI L.length) f_quads f_levels f_boxes a_placeOf o1 A B C D a_quadX a_quadY a_quadSide a_quadPart a_quadCount a_quadFirst a_nextPoint a_lists a_fromLeft a_boxLowX a_boxLowY a_boxHighX a_boxHighY a_boxFirst a_boxParts a_boxOfPoints a_zeros a_bottom a_sorted a_cellFirst (upd hP v (o1 a)) hS) := by
      intro sp hsp g1 g2
      unfold wX_buildHeap_154
      refine ⟨iv, nm_r (e' := upd hS v (nI sp)) (by rw [ev, rs_nb2 (by omega)]) ?_⟩
      refine rs_push (L := L) (a + 1) ((a + 1 + b) / 2) (2 * v) 0 s5 (by omega) (by omega) (by omega) (by omega) (nI_1 a) rfl (pk_mul 2 v) rfl (fun A1 B1 C1 D1 w1 => ?_)
      have e3 : 2 * nI v + 1 = nI (2 * v + 1) := by
        have q : 2 * nI v = nI (2 * v) := pk_mul 2 v
        rw [q, nI_1]
      refine rs_push (L := (a + 1, (a + 1 + b) / 2, 2 * v, 0) :: L) ((a + 1 + b) / 2) b (2 * v + 1) 0 w1 (by rw [List.length_cons]; omega) (by omega) (by omega) (by omega) rfl rfl e3 rfl (fun A2 B2 C2 D2 w2 => ?_)
      refine ih ((a + 1 + b) / 2) b (2 * v + 1) (n0 + 2 * 2 ^ h - 1) n o1 A2 B2 C2 D2 (upd hP v (o1 a)) (upd hS v (nI sp)) ((a + 1, (a + 1 + b) / 2, 2 * v, 0) :: L) (by omega) (by omega) h3 (by omega) (by omega) (by rw [List.length_cons]; omega) (fun l l1 l2 => hV1 l (by omega) l2) (fun x y x1 x2 x3 => q2 x y (by omega) x2 x3) (fun m hm hm2 => ?_) w2 (by omega) (fun o2 A3 B3 C3 D3 hP3 hS3 n3 hn3 p2 k2 t2 w3 => ?_)
      · rw [pk_un (by have := rs_sub_le hm; omega)]
        exact hN m (rs_sub_r hm) hm2
      refine ih (a + 1) ((a + 1 + b) / 2) (2 * v) n0 n3 o2 A3 B3 C3 D3 hP3 hS3 L (by omega) (by omega) (by omega) (by omega) (by omega) (by omega) (fun l l1 l2 => ?_) (fun x y x1 x2 x3 => ?_) (fun m hm hm2 => ?_) w3 (by omega) (fun o3 A4 B4 C4 D4 hP4 hS4 n4 hn4 p3 k3 t3 w4 => ?_)
      · rw [rs_Pm_out p2 (Or.inl l2)]
        exact hV1 l (by omega) (by omega)
      · rw [rs_Pm_out p2 (Or.inl (by omega)), rs_Pm_out p2 (Or.inl x3)]
        exact q2 x y x1 x2 (by omega)
      · rw [(k2 m (fun w => rs_sub_dis h4 hm w)).1, pk_un (by have := rs_sub_le hm; omega)]
        exact hN m (rs_sub_l hm) hm2
      · have oa : o3 a = o1 a := by rw [rs_Pm_out p3 (Or.inl (by omega)), rs_Pm_out p2 (Or.inl (by omega))]
        have nv1 : ¬ rs_sub (2 * v) v := fun w => by have := rs_sub_le w; omega
        have nv2 : ¬ rs_sub (2 * v + 1) v := fun w => by have := rs_sub_le w; omega
        refine hK o3 A4 B4 C4 D4 hP4 hS4 n4 hn4 (rs_Pm_trans p1 (rs_Pm_trans (rs_Pm_mono (by omega) (Nat.le_refl _) p2) (rs_Pm_mono (by omega) (by omega) p3))) (fun m hm => ?_) (Or.inr ⟨z, ?_, fun j j1 j2 => ?_, sp, ?_, hsp, fun j j1 j2 => ?_, fun j j1 j2 => ?_, t3, ?_⟩) w4
        · have r1 := k3 m (fun w => hm (rs_sub_l w))
          have r2 := k2 m (fun w => hm (rs_sub_r w))
          have mv : m ≠ v := fun w => hm (by rw [w]; exact rs_sub_s v)
          rw [r1.1, r1.2, r2.1, r2.2, pk_un mv, pk_un mv]
          exact ⟨rfl, rfl⟩
        · rw [(k3 v nv1).1, (k2 v nv2).1, pk_us, oa]
        · rw [oa]
          exact rs_Pm_all (Q := fun w => rs_k a_placeOf 0 (o1 a) ≤ rs_k a_placeOf 0 w) (rs_Pm_mono (show a ≤ a + 1 by omega) (show (a + 1 + b) / 2 ≤ b by omega) p3) (rs_Pm_all (Q := fun w => rs_k a_placeOf 0 (o1 a) ≤ rs_k a_placeOf 0 w) (rs_Pm_mono (show a ≤ (a + 1 + b) / 2 by omega) (Nat.le_refl b) p2) q1) j j1 j2
        · rw [(k3 v nv1).2, (k2 v nv2).2, pk_us]
        · obtain ⟨x, x1, x2, x3⟩ := rs_Pm_in p3 j1 j2
          rw [x3, rs_Pm_out p2 (Or.inl x2)]
          exact g1 x x1 x2
        · rw [rs_Pm_out p3 (Or.inr j1)]
          obtain ⟨x, x1, x2, x3⟩ := rs_Pm_in p2 j1 j2
          rw [x3]
          exact g2 x x1 x2
        · exact rs_HT_c (fun j j1 j2 => rs_Pm_out p3 (Or.inr j1)) (fun m hm => k3 m (fun w => rs_sub_dis h4 w hm)) t2
    refine pk_le b ((a + 1 + b) / 2) (fun y => go 64 (Nat.le_refl _) (fun j j1 j2 => ?_) (fun j j1 j2 => by omega)) (fun y => And.intro (vp_in_nI (by omega) (by decide)) ?_)
    · exact Nat.le_of_lt (rs_klt hG (hV1 j (by omega) (by omega)))
    · obtain ⟨km, hkm, ekm⟩ := hV1 ((a + 1 + b) / 2) (by omega) y
      rw [nI_clamp (show (a + 1 + b) / 2 < 2 ^ 31 by omega), ekm]
      have kk : rs_k a_placeOf 1 (o1 ((a + 1 + b) / 2)) = rs_x a_placeOf km := by rw [ekm, rs_k1 hkm.1]
      refine rs_xOf hkm.1 (hG km hkm) (go (rs_x a_placeOf km) (Nat.le_of_lt (rs_xlt _ _)) (fun j j1 j2 => ?_) (fun j j1 j2 => ?_))
      · rw [← kk]; exact q2 j _ j1 (by omega) y
      · rw [← kk]; exact q2 _ j (by omega) j1 j2
end
section
variable {f_present f_size f_lowX f_lowY f_highX f_highY f_found f_nearX f_nearY f_best f_bestSquare f_waiting f_quads f_levels f_boxes : Int32} {a_placeOf a_order a_waitA a_waitB a_waitC a_waitD a_quadX a_quadY a_quadSide a_quadPart a_quadCount a_quadFirst a_nextPoint a_lists a_fromLeft a_boxLowX a_boxLowY a_boxHighX a_boxHighY a_boxFirst a_boxParts a_boxOfPoints a_zeros a_bottom a_sorted a_cellFirst a_heapSplit : Nat → Int32} {sz : Nat}
theorem rs_bp_12 {post : SX → Prop} (hG : rs_G f_present a_placeOf) (hA : rs_Al f_present sz a_order) (hs : rs_So (rs_k a_placeOf 1) 0 sz a_order)
    (hp : ∀ o A B C D hP hS, rs_Al f_present sz o → rs_HT a_placeOf o hP hS 5 0 sz 1 → post (f_present, nI sz, f_lowX, f_lowY, f_highX, f_highY, f_found, f_nearX, f_nearY, f_best, f_bestSquare, nI 0, f_quads, f_levels, f_boxes, a_placeOf, o, A, B, C, D, a_quadX, a_quadY, a_quadSide, a_quadPart, a_quadCount, a_quadFirst, a_nextPoint, a_lists, a_fromLeft, a_boxLowX, a_boxLowY, a_boxHighX, a_boxHighY, a_boxFirst, a_boxParts, a_boxOfPoints, a_zeros, a_bottom, a_sorted, a_cellFirst, hP, hS)) :
    ∀ n i hP, 256 < n + i → i ≤ 256 → (∀ m, m < i → hP m = -1) → (wX_buildHeap_12 post f_present (nI sz) f_lowX f_lowY f_highX f_highY f_found f_nearX f_nearY f_best f_bestSquare f_waiting f_quads f_levels f_boxes n (nI i) a_placeOf a_order a_waitA a_waitB a_waitC a_waitD a_quadX a_quadY a_quadSide a_quadPart a_quadCount a_quadFirst a_nextPoint a_lists a_fromLeft a_boxLowX a_boxLowY a_boxHighX a_boxHighY a_boxFirst a_boxParts a_boxOfPoints a_zeros a_bottom a_sorted a_cellFirst hP a_heapSplit) := by
  have hz := hA.1
  intro n
  induction n with
  | zero => intro i hP h1 h2; omega
  | succ n ih =>
    intro i hP h1 h2 hI
    refine pk_le 256 i (fun z => ?_) (fun z => ?_)
    · refine rs_push (L := []) 0 sz 1 0 trivial (by decide) (by omega) (by omega) (by omega) rfl rfl rfl rfl (fun A B C D w => Exists.intro 65 ?_)
      refine rs_bp_item (f_size := nI sz) hG 5 0 sz 1 1 65 a_order A B C D hP a_heapSplit [] (by show sz - 0 < 32; omega) (by omega) (by omega) (Nat.le_refl _) (by decide) (by decide) (fun l _ g => hA.2.1 l g) hs (fun m _ hm => hI m (by omega)) w (by decide) (fun o' A' B' C' D' hP' hS' n' hn' pm _ ht _ => ?_)
      obtain ⟨m, rfl⟩ : ∃ m, n' = m + 1 := ⟨n' - 1, by omega⟩
      exact br_t (by decide) (hp o' A' B' C' D' hP' hS' (rs_Al_Pm hA pm) ht)
    · refine And.intro (vp_in_nI z (by decide)) (nm_r (e' := upd hP i (-1)) (by rw [nI_clamp (by omega), rs_nbm]) (nm_r (nI_1 i) (ih (i + 1) _ (by omega) (by omega) (fun m hm => ?_))))
      by_cases e : m = i
      · rw [e]; exact pk_us
      · rw [pk_un e]; exact hI m (by omega)
end
section
variable {f_present f_size f_lowX f_lowY f_highX f_highY f_found f_nearX f_nearY f_best f_bestSquare f_waiting f_quads f_levels f_boxes : Int32} {a_placeOf a_order a_waitA a_waitB a_waitC a_waitD a_quadX a_quadY a_quadSide a_quadPart a_quadCount a_quadFirst a_nextPoint a_lists a_fromLeft a_boxLowX a_boxLowY a_boxHighX a_boxHighY a_boxFirst a_boxParts a_boxOfPoints a_zeros a_bottom a_sorted a_cellFirst a_heapPoint a_heapSplit : Nat → Int32} {sz : Nat}
theorem rs_buildHeap {post : SX → Prop} (hG : rs_G f_present a_placeOf) (hA : rs_Al f_present sz a_order)
    (hp : ∀ o A B C D hP hS, rs_Al f_present sz o → rs_HT a_placeOf o hP hS 5 0 sz 1 → post (f_present, nI sz, f_lowX, f_lowY, f_highX, f_highY, f_found, f_nearX, f_nearY, f_best, f_bestSquare, nI 0, f_quads, f_levels, f_boxes, a_placeOf, o, A, B, C, D, a_quadX, a_quadY, a_quadSide, a_quadPart, a_quadCount, a_quadFirst, a_nextPoint, a_lists, a_fromLeft, a_boxLowX, a_boxLowY, a_boxHighX, a_boxHighY, a_boxFirst, a_boxParts, a_boxOfPoints, a_zeros, a_bottom, a_sorted, a_cellFirst, hP, hS)) : wpX_buildHeap post (f_present, nI sz, f_lowX, f_lowY, f_highX, f_highY, f_found, f_nearX, f_nearY, f_best, f_bestSquare, f_waiting, f_quads, f_levels, f_boxes, a_placeOf, a_order, a_waitA, a_waitB, a_waitC, a_waitD, a_quadX, a_quadY, a_quadSide, a_quadPart, a_quadCount, a_quadFirst, a_nextPoint, a_lists, a_fromLeft, a_boxLowX, a_boxLowY, a_boxHighX, a_boxHighY, a_boxFirst, a_boxParts, a_boxOfPoints, a_zeros, a_bottom, a_sorted, a_cellFirst, a_heapPoint, a_heapSplit) := by
  have hz := hA.1
  unfold wpX_buildHeap
  refine rs_sort 0 sz 1 hG (by decide) (by decide) hz rfl rfl rfl (fun l _ h => hA.2.1 l h) (fun o pm so => Exists.intro 257 ?_)
  exact rs_bp_12 hG (rs_Al_Pm hA pm) so hp 257 0 a_heapPoint (by omega) (by omega) (fun m hm => by omega)
end
end
section
/-! the heap's search, and search over all engines -/
section
variable {f_present f_size f_lowX f_lowY f_highX f_highY f_nearX f_nearY f_best f_bestSquare f_quads f_levels f_boxes : Int32} {a_placeOf a_order a_quadX a_quadY a_quadSide a_quadPart a_quadCount a_quadFirst a_nextPoint a_lists a_fromLeft a_boxLowX a_boxLowY a_boxHighX a_boxHighY a_boxFirst a_boxParts a_boxOfPoints a_zeros a_bottom a_sorted a_cellFirst : Nat → Int32} {sz lx ly hx hy : Nat} {hP hS : Nat → Int32}
theorem rs_hs_item {post : SX → Prop} (hlx : lx < 64) (hly : ly < 64) (hhx : hx < 64) (hhy : hy < 64) (hG : rs_G f_present a_placeOf) : ∀ (h a b v n0 n : Nat) (f : Int32) (A B C D : Nat → Int32) (L : List rs_I), rs_HT a_placeOf a_order hP hS h a b v → a ≤ b → b ≤ 28 → (v + 1) * 2 ^ h ≤ 64 → L.length + h < 100 → (∀ l, a ≤ l → l < b → rs_V f_present (a_order l)) → rs_Sn f_present (rs_Q a_placeOf lx ly hx hy) f → rs_St A B C D ((v, 0, 0, 0) :: L) → 2 * 2 ^ h + n0 ≤ n + 1 →
    (∀ f' A' B' C' D' n', n0 ≤ n' → rs_Sn f_present (rs_Q a_placeOf lx ly hx hy) f' → rs_Le f f' → (∀ j k, a ≤ j → j < b → rs_H f_present k → a_order j = nI k → rs_Fi (rs_Q a_placeOf lx ly hx hy) f' k) → rs_St A' B' C' D' L → (wX_searchHeap_12 post n' f_present (nI sz) (nI lx) (nI ly) (nI hx) (nI hy) f' f_nearX f_nearY f_best f_bestSquare (nI L.length) f_quads f_levels f_boxes a_placeOf a_order A' B' C' D' a_quadX a_quadY a_quadSide a_quadPart a_quadCount a_quadFirst a_nextPoint a_lists a_fromLeft a_boxLowX a_boxLowY a_boxHighX a_boxHighY a_boxFirst a_boxParts a_boxOfPoints a_zeros a_bottom a_sorted a_cellFirst hP hS)) →
    (wX_searchHeap_12 post n f_present (nI sz) (nI lx) (nI ly) (nI hx) (nI hy) f f_nearX f_nearY f_best f_bestSquare (nI (L.length + 1)) f_quads f_levels f_boxes a_placeOf a_order A B C D a_quadX a_quadY a_quadSide a_quadPart a_quadCount a_quadFirst a_nextPoint a_lists a_fromLeft a_boxLowX a_boxLowY a_boxHighX a_boxHighY a_boxFirst a_boxParts a_boxOfPoints a_zeros a_bottom a_sorted a_cellFirst hP hS) := by
  intro h
  induction h with
  | zero =>
    intro a b v n0 n f A B C D L hT h2 h3 h5 h6 hV hF hSt hn hK
    rw [Nat.pow_zero] at h5 hn
    obtain ⟨n, rfl⟩ : ∃ m, n = m + 1 := ⟨n - 1, by omega⟩
    have i : vp_in (nI L.length) 128 := vp_in_nI (by omega) (by decide)
    obtain ⟨s1, s2, s3, s4, s5⟩ := hSt
    obtain ⟨t1, t2⟩ := hT
    refine br_f (nI_nle (by omega) (by omega)) (nm_r (nI_pred L.length) ⟨i, nm_r (e' := nI v) (rs_at (by omega) s1) ⟨vp_in_nI (by omega) (by decide), nm_r (e' := -1) (rs_at (by omega) t2) (br_t (by decide) ?_)⟩⟩)
    exact hK f A B C D n (by omega) hF (rs_Le_r f) (fun j k j1 j2 => by omega) s5
  | succ h ih =>
    intro a b v n0 n f A B C D L hT h2 h3 h5 h6 hV hF hSt hn hK
    have e2 := rs_2e h
    have pw : 1 ≤ 2 ^ h := Nat.one_le_two_pow
    have hv5 : (v + 1) * 2 ^ (h + 1) = (2 * v + 1 + 1) * 2 ^ h := by rw [e2]; grind
    have hv6 : (2 * v + 1) * 2 ^ h ≤ (2 * v + 1 + 1) * 2 ^ h := Nat.mul_le_mul_right _ (by omega)
    have hv7 : v + 1 ≤ (v + 1) * 2 ^ (h + 1) := Nat.le_mul_of_pos_right _ (Nat.pow_pos (by decide))
    obtain ⟨n, rfl⟩ : ∃ m, n = m + 1 := ⟨n - 1, by omega⟩
    have i : vp_in (nI L.length) 128 := vp_in_nI (by omega) (by decide)
    have iv : vp_in (nI v) 256 := vp_in_nI (by omega) (by decide)
    have ev : (nI v).toNatClampNeg = v := nI_clamp (by omega)
    obtain ⟨s1, s2, s3, s4, s5⟩ := hSt
    rcases hT with ⟨t1, t2⟩ | ⟨t1, t2, t3, sp, t4, t5, t6, t7, t8, t9⟩
    · refine br_f (nI_nle (by omega) (by omega)) (nm_r (nI_pred L.length) ⟨i, nm_r (e' := nI v) (rs_at (by omega) s1) ⟨iv, nm_r (e' := -1) (rs_at (by omega) t2) (br_t (by decide) ?_)⟩⟩)
      exact hK f A B C D n (by omega) hF (rs_Le_r f) (fun j k j1 j2 => by omega) s5
    · obtain ⟨k0, hk0, ek0⟩ := hV a (Nat.le_refl _) t1
      rw [ek0] at t2
      have h28 := hk0.1
      have y0 := rs_ylt (hG k0 hk0)
      refine br_f (nI_nle (by omega) (by omega)) (nm_r (nI_pred L.length) ⟨i, nm_r (e' := nI v) (rs_at (by omega) s1) ⟨iv, nm_r (e' := nI k0) (rs_at (by omega) t2) (br_f (nI_pos (by omega)) (rs_yOf h28 (hG k0 hk0) (pk_lt hy (rs_y a_placeOf k0) (fun z => ?_) (fun z => ?_))))⟩⟩)
      · refine hK f A B C D n (by omega) hF (rs_Le_r f) (fun j k j1 j2 hk ek q => ?_) s5
        have := t3 j j1 j2
        rw [ek0, ek, rs_k0 h28, rs_k0 hk.1] at this
        have := q.2.2.2
        omega
      · refine rs_test hlx hly hhx hhy hG hk0 hF (fun f' q1 q2 q3 => And.intro iv ?_)
        rw [ev, t4]
        have mid : ∀ f'', rs_Le f' f'' → ∀ k, rs_H f_present k → a_order a = nI k → rs_Fi (rs_Q a_placeOf lx ly hx hy) f'' k := by
          intro f'' hle k hk ek
          rw [ek0] at ek
          have hk28 := hk.1
          have : k0 = k := (nI_eq (by omega) (by omega)).mp ek
          rw [← this]
          exact rs_Fi_m hle q3
        have e3 : 2 * nI v = nI (2 * v) := pk_mul 2 v
        have e4 : 2 * nI v + 1 = nI (2 * v + 1) := by rw [e3, nI_1]
        -- from the left part on: L1 with or without it
        have R : ∀ (L1 : List rs_I) (A1 B1 C1 D1 : Nat → Int32), rs_St A1 B1 C1 D1 L1 → L1.length ≤ L.length + 1 → (∀ f1 A2 B2 C2 D2 n1, n0 + 2 * 2 ^ h - 1 ≤ n1 → rs_Sn f_present (rs_Q a_placeOf lx ly hx hy) f1 → rs_Le f' f1 → (∀ j k, (a + 1 + b) / 2 ≤ j → j < b → rs_H f_present k → a_order j = nI k → rs_Fi (rs_Q a_placeOf lx ly hx hy) f1 k) → rs_St A2 B2 C2 D2 L1 → (wX_searchHeap_12 post n1 f_present (nI sz) (nI lx) (nI ly) (nI hx) (nI hy) f1 f_nearX f_nearY f_best f_bestSquare (nI L1.length) f_quads f_levels f_boxes a_placeOf a_order A2 B2 C2 D2 a_quadX a_quadY a_quadSide a_quadPart a_quadCount a_quadFirst a_nextPoint a_lists a_fromLeft a_boxLowX a_boxLowY a_boxHighX a_boxHighY a_boxFirst a_boxParts a_boxOfPoints a_zeros a_bottom a_sorted a_cellFirst hP hS)) → (wX_searchHeap_90 post (wX_searchHeap_12 post n) (nI v) f_present (nI sz) (nI lx) (nI ly) (nI hx) (nI hy) f' f_nearX f_nearY f_best f_bestSquare (nI L1.length) f_quads f_levels f_boxes a_placeOf a_order A1 B1 C1 D1 a_quadX a_quadY a_quadSide a_quadPart a_quadCount a_quadFirst a_nextPoint a_lists a_fromLeft a_boxLowX a_boxLowY a_boxHighX a_boxHighY a_boxFirst a_boxParts a_boxOfPoints a_zeros a_bottom a_sorted a_cellFirst hP hS) := by
          intro L1 A1 B1 C1 D1 w1 hl1 hC
          unfold wX_searchHeap_90
          rw [ev, t4]
          refine ⟨iv, pk_lt hx sp (fun y => ?_) (fun y => ?_)⟩
          · refine hC f' A1 B1 C1 D1 n (by omega) q1 (rs_Le_r _) (fun j k j1 j2 hk ek q => ?_) w1
            have := t7 j j1 j2
            rw [ek, rs_k1 hk.1] at this
            have := q.2.1
            omega
          · refine rs_push (L := L1) (2 * v + 1) 0 0 0 w1 (by omega) (by omega) (by omega) (by omega) e4 rfl rfl rfl (fun A2 B2 C2 D2 w2 => ?_)
            exact ih ((a + 1 + b) / 2) b (2 * v + 1) (n0 + 2 * 2 ^ h - 1) n f' A2 B2 C2 D2 L1 t9 (by omega) h3 (by omega) (by omega) (fun l l1 l2 => hV l (by omega) l2) q1 w2 (by omega) (fun f1 A3 B3 C3 D3 n1 hn1 r1 r2 r3 w3 => hC f1 A3 B3 C3 D3 n1 hn1 r1 r2 r3 w3)
        refine pk_lt sp lx (fun y => R L A B C D s5 (by omega) (fun f1 A2 B2 C2 D2 n1 hn1 r1 r2 r3 w2 => ?_)) (fun y => rs_push (L := L) (2 * v) 0 0 0 s5 (by omega) (by omega) (by omega) (by omega) e3 rfl rfl rfl (fun A2 B2 C2 D2 w2 => R ((2 * v, 0, 0, 0) :: L) A2 B2 C2 D2 w2 (by rw [List.length_cons]; omega) (fun f1 A3 B3 C3 D3 n1 hn1 r1 r2 r3 w3 => ?_)))
        · refine hK f1 A2 B2 C2 D2 n1 (by omega) r1 (rs_Le_t q2 r2) (fun j k j1 j2 hk ek => ?_) w2
          by_cases ej : j = a
          · rw [ej] at ek; exact mid f1 r2 k hk ek
          · rcases Nat.lt_or_ge j ((a + 1 + b) / 2) with u | u
            · intro q
              have := t6 j (by omega) u
              rw [ek, rs_k1 hk.1] at this
              have := q.1
              omega
            · exact r3 j k u j2 hk ek
        · refine ih (a + 1) ((a + 1 + b) / 2) (2 * v) n0 n1 f1 A3 B3 C3 D3 L t8 (by omega) (by omega) (by omega) (by omega) (fun l l1 l2 => hV l (by omega) (by omega)) r1 w3 (by omega) (fun f2 A4 B4 C4 D4 n2 hn2 u1 u2 u3 w4 => ?_)
          refine hK f2 A4 B4 C4 D4 n2 hn2 u1 (rs_Le_t q2 (rs_Le_t r2 u2)) (fun j k j1 j2 hk ek => ?_) w4
          by_cases ej : j = a
          · rw [ej] at ek; exact mid f2 (rs_Le_t r2 u2) k hk ek
          · rcases Nat.lt_or_ge j ((a + 1 + b) / 2) with u | u
            · exact u3 j k (by omega) u hk ek
            · exact rs_Fi_m u2 (r3 j k u j2 hk ek)
end
section
variable {f_present f_size f_lowX f_lowY f_highX f_highY f_found f_nearX f_nearY f_best f_bestSquare f_waiting f_quads f_levels f_boxes : Int32} {a_placeOf a_order a_waitA a_waitB a_waitC a_waitD a_quadX a_quadY a_quadSide a_quadPart a_quadCount a_quadFirst a_nextPoint a_lists a_fromLeft a_boxLowX a_boxLowY a_boxHighX a_boxHighY a_boxFirst a_boxParts a_boxOfPoints a_zeros a_bottom a_sorted a_cellFirst a_heapPoint a_heapSplit : Nat → Int32} {sz lx ly hx hy : Nat}
theorem rs_searchHeap {post : SX → Prop} (hlx : lx < 64) (hly : ly < 64) (hhx : hx < 64) (hhy : hy < 64) (hG : rs_G f_present a_placeOf) (hA : rs_Al f_present sz a_order)
    (hp : ∀ f o A B C D hP hS, rs_Sn f_present (rs_Q a_placeOf lx ly hx hy) f → (∀ k, rs_H f_present k → rs_Fi (rs_Q a_placeOf lx ly hx hy) f k) → post (f_present, nI sz, nI lx, nI ly, nI hx, nI hy, f, f_nearX, f_nearY, f_best, f_bestSquare, nI 0, f_quads, f_levels, f_boxes, a_placeOf, o, A, B, C, D, a_quadX, a_quadY, a_quadSide, a_quadPart, a_quadCount, a_quadFirst, a_nextPoint, a_lists, a_fromLeft, a_boxLowX, a_boxLowY, a_boxHighX, a_boxHighY, a_boxFirst, a_boxParts, a_boxOfPoints, a_zeros, a_bottom, a_sorted, a_cellFirst, hP, hS)) : wpX_searchHeap post (f_present, nI sz, nI lx, nI ly, nI hx, nI hy, 0, f_nearX, f_nearY, f_best, f_bestSquare, f_waiting, f_quads, f_levels, f_boxes, a_placeOf, a_order, a_waitA, a_waitB, a_waitC, a_waitD, a_quadX, a_quadY, a_quadSide, a_quadPart, a_quadCount, a_quadFirst, a_nextPoint, a_lists, a_fromLeft, a_boxLowX, a_boxLowY, a_boxHighX, a_boxHighY, a_boxFirst, a_boxParts, a_boxOfPoints, a_zeros, a_bottom, a_sorted, a_cellFirst, a_heapPoint, a_heapSplit) := by
  unfold wpX_searchHeap
  refine rs_buildHeap hG hA (fun o A B C D hP hS hA' hT => ?_)
  refine rs_push (L := []) 1 0 0 0 trivial (by decide) (by omega) (by omega) (by omega) rfl rfl rfl rfl (fun A1 B1 C1 D1 w => Exists.intro 65 ?_)
  refine rs_hs_item hlx hly hhx hhy hG 5 0 sz 1 1 65 0 A1 B1 C1 D1 [] hT (Nat.zero_le _) hA'.1 (by decide) (by decide) (fun l _ g => hA'.2.1 l g) rs_Sn_0 w (by decide) (fun f' A' B' C' D' n' hn' q1 q2 q3 _ => ?_)
  obtain ⟨m, rfl⟩ : ∃ m, n' = m + 1 := ⟨n' - 1, by omega⟩
  refine br_t (by decide) (hp f' o A' B' C' D' hP hS q1 (fun k hk => ?_))
  obtain ⟨j, j1, j2⟩ := hA'.2.2.1 k hk
  exact q3 j k (Nat.zero_le _) j1 hk j2
end
/-! search -/
def rs_uF (u : SX) : Int32 := u.2.2.2.2.2.2.1
def rs_uP (u : SX) : Nat → Int32 := u.2.2.2.2.2.2.2.2.2.2.2.2.2.2.2.1
section
variable {f_present f_size f_lowX f_lowY f_highX f_highY f_found f_nearX f_nearY f_best f_bestSquare f_waiting f_quads f_levels f_boxes : Int32} {a_placeOf a_order a_waitA a_waitB a_waitC a_waitD a_quadX a_quadY a_quadSide a_quadPart a_quadCount a_quadFirst a_nextPoint a_lists a_fromLeft a_boxLowX a_boxLowY a_boxHighX a_boxHighY a_boxFirst a_boxParts a_boxOfPoints a_zeros a_bottom a_sorted a_cellFirst a_heapPoint a_heapSplit : Nat → Int32}
theorem rs_search {post : SX → Prop} {e lo hi : Nat} {x y z : Int32} (ex : x = nI e) (ey : y = nI lo) (ez : z = nI hi) (he : e < 8) (hlo : lo < 4096) (hhi : hi < 4096) (hG : rs_G f_present a_placeOf)
    (hp : ∀ u : SX, u.1 = f_present → rs_uP u = a_placeOf → rs_Sn f_present (rs_Q a_placeOf (lo % 64) (lo / 64) (hi % 64) (hi / 64)) (rs_uF u) → (∀ k, rs_H f_present k → rs_Fi (rs_Q a_placeOf (lo % 64) (lo / 64) (hi % 64) (hi / 64)) (rs_uF u) k) → post u) : wpX_search post (f_present, f_size, f_lowX, f_lowY, f_highX, f_highY, f_found, f_nearX, f_nearY, f_best, f_bestSquare, f_waiting, f_quads, f_levels, f_boxes, a_placeOf, a_order, a_waitA, a_waitB, a_waitC, a_waitD, a_quadX, a_quadY, a_quadSide, a_quadPart, a_quadCount, a_quadFirst, a_nextPoint, a_lists, a_fromLeft, a_boxLowX, a_boxLowY, a_boxHighX, a_boxHighY, a_boxFirst, a_boxParts, a_boxOfPoints, a_zeros, a_bottom, a_sorted, a_cellFirst, a_heapPoint, a_heapSplit) x y z := by
  subst ex ey ez
  have r1 : nI lo - nI lo / 64 * 64 = nI (lo % 64) := pk_rem (d := 64) (by omega) (by decide) (by decide)
  have r2 : nI lo / 64 = nI (lo / 64) := pk_div (d := 64) (by omega) (by decide) (by decide)
  have r3 : nI hi - nI hi / 64 * 64 = nI (hi % 64) := pk_rem (d := 64) (by omega) (by decide) (by decide)
  have r4 : nI hi / 64 = nI (hi / 64) := pk_div (d := 64) (by omega) (by decide) (by decide)
  have b1 : lo % 64 < 64 := Nat.mod_lt _ (by decide)
  have b2 : lo / 64 < 64 := by omega
  have b3 : hi % 64 < 64 := Nat.mod_lt _ (by decide)
  have b4 : hi / 64 < 64 := by omega
  unfold wpX_search
  refine And.intro (by decide) (nm_r r1 (And.intro (by decide) (nm_r r2 (And.intro (by decide) (nm_r r3 (And.intro (by decide) (nm_r r4 (rs_gather (fun sz o hA => ?_)))))))))
  have hz := hA.1
  refine pk_eq sz 0 (fun w => hp _ rfl rfl rs_Sn_0 (fun k hk => ?_)) (fun w => pk_lt (hi % 64) (lo % 64) (fun v => hp _ rfl rfl rs_Sn_0 (fun k hk q => ?_)) (fun v => pk_le (lo / 64) (hi / 64) (fun t => ?_) (fun t => hp _ rfl rfl rs_Sn_0 (fun k hk q => ?_))))
  · obtain ⟨j, j1, _⟩ := hA.2.2.1 k hk
    omega
  · have := q.1
    have := q.2.1
    omega
  · refine br_f (nI_pos (by omega)) (pk_lt 6 e (fun s => ?_) (fun s => pk_eq e 0 (fun s => ?_) (fun _ => pk_eq e 1 (fun s => ?_) (fun _ => pk_eq e 2 (fun s => ?_) (fun _ => pk_eq e 3 (fun s => ?_) (fun _ => pk_eq e 4 (fun s => ?_) (fun _ => pk_eq e 5 (fun s => ?_) (fun _ => pk_eq e 6 (fun s => ?_) (fun _ => trivial)))))))))
    · exact rs_searchHeap b1 b2 b3 b4 hG hA (fun f o A B C D hP hS q1 q2 => hp _ rfl rfl q1 q2)
    · exact rs_searchHalves b1 b2 b3 b4 hG hA (fun f o A B C D q1 q2 => hp _ rfl rfl q1 q2)
    · exact rs_searchQuads b1 b2 b3 b4 hG hA (fun f A B C D X Y S Pt Ct F N nq q1 q2 => hp _ rfl rfl q1 q2)
    · exact rs_searchLists b1 b2 b3 b4 v hG hA (fun f o G Fl l q1 q2 => hp _ rfl rfl q1 q2)
    · exact rs_searchBridges b1 b2 b3 b4 v hG hA (by omega) (fun f o G Fl l A B C D q1 q2 => hp _ rfl rfl q1 q2)
    · exact rs_searchBoxes b1 b2 b3 b4 hG hA (by omega) (fun f o LX LY HX HY Fs Ps Op nb A B C D q1 q2 => hp _ rfl rfl q1 q2)
    · exact rs_searchDigits b1 b2 b3 b4 v hG hA (fun f o Z Bt So A B C D q1 q2 => hp _ rfl rfl q1 q2)
    · exact rs_searchCells b1 b2 b3 b4 hG hA (fun f N F q1 q2 => hp _ rfl rfl q1 q2)
  · have := q.2.2.1
    have := q.2.2.2
    omega
end
end
section
/-! the reference, and the methods without a nearest -/
theorem rs_el {P : SX → Prop} (h : ∀ {f_present' f_size' f_lowX' f_lowY' f_highX' f_highY' f_found' f_nearX' f_nearY' f_best' f_bestSquare' f_waiting' f_quads' f_levels' f_boxes' : Int32} {a_placeOf' a_order' a_waitA' a_waitB' a_waitC' a_waitD' a_quadX' a_quadY' a_quadSide' a_quadPart' a_quadCount' a_quadFirst' a_nextPoint' a_lists' a_fromLeft' a_boxLowX' a_boxLowY' a_boxHighX' a_boxHighY' a_boxFirst' a_boxParts' a_boxOfPoints' a_zeros' a_bottom' a_sorted' a_cellFirst' a_heapPoint' a_heapSplit' : Nat → Int32}, P (f_present', f_size', f_lowX', f_lowY', f_highX', f_highY', f_found', f_nearX', f_nearY', f_best', f_bestSquare', f_waiting', f_quads', f_levels', f_boxes', a_placeOf', a_order', a_waitA', a_waitB', a_waitC', a_waitD', a_quadX', a_quadY', a_quadSide', a_quadPart', a_quadCount', a_quadFirst', a_nextPoint', a_lists', a_fromLeft', a_boxLowX', a_boxLowY', a_boxHighX', a_boxHighY', a_boxFirst', a_boxParts', a_boxOfPoints', a_zeros', a_bottom', a_sorted', a_cellFirst', a_heapPoint', a_heapSplit')) (u : SX) : P u := @h u.1 u.2.1 u.2.2.1 u.2.2.2.1 u.2.2.2.2.1 u.2.2.2.2.2.1 u.2.2.2.2.2.2.1 u.2.2.2.2.2.2.2.1 u.2.2.2.2.2.2.2.2.1 u.2.2.2.2.2.2.2.2.2.1 u.2.2.2.2.2.2.2.2.2.2.1 u.2.2.2.2.2.2.2.2.2.2.2.1 u.2.2.2.2.2.2.2.2.2.2.2.2.1 u.2.2.2.2.2.2.2.2.2.2.2.2.2.1 u.2.2.2.2.2.2.2.2.2.2.2.2.2.2.1 u.2.2.2.2.2.2.2.2.2.2.2.2.2.2.2.1 u.2.2.2.2.2.2.2.2.2.2.2.2.2.2.2.2.1 u.2.2.2.2.2.2.2.2.2.2.2.2.2.2.2.2.2.1 u.2.2.2.2.2.2.2.2.2.2.2.2.2.2.2.2.2.2.1 u.2.2.2.2.2.2.2.2.2.2.2.2.2.2.2.2.2.2.2.1 u.2.2.2.2.2.2.2.2.2.2.2.2.2.2.2.2.2.2.2.2.1 u.2.2.2.2.2.2.2.2.2.2.2.2.2.2.2.2.2.2.2.2.2.1 u.2.2.2.2.2.2.2.2.2.2.2.2.2.2.2.2.2.2.2.2.2.2.1 u.2.2.2.2.2.2.2.2.2.2.2.2.2.2.2.2.2.2.2.2.2.2.2.1 u.2.2.2.2.2.2.2.2.2.2.2.2.2.2.2.2.2.2.2.2.2.2.2.2.1 u.2.2.2.2.2.2.2.2.2.2.2.2.2.2.2.2.2.2.2.2.2.2.2.2.2.1 u.2.2.2.2.2.2.2.2.2.2.2.2.2.2.2.2.2.2.2.2.2.2.2.2.2.2.1 u.2.2.2.2.2.2.2.2.2.2.2.2.2.2.2.2.2.2.2.2.2.2.2.2.2.2.2.1 u.2.2.2.2.2.2.2.2.2.2.2.2.2.2.2.2.2.2.2.2.2.2.2.2.2.2.2.2.1 u.2.2.2.2.2.2.2.2.2.2.2.2.2.2.2.2.2.2.2.2.2.2.2.2.2.2.2.2.2.1 u.2.2.2.2.2.2.2.2.2.2.2.2.2.2.2.2.2.2.2.2.2.2.2.2.2.2.2.2.2.2.1 u.2.2.2.2.2.2.2.2.2.2.2.2.2.2.2.2.2.2.2.2.2.2.2.2.2.2.2.2.2.2.2.1 u.2.2.2.2.2.2.2.2.2.2.2.2.2.2.2.2.2.2.2.2.2.2.2.2.2.2.2.2.2.2.2.2.1 u.2.2.2.2.2.2.2.2.2.2.2.2.2.2.2.2.2.2.2.2.2.2.2.2.2.2.2.2.2.2.2.2.2.1 u.2.2.2.2.2.2.2.2.2.2.2.2.2.2.2.2.2.2.2.2.2.2.2.2.2.2.2.2.2.2.2.2.2.2.1 u.2.2.2.2.2.2.2.2.2.2.2.2.2.2.2.2.2.2.2.2.2.2.2.2.2.2.2.2.2.2.2.2.2.2.2.1 u.2.2.2.2.2.2.2.2.2.2.2.2.2.2.2.2.2.2.2.2.2.2.2.2.2.2.2.2.2.2.2.2.2.2.2.2.1 u.2.2.2.2.2.2.2.2.2.2.2.2.2.2.2.2.2.2.2.2.2.2.2.2.2.2.2.2.2.2.2.2.2.2.2.2.2.1 u.2.2.2.2.2.2.2.2.2.2.2.2.2.2.2.2.2.2.2.2.2.2.2.2.2.2.2.2.2.2.2.2.2.2.2.2.2.2.1 u.2.2.2.2.2.2.2.2.2.2.2.2.2.2.2.2.2.2.2.2.2.2.2.2.2.2.2.2.2.2.2.2.2.2.2.2.2.2.2.1 u.2.2.2.2.2.2.2.2.2.2.2.2.2.2.2.2.2.2.2.2.2.2.2.2.2.2.2.2.2.2.2.2.2.2.2.2.2.2.2.2.1 u.2.2.2.2.2.2.2.2.2.2.2.2.2.2.2.2.2.2.2.2.2.2.2.2.2.2.2.2.2.2.2.2.2.2.2.2.2.2.2.2.2.1 u.2.2.2.2.2.2.2.2.2.2.2.2.2.2.2.2.2.2.2.2.2.2.2.2.2.2.2.2.2.2.2.2.2.2.2.2.2.2.2.2.2.2
section
variable {f_present f_size f_lowX f_lowY f_highX f_highY f_found f_nearX f_nearY f_best f_bestSquare f_waiting f_quads f_levels f_boxes : Int32} {a_placeOf a_order a_waitA a_waitB a_waitC a_waitD a_quadX a_quadY a_quadSide a_quadPart a_quadCount a_quadFirst a_nextPoint a_lists a_fromLeft a_boxLowX a_boxLowY a_boxHighX a_boxHighY a_boxFirst a_boxParts a_boxOfPoints a_zeros a_bottom a_sorted a_cellFirst a_heapPoint a_heapSplit : Nat → Int32}
theorem rs_search2 {post : SX → Prop} {e lo hi : Nat} {x y z : Int32} (ex : x = nI e) (ey : y = nI lo) (ez : z = nI hi) (he : e < 8) (hlo : lo < 4096) (hhi : hi < 4096) (hG : rs_G f_present a_placeOf)
    (hp : ∀ {f_size' f_lowX' f_lowY' f_highX' f_highY' f_found' f_nearX' f_nearY' f_best' f_bestSquare' f_waiting' f_quads' f_levels' f_boxes' : Int32} {a_order' a_waitA' a_waitB' a_waitC' a_waitD' a_quadX' a_quadY' a_quadSide' a_quadPart' a_quadCount' a_quadFirst' a_nextPoint' a_lists' a_fromLeft' a_boxLowX' a_boxLowY' a_boxHighX' a_boxHighY' a_boxFirst' a_boxParts' a_boxOfPoints' a_zeros' a_bottom' a_sorted' a_cellFirst' a_heapPoint' a_heapSplit' : Nat → Int32}, rs_Sn f_present (rs_Q a_placeOf (lo % 64) (lo / 64) (hi % 64) (hi / 64)) f_found' → (∀ k, rs_H f_present k → rs_Fi (rs_Q a_placeOf (lo % 64) (lo / 64) (hi % 64) (hi / 64)) f_found' k) → post (f_present, f_size', f_lowX', f_lowY', f_highX', f_highY', f_found', f_nearX', f_nearY', f_best', f_bestSquare', f_waiting', f_quads', f_levels', f_boxes', a_placeOf, a_order', a_waitA', a_waitB', a_waitC', a_waitD', a_quadX', a_quadY', a_quadSide', a_quadPart', a_quadCount', a_quadFirst', a_nextPoint', a_lists', a_fromLeft', a_boxLowX', a_boxLowY', a_boxHighX', a_boxHighY', a_boxFirst', a_boxParts', a_boxOfPoints', a_zeros', a_bottom', a_sorted', a_cellFirst', a_heapPoint', a_heapSplit')) : wpX_search post (f_present, f_size, f_lowX, f_lowY, f_highX, f_highY, f_found, f_nearX, f_nearY, f_best, f_bestSquare, f_waiting, f_quads, f_levels, f_boxes, a_placeOf, a_order, a_waitA, a_waitB, a_waitC, a_waitD, a_quadX, a_quadY, a_quadSide, a_quadPart, a_quadCount, a_quadFirst, a_nextPoint, a_lists, a_fromLeft, a_boxLowX, a_boxLowY, a_boxHighX, a_boxHighY, a_boxFirst, a_boxParts, a_boxOfPoints, a_zeros, a_bottom, a_sorted, a_cellFirst, a_heapPoint, a_heapSplit) x y z := by
  refine rs_search ex ey ez he hlo hhi hG (rs_el ?_)
  intro f_present' f_size' f_lowX' f_lowY' f_highX' f_highY' f_found' f_nearX' f_nearY' f_best' f_bestSquare' f_waiting' f_quads' f_levels' f_boxes' a_placeOf' a_order' a_waitA' a_waitB' a_waitC' a_waitD' a_quadX' a_quadY' a_quadSide' a_quadPart' a_quadCount' a_quadFirst' a_nextPoint' a_lists' a_fromLeft' a_boxLowX' a_boxLowY' a_boxHighX' a_boxHighY' a_boxFirst' a_boxParts' a_boxOfPoints' a_zeros' a_bottom' a_sorted' a_cellFirst' a_heapPoint' a_heapSplit' h1 h2 q1 q2
  have h1 : f_present' = f_present := h1
  have h2 : a_placeOf' = a_placeOf := h2
  subst h1 h2
  exact hp q1 q2
end
/-! the relation -/
def rs_RR (p : Int32) (P v : Nat → Int32) : Prop := (∀ i, bt p i = true → i < 28) ∧ ∀ k, k < 28 → (bt p k = true → ∃ c, c < 4096 ∧ P k = nI c ∧ v k = nI (c + 1)) ∧ (¬ bt p k = true → v k = 0)
theorem rs_RR_G {p : Int32} {P v : Nat → Int32} (h : rs_RR p P v) : rs_G p P := by
  intro k hk
  obtain ⟨c, h1, h2, _⟩ := (h.2 k hk.1).1 hk.2
  exact ⟨c, h1, h2⟩
section
variable {p : Int32} {P v : Nat → Int32}
theorem rs_Yis {post : Int32 → Prop} (hR : rs_RR p P v) (x : Int32) (h0 : (∀ k, x = nI k → ¬ rs_H p k) → post 0) (h1 : ∀ k, x = nI k → rs_H p k → post 1) : wpY_is post v x := by
  have big : ∀ k, (x < 0 ∨ 28 ≤ x) → x = nI k → ¬ rs_H p k := by
    intro k hx e hk
    subst e
    have := hk.1
    rcases hx with hx | hx
    · exact nI_pos (by omega) hx
    · exact nI_ge (b := 28) this (by decide) hx
  refine br_c (fun h => h0 fun k => big k (Or.inl h)) fun h => br_c (fun g => h0 fun k => big k (Or.inr g)) fun g => ?_
  obtain ⟨k, hk, rfl⟩ := nI_of h
  have hk28 : k < 28 := by
    rcases Nat.lt_or_ge k 28 with z | z
    · exact z
    · exact absurd (nI_le (a := 28) z hk) g
  rw [nI_clamp hk]
  refine ⟨vp_in_nI hk28 (by decide), ?_⟩
  by_cases hb : bt p k = true
  · obtain ⟨c, c1, _, c3⟩ := (hR.2 k hk28).1 hb
    rw [c3]
    exact br_f (nI_ne0 (by omega) (by omega)) (h1 k rfl ⟨hk28, hb⟩)
  · rw [(hR.2 k hk28).2 hb]
    refine br_t rfl (h0 fun j ej hj => hb ?_)
    have e : k = j := (nI_eq hk (by have := hj.1; omega)).mp ej
    rw [e]
    exact hj.2
theorem rs_Yis1 {post : Int32 → Prop} {k : Nat} (hR : rs_RR p P v) (h : rs_H p k) (hp : post 1) : wpY_is post v (nI k) :=
  rs_Yis hR (nI k) (fun z => absurd h (z k rfl)) (fun _ _ _ => hp)
theorem rs_Yis0 {post : Int32 → Prop} {k : Nat} (hR : rs_RR p P v) (hk : k < 28) (h : ¬ rs_H p k) (hp : post 0) : wpY_is post v (nI k) := by
  refine rs_Yis hR (nI k) (fun _ => hp) (fun j e hj => ?_)
  have e : k = j := (nI_eq (by omega) (by have := hj.1; omega)).mp e
  subst e
  exact absurd hj h
theorem rs_YisP {post : Int32 → Prop} (x : Int32) (h0 : (∀ c, c < 4096 → ¬ x = nI c) → post 0) (h1 : ∀ c, c < 4096 → x = nI c → post 1) : wpY_isPlace post v x := by
  refine br_c (fun h => h0 fun c hc e => ?_) fun h => br_c (fun g => h0 fun c hc e => ?_) fun g => ?_
  · subst e; exact nI_pos (by omega) h
  · subst e; exact nI_nlt (a := 4095) (b := c) (by omega) (by omega) g
  · obtain ⟨k, hk, rfl⟩ := nI_of h
    rcases Nat.lt_or_ge k 4096 with z | z
    · exact h1 k z rfl
    · exact absurd (nI_lt (a := 4095) z hk) g
theorem rs_Yx {post : Int32 → Prop} {k : Nat} (hR : rs_RR p P v) (h : rs_H p k) (hp : post (nI (rs_x P k))) : wpY_x post v (nI k) := by
  obtain ⟨c, c1, c2, c3⟩ := (hR.2 k h.1).1 h.2
  have h28 := h.1
  refine And.intro (vp_in_nI h28 (by decide)) (And.intro (by decide) ?_)
  have e2 : nI c - nI c / 64 * 64 = nI (c % 64) := pk_rem (d := 64) (by omega) (by decide) (by decide)
  rw [nI_clamp (show k < 2 ^ 31 by omega), c3, nI_pred, e2]
  unfold rs_x at hp
  rw [c2, nI_clamp (by omega)] at hp
  exact hp
theorem rs_Yy {post : Int32 → Prop} {k : Nat} (hR : rs_RR p P v) (h : rs_H p k) (hp : post (nI (rs_y P k))) : wpY_y post v (nI k) := by
  obtain ⟨c, c1, c2, c3⟩ := (hR.2 k h.1).1 h.2
  have h28 := h.1
  refine And.intro (vp_in_nI h28 (by decide)) (And.intro (by decide) ?_)
  have e2 : nI c / 64 = nI (c / 64) := pk_div (d := 64) (by omega) (by decide) (by decide)
  rw [nI_clamp (show k < 2 ^ 31 by omega), c3, nI_pred, e2]
  unfold rs_y at hp
  rw [c2, nI_clamp (by omega)] at hp
  exact hp
theorem rs_Yfar {post : Int32 → Prop} {k w : Nat} (hR : rs_RR p P v) (h : rs_H p k) (hw : w < 4096) (hp : post (nI (rs_d P (w % 64) (w / 64) k))) : wpY_far post v (nI k) (nI w) := by
  have r1 : nI w - nI w / 64 * 64 = nI (w % 64) := pk_rem (d := 64) (by omega) (by decide) (by decide)
  have r2 : nI w / 64 = nI (w / 64) := pk_div (d := 64) (by omega) (by decide) (by decide)
  unfold wpY_far
  rw [r1, r2]
  refine rs_Yx hR h (And.intro (by decide) (nm_e (rs_Yy hR h (And.intro (by decide) (nm_e ?_)))))
  rw [rs_sqE, rs_sqE, nI_add]
  exact hp
/-! a set built point by point -/
def rs_Ps (p : Int32) (Q : Nat → Prop) (i : Nat) (f : Int32) : Prop := ∀ j, bt f j = true ↔ (j < i ∧ rs_H p j ∧ Q j)
theorem rs_Ps_0 {Q : Nat → Prop} : rs_Ps p Q 0 0 := fun j => ⟨fun h => (by rw [b_0] at h; cases h), fun h => (by omega)⟩
theorem rs_Ps_y {Q : Nat → Prop} {i : Nat} {f : Int32} (h : rs_Ps p Q i f) (hi : rs_H p i) (hq : Q i) : rs_Ps p Q (i + 1) (f ||| ((1 : Int32) <<< (nI i &&& 31))) := by
  intro j
  rw [rs_or f (by have := hi.1; omega) j, h j]
  constructor
  · rintro (⟨a, b, c⟩ | e)
    · exact ⟨by omega, b, c⟩
    · rw [e]; exact ⟨by omega, hi, hq⟩
  · rintro ⟨a, b, c⟩
    by_cases e : j = i
    · exact Or.inr e
    · exact Or.inl ⟨by omega, b, c⟩
theorem rs_Ps_n {Q : Nat → Prop} {i : Nat} {f : Int32} (h : rs_Ps p Q i f) (hq : rs_H p i → ¬ Q i) : rs_Ps p Q (i + 1) f := by
  intro j
  rw [h j]
  constructor
  · rintro ⟨a, b, c⟩; exact ⟨by omega, b, c⟩
  · rintro ⟨a, b, c⟩
    by_cases e : j = i
    · rw [e] at b c; exact absurd c (hq b)
    · exact ⟨by omega, b, c⟩
theorem rs_Ps_end {Q : Nat → Prop} {f : Int32} (h : rs_Ps p Q 28 f) : rs_Sn p Q f ∧ ∀ k, rs_H p k → rs_Fi Q f k :=
  ⟨fun i hi => ((h i).mp hi).2, fun k hk q => (h k).mpr ⟨hk.1, hk, q⟩⟩
theorem rs_Yinside_l {post : Int32 → Prop} {lo hi : Nat} (hR : rs_RR p P v) (hlo : lo < 4096) (hhi : hi < 4096) (hp : ∀ f, rs_Sn p (rs_Q P (lo % 64) (lo / 64) (hi % 64) (hi / 64)) f → (∀ k, rs_H p k → rs_Fi (rs_Q P (lo % 64) (lo / 64) (hi % 64) (hi / 64)) f k) → post f) :
    ∀ n i f, 28 < n + i → i ≤ 28 → rs_Ps p (rs_Q P (lo % 64) (lo / 64) (hi % 64) (hi / 64)) i f → wY_inside_34 post (nI lo) (nI hi) v n f (nI i) := by
  have hG := rs_RR_G hR
  have r1 : nI lo - nI lo / 64 * 64 = nI (lo % 64) := pk_rem (d := 64) (by omega) (by decide) (by decide)
  have r2 : nI lo / 64 = nI (lo / 64) := pk_div (d := 64) (by omega) (by decide) (by decide)
  have r3 : nI hi - nI hi / 64 * 64 = nI (hi % 64) := pk_rem (d := 64) (by omega) (by decide) (by decide)
  have r4 : nI hi / 64 = nI (hi / 64) := pk_div (d := 64) (by omega) (by decide) (by decide)
  intro n
  induction n with
  | zero => intro i f h1 h2; omega
  | succ n ih =>
    intro i f h1 h2 hI
    refine pk_le 28 i (fun z => ?_) (fun z => ?_)
    · have e : i = 28 := by omega
      subst e
      exact hp f (rs_Ps_end hI).1 (rs_Ps_end hI).2
    · have no : (rs_H p i → ¬ rs_Q P (lo % 64) (lo / 64) (hi % 64) (hi / 64) i) → wY_inside_106 post (wY_inside_34 post (nI lo) (nI hi) v n) (nI lo) (nI hi) f (nI i) v := by
        intro hq
        unfold wY_inside_106 wY_inside_107
        exact br_t rfl (nm_r (nI_1 i) (ih (i + 1) f (by omega) (by omega) (rs_Ps_n hI hq)))
      by_cases hh : rs_H p i
      · have hx := rs_xlt P i
        have hy := rs_ylt (hG i hh)
        refine rs_Yis1 hR hh (br_f (by decide) ?_)
        rw [r1, r2, r3, r4]
        refine rs_Yx hR hh (And.intro (by decide) (pk_lt (rs_x P i) (lo % 64) (fun w => no (fun _ q => by have := q.1; omega)) (fun w1 => rs_Yx hR hh (And.intro (by decide) (pk_lt (hi % 64) (rs_x P i) (fun w => no (fun _ q => by have := q.2.1; omega)) (fun w2 => rs_Yy hR hh (And.intro (by decide) (pk_lt (rs_y P i) (lo / 64) (fun w => no (fun _ q => by have := q.2.2.1; omega)) (fun w3 => rs_Yy hR hh (And.intro (by decide) (pk_lt (hi / 64) (rs_y P i) (fun w => no (fun _ q => by have := q.2.2.2; omega)) (fun w4 => ?_))))))))))))
        unfold wY_inside_107
        exact br_f (by decide) (nm_e (nm_r (nI_1 i) (ih (i + 1) _ (by omega) (by omega) (rs_Ps_y hI hh ⟨w1, w2, w3, w4⟩))))
      · exact rs_Yis0 hR z hh (br_t rfl (no (fun h => absurd h hh)))
/-- a question, as both ask it -/
def rs_ask (x y z : Int32) (e lo hi : Nat) : Prop := x = nI e ∧ y = nI lo ∧ z = nI hi ∧ e < 8 ∧ lo < 4096 ∧ hi < 4096
theorem rs_Yinside {post : Int32 → Prop} {x y z : Int32} (hR : rs_RR p P v) (h0 : (∀ e lo hi, ¬ rs_ask x y z e lo hi) → post (-1)) (h1 : ∀ e lo hi, rs_ask x y z e lo hi → ∀ f, rs_Sn p (rs_Q P (lo % 64) (lo / 64) (hi % 64) (hi / 64)) f → (∀ k, rs_H p k → rs_Fi (rs_Q P (lo % 64) (lo / 64) (hi % 64) (hi / 64)) f k) → post f) : wpY_inside post v x y z := by
  unfold wpY_inside
  refine br_c (fun a => h0 fun e lo hi h => ?_) (fun a => br_c (fun b => h0 fun e lo hi h => ?_) (fun b => rs_YisP y (fun c => br_t rfl (h0 fun e lo hi h => c lo h.2.2.2.2.1 h.2.1)) (fun lo hlo el => br_f (by decide) (rs_YisP z (fun c => br_t rfl (h0 fun e lo hi h => c hi h.2.2.2.2.2 h.2.2.1)) (fun hi hhi eh => br_f (by decide) ?_)))))
  · rw [h.1] at a; exact nI_pos (by have := h.2.2.2.1; omega) a
  · rw [h.1] at b; exact nI_nlt (a := 7) (b := e) (by have := h.2.2.2.1; omega) (by decide) b
  · obtain ⟨e, he, ee⟩ := nI_of a
    have e8 : e < 8 := by
      rcases Nat.lt_or_ge e 8 with w | w
      · exact w
      · rw [ee] at b; exact absurd (nI_lt (a := 7) w he) b
    subst el eh
    exact Exists.intro 29 (rs_Yinside_l hR hlo hhi (h1 e lo hi ⟨ee, rfl, rfl, e8, hlo, hhi⟩) 29 0 0 (by omega) (by omega) rs_Ps_0)
end
section
variable {f_present f_size f_lowX f_lowY f_highX f_highY f_found f_nearX f_nearY f_best f_bestSquare f_waiting f_quads f_levels f_boxes : Int32} {a_placeOf a_order a_waitA a_waitB a_waitC a_waitD a_quadX a_quadY a_quadSide a_quadPart a_quadCount a_quadFirst a_nextPoint a_lists a_fromLeft a_boxLowX a_boxLowY a_boxHighX a_boxHighY a_boxFirst a_boxParts a_boxOfPoints a_zeros a_bottom a_sorted a_cellFirst a_heapPoint a_heapSplit : Nat → Int32}
theorem rs_isQ {post : Int32 → Prop} {x y z : Int32} (h0 : (∀ e lo hi, ¬ rs_ask x y z e lo hi) → post 0) (h1 : ∀ e lo hi, rs_ask x y z e lo hi → post 1) : wpX_isQuestion post x y z := by
  unfold wpX_isQuestion
  refine br_c (fun a => h0 fun e lo hi h => ?_) (fun a => br_c (fun b => h0 fun e lo hi h => ?_) (fun b => rs_isP y (fun c => br_t rfl (h0 fun e lo hi h => c lo h.2.2.2.2.1 h.2.1)) (fun lo hlo el => br_f (by decide) (rs_isP z (fun c => br_t rfl (h0 fun e lo hi h => c hi h.2.2.2.2.2 h.2.2.1)) (fun hi hhi eh => br_f (by decide) ?_)))))
  · rw [h.1] at a; exact nI_pos (by have := h.2.2.2.1; omega) a
  · rw [h.1] at b; exact nI_ge (b := 8) (a := e) h.2.2.2.1 (by decide) b
  · obtain ⟨e, he, ee⟩ := nI_of a
    have e8 : e < 8 := by
      rcases Nat.lt_or_ge e 8 with w | w
      · exact w
      · rw [ee] at b; exact absurd (nI_le (a := 8) w he) b
    exact h1 e lo hi ⟨ee, el, eh, e8, hlo, hhi⟩
/-- one outcome of a question, for both -/
theorem rs_qs {v : Nat → Int32} {x y z : Int32} {A : Prop} {K : SX → Prop} (hR : rs_RR f_present a_placeOf v)
    (h0 : (∀ postY : Int32 → Prop, postY (-1) → wpY_inside postY v x y z) → A)
    (h1 : ∀ {f_size' f_lowX' f_lowY' f_highX' f_highY' f_found' f_nearX' f_nearY' f_best' f_bestSquare' f_waiting' f_quads' f_levels' f_boxes' : Int32} {a_order' a_waitA' a_waitB' a_waitC' a_waitD' a_quadX' a_quadY' a_quadSide' a_quadPart' a_quadCount' a_quadFirst' a_nextPoint' a_lists' a_fromLeft' a_boxLowX' a_boxLowY' a_boxHighX' a_boxHighY' a_boxFirst' a_boxParts' a_boxOfPoints' a_zeros' a_bottom' a_sorted' a_cellFirst' a_heapPoint' a_heapSplit' : Nat → Int32}, (∀ i, bt f_found' i = true → i < 28) → (∀ postY : Int32 → Prop, postY f_found' → wpY_inside postY v x y z) → K (f_present, f_size', f_lowX', f_lowY', f_highX', f_highY', f_found', f_nearX', f_nearY', f_best', f_bestSquare', f_waiting', f_quads', f_levels', f_boxes', a_placeOf, a_order', a_waitA', a_waitB', a_waitC', a_waitD', a_quadX', a_quadY', a_quadSide', a_quadPart', a_quadCount', a_quadFirst', a_nextPoint', a_lists', a_fromLeft', a_boxLowX', a_boxLowY', a_boxHighX', a_boxHighY', a_boxFirst', a_boxParts', a_boxOfPoints', a_zeros', a_bottom', a_sorted', a_cellFirst', a_heapPoint', a_heapSplit')) : wpX_isQuestion (fun r => (r = 0 → A) ∧ (¬ r = 0 → wpX_search K (f_present, f_size, f_lowX, f_lowY, f_highX, f_highY, f_found, f_nearX, f_nearY, f_best, f_bestSquare, f_waiting, f_quads, f_levels, f_boxes, a_placeOf, a_order, a_waitA, a_waitB, a_waitC, a_waitD, a_quadX, a_quadY, a_quadSide, a_quadPart, a_quadCount, a_quadFirst, a_nextPoint, a_lists, a_fromLeft, a_boxLowX, a_boxLowY, a_boxHighX, a_boxHighY, a_boxFirst, a_boxParts, a_boxOfPoints, a_zeros, a_bottom, a_sorted, a_cellFirst, a_heapPoint, a_heapSplit) x y z)) x y z := by
  refine rs_isQ (fun hn => br_t rfl (h0 (fun postY hp => ?_))) (fun e lo hi h => br_f (by decide) ?_)
  · exact rs_Yinside hR (fun _ => hp) (fun e lo hi h => absurd h (hn e lo hi))
  · obtain ⟨g1, g2, g3, g4, g5, g6⟩ := h
    have hask : rs_ask x y z e lo hi := ⟨g1, g2, g3, g4, g5, g6⟩
    refine rs_search2 g1 g2 g3 g4 g5 g6 (rs_RR_G hR) ?_
    intros
    rename_i q1 q2
    refine h1 (fun i hi => (q1 i hi).1.1) (fun postY hp => ?_)
    refine rs_Yinside hR (fun hn => absurd hask (hn e lo hi)) (fun e' lo' hi' h f k1 k2 => ?_)
    obtain ⟨_, j2, j3, _, j5, j6⟩ := h
    have el : lo = lo' := (nI_eq (by omega) (by omega)).mp (by rw [← g2, ← j2])
    have eh : hi = hi' := (nI_eq (by omega) (by omega)).mp (by rw [← g3, ← j3])
    subst el eh
    have : f = _ := rs_Sn_eq k1 k2 q1 q2
    rw [this]
    exact hp
end
end
section
/-! the relation, and the methods without a nearest -/
/-- the relation at the head of a turn -/
def i_Rel (_ : Nat) (u : SX) (v : SY) : Prop := rs_RR u.1 (rs_uP u) v
def rs_on (f : Int32) : Nat → Nat
  | 0 => 0
  | i + 1 => rs_on f i + (bt f i).toNat
theorem rs_on_le (f : Int32) : ∀ i, rs_on f i ≤ i
  | 0 => Nat.le_refl _
  | i + 1 => by
    have := rs_on_le f i
    simp only [rs_on]
    cases bt f i <;> simp only [Bool.toNat_true, Bool.toNat_false] <;> omega
theorem rs_ones_l {post : Int32 → Prop} {f : Int32} (hp : post (nI (rs_on f 28))) : ∀ n i, 28 < n + i → i ≤ 28 → wX_ones_4 post f n (nI (rs_on f i)) (nI i) := by
  intro n
  induction n with
  | zero => intro i h1 h2; omega
  | succ n ih =>
    intro i h1 h2
    refine pk_le 28 i (fun z => ?_) (fun z => ?_)
    · have e : i = 28 := by omega
      subst e
      exact hp
    · exact nm_r (e' := nI (rs_on f (i + 1))) (by rw [rs_bv f (by omega), nI_add]; rfl) (nm_r (nI_1 i) (ih (i + 1) (by omega) (by omega)))
theorem rs_ones {post : Int32 → Prop} {f : Int32} (hp : post (nI (rs_on f 28))) : wpX_ones post f := Exists.intro 29 (rs_ones_l hp 29 0 (by omega) (by omega))
theorem rs_Ycount_l {post : Int32 → Prop} {v : Nat → Int32} {f : Int32} (hp : 0 ≤ f → post (nI (rs_on f 28))) (hp' : ¬ 0 ≤ f → post (-1)) : ∀ n i, 28 < n + i → i ≤ 28 → wY_count_15 post f v n (nI (rs_on f i)) (nI i) := by
  intro n
  induction n with
  | zero => intro i h1 h2; omega
  | succ n ih =>
    intro i h1 h2
    refine pk_le 28 i (fun z => ?_) (fun z => ?_)
    · have e : i = 28 := by omega
      subst e
      exact br_c hp hp'
    · exact nm_r (e' := nI (rs_on f (i + 1))) (by rw [rs_bv f (by omega), nI_add]; rfl) (nm_r (nI_1 i) (ih (i + 1) (by omega) (by omega)))
theorem rs_nn {f : Int32} (h : ∀ i, bt f i = true → i < 28) : 0 ≤ f := by
  have h31 : f.toBitVec.msb = false := by
    rw [BitVec.msb_eq_getLsbD_last]
    show bt f 31 = false
    cases hb : bt f 31
    · rfl
    · exact absurd (h 31 hb) (by omega)
  rw [Int32.le_iff_toInt_le]
  show (0 : Int32).toInt ≤ f.toBitVec.toInt
  rw [BitVec.toInt_eq_toNat_of_msb h31, show (0 : Int32).toInt = 0 from by decide]
  omega
theorem i_up {k : Nat} {u : SX} {v : SY} (h : i_Rel k u v) : i_Rel (k + 5) u v := h
theorem i_vc0 : wpX_init (fun u => wpY_init (fun v => i_Rel 0 u v)) := by
  refine ⟨fun i hi => ?_, fun k hk => ⟨fun h => ?_, fun _ => rfl⟩⟩
  · have hi : bt 0 i = true := hi
    rw [b_0] at hi; cases hi
  · have h : bt 0 k = true := h
    rw [b_0] at h; cases h
section
variable {f_present f_size f_lowX f_lowY f_highX f_highY f_found f_nearX f_nearY f_best f_bestSquare f_waiting f_quads f_levels f_boxes : Int32} {a_placeOf a_order a_waitA a_waitB a_waitC a_waitD a_quadX a_quadY a_quadSide a_quadPart a_quadCount a_quadFirst a_nextPoint a_lists a_fromLeft a_boxLowX a_boxLowY a_boxHighX a_boxHighY a_boxFirst a_boxParts a_boxOfPoints a_zeros a_bottom a_sorted a_cellFirst a_heapPoint a_heapSplit : Nat → Int32} {v : Nat → Int32}
theorem rs_vc_inside {k : Nat} (hR : rs_RR f_present a_placeOf v) (v1 v2 v3 : Int32) : wpX_inside (fun r u' => wpY_inside (fun r' => r' = r ∧ i_Rel (k + 5) u' v) v v1 v2 v3) (f_present, f_size, f_lowX, f_lowY, f_highX, f_highY, f_found, f_nearX, f_nearY, f_best, f_bestSquare, f_waiting, f_quads, f_levels, f_boxes, a_placeOf, a_order, a_waitA, a_waitB, a_waitC, a_waitD, a_quadX, a_quadY, a_quadSide, a_quadPart, a_quadCount, a_quadFirst, a_nextPoint, a_lists, a_fromLeft, a_boxLowX, a_boxLowY, a_boxHighX, a_boxHighY, a_boxFirst, a_boxParts, a_boxOfPoints, a_zeros, a_bottom, a_sorted, a_cellFirst, a_heapPoint, a_heapSplit) v1 v2 v3 := by
  unfold wpX_inside
  refine rs_qs hR (fun h => h _ ⟨rfl, hR⟩) ?_
  intros
  rename_i h1 h2
  exact h2 _ ⟨rfl, hR⟩
theorem rs_vc_count {k : Nat} (hR : rs_RR f_present a_placeOf v) (v1 v2 v3 : Int32) : wpX_count (fun r u' => wpY_count (fun r' => r' = r ∧ i_Rel (k + 5) u' v) v v1 v2 v3) (f_present, f_size, f_lowX, f_lowY, f_highX, f_highY, f_found, f_nearX, f_nearY, f_best, f_bestSquare, f_waiting, f_quads, f_levels, f_boxes, a_placeOf, a_order, a_waitA, a_waitB, a_waitC, a_waitD, a_quadX, a_quadY, a_quadSide, a_quadPart, a_quadCount, a_quadFirst, a_nextPoint, a_lists, a_fromLeft, a_boxLowX, a_boxLowY, a_boxHighX, a_boxHighY, a_boxFirst, a_boxParts, a_boxOfPoints, a_zeros, a_bottom, a_sorted, a_cellFirst, a_heapPoint, a_heapSplit) v1 v2 v3 := by
  unfold wpX_count
  refine rs_qs hR (fun h => h _ (Exists.intro 29 (rs_Ycount_l (fun z => absurd z (by decide)) (fun _ => ⟨rfl, hR⟩) 29 0 (by omega) (by omega)))) ?_
  intros
  rename_i h1 h2
  refine rs_ones (h2 _ (Exists.intro 29 (rs_Ycount_l (fun _ => ⟨rfl, hR⟩) (fun z => absurd (rs_nn h1) z) 29 0 (by omega) (by omega))))
theorem rs_vc_agree {k : Nat} (hR : rs_RR f_present a_placeOf v) (v1 v2 v3 v4 : Int32) : wpX_agree (fun r u' => wpY_agree (fun r' => r' = r ∧ i_Rel (k + 5) u' v) v v1 v2 v3 v4) (f_present, f_size, f_lowX, f_lowY, f_highX, f_highY, f_found, f_nearX, f_nearY, f_best, f_bestSquare, f_waiting, f_quads, f_levels, f_boxes, a_placeOf, a_order, a_waitA, a_waitB, a_waitC, a_waitD, a_quadX, a_quadY, a_quadSide, a_quadPart, a_quadCount, a_quadFirst, a_nextPoint, a_lists, a_fromLeft, a_boxLowX, a_boxLowY, a_boxHighX, a_boxHighY, a_boxFirst, a_boxParts, a_boxOfPoints, a_zeros, a_bottom, a_sorted, a_cellFirst, a_heapPoint, a_heapSplit) v1 v2 v3 v4 := by
  have neg : (-1 : Int32) < 0 := by decide
  unfold wpX_agree
  refine rs_isQ (fun hn => br_t rfl (rs_Yinside hR (fun _ => br_t neg ⟨rfl, hR⟩) (fun e lo hi h => absurd h (hn e lo hi)))) (fun e lo hi h => br_f (by decide) ?_)
  have hask := h
  obtain ⟨g1, g2, g3, g4, g5, g6⟩ := h
  refine rs_isQ (fun hn => br_t rfl (rs_Yinside hR (fun hx => absurd hask (hx e lo hi)) (fun e' lo' hi' h f k1 k2 => br_f (Int32.not_lt.mpr (rs_nn (fun i hi => (k1 i hi).1.1))) (rs_Yinside hR (fun _ => br_t neg ⟨rfl, hR⟩) (fun e lo hi h => absurd h (hn e lo hi)))))) (fun e2 lo2 hi2 h2 => br_f (by decide) ?_)
  have hask2 := h2
  obtain ⟨j1, j2, j3, j4, j5, j6⟩ := h2
  have el : lo = lo2 := (nI_eq (by omega) (by omega)).mp (by rw [← g2, ← j2])
  have eh : hi = hi2 := (nI_eq (by omega) (by omega)).mp (by rw [← g3, ← j3])
  subst el eh
  refine rs_search2 g1 g2 g3 g4 g5 g6 (rs_RR_G hR) ?_
  intros
  rename_i q1 q2
  refine rs_search2 j1 g2 g3 j4 g5 g6 (rs_RR_G hR) ?_
  intros
  rename_i q3 q4
  refine br_t (rs_Sn_eq q1 q2 q3 q4) (rs_Yinside hR (fun hx => absurd hask (hx e lo hi)) (fun e' lo' hi' h f k1 k2 => br_f (Int32.not_lt.mpr (rs_nn (fun i hi => (k1 i hi).1.1))) (rs_Yinside hR (fun hx => absurd hask2 (hx e2 lo hi)) (fun e' lo' hi' h f k1 k2 => br_f (Int32.not_lt.mpr (rs_nn (fun i hi => (k1 i hi).1.1))) ⟨rfl, hR⟩))))
theorem rs_vc_points {k : Nat} (hR : rs_RR f_present a_placeOf v) : wpX_points (fun r => wpY_points (fun r' => r' = r ∧ i_Rel (k + 5) (f_present, f_size, f_lowX, f_lowY, f_highX, f_highY, f_found, f_nearX, f_nearY, f_best, f_bestSquare, f_waiting, f_quads, f_levels, f_boxes, a_placeOf, a_order, a_waitA, a_waitB, a_waitC, a_waitD, a_quadX, a_quadY, a_quadSide, a_quadPart, a_quadCount, a_quadFirst, a_nextPoint, a_lists, a_fromLeft, a_boxLowX, a_boxLowY, a_boxHighX, a_boxHighY, a_boxFirst, a_boxParts, a_boxOfPoints, a_zeros, a_bottom, a_sorted, a_cellFirst, a_heapPoint, a_heapSplit) v) v) (f_present, f_size, f_lowX, f_lowY, f_highX, f_highY, f_found, f_nearX, f_nearY, f_best, f_bestSquare, f_waiting, f_quads, f_levels, f_boxes, a_placeOf, a_order, a_waitA, a_waitB, a_waitC, a_waitD, a_quadX, a_quadY, a_quadSide, a_quadPart, a_quadCount, a_quadFirst, a_nextPoint, a_lists, a_fromLeft, a_boxLowX, a_boxLowY, a_boxHighX, a_boxHighY, a_boxFirst, a_boxParts, a_boxOfPoints, a_zeros, a_bottom, a_sorted, a_cellFirst, a_heapPoint, a_heapSplit) := by
  have loop : ∀ (post : Int32 → Prop), post f_present → ∀ n i f, 28 < n + i → i ≤ 28 → rs_Ps f_present (fun _ => True) i f → wY_points_4 post v n f (nI i) := by
    intro post hp n
    induction n with
    | zero => intro i f h1 h2; omega
    | succ n ih =>
      intro i f h1 h2 hI
      refine pk_le 28 i (fun z => ?_) (fun z => ?_)
      · have e : i = 28 := by omega
        subst e
        have : f = f_present := rs_Sn_eq (rs_Ps_end hI).1 (rs_Ps_end hI).2 (fun j hj => ⟨⟨hR.1 j hj, hj⟩, trivial⟩) (fun j hj _ => hj.2)
        rw [this]
        exact hp
      · by_cases hh : rs_H f_present i
        · exact rs_Yis1 hR hh (br_f (by decide) (nm_e (nm_r (nI_1 i) (ih (i + 1) _ (by omega) (by omega) (rs_Ps_y hI hh trivial)))))
        · exact rs_Yis0 hR z hh (br_t rfl (nm_r (nI_1 i) (ih (i + 1) f (by omega) (by omega) (rs_Ps_n hI (fun h => absurd h hh)))))
  unfold wpX_points wpY_points
  exact Exists.intro 29 (loop _ ⟨rfl, hR⟩ 29 0 0 (by omega) (by omega) rs_Ps_0)
theorem rs_vc_at {k : Nat} (hR : rs_RR f_present a_placeOf v) (v1 : Int32) : wpX_at (fun r => wpY_at (fun r' => r' = r ∧ i_Rel (k + 5) (f_present, f_size, f_lowX, f_lowY, f_highX, f_highY, f_found, f_nearX, f_nearY, f_best, f_bestSquare, f_waiting, f_quads, f_levels, f_boxes, a_placeOf, a_order, a_waitA, a_waitB, a_waitC, a_waitD, a_quadX, a_quadY, a_quadSide, a_quadPart, a_quadCount, a_quadFirst, a_nextPoint, a_lists, a_fromLeft, a_boxLowX, a_boxLowY, a_boxHighX, a_boxHighY, a_boxFirst, a_boxParts, a_boxOfPoints, a_zeros, a_bottom, a_sorted, a_cellFirst, a_heapPoint, a_heapSplit) v) v v1) (f_present, f_size, f_lowX, f_lowY, f_highX, f_highY, f_found, f_nearX, f_nearY, f_best, f_bestSquare, f_waiting, f_quads, f_levels, f_boxes, a_placeOf, a_order, a_waitA, a_waitB, a_waitC, a_waitD, a_quadX, a_quadY, a_quadSide, a_quadPart, a_quadCount, a_quadFirst, a_nextPoint, a_lists, a_fromLeft, a_boxLowX, a_boxLowY, a_boxHighX, a_boxHighY, a_boxFirst, a_boxParts, a_boxOfPoints, a_zeros, a_bottom, a_sorted, a_cellFirst, a_heapPoint, a_heapSplit) v1 := by
  unfold wpX_at wpY_at
  refine rs_hasC v1 (fun hn => br_t rfl (rs_Yis hR v1 (fun _ => br_t rfl ⟨rfl, hR⟩) (fun j ej hj => absurd hj (hn j ej)))) (fun j ej hj => br_f (by decide) ?_)
  subst ej
  have h28 := hj.1
  obtain ⟨c, c1, c2, c3⟩ := (hR.2 j h28).1 hj.2
  have ij : vp_in (nI j) 28 := vp_in_nI h28 (by decide)
  refine ⟨ij, rs_Yis1 hR hj (br_f (by decide) ⟨ij, ?_, hR⟩)⟩
  rw [nI_clamp (by omega), c2, c3, nI_pred]
/-- the relation after a point has come, gone or moved -/
theorem rs_RR_set {p' : Int32} {c j : Nat} (hR : rs_RR f_present a_placeOf v) (hj : j < 28) (hc : c < 4096) (hp : ∀ i, bt p' i = true ↔ (bt f_present i = true ∨ i = j)) : rs_RR p' (upd a_placeOf j (nI c)) (upd v j (nI (c + 1))) := by
  refine ⟨fun i hi => ?_, fun i hi => ?_⟩
  · rcases (hp i).mp hi with z | z
    · exact hR.1 i z
    · omega
  · by_cases e : i = j
    · subst e
      rw [pk_us, pk_us]
      exact ⟨fun _ => ⟨c, hc, rfl, rfl⟩, fun h => absurd ((hp i).mpr (Or.inr rfl)) h⟩
    · rw [pk_un e, pk_un e]
      exact ⟨fun h => (hR.2 i hi).1 (((hp i).mp h).elim id (fun z => absurd z e)), fun h => (hR.2 i hi).2 (fun z => h ((hp i).mpr (Or.inl z)))⟩
theorem rs_RR_clr {p' : Int32} {j : Nat} (hR : rs_RR f_present a_placeOf v) (hp : ∀ i, bt p' i = true ↔ (bt f_present i = true ∧ i ≠ j)) : rs_RR p' a_placeOf (upd v j 0) := by
  refine ⟨fun i hi => hR.1 i ((hp i).mp hi).1, fun i hi => ?_⟩
  by_cases e : i = j
  · subst e
    rw [pk_us]
    exact ⟨fun h => absurd rfl ((hp i).mp h).2, fun _ => rfl⟩
  · rw [pk_un e]
    exact ⟨fun h => (hR.2 i hi).1 ((hp i).mp h).1, fun h => (hR.2 i hi).2 (fun z => h ((hp i).mpr ⟨z, e⟩))⟩
theorem rs_vc_add {k : Nat} (hR : rs_RR f_present a_placeOf v) (v1 : Int32) : wpX_add (fun r u' => wpY_add (fun r' v' => r' = r ∧ i_Rel (k + 5) u' v') v v1) (f_present, f_size, f_lowX, f_lowY, f_highX, f_highY, f_found, f_nearX, f_nearY, f_best, f_bestSquare, f_waiting, f_quads, f_levels, f_boxes, a_placeOf, a_order, a_waitA, a_waitB, a_waitC, a_waitD, a_quadX, a_quadY, a_quadSide, a_quadPart, a_quadCount, a_quadFirst, a_nextPoint, a_lists, a_fromLeft, a_boxLowX, a_boxLowY, a_boxHighX, a_boxHighY, a_boxFirst, a_boxParts, a_boxOfPoints, a_zeros, a_bottom, a_sorted, a_cellFirst, a_heapPoint, a_heapSplit) v1 := by
  unfold wpX_add wpY_add
  refine rs_isP v1 (fun hn => br_t rfl (rs_YisP v1 (fun _ => br_t rfl ⟨rfl, hR⟩) (fun c hc e => absurd e (hn c hc)))) (fun c hc e => br_f (by decide) ?_)
  subst e
  have loopY : ∀ (r : Int32) (v' : Nat → Int32) (postY : Int32 → SY → Prop), postY r v' → ∀ n i, 28 < n + i → i ≤ 28 → ((∃ j, i ≤ j ∧ j < 28 ∧ (∀ m, i ≤ m → m < j → rs_H f_present m) ∧ ¬ rs_H f_present j ∧ r = nI j ∧ v' = upd v j (nI (c + 1))) ∨ ((∀ m, i ≤ m → m < 28 → rs_H f_present m) ∧ r = -2 ∧ v' = v)) → wY_add_12 postY (nI c) v n (nI i) := by
    intro r v' postY hp n
    induction n with
    | zero => intro i h1 h2; omega
    | succ n ih =>
      intro i h1 h2 hh
      refine pk_le 28 i (fun z => ?_) (fun z => ?_)
      · rcases hh with ⟨j, j1, j2, _⟩ | ⟨_, e1, e2⟩
        · omega
        · rw [← e1, ← e2]; exact hp
      · have ii : vp_in (nI i) 28 := vp_in_nI z (by decide)
        have ei : (nI i).toNatClampNeg = i := nI_clamp (by omega)
        refine And.intro ii ?_
        rw [ei]
        by_cases hi : rs_H f_present i
        · obtain ⟨d, d1, _, d3⟩ := (hR.2 i z).1 hi.2
          rw [d3]
          refine br_f (nI_ne0 (by omega) (by omega)) (nm_r (nI_1 i) (ih (i + 1) (by omega) (by omega) ?_))
          rcases hh with ⟨j, j1, j2, j3, j4, j5⟩ | ⟨a, b⟩
          · have : i ≠ j := fun e => j4 (by rw [← e]; exact hi)
            exact Or.inl ⟨j, by omega, j2, fun m m1 m2 => j3 m (by omega) m2, j4, j5⟩
          · exact Or.inr ⟨fun m m1 m2 => a m (by omega) m2, b⟩
        · rw [(hR.2 i z).2 (fun w => hi ⟨z, w⟩)]
          rcases hh with ⟨j, j1, j2, j3, j4, j5, j6⟩ | ⟨a, b⟩
          · have : i = j := by
              rcases Nat.lt_or_ge i j with w | w
              · exact absurd (j3 i (Nat.le_refl _) w) hi
              · omega
            subst this
            refine br_t rfl ⟨ii, nm_r (e' := upd v i (nI (c + 1))) (by rw [nI_1]) ?_⟩
            rw [← j5, ← j6]
            exact hp
          · exact absurd (a i (Nat.le_refl _) z) hi
  have goY : ∀ (r : Int32) (v' : Nat → Int32) (postY : Int32 → SY → Prop), postY r v' → ((∃ j, 0 ≤ j ∧ j < 28 ∧ (∀ m, 0 ≤ m → m < j → rs_H f_present m) ∧ ¬ rs_H f_present j ∧ r = nI j ∧ v' = upd v j (nI (c + 1))) ∨ ((∀ m, 0 ≤ m → m < 28 → rs_H f_present m) ∧ r = -2 ∧ v' = v)) → wpY_isPlace (fun r_1 => (r_1 = 0 → postY (-1) v) ∧ (¬ r_1 = 0 → ∃ n12, wY_add_12 postY (nI c) v n12 0)) v (nI c) := by
    intro r v' postY hp hh
    refine rs_YisP (nI c) (fun hn => absurd rfl (hn c hc)) (fun _ _ _ => br_f (by decide) (Exists.intro 29 (loopY r v' postY hp 29 0 (by omega) (by omega) hh)))
  have loopX : ∀ (post : Int32 → SX → Prop), ((∀ m, 0 ≤ m → m < 28 → rs_H f_present m) → post (-2) (f_present, f_size, f_lowX, f_lowY, f_highX, f_highY, f_found, f_nearX, f_nearY, f_best, f_bestSquare, f_waiting, f_quads, f_levels, f_boxes, a_placeOf, a_order, a_waitA, a_waitB, a_waitC, a_waitD, a_quadX, a_quadY, a_quadSide, a_quadPart, a_quadCount, a_quadFirst, a_nextPoint, a_lists, a_fromLeft, a_boxLowX, a_boxLowY, a_boxHighX, a_boxHighY, a_boxFirst, a_boxParts, a_boxOfPoints, a_zeros, a_bottom, a_sorted, a_cellFirst, a_heapPoint, a_heapSplit)) → (∀ j p', j < 28 → (∀ m, 0 ≤ m → m < j → rs_H f_present m) → ¬ rs_H f_present j → (∀ i, bt p' i = true ↔ (bt f_present i = true ∨ i = j)) → post (nI j) (p', f_size, f_lowX, f_lowY, f_highX, f_highY, f_found, f_nearX, f_nearY, f_best, f_bestSquare, f_waiting, f_quads, f_levels, f_boxes, upd a_placeOf j (nI c), a_order, a_waitA, a_waitB, a_waitC, a_waitD, a_quadX, a_quadY, a_quadSide, a_quadPart, a_quadCount, a_quadFirst, a_nextPoint, a_lists, a_fromLeft, a_boxLowX, a_boxLowY, a_boxHighX, a_boxHighY, a_boxFirst, a_boxParts, a_boxOfPoints, a_zeros, a_bottom, a_sorted, a_cellFirst, a_heapPoint, a_heapSplit)) → ∀ n i, 28 < n + i → i ≤ 28 → (∀ m, m < i → rs_H f_present m) → (wX_add_11 post (nI c) f_present f_size f_lowX f_lowY f_highX f_highY f_found f_nearX f_nearY f_best f_bestSquare f_waiting f_quads f_levels f_boxes a_placeOf a_order a_waitA a_waitB a_waitC a_waitD a_quadX a_quadY a_quadSide a_quadPart a_quadCount a_quadFirst a_nextPoint a_lists a_fromLeft a_boxLowX a_boxLowY a_boxHighX a_boxHighY a_boxFirst a_boxParts a_boxOfPoints a_zeros a_bottom a_sorted a_cellFirst a_heapPoint a_heapSplit n (nI i)) := by
    intro post hp1 hp2 n
    induction n with
    | zero => intro i h1 h2; omega
    | succ n ih =>
      intro i h1 h2 hm
      refine pk_le 28 i (fun z => hp1 (fun m _ hm' => hm m (by omega))) (fun z => ?_)
      by_cases hi : rs_H f_present i
      · refine rs_has1 hi (br_f (by decide) (nm_r (nI_1 i) (ih (i + 1) (by omega) (by omega) (fun m hm' => ?_))))
        rcases Nat.lt_or_ge m i with w | w
        · exact hm m w
        · rw [show m = i by omega]; exact hi
      · refine rs_has0 z hi (br_t rfl (nm_e (And.intro (vp_in_nI z (by decide)) (nm_r (e' := upd a_placeOf i (nI c)) (by rw [nI_clamp (by omega), rs_ns2 (by omega)]) (hp2 i _ z (fun m _ hm' => hm m hm') hi (fun j => rs_or f_present (by omega) j))))))
  exact Exists.intro 29 (loopX _ (fun hm => goY (-2) v (fun r' v' => r' = -2 ∧ i_Rel (k + 5) (f_present, f_size, f_lowX, f_lowY, f_highX, f_highY, f_found, f_nearX, f_nearY, f_best, f_bestSquare, f_waiting, f_quads, f_levels, f_boxes, a_placeOf, a_order, a_waitA, a_waitB, a_waitC, a_waitD, a_quadX, a_quadY, a_quadSide, a_quadPart, a_quadCount, a_quadFirst, a_nextPoint, a_lists, a_fromLeft, a_boxLowX, a_boxLowY, a_boxHighX, a_boxHighY, a_boxFirst, a_boxParts, a_boxOfPoints, a_zeros, a_bottom, a_sorted, a_cellFirst, a_heapPoint, a_heapSplit) v') ⟨rfl, hR⟩ (Or.inr ⟨hm, rfl, rfl⟩)) (fun j p' hj hm hn hp => goY (nI j) (upd v j (nI (c + 1))) (fun r' v' => r' = nI j ∧ i_Rel (k + 5) (p', f_size, f_lowX, f_lowY, f_highX, f_highY, f_found, f_nearX, f_nearY, f_best, f_bestSquare, f_waiting, f_quads, f_levels, f_boxes, upd a_placeOf j (nI c), a_order, a_waitA, a_waitB, a_waitC, a_waitD, a_quadX, a_quadY, a_quadSide, a_quadPart, a_quadCount, a_quadFirst, a_nextPoint, a_lists, a_fromLeft, a_boxLowX, a_boxLowY, a_boxHighX, a_boxHighY, a_boxFirst, a_boxParts, a_boxOfPoints, a_zeros, a_bottom, a_sorted, a_cellFirst, a_heapPoint, a_heapSplit) v') ⟨rfl, rs_RR_set hR hj hc hp⟩ (Or.inl ⟨j, Nat.zero_le _, hj, hm, hn, rfl, rfl⟩)) 29 0 (by omega) (by omega) (fun m h => by omega))
theorem rs_vc_remove {k : Nat} (hR : rs_RR f_present a_placeOf v) (v1 : Int32) : wpX_remove (fun r u' => wpY_remove (fun r' v' => r' = r ∧ i_Rel (k + 5) u' v') v v1) (f_present, f_size, f_lowX, f_lowY, f_highX, f_highY, f_found, f_nearX, f_nearY, f_best, f_bestSquare, f_waiting, f_quads, f_levels, f_boxes, a_placeOf, a_order, a_waitA, a_waitB, a_waitC, a_waitD, a_quadX, a_quadY, a_quadSide, a_quadPart, a_quadCount, a_quadFirst, a_nextPoint, a_lists, a_fromLeft, a_boxLowX, a_boxLowY, a_boxHighX, a_boxHighY, a_boxFirst, a_boxParts, a_boxOfPoints, a_zeros, a_bottom, a_sorted, a_cellFirst, a_heapPoint, a_heapSplit) v1 := by
  unfold wpX_remove wpY_remove
  refine rs_hasC v1 (fun hn => br_t rfl (rs_Yis hR v1 (fun _ => br_t rfl ⟨rfl, hR⟩) (fun j ej hj => absurd hj (hn j ej)))) (fun j ej hj => br_f (by decide) ?_)
  subst ej
  have h28 := hj.1
  obtain ⟨c, c1, c2, c3⟩ := (hR.2 j h28).1 hj.2
  have ij : vp_in (nI j) 28 := vp_in_nI h28 (by decide)
  have ej : (nI j).toNatClampNeg = j := nI_clamp (by omega)
  refine nm_e ⟨ij, rs_Yis1 hR hj (br_f (by decide) ⟨ij, nm_r (e' := nI c) (by rw [ej, c3, nI_pred]) ⟨ij, nm_r (e' := upd v j 0) (by rw [ej]) ⟨by rw [ej, c2], rs_RR_clr hR (fun i => ?_)⟩⟩⟩)⟩
  show bt (f_present &&& (((1 : Int32) <<< (nI j &&& 31)) ^^^ (-1))) i = true ↔ _
  rw [b_and, b_xor, rs_sb (by omega)]
  rcases Nat.lt_or_ge i 32 with w | w
  · rw [b_m1 i w]
    by_cases e : i = j
    · rw [decide_eq_true e]; simp [e]
    · rw [decide_eq_false e]; simp [e]
  · rw [show bt f_present i = false from b_big w, Bool.false_and]
    exact ⟨fun h => (by cases h), fun h => (by have := h.1; cases this)⟩
theorem rs_vc_move {k : Nat} (hR : rs_RR f_present a_placeOf v) (v1 v2 : Int32) : wpX_move (fun r u' => wpY_move (fun r' v' => r' = r ∧ i_Rel (k + 5) u' v') v v1 v2) (f_present, f_size, f_lowX, f_lowY, f_highX, f_highY, f_found, f_nearX, f_nearY, f_best, f_bestSquare, f_waiting, f_quads, f_levels, f_boxes, a_placeOf, a_order, a_waitA, a_waitB, a_waitC, a_waitD, a_quadX, a_quadY, a_quadSide, a_quadPart, a_quadCount, a_quadFirst, a_nextPoint, a_lists, a_fromLeft, a_boxLowX, a_boxLowY, a_boxHighX, a_boxHighY, a_boxFirst, a_boxParts, a_boxOfPoints, a_zeros, a_bottom, a_sorted, a_cellFirst, a_heapPoint, a_heapSplit) v1 v2 := by
  unfold wpX_move wpY_move
  refine rs_hasC v1 (fun hn => br_t rfl (rs_Yis hR v1 (fun _ => br_t rfl ⟨rfl, hR⟩) (fun j ej hj => absurd hj (hn j ej)))) (fun j ej hj => br_f (by decide) ?_)
  subst ej
  have h28 := hj.1
  obtain ⟨c, c1, c2, c3⟩ := (hR.2 j h28).1 hj.2
  have ij : vp_in (nI j) 28 := vp_in_nI h28 (by decide)
  have ej : (nI j).toNatClampNeg = j := nI_clamp (by omega)
  refine rs_isP v2 (fun hn => br_t rfl (rs_Yis1 hR hj (br_f (by decide) (rs_YisP v2 (fun _ => br_t rfl ⟨rfl, hR⟩) (fun c hc e => absurd e (hn c hc)))))) (fun w hw e => br_f (by decide) ?_)
  subst e
  refine ⟨ij, nm_r (e' := nI c) (by rw [ej, c2]) ⟨ij, nm_r (e' := upd a_placeOf j (nI w)) (by rw [ej, rs_ns2 (by omega)]) (rs_Yis1 hR hj (br_f (by decide) (rs_YisP (nI w) (fun hn => absurd rfl (hn w hw)) (fun _ _ _ => br_f (by decide) ⟨ij, nm_r (e' := nI c) (by rw [ej, c3, nI_pred]) ⟨ij, nm_r (e' := upd v j (nI (w + 1))) (by rw [ej, nI_1]) ⟨rfl, rs_RR_set hR h28 hw (fun i => ⟨Or.inl, fun h => h.elim id (fun e => by rw [e]; exact hj.2)⟩)⟩⟩⟩))))⟩⟩
/-- how many bits -/
theorem rs_on_cn {p : Int32} {Q : Nat → Prop} {f : Int32} (h1 : rs_Sn p Q f) (h2 : ∀ k, rs_H p k → rs_Fi Q f k) : ∀ i, rs_on f i = rs_cn (fun j => rs_H p j ∧ Q j) i
  | 0 => rfl
  | i + 1 => by
    have ih := rs_on_cn h1 h2 i
    simp only [rs_on, rs_cn]
    rw [ih]
    by_cases hb : bt f i = true
    · rw [rs_b1_t (h1 i hb), hb]; rfl
    · rw [rs_b1_f (fun q => hb (h2 i q.1 q.2)), (Bool.not_eq_true _).mp hb]; rfl
theorem rs_Ybelow_l {post : Int32 → Prop} {p : Int32} {P : Nat → Int32} {j : Nat} (hR : rs_RR p P v) (hj : rs_H p j) (hp : post (nI (rs_cn (fun i => rs_H p i ∧ i ≠ j ∧ rs_x P i ≤ rs_x P j ∧ rs_y P i ≤ rs_y P j) 28))) : ∀ n i, 28 < n + i → i ≤ 28 → wY_below_14 post (nI j) v n (nI (rs_cn (fun i => rs_H p i ∧ i ≠ j ∧ rs_x P i ≤ rs_x P j ∧ rs_y P i ≤ rs_y P j) i)) (nI i) := by
  have hG := rs_RR_G hR
  have j28 := hj.1
  have xj := rs_xlt P j
  have yj := rs_ylt (hG j hj)
  intro n
  induction n with
  | zero => intro i h1 h2; omega
  | succ n ih =>
    intro i h1 h2
    have nx := ih (i + 1)
    simp only [rs_cn] at nx
    have no : ¬ (rs_H p i ∧ i ≠ j ∧ rs_x P i ≤ rs_x P j ∧ rs_y P i ≤ rs_y P j) → i < 28 → ∀ x : Int32, x = nI i + 1 → wY_below_14 post (nI j) v n (nI (rs_cn (fun i => rs_H p i ∧ i ≠ j ∧ rs_x P i ≤ rs_x P j ∧ rs_y P i ≤ rs_y P j) i)) x := by
      intro hn z
      rw [rs_b1_f hn] at nx
      exact nm_r (nI_1 i) (nx (by omega) (by omega))
    refine pk_le 28 i (fun z => ?_) (fun z => ?_)
    · have e : i = 28 := by omega
      subst e
      exact hp
    · refine pk_eq i j (fun e => no (fun h => h.2.1 e) z) (fun e => ?_)
      by_cases hh : rs_H p i
      · have xi := rs_xlt P i
        have yi := rs_ylt (hG i hh)
        refine rs_Yis1 hR hh (br_f (by decide) (rs_Yx hR hh (rs_Yx hR hj (pk_lt (rs_x P j) (rs_x P i) (fun w => no (fun h => by have := h.2.2.1; omega) z) (fun w => rs_Yy hR hh (rs_Yy hR hj (pk_lt (rs_y P j) (rs_y P i) (fun u => no (fun h => by have := h.2.2.2; omega) z) (fun u => ?_))))))))
        rw [rs_b1_t ⟨hh, e, w, u⟩] at nx
        exact nm_r (nI_1 _) (nm_r (nI_1 i) (nx (by omega) (by omega)))
      · exact rs_Yis0 hR z hh (br_t rfl (no (fun h => hh h.1) z))
theorem rs_vc_below {k : Nat} (hR : rs_RR f_present a_placeOf v) (v1 : Int32) : wpX_below (fun r u' => wpY_below (fun r' => r' = r ∧ i_Rel (k + 5) u' v) v v1) (f_present, f_size, f_lowX, f_lowY, f_highX, f_highY, f_found, f_nearX, f_nearY, f_best, f_bestSquare, f_waiting, f_quads, f_levels, f_boxes, a_placeOf, a_order, a_waitA, a_waitB, a_waitC, a_waitD, a_quadX, a_quadY, a_quadSide, a_quadPart, a_quadCount, a_quadFirst, a_nextPoint, a_lists, a_fromLeft, a_boxLowX, a_boxLowY, a_boxHighX, a_boxHighY, a_boxFirst, a_boxParts, a_boxOfPoints, a_zeros, a_bottom, a_sorted, a_cellFirst, a_heapPoint, a_heapSplit) v1 := by
  unfold wpX_below wpY_below
  refine rs_hasC v1 (fun hn => br_t rfl (rs_Yis hR v1 (fun _ => br_t rfl ⟨rfl, hR⟩) (fun j ej hj => absurd hj (hn j ej)))) (fun j ej hj => br_f (by decide) ?_)
  subst ej
  have h28 := hj.1
  obtain ⟨c, c1, c2, c3⟩ := (hR.2 j h28).1 hj.2
  have ij : vp_in (nI j) 28 := vp_in_nI h28 (by decide)
  have ej : (nI j).toNatClampNeg = j := nI_clamp (by omega)
  refine And.intro ij ?_
  rw [ej, c2]
  refine rs_search2 (e := 5) (lo := 0) (hi := c) rfl rfl rfl (by decide) (by decide) c1 (rs_RR_G hR) ?_
  intros
  rename_i q1 q2
  refine rs_ones (rs_Yis1 hR hj (br_f (by decide) (Exists.intro 29 ?_)))
  have ex : c % 64 = rs_x a_placeOf j := by unfold rs_x; rw [c2, nI_clamp (by omega)]
  have ey : c / 64 = rs_y a_placeOf j := by unfold rs_y; rw [c2, nI_clamp (by omega)]
  refine rs_Ybelow_l hR hj ⟨?_, hR⟩ 29 0 (by omega) (by omega)
  rw [rs_on_cn q1 q2 28, ex, ey]
  have add := rs_cn_add (P := fun i => rs_H f_present i ∧ i ≠ j ∧ rs_x a_placeOf i ≤ rs_x a_placeOf j ∧ rs_y a_placeOf i ≤ rs_y a_placeOf j) (a := j) (fun h => h.2.1 rfl) (N := 28) h28
  have eq : rs_cn (fun i => rs_H f_present i ∧ rs_Q a_placeOf (0 % 64) (0 / 64) (rs_x a_placeOf j) (rs_y a_placeOf j) i) 28 = rs_cn (fun i => (rs_H f_present i ∧ i ≠ j ∧ rs_x a_placeOf i ≤ rs_x a_placeOf j ∧ rs_y a_placeOf i ≤ rs_y a_placeOf j) ∨ i = j) 28 := by
    refine rs_cn_e (fun i _ => ⟨fun h => ?_, fun h => ?_⟩)
    · by_cases e : i = j
      · exact Or.inr e
      · exact Or.inl ⟨h.1, e, h.2.2.1, h.2.2.2.2⟩
    · rcases h with h | h
      · exact ⟨h.1, Nat.zero_le _, h.2.2.1, Nat.zero_le _, h.2.2.2⟩
      · rw [h]; exact ⟨hj, Nat.zero_le _, Nat.le_refl _, Nat.zero_le _, Nat.le_refl _⟩
  rw [eq, add, nI_pred]
end
end
section
/-! nearest, ranked, square, around -/
section
variable {p : Int32} {P v : Nat → Int32}
/-- the answer of ranked -/
def rs_An (p : Int32) (P : Nat → Int32) (w : Nat) (x r : Int32) : Prop := (∃ k, rs_H p k ∧ r = nI k ∧ nI (rs_rk p (rs_d P (w % 64) (w / 64)) k) = x) ∨ (r = -1 ∧ ∀ k, rs_H p k → nI (rs_rk p (rs_d P (w % 64) (w / 64)) k) ≠ x)
theorem rs_rk_b (d : Nat → Nat) (k : Nat) : rs_rk p d k ≤ 28 := rs_cn_le _ _
theorem rs_Yr_22 {post : Int32 → Prop} {J2 : Int32 → Prop} {w k : Nat} {x : Int32} (hR : rs_RR p P v) (hw : w < 4096) (hk : rs_H p k) (hp : wY_ranked_119 post J2 (nI w) x (nI k) (nI (rs_rk p (rs_d P (w % 64) (w / 64)) k)) v) :
    ∀ n i, 28 < n + i → i ≤ 28 → wY_ranked_22 post J2 (nI w) x (nI k) v n (nI (rs_cn (fun i => rs_H p i ∧ rs_lx (rs_d P (w % 64) (w / 64)) i k) i)) (nI i) := by
  have hG := rs_RR_G hR
  have wx : w % 64 < 64 := Nat.mod_lt _ (by decide)
  have wy : w / 64 < 64 := by omega
  have k28 := hk.1
  have dk := rs_d_b (hG k hk) wx wy
  intro n
  induction n with
  | zero => intro i h1 h2; omega
  | succ n ih =>
    intro i h1 h2
    have nx := ih (i + 1)
    simp only [rs_cn] at nx
    refine pk_le 28 i (fun z => ?_) (fun z => ?_)
    · have e : i = 28 := by omega
      subst e
      exact hp
    · have no : ¬ (rs_H p i ∧ rs_lx (rs_d P (w % 64) (w / 64)) i k) → wY_ranked_94 post J2 (wY_ranked_22 post J2 (nI w) x (nI k) v n) (nI w) x (nI k) (nI (rs_cn (fun i => rs_H p i ∧ rs_lx (rs_d P (w % 64) (w / 64)) i k) i)) (nI i) v := by
        intro hn
        unfold wY_ranked_94 wY_ranked_95
        rw [rs_b1_f hn] at nx
        exact br_t rfl (nm_r (nI_1 i) (nx (by omega) (by omega)))
      have yes : (rs_H p i ∧ rs_lx (rs_d P (w % 64) (w / 64)) i k) → wY_ranked_90 post J2 (wY_ranked_22 post J2 (nI w) x (nI k) v n) (nI w) x (nI k) (nI (rs_cn (fun i => rs_H p i ∧ rs_lx (rs_d P (w % 64) (w / 64)) i k) i)) (nI i) v := by
        intro hn
        unfold wY_ranked_90 wY_ranked_95
        rw [rs_b1_t hn] at nx
        exact br_f (by decide) (nm_r (nI_1 _) (nm_r (nI_1 i) (nx (by omega) (by omega))))
      refine rs_Yis1 hR hk (br_f (by decide) ?_)
      by_cases hh : rs_H p i
      · have di := rs_d_b (hG i hh) wx wy
        refine rs_Yis1 hR hh (br_f (by decide) (pk_eq i k (fun e => no (fun h => ?_)) (fun e => ?_)))
        · have := h.2
          rw [e] at this
          unfold rs_lx at this
          omega
        · refine rs_Yfar (w := w) hR hh hw (rs_Yfar (w := w) hR hk hw ?_)
          refine pk_lt (rs_d P (w % 64) (w / 64) i) (rs_d P (w % 64) (w / 64) k) (fun y => yes ⟨hh, Or.inl y⟩) (fun y => ?_)
          refine rs_Yfar (w := w) hR hh hw (rs_Yfar (w := w) hR hk hw ?_)
          refine pk_eq (rs_d P (w % 64) (w / 64) i) (rs_d P (w % 64) (w / 64) k) (fun u => pk_le k i (fun t => no (fun h => ?_)) (fun t => yes ⟨hh, Or.inr ⟨u, t⟩⟩)) (fun u => no (fun h => ?_))
          · have := h.2
            unfold rs_lx at this
            omega
          · have := h.2
            unfold rs_lx at this
            omega
      · exact rs_Yis0 hR z hh (br_t rfl (no (fun h => hh h.1)))
theorem rs_Yranked {post : Int32 → Prop} {w : Nat} {x r : Int32} (hR : rs_RR p P v) (hw : w < 4096) (hr : rs_An p P w x r) (hp : post r) : wpY_ranked post v (nI w) x := by
  have loop : ∀ n k, 28 < n + k → k ≤ 28 → (∀ j, j < k → rs_H p j → nI (rs_rk p (rs_d P (w % 64) (w / 64)) j) ≠ x) → wY_ranked_2 post (nI w) x v n (nI k) := by
    intro n
    induction n with
    | zero => intro k h1 h2; omega
    | succ n ih =>
      intro k h1 h2 hn
      refine pk_le 28 k (fun z => ?_) (fun z => ?_)
      · rcases hr with ⟨j, j1, _, j3⟩ | ⟨e, _⟩
        · exact absurd j3 (hn j (by have := j1.1; omega) j1)
        · rw [e] at hp; exact hp
      · refine rs_YisP (nI w) (fun h => absurd rfl (h w hw)) (fun _ _ _ => br_f (by decide) (Exists.intro 29 ?_))
        by_cases hk : rs_H p k
        · refine rs_Yr_22 hR hw hk ?_ 29 0 (by omega) (by omega)
          unfold wY_ranked_119
          refine rs_Yis1 hR hk (br_f (by decide) (br_c (fun e => ?_) (fun e => nm_r (nI_1 k) (ih (k + 1) (by omega) (by omega) (fun j hj hh => ?_)))))
          · rcases hr with ⟨j, j1, j2, j3⟩ | ⟨_, hx⟩
            · have b1 := rs_rk_b (p := p) (rs_d P (w % 64) (w / 64)) k
              have b2 := rs_rk_b (p := p) (rs_d P (w % 64) (w / 64)) j
              have : rs_rk p (rs_d P (w % 64) (w / 64)) k = rs_rk p (rs_d P (w % 64) (w / 64)) j := (nI_eq (by omega) (by omega)).mp (by rw [e, j3])
              have := rs_rk_inj hk j1 this
              rw [this, ← j2]
              exact hp
            · exact absurd e (hx k hk)
          · rcases Nat.lt_or_ge j k with y | y
            · exact hn j y hh
            · have : j = k := by omega
              rw [this]
              exact e
        · have : wY_ranked_119 post (wY_ranked_2 post (nI w) x v n) (nI w) x (nI k) 0 v := by
            unfold wY_ranked_119
            refine rs_Yis0 hR z hk (br_t rfl (nm_r (nI_1 k) (ih (k + 1) (by omega) (by omega) (fun j hj hh => ?_))))
            rcases Nat.lt_or_ge j k with y | y
            · exact hn j y hh
            · have e : j = k := by omega
              rw [e] at hh
              exact absurd hh hk
          exact br_f (by decide) (rs_Yis0 hR z hk (br_t rfl this))
  unfold wpY_ranked
  exact Exists.intro 29 (loop 29 0 (by omega) (by omega) (fun j hj => by omega))
theorem rs_Yranked_n {post : Int32 → Prop} {x y : Int32} (hn : ∀ c, c < 4096 → ¬ x = nI c) (hp : post (-1)) : wpY_ranked post v x y := by
  unfold wpY_ranked
  exact Exists.intro 2 (br_f (by decide) (rs_YisP x (fun _ => br_t rfl hp) (fun c hc e => absurd e (hn c hc))))
/-- the best is the point of rank 0 -/
theorem rs_best {w : Nat} {u : Int32} {s : Nat} (hG : rs_G p P) (hw : w < 4096) (h0 : ∃ k, rs_H p k) (h1 : rs_Nn p (rs_d P (w % 64) (w / 64)) u s) (h2 : ∀ k, rs_H p k → rs_Nd (rs_d P (w % 64) (w / 64)) u s k) : ∃ k, rs_H p k ∧ u = nI k ∧ s = rs_d P (w % 64) (w / 64) k ∧ rs_rk p (rs_d P (w % 64) (w / 64)) k = 0 := by
  have wx : w % 64 < 64 := Nat.mod_lt _ (by decide)
  have wy : w / 64 < 64 := by omega
  rcases h1 with ⟨e1, e2⟩ | ⟨k, k1, k2, k3⟩
  · obtain ⟨k, hk⟩ := h0
    have := rs_d_b (hG k hk) wx wy
    have := h2 k hk
    unfold rs_Nd at this
    omega
  · refine ⟨k, k1, k2, k3, ?_⟩
    have z : rs_rk p (rs_d P (w % 64) (w / 64)) k = rs_cn (fun _ => False) 28 := by
      refine rs_cn_e (fun i _ => ⟨fun h => ?_, fun h => h.elim⟩)
      have hi := h.1.1
      have hk := k1.1
      rcases h2 i h.1 with q | ⟨q1, q2⟩
      · have := h.2
        unfold rs_lx at this
        omega
      · rw [k2, nI_leI (by omega) (by omega)] at q2
        have := h.2
        unfold rs_lx at this
        omega
    have c0 : ∀ n, rs_cn (fun _ => False) n = 0 := by
      intro n
      induction n with
      | zero => rfl
      | succ n ih => simp only [rs_cn]; rw [ih, rs_b1_f (fun z => z)]
    rw [z, c0]
theorem rs_pres (hR : rs_RR p P v) (h : ¬ p = 0) : ∃ k, rs_H p k := by
  refine Classical.byContradiction (fun hn => h ?_)
  refine b_ext (fun i hi => ?_)
  rw [b_0]
  cases hb : bt p i
  · rfl
  · exact absurd ⟨i, hR.1 i hb, hb⟩ hn
theorem rs_none (h : p = 0) : ∀ k, ¬ rs_H p k := by
  intro k hk
  have := hk.2
  rw [h, b_0] at this
  cases this
end
section
variable {f_present f_size f_lowX f_lowY f_highX f_highY f_found f_nearX f_nearY f_best f_bestSquare f_waiting f_quads f_levels f_boxes : Int32} {a_placeOf a_order a_waitA a_waitB a_waitC a_waitD a_quadX a_quadY a_quadSide a_quadPart a_quadCount a_quadFirst a_nextPoint a_lists a_fromLeft a_boxLowX a_boxLowY a_boxHighX a_boxHighY a_boxFirst a_boxParts a_boxOfPoints a_zeros a_bottom a_sorted a_cellFirst a_heapPoint a_heapSplit : Nat → Int32} {v : Nat → Int32}
theorem rs_startNear {post : SX → Prop} {w : Nat} (hw : w < 4096) (hp : ∀ sz o, rs_Al f_present sz o → post (f_present, nI sz, f_lowX, f_lowY, f_highX, f_highY, f_found, nI (w % 64), nI (w / 64), -1, 1048576, f_waiting, f_quads, f_levels, f_boxes, a_placeOf, o, a_waitA, a_waitB, a_waitC, a_waitD, a_quadX, a_quadY, a_quadSide, a_quadPart, a_quadCount, a_quadFirst, a_nextPoint, a_lists, a_fromLeft, a_boxLowX, a_boxLowY, a_boxHighX, a_boxHighY, a_boxFirst, a_boxParts, a_boxOfPoints, a_zeros, a_bottom, a_sorted, a_cellFirst, a_heapPoint, a_heapSplit)) : wpX_startNear post (f_present, f_size, f_lowX, f_lowY, f_highX, f_highY, f_found, f_nearX, f_nearY, f_best, f_bestSquare, f_waiting, f_quads, f_levels, f_boxes, a_placeOf, a_order, a_waitA, a_waitB, a_waitC, a_waitD, a_quadX, a_quadY, a_quadSide, a_quadPart, a_quadCount, a_quadFirst, a_nextPoint, a_lists, a_fromLeft, a_boxLowX, a_boxLowY, a_boxHighX, a_boxHighY, a_boxFirst, a_boxParts, a_boxOfPoints, a_zeros, a_bottom, a_sorted, a_cellFirst, a_heapPoint, a_heapSplit) (nI w) := by
  have r1 : nI w - nI w / 64 * 64 = nI (w % 64) := pk_rem (d := 64) (by omega) (by decide) (by decide)
  have r2 : nI w / 64 = nI (w / 64) := pk_div (d := 64) (by omega) (by decide) (by decide)
  unfold wpX_startNear
  exact rs_gather (fun sz o hA => And.intro (by decide) (nm_r r1 (And.intro (by decide) (nm_r r2 (hp sz o hA)))))
theorem rs_sz0 {p : Int32} {sz : Nat} {o : Nat → Int32} (hA : rs_Al p sz o) (h : ∃ k, rs_H p k) : 0 < sz := by
  obtain ⟨k, hk⟩ := h
  obtain ⟨j, j1, _⟩ := hA.2.2.1 k hk
  omega
theorem rs_vc_ranked {k : Nat} (hR : rs_RR f_present a_placeOf v) (v1 v2 : Int32) : wpX_ranked (fun r u' => wpY_ranked (fun r' => r' = r ∧ i_Rel (k + 5) u' v) v v1 v2) (f_present, f_size, f_lowX, f_lowY, f_highX, f_highY, f_found, f_nearX, f_nearY, f_best, f_bestSquare, f_waiting, f_quads, f_levels, f_boxes, a_placeOf, a_order, a_waitA, a_waitB, a_waitC, a_waitD, a_quadX, a_quadY, a_quadSide, a_quadPart, a_quadCount, a_quadFirst, a_nextPoint, a_lists, a_fromLeft, a_boxLowX, a_boxLowY, a_boxHighX, a_boxHighY, a_boxFirst, a_boxParts, a_boxOfPoints, a_zeros, a_bottom, a_sorted, a_cellFirst, a_heapPoint, a_heapSplit) v1 v2 := by
  have hG := rs_RR_G hR
  unfold wpX_ranked
  refine br_c (fun h => ?_) (fun h => rs_isP v1 (fun hn => br_t rfl (rs_Yranked_n hn ⟨rfl, hR⟩)) (fun w hw e => br_f (by decide) (br_c (fun hj => ?_) (fun hj => ?_))))
  · by_cases hp : ∃ c, c < 4096 ∧ v1 = nI c
    · obtain ⟨c, hc, rfl⟩ := hp
      exact rs_Yranked hR hc (Or.inr ⟨rfl, fun k hk => absurd hk (rs_none h k)⟩) ⟨rfl, hR⟩
    · exact rs_Yranked_n (fun c hc e => hp ⟨c, hc, e⟩) ⟨rfl, hR⟩
  · subst e
    obtain ⟨j, hj2, rfl⟩ := nI_of (Int32.not_lt.mpr hj)
    have wx : w % 64 < 64 := Nat.mod_lt _ (by decide)
    have wy : w / 64 < 64 := by omega
    refine rs_startNear hw (fun sz o hA => rs_browse rfl hj2 wx wy hG hA (rs_sz0 hA (rs_pres hR h)) ?_)
    intro r o' LX LY HX HY Fs Ps Op nb w' A B C D hr
    rcases hr with ⟨q, q1, q2, q3⟩ | ⟨q1, q2⟩
    · subst q2
      have h28 := q1.1
      exact br_t (nI_pos' (by omega)) (rs_Yranked hR hw (Or.inl ⟨q, q1, rfl, by rw [q3]⟩) ⟨rfl, hR⟩)
    · subst q1
      refine br_f (by decide) (rs_Yranked hR hw (Or.inr ⟨rfl, fun k hk e => q2 k hk ?_⟩) ⟨rfl, hR⟩)
      have b := rs_rk_b (p := f_present) (rs_d a_placeOf (w % 64) (w / 64)) k
      exact (nI_eq (by omega) (by omega)).mp e
  · subst e
    refine rs_Yranked hR hw (Or.inr ⟨rfl, fun k hk e => hj ?_⟩) ⟨rfl, hR⟩
    have b := rs_rk_b (p := f_present) (rs_d a_placeOf (w % 64) (w / 64)) k
    rw [← e]
    exact nI_pos' (by omega)
theorem rs_vc_nearest {k : Nat} (hR : rs_RR f_present a_placeOf v) (v1 v2 : Int32) : wpX_nearest (fun r u' => wpY_nearest (fun r' => r' = r ∧ i_Rel (k + 5) u' v) v v1 v2) (f_present, f_size, f_lowX, f_lowY, f_highX, f_highY, f_found, f_nearX, f_nearY, f_best, f_bestSquare, f_waiting, f_quads, f_levels, f_boxes, a_placeOf, a_order, a_waitA, a_waitB, a_waitC, a_waitD, a_quadX, a_quadY, a_quadSide, a_quadPart, a_quadCount, a_quadFirst, a_nextPoint, a_lists, a_fromLeft, a_boxLowX, a_boxLowY, a_boxHighX, a_boxHighY, a_boxFirst, a_boxParts, a_boxOfPoints, a_zeros, a_bottom, a_sorted, a_cellFirst, a_heapPoint, a_heapSplit) v1 v2 := by
  have hG := rs_RR_G hR
  -- the reference, with a given answer
  have Y : ∀ (r : Int32) (postY : Int32 → Prop), postY r → (((v1 < 0 ∨ ¬ v1 < 4) ∧ r = -1) ∨ (¬ v1 < 0 ∧ v1 < 4 ∧ (((∀ c, c < 4096 → ¬ v2 = nI c) ∧ r = -1) ∨ ∃ c, c < 4096 ∧ v2 = nI c ∧ rs_An f_present a_placeOf c 0 r))) → wpY_nearest postY v v1 v2 := by
    intro r postY hp hh
    unfold wpY_nearest
    refine br_c (fun a => ?_) (fun a => br_c (fun b => ?_) (fun b => ?_))
    · rcases hh with ⟨_, e⟩ | ⟨g, _⟩
      · rw [e] at hp; exact hp
      · exact absurd a g
    · rcases hh with ⟨_, e⟩ | ⟨_, g, _⟩
      · rw [e] at hp; exact hp
      · obtain ⟨c, hc, e⟩ := nI_of a
        subst e
        rcases Nat.lt_or_ge c 4 with q | q
        · exact absurd b (nI_nlt (a := 3) (b := c) (by omega) (by decide))
        · exact absurd g (nI_nlt (b := 4) q hc)
    · rcases hh with ⟨g, _⟩ | ⟨_, _, g⟩
      · rcases g with g | g
        · exact absurd g a
        · obtain ⟨c, hc, e⟩ := nI_of a
          subst e
          rcases Nat.lt_or_ge c 4 with q | q
          · exact absurd (nI_lt (b := 4) q (by decide)) g
          · exact absurd (nI_lt (a := 3) q hc) b
      · rcases g with ⟨g1, g2⟩ | ⟨c, g1, g2, g3⟩
        · rw [g2] at hp
          exact rs_Yranked_n g1 hp
        · subst g2
          exact rs_Yranked hR g1 g3 hp
  unfold wpX_nearest
  refine br_c (fun h => ?_) (fun h => rs_isP v2 (fun hn => br_t rfl ?_) (fun w hw e => br_f (by decide) (br_c (fun a => Y (-1) _ ⟨rfl, hR⟩ (Or.inl ⟨Or.inl a, rfl⟩)) (fun a => br_c (fun b => ?_) (fun b => Y (-1) _ ⟨rfl, hR⟩ (Or.inl ⟨Or.inr b, rfl⟩))))))
  · by_cases g : ¬ v1 < 0 ∧ v1 < 4
    · refine Y (-1) _ ⟨rfl, hR⟩ (Or.inr ⟨g.1, g.2, ?_⟩)
      by_cases hp : ∃ c, c < 4096 ∧ v2 = nI c
      · obtain ⟨c, hc, e⟩ := hp
        exact Or.inr ⟨c, hc, e, Or.inr ⟨rfl, fun k hk => absurd hk (rs_none h k)⟩⟩
      · exact Or.inl ⟨fun c hc e => hp ⟨c, hc, e⟩, rfl⟩
    · refine Y (-1) _ ⟨rfl, hR⟩ (Or.inl ⟨?_, rfl⟩)
      by_cases g1 : v1 < 0
      · exact Or.inl g1
      · exact Or.inr (fun g2 => g ⟨g1, g2⟩)
  · by_cases g : ¬ v1 < 0 ∧ v1 < 4
    · exact Y (-1) _ ⟨rfl, hR⟩ (Or.inr ⟨g.1, g.2, Or.inl ⟨hn, rfl⟩⟩)
    · refine Y (-1) _ ⟨rfl, hR⟩ (Or.inl ⟨?_, rfl⟩)
      by_cases g1 : v1 < 0
      · exact Or.inl g1
      · exact Or.inr (fun g2 => g ⟨g1, g2⟩)
  · subst e
    have hpt := rs_pres hR h
    have wx : w % 64 < 64 := Nat.mod_lt _ (by decide)
    have wy : w / 64 < 64 := by omega
    have ans : ∀ (u : Int32) (s : Nat), rs_Nn f_present (rs_d a_placeOf (w % 64) (w / 64)) u s → (∀ k, rs_H f_present k → rs_Nd (rs_d a_placeOf (w % 64) (w / 64)) u s k) → rs_An f_present a_placeOf w 0 u := by
      intro u s q1 q2
      obtain ⟨q, t1, t2, _, t4⟩ := rs_best hG hw hpt q1 q2
      exact Or.inl ⟨q, t1, t2, by rw [t4]; rfl⟩
    refine rs_startNear hw (fun sz o hA => br_c (fun c => ?_) (fun _ => br_c (fun c => ?_) (fun _ => br_c (fun c => ?_) (fun c => ?_))))
    · exact rs_nearInHalves wx wy hG hA (fun u s o A B C D q1 q2 => Y u _ ⟨rfl, hR⟩ (Or.inr ⟨a, b, Or.inr ⟨w, hw, rfl, ans u s q1 q2⟩⟩))
    · exact rs_nearInQuads wx wy hG hA (fun u s A B C D X Y' S Pt Ct F N nq q1 q2 => Y u _ ⟨rfl, hR⟩ (Or.inr ⟨a, b, Or.inr ⟨w, hw, rfl, ans u s q1 q2⟩⟩))
    · refine rs_browse (j := 0) rfl (by decide) wx wy hG hA (rs_sz0 hA hpt) ?_
      intro r o' LX LY HX HY Fs Ps Op nb w' A B C D hr
      refine Y r _ ⟨rfl, hR⟩ (Or.inr ⟨a, b, Or.inr ⟨w, hw, rfl, ?_⟩⟩)
      rcases hr with ⟨q, q1, q2, q3⟩ | ⟨q1, q2⟩
      · exact Or.inl ⟨q, q1, q2, by rw [q3]; rfl⟩
      · refine Or.inr ⟨q1, fun k hk e => q2 k hk ?_⟩
        have b := rs_rk_b (p := f_present) (rs_d a_placeOf (w % 64) (w / 64)) k
        exact (nI_eq (b := 0) (by omega) (by omega)).mp e
    · exact rs_nearInCells wx wy hG hA (fun u s N F q1 q2 => Y u _ ⟨rfl, hR⟩ (Or.inr ⟨a, b, Or.inr ⟨w, hw, rfl, ans u s q1 q2⟩⟩))
theorem rs_vc_square {k : Nat} (hR : rs_RR f_present a_placeOf v) (v1 : Int32) : wpX_square (fun r u' => wpY_square (fun r' => r' = r ∧ i_Rel (k + 5) u' v) v v1) (f_present, f_size, f_lowX, f_lowY, f_highX, f_highY, f_found, f_nearX, f_nearY, f_best, f_bestSquare, f_waiting, f_quads, f_levels, f_boxes, a_placeOf, a_order, a_waitA, a_waitB, a_waitC, a_waitD, a_quadX, a_quadY, a_quadSide, a_quadPart, a_quadCount, a_quadFirst, a_nextPoint, a_lists, a_fromLeft, a_boxLowX, a_boxLowY, a_boxHighX, a_boxHighY, a_boxFirst, a_boxParts, a_boxOfPoints, a_zeros, a_bottom, a_sorted, a_cellFirst, a_heapPoint, a_heapSplit) v1 := by
  have hG := rs_RR_G hR
  unfold wpX_square wpY_square
  refine br_c (fun h => ?_) (fun h => rs_isP v1 (fun hn => br_t rfl (rs_Yranked_n hn (br_f (by decide) ⟨rfl, hR⟩))) (fun w hw e => br_f (by decide) ?_))
  · by_cases hp : ∃ c, c < 4096 ∧ v1 = nI c
    · obtain ⟨c, hc, rfl⟩ := hp
      exact rs_Yranked (r := -1) hR hc (Or.inr ⟨rfl, fun k hk => absurd hk (rs_none h k)⟩) (br_f (by decide) ⟨rfl, hR⟩)
    · exact rs_Yranked_n (fun c hc e => hp ⟨c, hc, e⟩) (br_f (by decide) ⟨rfl, hR⟩)
  · subst e
    have wx : w % 64 < 64 := Nat.mod_lt _ (by decide)
    have wy : w / 64 < 64 := by omega
    refine rs_startNear hw (fun sz o hA => rs_nearInQuads wx wy hG hA (fun u s A B C D X Y' S Pt Ct F N nq q1 q2 => ?_))
    obtain ⟨q, t1, t2, t3, t4⟩ := rs_best hG hw (rs_pres hR h) q1 q2
    have h28 := t1.1
    refine rs_Yranked (r := nI q) hR hw (Or.inl ⟨q, t1, rfl, by rw [t4]; rfl⟩) (br_t (nI_pos' (by omega)) (rs_Yfar hR t1 hw ⟨?_, hR⟩))
    rw [t3]
theorem rs_Yaround_l {post : Int32 → Prop} {p r : Int32} {P : Nat → Int32} {w : Nat} (hR : rs_RR p P v) (hw : w < 4096) (hp : ∀ f, rs_Sn p (rs_R P (w % 64) (w / 64) r) f → (∀ k, rs_H p k → rs_Fi (rs_R P (w % 64) (w / 64) r) f k) → post f) :
    ∀ n i f, 28 < n + i → i ≤ 28 → rs_Ps p (rs_R P (w % 64) (w / 64) r) i f → wY_around_15 post (nI w) r v n f (nI i) := by
  intro n
  induction n with
  | zero => intro i f h1 h2; omega
  | succ n ih =>
    intro i f h1 h2 hI
    refine pk_le 28 i (fun z => ?_) (fun z => ?_)
    · have e : i = 28 := by omega
      subst e
      exact hp f (rs_Ps_end hI).1 (rs_Ps_end hI).2
    · by_cases hh : rs_H p i
      · refine rs_Yis1 hR hh (br_f (by decide) (rs_Yfar hR hh hw (br_c (fun y => nm_r (nI_1 i) (ih (i + 1) f (by omega) (by omega) (rs_Ps_n hI (fun _ q => q y)))) (fun y => nm_e (nm_r (nI_1 i) (ih (i + 1) _ (by omega) (by omega) (rs_Ps_y hI hh y)))))))
      · exact rs_Yis0 hR z hh (br_t rfl (nm_r (nI_1 i) (ih (i + 1) f (by omega) (by omega) (rs_Ps_n hI (fun h => absurd h hh)))))
theorem rs_vc_around {k : Nat} (hR : rs_RR f_present a_placeOf v) (v1 v2 : Int32) : wpX_around (fun r u' => wpY_around (fun r' => r' = r ∧ i_Rel (k + 5) u' v) v v1 v2) (f_present, f_size, f_lowX, f_lowY, f_highX, f_highY, f_found, f_nearX, f_nearY, f_best, f_bestSquare, f_waiting, f_quads, f_levels, f_boxes, a_placeOf, a_order, a_waitA, a_waitB, a_waitC, a_waitD, a_quadX, a_quadY, a_quadSide, a_quadPart, a_quadCount, a_quadFirst, a_nextPoint, a_lists, a_fromLeft, a_boxLowX, a_boxLowY, a_boxHighX, a_boxHighY, a_boxFirst, a_boxParts, a_boxOfPoints, a_zeros, a_bottom, a_sorted, a_cellFirst, a_heapPoint, a_heapSplit) v1 v2 := by
  have hG := rs_RR_G hR
  unfold wpX_around wpY_around
  refine rs_isP v1 (fun hn => br_t rfl (rs_YisP v1 (fun _ => br_t rfl ⟨rfl, hR⟩) (fun c hc e => absurd e (hn c hc)))) (fun w hw e => br_f (by decide) ?_)
  subst e
  have wx : w % 64 < 64 := Nat.mod_lt _ (by decide)
  have wy : w / 64 < 64 := by omega
  refine rs_startNear hw (fun sz o hA => rs_buildQuads hG hA (fun X Y S Pt Ct F N nq h1 h2 h3 h4 h5 => ?_))
  refine rs_push (L := []) 0 0 0 0 trivial (by decide) (by omega) (by omega) (by omega) rfl rfl rfl rfl (fun A1 B1 C1 D1 w1 => Exists.intro 8192 ?_)
  refine rs_ar_loop (nq := nq) (f_size := nI sz) (r := v2) wx wy hG h1 h3 h4 (fun f A B C D g1 g2 => ?_) 8192 [(0, 0, 0, 0)] 0 A1 B1 C1 D1 (by simp only [rs_Ms]; rw [rs_qw_N h5]; decide) ⟨⟨6, by decide, h5.2.2.1, by decide⟩, trivial⟩ w1 rs_Sn_0 ⟨fun it hit => ?_, fun k hk => Or.inr ⟨(0, 0, 0, 0), List.mem_singleton.mpr rfl, ?_⟩⟩
  · refine rs_YisP (nI w) (fun hn => absurd rfl (hn w hw)) (fun _ _ _ => br_f (by decide) (Exists.intro 29 (rs_Yaround_l hR hw (fun f' g3 g4 => ⟨rs_Sn_eq g3 g4 g1 g2, hR⟩) 29 0 0 (by omega) (by omega) rs_Ps_0)))
  · rw [List.mem_singleton.mp hit]
    exact h2
  · have hx := rs_xlt a_placeOf k
    have hy := rs_ylt (hG k hk)
    exact (rs_qi_N h5).mpr ⟨Nat.zero_le _, by show rs_x a_placeOf k < 0 + 2 ^ 6; omega, Nat.zero_le _, by show rs_y a_placeOf k < 0 + 2 ^ 6; omega⟩
end
end
section
/-! closest -/
def rs_pd (P : Nat → Int32) (a b : Nat) : Nat := rs_d P (rs_x P a) (rs_y P a) b
theorem rs_sq_c (a b : Nat) : rs_sq a b = rs_sq b a := by
  have e : rs_ab a b = rs_ab b a := by unfold rs_ab; omega
  unfold rs_sq
  rw [e]
theorem rs_pd_c (P : Nat → Int32) (a b : Nat) : rs_pd P a b = rs_pd P b a := by
  unfold rs_pd rs_d
  rw [rs_sq_c (rs_x P b), rs_sq_c (rs_y P b)]
/-- the least square of two points -/
def rs_Mn (p : Int32) (P : Nat → Int32) (r : Int32) : Prop := (r = -1 ∧ ∀ a b, rs_H p a → rs_H p b → a < b → False) ∨ ∃ m, m < 100000 ∧ r = nI m ∧ (∃ a b, rs_H p a ∧ rs_H p b ∧ a < b ∧ m = rs_pd P a b) ∧ ∀ a b, rs_H p a → rs_H p b → a < b → m ≤ rs_pd P a b
theorem rs_Mn_u {p : Int32} {P : Nat → Int32} {r r' : Int32} (h : rs_Mn p P r) (h' : rs_Mn p P r') : r' = r := by
  rcases h with ⟨e, n⟩ | ⟨m, _, e, ⟨a, b, h1, h2, h3, h4⟩, h5⟩ <;> rcases h' with ⟨e', n'⟩ | ⟨m', _, e', ⟨a', b', h1', h2', h3', h4'⟩, h5'⟩
  · rw [e, e']
  · exact (n a' b' h1' h2' h3').elim
  · exact (n' a b h1 h2 h3).elim
  · have := h5 a' b' h1' h2' h3'
    have := h5' a b h1 h2 h3
    rw [e, e', show m' = m by omega]
theorem rs_pd_b {P : Nat → Int32} {a b : Nat} (ha : rs_ok P a) (hb : rs_ok P b) : rs_pd P a b ≤ 7938 := rs_d_b hb (rs_xlt P a) (rs_ylt ha)
/-- what the square so far is -/
def rs_cA (p : Int32) (P : Nat → Int32) (s : Nat) : Prop := s = 1048576 ∨ ∃ a b, rs_H p a ∧ rs_H p b ∧ a ≠ b ∧ s = rs_pd P a b
section
variable {f_present f_size f_lowX f_lowY f_highX f_highY f_found f_best f_waiting f_quads f_levels f_boxes : Int32} {a_placeOf a_order a_waitA a_waitB a_waitC a_waitD a_quadX a_quadY a_quadSide a_quadPart a_quadCount a_quadFirst a_nextPoint a_lists a_fromLeft a_boxLowX a_boxLowY a_boxHighX a_boxHighY a_boxFirst a_boxParts a_boxOfPoints a_zeros a_bottom a_sorted a_cellFirst a_heapPoint a_heapSplit : Nat → Int32} {sz : Nat}
theorem rs_c_75 {post : Int32 → SX → Prop} {J33 : Int32 → Int32 → Int32 → Int32 → Prop} {i k : Nat} (hG : rs_G f_present a_placeOf) (hA : rs_Al f_present sz a_order) (hs : rs_So (rs_k a_placeOf 1) 0 sz a_order) (hi : i < sz) (hk : rs_H f_present k) (ek : a_order i = nI k)
    (s0 : Nat) (hs0 : s0 ≤ 1048576) (hJ : ∀ s, s ≤ s0 → rs_cA f_present a_placeOf s → (∀ l q, l < i → rs_H f_present q → a_order l = nI q → s ≤ rs_pd a_placeOf k q) → J33 (nI (i + 1)) (nI (rs_x a_placeOf k)) (nI (rs_y a_placeOf k)) (nI s)) :
    ∀ (n jj s : Nat) (g x3 : Int32), jj < n → jj ≤ i → ((jj = 0 ∧ x3 = -1) ∨ ∃ j, jj = j + 1 ∧ x3 = nI j) → s ≤ s0 → rs_cA f_present a_placeOf s → (∀ l q, jj ≤ l → l < i → rs_H f_present q → a_order l = nI q → s ≤ rs_pd a_placeOf k q) → (g = 0 → ∀ l q, l < jj → rs_H f_present q → a_order l = nI q → s ≤ rs_pd a_placeOf k q) → (wX_closest_75 post J33 (nI i) f_present (nI sz) f_lowX f_lowY f_highX f_highY f_found (nI (rs_x a_placeOf k)) (nI (rs_y a_placeOf k)) f_best f_waiting f_quads f_levels f_boxes a_placeOf a_order a_waitA a_waitB a_waitC a_waitD a_quadX a_quadY a_quadSide a_quadPart a_quadCount a_quadFirst a_nextPoint a_lists a_fromLeft a_boxLowX a_boxLowY a_boxHighX a_boxHighY a_boxFirst a_boxParts a_boxOfPoints a_zeros a_bottom a_sorted a_cellFirst a_heapPoint a_heapSplit n g x3 (nI s)) := by
  obtain ⟨hz, hV, _, hinj⟩ := hA
  have xk := rs_xlt a_placeOf k
  have yk := rs_ylt (hG k hk)
  intro n
  induction n with
  | zero => intro jj s g x3 h; omega
  | succ n ih =>
    intro jj s g x3 h1 h2 h3 h4 hC hL hg
    rcases h3 with ⟨e1, e2⟩ | ⟨j, e1, e2⟩
    · subst e1 e2
      exact br_t (by decide) (nm_r (nI_1 i) (hJ s h4 hC (fun l q l1 => hL l q (Nat.zero_le _) l1)))
    · subst e1 e2
      refine br_f (nI_pos (by omega)) (br_c (fun z => nm_r (nI_1 i) (hJ s h4 hC (fun l q l1 hq eq => ?_))) (fun z => And.intro (vp_in_nI (by omega) (by decide)) ?_))
      · rcases Nat.lt_or_ge l (j + 1) with w | w
        · exact hg z l q w hq eq
        · exact hL l q w l1 hq eq
      · obtain ⟨q, hq, eq⟩ := hV j (by omega)
        have xq := rs_xlt a_placeOf q
        have q28 := hq.1
        have k28 := hk.1
        have dq := rs_pd_b (hG k hk) (hG q hq)
        have nkq : k ≠ q := by
          intro e
          have := hinj i j hi (by omega) (by rw [ek, eq, e])
          omega
        rw [nI_clamp (show j < 2 ^ 31 by omega), eq]
        have sqx : rs_sq (rs_x a_placeOf k) (rs_x a_placeOf q) ≤ 3969 := rs_sq_b xk xq
        have sorted : ∀ l t, l ≤ j → rs_H f_present t → a_order l = nI t → rs_sq (rs_x a_placeOf k) (rs_x a_placeOf q) ≤ rs_pd a_placeOf k t := by
          intro l t hl ht et
          have a1 := hs l j (Nat.zero_le _) hl (by omega)
          have a2 := hs j i (Nat.zero_le _) (by omega) hi
          rw [et, eq, rs_k1 ht.1, rs_k1 q28] at a1
          rw [eq, ek, rs_k1 q28, rs_k1 k28] at a2
          unfold rs_pd rs_d
          rw [rs_sq_c (rs_x a_placeOf t)]
          exact Nat.le_trans (rs_sq_le (by unfold rs_ab; omega)) (Nat.le_add_right _ _)
        have R : ∀ z0 : Int32, (z0 = 0 → s ≤ rs_sq (rs_x a_placeOf k) (rs_x a_placeOf q)) → (wX_closest_117 post J33 (wX_closest_75 post J33 (nI i) f_present (nI sz) f_lowX f_lowY f_highX f_highY f_found (nI (rs_x a_placeOf k)) (nI (rs_y a_placeOf k)) f_best f_waiting f_quads f_levels f_boxes a_placeOf a_order a_waitA a_waitB a_waitC a_waitD a_quadX a_quadY a_quadSide a_quadPart a_quadCount a_quadFirst a_nextPoint a_lists a_fromLeft a_boxLowX a_boxLowY a_boxHighX a_boxHighY a_boxFirst a_boxParts a_boxOfPoints a_zeros a_bottom a_sorted a_cellFirst a_heapPoint a_heapSplit n) (nI i) (nI j) z0 f_present (nI sz) f_lowX f_lowY f_highX f_highY f_found (nI (rs_x a_placeOf k)) (nI (rs_y a_placeOf k)) f_best (nI s) f_waiting f_quads f_levels f_boxes a_placeOf a_order a_waitA a_waitB a_waitC a_waitD a_quadX a_quadY a_quadSide a_quadPart a_quadCount a_quadFirst a_nextPoint a_lists a_fromLeft a_boxLowX a_boxLowY a_boxHighX a_boxHighY a_boxFirst a_boxParts a_boxOfPoints a_zeros a_bottom a_sorted a_cellFirst a_heapPoint a_heapSplit) := by
          intro z0 hz0
          have next : ∀ s' : Nat, s' ≤ s → s' ≤ rs_pd a_placeOf k q → rs_cA f_present a_placeOf s' → ∀ x : Int32, x = nI j + (-1) → (wX_closest_75 post J33 (nI i) f_present (nI sz) f_lowX f_lowY f_highX f_highY f_found (nI (rs_x a_placeOf k)) (nI (rs_y a_placeOf k)) f_best f_waiting f_quads f_levels f_boxes a_placeOf a_order a_waitA a_waitB a_waitC a_waitD a_quadX a_quadY a_quadSide a_quadPart a_quadCount a_quadFirst a_nextPoint a_lists a_fromLeft a_boxLowX a_boxLowY a_boxHighX a_boxHighY a_boxFirst a_boxParts a_boxOfPoints a_zeros a_bottom a_sorted a_cellFirst a_heapPoint a_heapSplit n z0 x (nI s')) := by
            intro s' hs1 hs2 hC'
            refine fun x hx => ih j s' z0 x (by omega) (by omega) ?_ (by omega) hC' (fun l t l1 l2 ht et => ?_) (fun hz l t l1 ht et => ?_)
            · rcases Nat.eq_zero_or_pos j with w | w
              · subst w
                exact Or.inl ⟨rfl, by rw [hx]; decide⟩
              · obtain ⟨m, rfl⟩ : ∃ m, j = m + 1 := ⟨j - 1, by omega⟩
                exact Or.inr ⟨m, rfl, by rw [hx, pk_m1]⟩
            · by_cases e : l = j
              · rw [e, eq] at et
                have t28 := ht.1
                have : q = t := (nI_eq (by omega) (by omega)).mp et
                rw [← this]
                exact hs2
              · exact Nat.le_trans hs1 (hL l t (by omega) l2 ht et)
            · exact Nat.le_trans hs1 (Nat.le_trans (hz0 hz) (sorted l t (by omega) ht et))
          unfold wX_closest_117
          rw [nI_clamp (show j < 2 ^ 31 by omega), eq]
          refine ⟨vp_in_nI (by omega) (by decide), rs_squareTo q28 (hG q hq) ?_⟩
          refine pk_le s (rs_pd a_placeOf k q) (fun y => next s (Nat.le_refl _) y hC) (fun y => next (rs_pd a_placeOf k q) (Nat.le_of_lt y) (Nat.le_refl _) (Or.inr ⟨k, q, hk, hq, nkq, rfl⟩))
        refine rs_xOf q28 (hG q hq) (nm_e ?_)
        rw [rs_sqE]
        exact pk_le s (rs_sq (rs_x a_placeOf k) (rs_x a_placeOf q)) (fun y => R 0 (fun _ => y)) (fun y => R 1 (fun h => absurd h (by decide)))
theorem rs_c_33 {post : Int32 → SX → Prop} (hG : rs_G f_present a_placeOf) (hA : rs_Al f_present sz a_order) (hs : rs_So (rs_k a_placeOf 1) 0 sz a_order)
    (hp : ∀ s nX nY, s ≤ 1048576 → rs_cA f_present a_placeOf s → (∀ l m a b, l < m → m < sz → rs_H f_present a → rs_H f_present b → a_order l = nI a → a_order m = nI b → s ≤ rs_pd a_placeOf b a) → post (nI s) (f_present, nI sz, f_lowX, f_lowY, f_highX, f_highY, f_found, nX, nY, f_best, nI s, f_waiting, f_quads, f_levels, f_boxes, a_placeOf, a_order, a_waitA, a_waitB, a_waitC, a_waitD, a_quadX, a_quadY, a_quadSide, a_quadPart, a_quadCount, a_quadFirst, a_nextPoint, a_lists, a_fromLeft, a_boxLowX, a_boxLowY, a_boxHighX, a_boxHighY, a_boxFirst, a_boxParts, a_boxOfPoints, a_zeros, a_bottom, a_sorted, a_cellFirst, a_heapPoint, a_heapSplit)) :
    ∀ (n i s : Nat) (nX nY : Int32), sz < n + i → i ≤ sz → s ≤ 1048576 → rs_cA f_present a_placeOf s → (∀ l m a b, l < m → m < i → rs_H f_present a → rs_H f_present b → a_order l = nI a → a_order m = nI b → s ≤ rs_pd a_placeOf b a) → 1 ≤ i → (wX_closest_33 post f_present (nI sz) f_lowX f_lowY f_highX f_highY f_found f_best f_waiting f_quads f_levels f_boxes a_placeOf a_order a_waitA a_waitB a_waitC a_waitD a_quadX a_quadY a_quadSide a_quadPart a_quadCount a_quadFirst a_nextPoint a_lists a_fromLeft a_boxLowX a_boxLowY a_boxHighX a_boxHighY a_boxFirst a_boxParts a_boxOfPoints a_zeros a_bottom a_sorted a_cellFirst a_heapPoint a_heapSplit n (nI i) nX nY (nI s)) := by
  have hz := hA.1
  intro n
  induction n with
  | zero => intro i s nX nY h1 h2; omega
  | succ n ih =>
    intro i s nX nY h1 h2 h3 hC hL h0
    refine pk_le sz i (fun z => hp s nX nY h3 hC (fun l m a b l1 l2 => hL l m a b l1 (by omega))) (fun z => And.intro (vp_in_nI (by omega) (by decide)) ?_)
    obtain ⟨k, hk, ek⟩ := hA.2.1 i z
    have h28 := hk.1
    rw [nI_clamp (show i < 2 ^ 31 by omega), ek]
    refine rs_xOf h28 (hG k hk) (And.intro (vp_in_nI (by omega) (by decide)) (rs_yOf h28 (hG k hk) ?_))
    obtain ⟨j, rfl⟩ : ∃ j, i = j + 1 := ⟨i - 1, by omega⟩
    refine nm_r (nI_pred j) (Exists.intro (j + 2) ?_)
    refine rs_c_75 hG hA hs z hk ek s h3 (fun s' g1 g2 g3 => ?_) (j + 2) (j + 1) s 1 (nI j) (by omega) (Nat.le_refl _) (Or.inr ⟨j, rfl, rfl⟩) (Nat.le_refl _) hC (fun l q l1 l2 => by omega) (fun h => absurd h (by decide))
    refine ih (j + 2) s' (nI (rs_x a_placeOf k)) (nI (rs_y a_placeOf k)) (by omega) (by omega) (by omega) g2 (fun l m a b l1 l2 ha hb ea eb => ?_) (by omega)
    rcases Nat.lt_or_ge m (j + 1) with w | w
    · exact Nat.le_trans g1 (hL l m a b l1 w ha hb ea eb)
    · rw [show m = j + 1 by omega, ek] at eb
      have b28 := hb.1
      have : k = b := (nI_eq (by omega) (by omega)).mp eb
      rw [← this]
      exact g3 l a (by omega) ha ea
end
section
variable {f_present f_size f_lowX f_lowY f_highX f_highY f_found f_nearX f_nearY f_best f_bestSquare f_waiting f_quads f_levels f_boxes : Int32} {a_placeOf a_order a_waitA a_waitB a_waitC a_waitD a_quadX a_quadY a_quadSide a_quadPart a_quadCount a_quadFirst a_nextPoint a_lists a_fromLeft a_boxLowX a_boxLowY a_boxHighX a_boxHighY a_boxFirst a_boxParts a_boxOfPoints a_zeros a_bottom a_sorted a_cellFirst a_heapPoint a_heapSplit : Nat → Int32} {sz : Nat} {v : Nat → Int32}
theorem rs_Xclosest {post : Int32 → SX → Prop} (hG : rs_G f_present a_placeOf) (hp : ∀ r sz o nX nY s, rs_Mn f_present a_placeOf r → post r (f_present, nI sz, f_lowX, f_lowY, f_highX, f_highY, f_found, nX, nY, f_best, s, f_waiting, f_quads, f_levels, f_boxes, a_placeOf, o, a_waitA, a_waitB, a_waitC, a_waitD, a_quadX, a_quadY, a_quadSide, a_quadPart, a_quadCount, a_quadFirst, a_nextPoint, a_lists, a_fromLeft, a_boxLowX, a_boxLowY, a_boxHighX, a_boxHighY, a_boxFirst, a_boxParts, a_boxOfPoints, a_zeros, a_bottom, a_sorted, a_cellFirst, a_heapPoint, a_heapSplit)) : wpX_closest post (f_present, f_size, f_lowX, f_lowY, f_highX, f_highY, f_found, f_nearX, f_nearY, f_best, f_bestSquare, f_waiting, f_quads, f_levels, f_boxes, a_placeOf, a_order, a_waitA, a_waitB, a_waitC, a_waitD, a_quadX, a_quadY, a_quadSide, a_quadPart, a_quadCount, a_quadFirst, a_nextPoint, a_lists, a_fromLeft, a_boxLowX, a_boxLowY, a_boxHighX, a_boxHighY, a_boxFirst, a_boxParts, a_boxOfPoints, a_zeros, a_bottom, a_sorted, a_cellFirst, a_heapPoint, a_heapSplit) := by
  unfold wpX_closest
  refine rs_gather (fun sz o hA => ?_)
  have hz := hA.1
  refine pk_le 2 sz (fun z => ?_) (fun z => hp (-1) sz o f_nearX f_nearY f_bestSquare (Or.inl ⟨rfl, fun a b ha hb hab => ?_⟩))
  · refine rs_sort 0 sz 1 hG (by decide) (by decide) hz rfl rfl rfl (fun l _ h => hA.2.1 l h) (fun o' pm so => Exists.intro (sz + 1) ?_)
    have hA' := rs_Al_Pm hA pm
    refine rs_c_33 hG hA' so (fun s nX nY g1 g2 g3 => hp (nI s) sz o' nX nY (nI s) (Or.inr ?_)) (sz + 1) 1 1048576 f_nearX f_nearY (by omega) (by omega) (Nat.le_refl _) (Or.inl rfl) (fun l m a b l1 l2 => by omega) (by omega)
    have low : ∀ a b, rs_H f_present a → rs_H f_present b → a ≠ b → s ≤ rs_pd a_placeOf a b := by
      intro a b ha hb hab
      obtain ⟨i, i1, i2⟩ := hA'.2.2.1 a ha
      obtain ⟨j, j1, j2⟩ := hA'.2.2.1 b hb
      have a28 := ha.1
      have b28 := hb.1
      have nij : i ≠ j := by
        intro e
        rw [e, j2] at i2
        exact hab ((nI_eq (by omega) (by omega)).mp i2).symm
      rcases Nat.lt_or_ge i j with w | w
      · rw [rs_pd_c]; exact g3 i j a b w j1 ha hb i2 j2
      · exact g3 j i b a (by omega) i1 hb ha j2 i2
    obtain ⟨a0, ha0, ea0⟩ := hA'.2.1 0 (by omega)
    obtain ⟨b0, hb0, eb0⟩ := hA'.2.1 1 (by omega)
    have n0 : a0 ≠ b0 := by
      intro e
      have := hA'.2.2.2 0 1 (by omega) (by omega) (by rw [ea0, eb0, e])
      omega
    have l0 := low a0 b0 ha0 hb0 n0
    have d0 := rs_pd_b (hG a0 ha0) (hG b0 hb0)
    refine ⟨s, by omega, rfl, ?_, fun a b ha hb hab => low a b ha hb (by omega)⟩
    rcases g2 with e | ⟨a, b, ha, hb, hab, e⟩
    · omega
    · rcases Nat.lt_or_ge a b with w | w
      · exact ⟨a, b, ha, hb, w, e⟩
      · exact ⟨b, a, hb, ha, by omega, by rw [rs_pd_c]; exact e⟩
  · obtain ⟨i, i1, i2⟩ := hA.2.2.1 a ha
    obtain ⟨j, j1, j2⟩ := hA.2.2.1 b hb
    have a28 := ha.1
    have b28 := hb.1
    have : i = j := by omega
    rw [this, j2] at i2
    have := (nI_eq (by omega) (by omega)).mp i2
    omega
/-- what the reference has seen: pairs up to k, and of k those below i -/
def rs_Ys (p : Int32) (P : Nat → Int32) (k i : Nat) (r : Int32) : Prop := (r = -1 ∧ ∀ a b, rs_H p a → rs_H p b → a < b → (b < k ∨ (b = k ∧ a < i)) → False) ∨ ∃ m, m < 100000 ∧ r = nI m ∧ (∃ a b, rs_H p a ∧ rs_H p b ∧ a < b ∧ m = rs_pd P a b) ∧ ∀ a b, rs_H p a → rs_H p b → a < b → (b < k ∨ (b = k ∧ a < i)) → m ≤ rs_pd P a b
theorem rs_Yc_12 {post : Int32 → Prop} {J4 : Int32 → Int32 → Prop} {p : Int32} {P : Nat → Int32} {k : Nat} (hR : rs_RR p P v) (hk : k < 28) (hJ : ∀ r, rs_Ys p P (k + 1) 0 r → J4 r (nI (k + 1))) :
    ∀ n i r, k < n + i → i ≤ k → rs_Ys p P k i r → wY_closest_12 post J4 (nI k) v n r (nI i) := by
  have hG := rs_RR_G hR
  intro n
  induction n with
  | zero => intro i r h1 h2; omega
  | succ n ih =>
    intro i r h1 h2 hS
    refine pk_le k i (fun z => nm_r (nI_1 k) (hJ r ?_)) (fun z => ?_)
    · rcases hS with ⟨e, n⟩ | ⟨m, m0, m1, m2, m3⟩
      · exact Or.inl ⟨e, fun a b ha hb hab hc => n a b ha hb hab (by omega)⟩
      · exact Or.inr ⟨m, m0, m1, m2, fun a b ha hb hab hc => m3 a b ha hb hab (by omega)⟩
    · have no : (rs_H p k → rs_H p i → False) → wY_closest_49 post J4 (wY_closest_12 post J4 (nI k) v n) r (nI k) (nI i) v := by
        intro hn
        unfold wY_closest_49 wY_closest_50
        refine br_t (by decide) (nm_r (nI_1 i) (ih (i + 1) r (by omega) (by omega) ?_))
        have key : ∀ a b, rs_H p a → rs_H p b → (b < k ∨ (b = k ∧ a < i + 1)) → (b < k ∨ (b = k ∧ a < i)) := by
          intro a b ha hb hc
          by_cases e : b = k ∧ a = i
          · rw [e.1] at hb; rw [e.2] at ha; exact (hn hb ha).elim
          · omega
        rcases hS with ⟨e, n⟩ | ⟨m, m0, m1, m2, m3⟩
        · exact Or.inl ⟨e, fun a b ha hb hab hc => n a b ha hb hab (key a b ha hb hc)⟩
        · exact Or.inr ⟨m, m0, m1, m2, fun a b ha hb hab hc => m3 a b ha hb hab (key a b ha hb hc)⟩
      by_cases hh : rs_H p k
      · refine rs_Yis1 hR hh (br_f (by decide) ?_)
        by_cases hi : rs_H p i
        · obtain ⟨c, c1, c2, c3⟩ := (hR.2 k hk).1 hh.2
          have ex : c % 64 = rs_x P k := by unfold rs_x; rw [c2, nI_clamp (by omega)]
          have ey : c / 64 = rs_y P k := by unfold rs_y; rw [c2, nI_clamp (by omega)]
          refine rs_Yis1 hR hi (br_f (by decide) ⟨vp_in_nI hk (by decide), ?_⟩)
          rw [nI_clamp (show k < 2 ^ 31 by omega), c3, nI_pred]
          refine rs_Yfar hR hi c1 ?_
          rw [ex, ey]
          have ed : rs_d P (rs_x P k) (rs_y P k) i = rs_pd P i k := by rw [rs_pd_c]; rfl
          rw [ed]
          have db := rs_pd_b (hG i hi) (hG k hh)
          unfold wY_closest_50
          have new : ∀ m, m = rs_pd P i k → (∀ a b, rs_H p a → rs_H p b → a < b → (b < k ∨ (b = k ∧ a < i)) → m ≤ rs_pd P a b) → rs_Ys p P k (i + 1) (nI m) := by
            intro m em hm
            refine Or.inr ⟨m, by omega, rfl, ⟨i, k, hi, hh, z, em⟩, fun a b ha hb hab hc => ?_⟩
            by_cases e : b = k ∧ a = i
            · rw [e.1, e.2, em]; exact Nat.le_refl _
            · exact hm a b ha hb hab (by omega)
          refine br_f (nI_pos (by omega)) ?_
          rcases hS with ⟨e, nn⟩ | ⟨m, m0, m1, m2, m3⟩
          · subst e
            exact br_t (by decide) (nm_r (nI_1 i) (ih (i + 1) _ (by omega) (by omega) (new _ rfl (fun a b ha hb hab hc => (nn a b ha hb hab hc).elim))))
          · subst m1
            refine br_f (nI_pos (by omega)) (pk_le m (rs_pd P i k) (fun y => nm_r (nI_1 i) (ih (i + 1) _ (by omega) (by omega) (Or.inr ⟨m, m0, rfl, m2, fun a b ha hb hab hc => ?_⟩))) (fun y => nm_r (nI_1 i) (ih (i + 1) _ (by omega) (by omega) (new _ rfl (fun a b ha hb hab hc => Nat.le_trans (Nat.le_of_lt y) (m3 a b ha hb hab hc))))))
            by_cases e : b = k ∧ a = i
            · rw [e.1, e.2]; exact y
            · exact m3 a b ha hb hab (by omega)
        · exact rs_Yis0 hR (by omega) hi (br_t rfl (no (fun _ h => hi h)))
      · exact rs_Yis0 hR hk hh (br_t rfl (no (fun h _ => hh h)))
theorem rs_Yclosest {post : Int32 → Prop} {p : Int32} {P : Nat → Int32} (hR : rs_RR p P v) (hp : ∀ r, rs_Mn p P r → post r) : wpY_closest post v := by
  have loop : ∀ n k r, 28 < n + k → k ≤ 28 → rs_Ys p P k 0 r → wY_closest_4 post v n r (nI k) := by
    intro n
    induction n with
    | zero => intro k r h1 h2; omega
    | succ n ih =>
      intro k r h1 h2 hS
      refine pk_le 28 k (fun z => hp r ?_) (fun z => Exists.intro (k + 1) (rs_Yc_12 hR z (fun r' hS' => ih (k + 1) r' (by omega) (by omega) hS') (k + 1) 0 r (by omega) (by omega) hS))
      rcases hS with ⟨e, nn⟩ | ⟨m, m0, m1, m2, m3⟩
      · exact Or.inl ⟨e, fun a b ha hb hab => nn a b ha hb hab (by have := hb.1; omega)⟩
      · exact Or.inr ⟨m, m0, m1, m2, fun a b ha hb hab => m3 a b ha hb hab (by have := hb.1; omega)⟩
  unfold wpY_closest
  exact Exists.intro 29 (loop 29 0 (-1) (by omega) (by omega) (Or.inl ⟨rfl, fun a b ha hb hab hc => by omega⟩))
theorem rs_vc_closest {k : Nat} (hR : rs_RR f_present a_placeOf v) : wpX_closest (fun r u' => wpY_closest (fun r' => r' = r ∧ i_Rel (k + 5) u' v) v) (f_present, f_size, f_lowX, f_lowY, f_highX, f_highY, f_found, f_nearX, f_nearY, f_best, f_bestSquare, f_waiting, f_quads, f_levels, f_boxes, a_placeOf, a_order, a_waitA, a_waitB, a_waitC, a_waitD, a_quadX, a_quadY, a_quadSide, a_quadPart, a_quadCount, a_quadFirst, a_nextPoint, a_lists, a_fromLeft, a_boxLowX, a_boxLowY, a_boxHighX, a_boxHighY, a_boxFirst, a_boxParts, a_boxOfPoints, a_zeros, a_bottom, a_sorted, a_cellFirst, a_heapPoint, a_heapSplit) :=
  rs_Xclosest (rs_RR_G hR) (fun r sz o nX nY s h => rs_Yclosest hR (fun r' h' => ⟨rs_Mn_u h h', hR⟩))
end
end
section
/-! staircase -/
theorem rs_m_i {a : Nat} (ha : a < 2 ^ 30) : (nI a - 1).toInt = (a : Int) - 1 := pk_sub_toInt (b := 1) ha (by decide)
theorem rs_mle {x y : Int32} {A B : Prop} (a b : Nat) (f : a ≤ b → A) (g : b < a → B) (hx : x = nI a - 1) (hy : y = nI b - 1) (ha : a < 2 ^ 30 := by omega) (hb : b < 2 ^ 30 := by omega) : (x ≤ y → A) ∧ (¬ x ≤ y → B) := by
  subst hx hy
  rw [Int32.le_iff_toInt_le, rs_m_i ha, rs_m_i hb]
  exact ⟨fun h => f (by omega), fun h => g (by omega)⟩
theorem rs_m_eq {a b : Nat} (ha : a < 2 ^ 30) (hb : b < 2 ^ 30) (h : nI a - 1 = nI b - 1) : a = b := by
  have := congrArg Int32.toInt h
  rw [rs_m_i ha, rs_m_i hb] at this
  omega
/-- i stands at or beyond k in both ways, elsewhere -/
def rs_Vi (P : Nat → Int32) (k i : Nat) : Prop := rs_x P k ≤ rs_x P i ∧ rs_y P k ≤ rs_y P i ∧ ¬ (rs_x P i = rs_x P k ∧ rs_y P i = rs_y P k)
def rs_Tp (p : Int32) (P : Nat → Int32) (k : Nat) : Prop := ∀ i, rs_H p i → ¬ rs_Vi P k i
def rs_jx (jj : Nat) (x : Int32) : Prop := (jj = 0 ∧ x = -1) ∨ ∃ j, jj = j + 1 ∧ x = nI j
theorem rs_jx_m {j : Nat} (hj : j < 2 ^ 31) : rs_jx j (nI j + (-1)) := by
  rcases Nat.eq_zero_or_pos j with w | w
  · subst w
    exact Or.inl ⟨rfl, by decide⟩
  · obtain ⟨m, rfl⟩ : ∃ m, j = m + 1 := ⟨j - 1, by omega⟩
    exact Or.inr ⟨m, rfl, pk_m1 m⟩
theorem rs_jx_1 {jj : Nat} {x : Int32} (h : rs_jx jj x) : x + 1 = nI jj := by
  rcases h with ⟨e1, e2⟩ | ⟨j, e1, e2⟩
  · subst e1 e2; decide
  · subst e1 e2; exact nI_1 j
section
variable {f_present f_size f_lowX f_lowY f_highX f_highY f_found f_nearX f_nearY f_best f_bestSquare f_waiting f_quads f_levels f_boxes : Int32} {a_placeOf a_order a_waitA a_waitB a_waitC a_waitD a_quadX a_quadY a_quadSide a_quadPart a_quadCount a_quadFirst a_nextPoint a_lists a_fromLeft a_boxLowX a_boxLowY a_boxHighX a_boxHighY a_boxFirst a_boxParts a_boxOfPoints a_zeros a_bottom a_sorted a_cellFirst a_heapPoint a_heapSplit : Nat → Int32} {sz i : Nat}
theorem rs_st_109 {post : Int32 → SX → Prop} {J25 : Int32 → Int32 → Int32 → Prop} {jj t1 h1 : Nat} {x6 f0 : Int32} (hG : rs_G f_present a_placeOf) (hV : ∀ j, j < sz → rs_V f_present (a_order j)) (hsz : sz ≤ 28) (hi : i < sz) (ht1 : t1 ≤ 64) (hh1 : h1 ≤ 64)
    (hno : t1 ≤ h1 → ∀ l k, jj ≤ l → l ≤ i → rs_H f_present k → a_order l = nI k → ¬ rs_Tp f_present a_placeOf k)
    (hyes : h1 < t1 → ∀ l k, jj ≤ l → l ≤ i → rs_H f_present k → a_order l = nI k → rs_y a_placeOf k + 1 = t1 → rs_Tp f_present a_placeOf k)
    (hne : ∀ l k, jj ≤ l → l ≤ i → rs_H f_present k → a_order l = nI k → rs_y a_placeOf k + 1 ≠ t1 → ¬ rs_Tp f_present a_placeOf k)
    (hJ : ∀ f h, h = max t1 h1 → rs_Sn f_present (rs_Tp f_present a_placeOf) f → rs_Le f0 f → (∀ l k, jj ≤ l → l ≤ i → rs_H f_present k → a_order l = nI k → rs_Fi (rs_Tp f_present a_placeOf) f k) → J25 f (nI h - 1) x6) :
    ∀ n kk f, i + 1 < n + kk → jj ≤ kk → kk ≤ i + 1 → rs_Sn f_present (rs_Tp f_present a_placeOf) f → rs_Le f0 f → (∀ l k, jj ≤ l → l < kk → rs_H f_present k → a_order l = nI k → rs_Fi (rs_Tp f_present a_placeOf) f k) → (wX_staircase_109 post J25 (nI h1 - 1) (nI i) (nI t1 - 1) x6 f_present (nI sz) f_lowX f_lowY f_highX f_highY f_found f_nearX f_nearY f_best f_bestSquare f_waiting f_quads f_levels f_boxes a_placeOf a_order a_waitA a_waitB a_waitC a_waitD a_quadX a_quadY a_quadSide a_quadPart a_quadCount a_quadFirst a_nextPoint a_lists a_fromLeft a_boxLowX a_boxLowY a_boxHighX a_boxHighY a_boxFirst a_boxParts a_boxOfPoints a_zeros a_bottom a_sorted a_cellFirst a_heapPoint a_heapSplit n f (nI kk)) := by
  have fin : ∀ f, rs_Sn f_present (rs_Tp f_present a_placeOf) f → rs_Le f0 f → (∀ l k, jj ≤ l → l ≤ i → rs_H f_present k → a_order l = nI k → rs_Fi (rs_Tp f_present a_placeOf) f k) → (wX_staircase_159 post J25 f (nI h1 - 1) (nI t1 - 1) x6 f_present (nI sz) f_lowX f_lowY f_highX f_highY f_found f_nearX f_nearY f_best f_bestSquare f_waiting f_quads f_levels f_boxes a_placeOf a_order a_waitA a_waitB a_waitC a_waitD a_quadX a_quadY a_quadSide a_quadPart a_quadCount a_quadFirst a_nextPoint a_lists a_fromLeft a_boxLowX a_boxLowY a_boxHighX a_boxHighY a_boxFirst a_boxParts a_boxOfPoints a_zeros a_bottom a_sorted a_cellFirst a_heapPoint a_heapSplit) := by
    intro f a b c
    unfold wX_staircase_159
    exact rs_mle t1 h1 (fun z => hJ f h1 (by omega) a b c) (fun z => hJ f t1 (by omega) a b c) rfl rfl
  intro n
  induction n with
  | zero => intro kk f h1 h2 h3; omega
  | succ n ih =>
    intro kk f g1 g2 g3 hF hLe hI
    refine pk_lt i kk (fun z => fin f hF hLe (fun l k l1 l2 => hI l k l1 (by omega))) (fun z => rs_mle t1 h1 (fun y => fin f hF hLe (fun l k l1 l2 hk ek q => absurd q (hno y l k l1 l2 hk ek))) (fun y => And.intro (vp_in_nI (by omega) (by decide)) ?_) rfl rfl)
    obtain ⟨q, hq, eq⟩ := hV kk (by omega)
    have q28 := hq.1
    have yq := rs_ylt (hG q hq)
    have ekk : (nI kk).toNatClampNeg = kk := nI_clamp (by omega)
    rw [ekk, eq]
    have ih' : ∀ f', rs_Sn f_present (rs_Tp f_present a_placeOf) f' → rs_Le f f' → rs_Fi (rs_Tp f_present a_placeOf) f' q → ∀ x : Int32, x = nI kk + 1 → (wX_staircase_109 post J25 (nI h1 - 1) (nI i) (nI t1 - 1) x6 f_present (nI sz) f_lowX f_lowY f_highX f_highY f_found f_nearX f_nearY f_best f_bestSquare f_waiting f_quads f_levels f_boxes a_placeOf a_order a_waitA a_waitB a_waitC a_waitD a_quadX a_quadY a_quadSide a_quadPart a_quadCount a_quadFirst a_nextPoint a_lists a_fromLeft a_boxLowX a_boxLowY a_boxHighX a_boxHighY a_boxFirst a_boxParts a_boxOfPoints a_zeros a_bottom a_sorted a_cellFirst a_heapPoint a_heapSplit n f' x) := by
      intro f' r1 r2 r3
      refine nm_r (nI_1 kk) (ih (kk + 1) f' (by omega) (by omega) (by omega) r1 (rs_Le_t hLe r2) (fun l k l1 l2 hk ek => ?_))
      rcases Nat.lt_or_ge l kk with w | w
      · exact rs_Fi_m r2 (hI l k l1 w hk ek)
      · rw [show l = kk by omega, eq] at ek
        have k28 := hk.1
        have : q = k := (nI_eq (by omega) (by omega)).mp ek
        rw [← this]
        exact r3
    refine rs_yOf q28 (hG q hq) (br_c (fun e => And.intro (vp_in_nI (by omega) (by decide)) ?_) (fun e => ?_))
    · have et : rs_y a_placeOf q + 1 = t1 := rs_m_eq (by omega) (by omega) (by rw [nI_pred]; exact e)
      have w := rs_Sn_add hF hq (hyes y kk q g2 z hq eq et)
      exact nm_e (ih' _ w.1 w.2.1 w.2.2)
    · refine nm_r (rs_or0 f) (ih' f hF (rs_Le_r f) (fun t => absurd t (hne kk q g2 z hq eq (fun et => e ?_))))
      rw [← et, nI_pred]
theorem rs_st_47 {post : Int32 → SX → Prop} {J25 : Int32 → Int32 → Int32 → Prop} {X h1 : Nat} {f0 : Int32} (hG : rs_G f_present a_placeOf) (hA : rs_Al f_present sz a_order) (hs : rs_So (rs_k a_placeOf 1) 0 sz a_order) (hi : i < sz) (hX : rs_k a_placeOf 1 (a_order i) = X) (hh1 : h1 ≤ 64) (hF : rs_Sn f_present (rs_Tp f_present a_placeOf) f0)
    (a1 : ∀ l, i < l → l < sz → rs_k a_placeOf 0 (a_order l) + 1 ≤ h1) (a2 : h1 = 0 ∨ ∃ l, i < l ∧ l < sz ∧ rs_k a_placeOf 0 (a_order l) + 1 = h1) (a3 : ∀ l l', l ≤ i → i < l' → l' < sz → rs_k a_placeOf 1 (a_order l) < rs_k a_placeOf 1 (a_order l'))
    (hJ : ∀ f h jj x6, jj ≤ i → rs_jx jj x6 → h ≤ 64 → rs_Sn f_present (rs_Tp f_present a_placeOf) f → rs_Le f0 f → (∀ l k, jj ≤ l → l ≤ i → rs_H f_present k → a_order l = nI k → rs_Fi (rs_Tp f_present a_placeOf) f k) → (∀ l, jj ≤ l → l < sz → rs_k a_placeOf 0 (a_order l) + 1 ≤ h) → (∃ l, jj ≤ l ∧ l < sz ∧ rs_k a_placeOf 0 (a_order l) + 1 = h) → (∀ l l', l < jj → jj ≤ l' → l' < sz → rs_k a_placeOf 1 (a_order l) < rs_k a_placeOf 1 (a_order l')) → J25 f (nI h - 1) x6) :
    ∀ n jj t1 x6, jj < n → jj ≤ i + 1 → rs_jx jj x6 → t1 ≤ 64 → (∀ l, jj ≤ l → l ≤ i → rs_k a_placeOf 1 (a_order l) = X ∧ rs_k a_placeOf 0 (a_order l) + 1 ≤ t1) → ((t1 = 0 ∧ jj = i + 1) ∨ ∃ l, jj ≤ l ∧ l ≤ i ∧ rs_k a_placeOf 0 (a_order l) + 1 = t1) → (wX_staircase_47 post J25 f0 (nI h1 - 1) (nI i) (nI X) f_present (nI sz) f_lowX f_lowY f_highX f_highY f_found f_nearX f_nearY f_best f_bestSquare f_waiting f_quads f_levels f_boxes a_placeOf a_order a_waitA a_waitB a_waitC a_waitD a_quadX a_quadY a_quadSide a_quadPart a_quadCount a_quadFirst a_nextPoint a_lists a_fromLeft a_boxLowX a_boxLowY a_boxHighX a_boxHighY a_boxFirst a_boxParts a_boxOfPoints a_zeros a_bottom a_sorted a_cellFirst a_heapPoint a_heapSplit n (nI t1 - 1) x6) := by
  obtain ⟨hz, hV, hV2, hinj⟩ := hA
  have exit : ∀ jj t1 x6, jj ≤ i → rs_jx jj x6 → t1 ≤ 64 → (∀ l, jj ≤ l → l ≤ i → rs_k a_placeOf 1 (a_order l) = X ∧ rs_k a_placeOf 0 (a_order l) + 1 ≤ t1) → (∃ l, jj ≤ l ∧ l ≤ i ∧ rs_k a_placeOf 0 (a_order l) + 1 = t1) → (∀ l, l < jj → rs_k a_placeOf 1 (a_order l) < X) → ∀ x : Int32, x = x6 + 1 → ∃ n', (wX_staircase_109 post J25 (nI h1 - 1) (nI i) (nI t1 - 1) x6 f_present (nI sz) f_lowX f_lowY f_highX f_highY f_found f_nearX f_nearY f_best f_bestSquare f_waiting f_quads f_levels f_boxes a_placeOf a_order a_waitA a_waitB a_waitC a_waitD a_quadX a_quadY a_quadSide a_quadPart a_quadCount a_quadFirst a_nextPoint a_lists a_fromLeft a_boxLowX a_boxLowY a_boxHighX a_boxHighY a_boxFirst a_boxParts a_boxOfPoints a_zeros a_bottom a_sorted a_cellFirst a_heapPoint a_heapSplit n' f0 x) := by
    intro jj t1 x6 g1 g2 g3 g4 g5 g6
    have at_ : ∀ l k, rs_H f_present k → a_order l = nI k → rs_k a_placeOf 1 (a_order l) = rs_x a_placeOf k ∧ rs_k a_placeOf 0 (a_order l) = rs_y a_placeOf k := fun l k hk ek => ⟨by rw [ek, rs_k1 hk.1], by rw [ek, rs_k0 hk.1]⟩
    refine nm_r (rs_jx_1 g2) (Exists.intro (i + 2) (rs_st_109 (jj := jj) hG hV hz hi g3 hh1 (fun y l k l1 l2 hk ek tp => ?_) (fun y l k l1 l2 hk ek et q hq vi => ?_) (fun l k l1 l2 hk ek et tp => ?_) (fun f h eh r1 r2 r3 => hJ f h jj x6 g1 g2 (by omega) r1 r2 r3 (fun l l1 l2 => ?_) ?_ (fun l l' l1 l2 l3 => ?_)) (i + 2) jj f0 (by omega) (Nat.le_refl _) (by omega) hF (rs_Le_r f0) (fun l k l1 l2 => by omega)))
    · -- the highest behind is at least as high
      have e1 := g4 l l1 l2
      obtain ⟨b1, b2⟩ := at_ l k hk ek
      rcases a2 with e | ⟨l', m1, m2, m3⟩
      · omega
      · obtain ⟨q, hq, eq⟩ := hV l' m2
        obtain ⟨c1, c2⟩ := at_ l' q hq eq
        have lt := a3 l l' (by omega) m1 m2
        exact tp q hq ⟨by omega, by omega, fun h => by omega⟩
    · -- the top of the group, above all behind
      obtain ⟨v1, v2, v3⟩ := vi
      obtain ⟨b1, b2⟩ := at_ l k hk ek
      obtain ⟨m, m1, m2⟩ := hV2 q hq
      obtain ⟨c1, c2⟩ := at_ m q hq m2
      have xl := (g4 l l1 l2).1
      rcases Nat.lt_or_ge m jj with w | w
      · have := g6 m w
        omega
      · rcases Nat.lt_or_ge i m with u | u
        · have := a1 m u m1
          omega
        · have := g4 m w u
          exact v3 ⟨by omega, by omega⟩
    · -- one of the group is higher
      obtain ⟨b1, b2⟩ := at_ l k hk ek
      obtain ⟨m, m1, m2, m3⟩ := g5
      obtain ⟨q, hq, eq⟩ := hV m (by omega)
      obtain ⟨c1, c2⟩ := at_ m q hq eq
      have d1 := g4 l l1 l2
      have d2 := g4 m m1 m2
      exact tp q hq ⟨by omega, by omega, fun h => by omega⟩
    · rcases Nat.lt_or_ge i l with u | u
      · have := a1 l u l2
        omega
      · have := g4 l l1 u
        omega
    · rcases Nat.lt_or_ge h1 t1 with u | u
      · obtain ⟨m, m1, m2, m3⟩ := g5
        exact ⟨m, m1, by omega, by omega⟩
      · rcases a2 with e | ⟨l', m1, m2, m3⟩
        · obtain ⟨m, m1, m2, m3⟩ := g5
          omega
        · exact ⟨l', by omega, m2, by omega⟩
    · rcases Nat.lt_or_ge i l' with u | u
      · exact a3 l l' (by omega) u l3
      · have := g6 l l1
        have := g4 l' l2 u
        omega
  intro n
  induction n with
  | zero => intro jj t1 x6 h; omega
  | succ n ih =>
    intro jj t1 x6 g1 g2 g3 g4 g5 g6
    rcases g3 with ⟨e1, e2⟩ | ⟨j, e1, e2⟩
    · subst e1 e2
      refine br_t (by decide) (exit 0 t1 (-1) (Nat.zero_le _) (Or.inl ⟨rfl, rfl⟩) g4 g5 ?_ (fun l h => by omega))
      rcases g6 with ⟨_, e⟩ | g6
      · omega
      · exact g6
    · subst e1 e2
      obtain ⟨q, hq, eq⟩ := hV j (by omega)
      have q28 := hq.1
      have xq := rs_xlt a_placeOf q
      have yq := rs_ylt (hG q hq)
      have ej : (nI j).toNatClampNeg = j := nI_clamp (by omega)
      have kx : rs_k a_placeOf 1 (a_order j) = rs_x a_placeOf q := by rw [eq, rs_k1 q28]
      have ky : rs_k a_placeOf 0 (a_order j) = rs_y a_placeOf q := by rw [eq, rs_k0 q28]
      have X64 : X < 64 := by rw [← hX]; exact rs_klt hG (hV i hi)
      refine br_f (nI_pos (by omega)) (And.intro (vp_in_nI (by omega) (by decide)) ?_)
      rw [ej, eq]
      refine rs_xOf q28 (hG q hq) (pk_eq (rs_x a_placeOf q) X (fun e => And.intro (vp_in_nI (by omega) (by decide)) (rs_yOf q28 (hG q hq) ?_)) (fun e => ?_))
      · refine rs_mle (rs_y a_placeOf q + 1) t1 (fun y => ?_) (fun y => ?_) (nI_pred _).symm rfl
        · refine fun x hx => ih j t1 x (by omega) (by omega) (by rw [hx]; exact rs_jx_m (by omega)) g4 (fun l l1 l2 => ?_) (Or.inr ?_)
          · by_cases el : l = j
            · rw [el, kx, ky]; exact ⟨e, y⟩
            · exact g5 l (by omega) l2
          · rcases g6 with ⟨w1, w2⟩ | ⟨l, l1, l2, l3⟩
            · omega
            · exact ⟨l, by omega, l2, l3⟩
        · have r := fun x (hx : x = nI j + (-1)) => ih j (rs_y a_placeOf q + 1) x (by omega) (by omega) (by rw [hx]; exact rs_jx_m (by omega)) (by omega) (fun l l1 l2 => ?_) (Or.inr ⟨j, Nat.le_refl _, by omega, by rw [ky]⟩)
          · rw [nI_pred] at r
            exact r
          · by_cases el : l = j
            · rw [el, kx, ky]; exact ⟨e, Nat.le_refl _⟩
            · have := g5 l (by omega) l2
              omega
      · have hjj : j + 1 ≤ i := by
          rcases Nat.lt_or_ge j i with w | w
          · omega
          · have : j = i := by omega
            rw [this, hX] at kx
            exact absurd kx.symm e
        refine exit (j + 1) t1 (nI j) hjj (Or.inr ⟨j, rfl, rfl⟩) g4 g5 ?_ (fun l hl => ?_)
        · rcases g6 with ⟨_, e⟩ | g6
          · omega
          · exact g6
        · have b1 := hs l j (Nat.zero_le _) (by omega) (by omega)
          have b2 := hs j i (Nat.zero_le _) (by omega) hi
          omega
theorem rs_st_25 {post : Int32 → SX → Prop} (hG : rs_G f_present a_placeOf) (hA : rs_Al f_present sz a_order) (hs : rs_So (rs_k a_placeOf 1) 0 sz a_order)
    (hp : ∀ f, rs_Sn f_present (rs_Tp f_present a_placeOf) f → (∀ k, rs_H f_present k → rs_Fi (rs_Tp f_present a_placeOf) f k) → post f (f_present, nI sz, f_lowX, f_lowY, f_highX, f_highY, f_found, f_nearX, f_nearY, f_best, f_bestSquare, f_waiting, f_quads, f_levels, f_boxes, a_placeOf, a_order, a_waitA, a_waitB, a_waitC, a_waitD, a_quadX, a_quadY, a_quadSide, a_quadPart, a_quadCount, a_quadFirst, a_nextPoint, a_lists, a_fromLeft, a_boxLowX, a_boxLowY, a_boxHighX, a_boxHighY, a_boxFirst, a_boxParts, a_boxOfPoints, a_zeros, a_bottom, a_sorted, a_cellFirst, a_heapPoint, a_heapSplit)) :
    ∀ n ii f h x3, ii < n → ii ≤ sz → rs_jx ii x3 → h ≤ 64 → rs_Sn f_present (rs_Tp f_present a_placeOf) f → (∀ l k, ii ≤ l → l < sz → rs_H f_present k → a_order l = nI k → rs_Fi (rs_Tp f_present a_placeOf) f k) → (∀ l, ii ≤ l → l < sz → rs_k a_placeOf 0 (a_order l) + 1 ≤ h) → (h = 0 ∨ ∃ l, ii ≤ l ∧ l < sz ∧ rs_k a_placeOf 0 (a_order l) + 1 = h) → (∀ l l', l < ii → ii ≤ l' → l' < sz → rs_k a_placeOf 1 (a_order l) < rs_k a_placeOf 1 (a_order l')) → (wX_staircase_25 post f_present (nI sz) f_lowX f_lowY f_highX f_highY f_found f_nearX f_nearY f_best f_bestSquare f_waiting f_quads f_levels f_boxes a_placeOf a_order a_waitA a_waitB a_waitC a_waitD a_quadX a_quadY a_quadSide a_quadPart a_quadCount a_quadFirst a_nextPoint a_lists a_fromLeft a_boxLowX a_boxLowY a_boxHighX a_boxHighY a_boxFirst a_boxParts a_boxOfPoints a_zeros a_bottom a_sorted a_cellFirst a_heapPoint a_heapSplit n f (nI h - 1) x3) := by
  have hz := hA.1
  intro n
  induction n with
  | zero => intro ii f h x3 g; omega
  | succ n ih =>
    intro ii f h x3 g1 g2 g3 g4 hF b1 b2 b3 b4
    rcases g3 with ⟨e1, e2⟩ | ⟨i, e1, e2⟩
    · subst e1 e2
      refine br_t (by decide) (hp f hF (fun k hk => ?_))
      obtain ⟨j, j1, j2⟩ := hA.2.2.1 k hk
      exact b1 j k (Nat.zero_le _) j1 hk j2
    · subst e1 e2
      obtain ⟨q, hq, eq⟩ := hA.2.1 i (by omega)
      have q28 := hq.1
      refine br_f (nI_pos (by omega)) (And.intro (vp_in_nI (by omega) (by decide)) ?_)
      rw [nI_clamp (show i < 2 ^ 31 by omega), eq]
      have kx : rs_k a_placeOf 1 (a_order i) = rs_x a_placeOf q := by rw [eq, rs_k1 q28]
      refine rs_xOf q28 (hG q hq) (Exists.intro (i + 2) ?_)
      have em : (-1 : Int32) = nI 0 - 1 := by decide
      rw [em]
      refine rs_st_47 hG hA hs (by omega) kx g4 hF (fun l l1 l2 => b2 l (by omega) l2) ?_ (fun l l' l1 l2 l3 => b4 l l' (by omega) (by omega) l3) (fun f' h' jj x6 r1 r2 r3 r4 r5 r6 r7 r8 r9 => ih jj f' h' x6 (by omega) (by omega) r2 r3 r4 (fun l k l1 l2 hk ek => ?_) r7 (Or.inr r8) r9) (i + 2) (i + 1) 0 (nI i) (by omega) (Nat.le_refl _) (Or.inr ⟨i, rfl, rfl⟩) (by omega) (fun l l1 l2 => by omega) (Or.inl ⟨rfl, rfl⟩)
      · rcases b3 with e | ⟨l, l1, l2, l3⟩
        · exact Or.inl e
        · exact Or.inr ⟨l, by omega, l2, l3⟩
      · rcases Nat.lt_or_ge i l with u | u
        · exact rs_Fi_m r5 (b1 l k (by omega) l2 hk ek)
        · exact r6 l k l1 u hk ek
end
section
variable {f_present f_size f_lowX f_lowY f_highX f_highY f_found f_nearX f_nearY f_best f_bestSquare f_waiting f_quads f_levels f_boxes : Int32} {a_placeOf a_order a_waitA a_waitB a_waitC a_waitD a_quadX a_quadY a_quadSide a_quadPart a_quadCount a_quadFirst a_nextPoint a_lists a_fromLeft a_boxLowX a_boxLowY a_boxHighX a_boxHighY a_boxFirst a_boxParts a_boxOfPoints a_zeros a_bottom a_sorted a_cellFirst a_heapPoint a_heapSplit : Nat → Int32} {v : Nat → Int32}
theorem rs_Xstairs {post : Int32 → SX → Prop} (hG : rs_G f_present a_placeOf) (hp : ∀ f sz o, rs_Sn f_present (rs_Tp f_present a_placeOf) f → (∀ k, rs_H f_present k → rs_Fi (rs_Tp f_present a_placeOf) f k) → post f (f_present, nI sz, f_lowX, f_lowY, f_highX, f_highY, f_found, f_nearX, f_nearY, f_best, f_bestSquare, f_waiting, f_quads, f_levels, f_boxes, a_placeOf, o, a_waitA, a_waitB, a_waitC, a_waitD, a_quadX, a_quadY, a_quadSide, a_quadPart, a_quadCount, a_quadFirst, a_nextPoint, a_lists, a_fromLeft, a_boxLowX, a_boxLowY, a_boxHighX, a_boxHighY, a_boxFirst, a_boxParts, a_boxOfPoints, a_zeros, a_bottom, a_sorted, a_cellFirst, a_heapPoint, a_heapSplit)) : wpX_staircase post (f_present, f_size, f_lowX, f_lowY, f_highX, f_highY, f_found, f_nearX, f_nearY, f_best, f_bestSquare, f_waiting, f_quads, f_levels, f_boxes, a_placeOf, a_order, a_waitA, a_waitB, a_waitC, a_waitD, a_quadX, a_quadY, a_quadSide, a_quadPart, a_quadCount, a_quadFirst, a_nextPoint, a_lists, a_fromLeft, a_boxLowX, a_boxLowY, a_boxHighX, a_boxHighY, a_boxFirst, a_boxParts, a_boxOfPoints, a_zeros, a_bottom, a_sorted, a_cellFirst, a_heapPoint, a_heapSplit) := by
  unfold wpX_staircase
  refine rs_gather (fun sz o hA => ?_)
  have hz := hA.1
  refine rs_sort 0 sz 1 hG (by decide) (by decide) hz rfl rfl rfl (fun l _ h => hA.2.1 l h) (fun o' pm so => ?_)
  have hA' := rs_Al_Pm hA pm
  refine fun x3 hx3 => Exists.intro (sz + 1) ?_
  have hj : rs_jx sz x3 := by
    rcases Nat.eq_zero_or_pos sz with w | w
    · subst w
      exact Or.inl ⟨rfl, by rw [hx3]; decide⟩
    · obtain ⟨m, rfl⟩ : ∃ m, sz = m + 1 := ⟨sz - 1, by omega⟩
      exact Or.inr ⟨m, rfl, by rw [hx3, nI_pred]⟩
  have em : (-1 : Int32) = nI 0 - 1 := by decide
  rw [em]
  exact rs_st_25 hG hA' so (fun f q1 q2 => hp f sz o' q1 q2) (sz + 1) sz 0 0 x3 (by omega) (Nat.le_refl _) hj (by omega) rs_Sn_0 (fun l k l1 l2 => by omega) (fun l l1 l2 => by omega) (Or.inl rfl) (fun l l' l1 l2 l3 => by omega)
theorem rs_Ys_19 {post : Int32 → Prop} {J4 : Int32 → Int32 → Prop} {p : Int32} {P : Nat → Int32} {k : Nat} {f : Int32} (hR : rs_RR p P v) (hk : rs_H p k) (h0 : ¬ rs_Tp p P k → wY_staircase_95 post J4 f (nI k) 0 v) (h1 : rs_Tp p P k → wY_staircase_95 post J4 f (nI k) 1 v) :
    ∀ n i, 28 < n + i → i ≤ 28 → (∀ j, j < i → rs_H p j → ¬ rs_Vi P k j) → wY_staircase_19 post J4 f (nI k) v (n + 1) 1 (nI i) := by
  have hG := rs_RR_G hR
  have k28 := hk.1
  have xk := rs_xlt P k
  have yk := rs_ylt (hG k hk)
  intro n
  induction n with
  | zero => intro i g1 g2; omega
  | succ n ih =>
    intro i g1 g2 hI
    refine pk_le 28 i (fun z => h1 (fun j hj => hI j (by have := hj.1; omega) hj)) (fun z => br_f (by decide) ?_)
    have go : (rs_H p i → ¬ rs_Vi P k i) → ∀ x : Int32, x = nI i + 1 → wY_staircase_19 post J4 f (nI k) v (n + 1) 1 x := by
      intro hn
      refine nm_r (nI_1 i) (ih (i + 1) (by omega) (by omega) (fun j hj hh => ?_))
      rcases Nat.lt_or_ge j i with w | w
      · exact hI j w hh
      · have e : j = i := by omega
        rw [e] at hh ⊢
        exact hn hh
    by_cases hh : rs_H p i
    · have i28 := hh.1
      have xi := rs_xlt P i
      have yi := rs_ylt (hG i hh)
      obtain ⟨c, c1, c2, c3⟩ := (hR.2 i i28).1 hh.2
      obtain ⟨d, d1, d2, d3⟩ := (hR.2 k k28).1 hk.2
      have exi : rs_x P i = c % 64 := by unfold rs_x; rw [c2, nI_clamp (by omega)]
      have eyi : rs_y P i = c / 64 := by unfold rs_y; rw [c2, nI_clamp (by omega)]
      have exk : rs_x P k = d % 64 := by unfold rs_x; rw [d2, nI_clamp (by omega)]
      have eyk : rs_y P k = d / 64 := by unfold rs_y; rw [d2, nI_clamp (by omega)]
      refine rs_Yis1 hR hh (br_f (by decide) (rs_Yx hR hh (rs_Yx hR hk (pk_lt (rs_x P i) (rs_x P k) (fun y => go (fun _ vi => by have := vi.1; omega)) (fun y => rs_Yy hR hh (rs_Yy hR hk (pk_lt (rs_y P i) (rs_y P k) (fun u => go (fun _ vi => by have := vi.2.1; omega)) (fun u => ⟨vp_in_nI i28 (by decide), vp_in_nI k28 (by decide), ?_⟩))))))))
      rw [nI_clamp (show i < 2 ^ 31 by omega), nI_clamp (show k < 2 ^ 31 by omega), c3, d3]
      refine pk_eq (c + 1) (d + 1) (fun e => go (fun _ vi => ?_)) (fun e => nm_r (nI_1 i) ?_)
      · have := vi.2.2
        have : c = d := by omega
        subst this
        omega
      · refine br_c (fun _ => h0 (fun tp => tp i hh ⟨y, u, fun h => ?_⟩)) (fun _ => br_t rfl (h0 (fun tp => tp i hh ⟨y, u, fun h => ?_⟩)))
        · omega
        · omega
    · exact rs_Yis0 hR z hh (br_t rfl (go (fun h => absurd h hh)))
theorem rs_Ystairs {post : Int32 → Prop} {p : Int32} {P : Nat → Int32} (hR : rs_RR p P v) (hp : ∀ f, rs_Sn p (rs_Tp p P) f → (∀ k, rs_H p k → rs_Fi (rs_Tp p P) f k) → post f) : wpY_staircase post v := by
  have loop : ∀ n k f, 28 < n + k → k ≤ 28 → rs_Ps p (rs_Tp p P) k f → wY_staircase_4 post v n f (nI k) := by
    intro n
    induction n with
    | zero => intro k f h1 h2; omega
    | succ n ih =>
      intro k f h1 h2 hI
      refine pk_le 28 k (fun z => ?_) (fun z => ?_)
      · have e : k = 28 := by omega
        subst e
        exact hp f (rs_Ps_end hI).1 (rs_Ps_end hI).2
      · have no : (rs_H p k → ¬ rs_Tp p P k) → wY_staircase_95 post (wY_staircase_4 post v n) f (nI k) 0 v := by
          intro hn
          unfold wY_staircase_95
          exact br_t rfl (nm_r (nI_1 k) (ih (k + 1) f (by omega) (by omega) (rs_Ps_n hI hn)))
        by_cases hh : rs_H p k
        · refine rs_Yis1 hR hh (Exists.intro 30 (rs_Ys_19 hR hh (fun hn => no (fun _ => hn)) (fun hy => ?_) 29 0 (by omega) (by omega) (fun j hj => by omega)))
          unfold wY_staircase_95
          exact br_f (by decide) (nm_e (nm_r (nI_1 k) (ih (k + 1) _ (by omega) (by omega) (rs_Ps_y hI hh hy))))
        · exact rs_Yis0 hR z hh (Exists.intro 1 (br_f (by decide) (br_t rfl (no (fun h => absurd h hh)))))
  unfold wpY_staircase
  exact Exists.intro 29 (loop 29 0 0 (by omega) (by omega) rs_Ps_0)
theorem rs_vc_staircase {k : Nat} (hR : rs_RR f_present a_placeOf v) : wpX_staircase (fun r u' => wpY_staircase (fun r' => r' = r ∧ i_Rel (k + 5) u' v) v) (f_present, f_size, f_lowX, f_lowY, f_highX, f_highY, f_found, f_nearX, f_nearY, f_best, f_bestSquare, f_waiting, f_quads, f_levels, f_boxes, a_placeOf, a_order, a_waitA, a_waitB, a_waitC, a_waitD, a_quadX, a_quadY, a_quadSide, a_quadPart, a_quadCount, a_quadFirst, a_nextPoint, a_lists, a_fromLeft, a_boxLowX, a_boxLowY, a_boxHighX, a_boxHighY, a_boxFirst, a_boxParts, a_boxOfPoints, a_zeros, a_bottom, a_sorted, a_cellFirst, a_heapPoint, a_heapSplit) :=
  rs_Xstairs (rs_RR_G hR) (fun f sz o q1 q2 => rs_Ystairs hR (fun f' q3 q4 => ⟨rs_Sn_eq q3 q4 q1 q2, hR⟩))
end
end
section
/-! the owed statements -/
theorem i_vc_add {k : Nat} {u : SX} {v : SY} (I : i_Rel k u v) (hk : k + 5 ≤ 2560) (v1 : Int32) : wpX_add (fun r u' => wpY_add (fun r' v' => r' = r ∧ i_Rel (k + 5) u' v') v v1) u v1 :=
  rs_el (P := fun u => i_Rel k u v → wpX_add (fun r u' => wpY_add (fun r' v' => r' = r ∧ i_Rel (k + 5) u' v') v v1) u v1) (fun I => rs_vc_add I v1) u I
theorem i_vc_remove {k : Nat} {u : SX} {v : SY} (I : i_Rel k u v) (hk : k + 5 ≤ 2560) (v1 : Int32) : wpX_remove (fun r u' => wpY_remove (fun r' v' => r' = r ∧ i_Rel (k + 5) u' v') v v1) u v1 :=
  rs_el (P := fun u => i_Rel k u v → wpX_remove (fun r u' => wpY_remove (fun r' v' => r' = r ∧ i_Rel (k + 5) u' v') v v1) u v1) (fun I => rs_vc_remove I v1) u I
theorem i_vc_move {k : Nat} {u : SX} {v : SY} (I : i_Rel k u v) (hk : k + 5 ≤ 2560) (v1 : Int32) (v2 : Int32) : wpX_move (fun r u' => wpY_move (fun r' v' => r' = r ∧ i_Rel (k + 5) u' v') v v1 v2) u v1 v2 :=
  rs_el (P := fun u => i_Rel k u v → wpX_move (fun r u' => wpY_move (fun r' v' => r' = r ∧ i_Rel (k + 5) u' v') v v1 v2) u v1 v2) (fun I => rs_vc_move I v1 v2) u I
theorem i_vc_at {k : Nat} {u : SX} {v : SY} (I : i_Rel k u v) (hk : k + 5 ≤ 2560) (v1 : Int32) : wpX_at (fun r => wpY_at (fun r' => r' = r ∧ i_Rel (k + 5) u v) v v1) u v1 :=
  rs_el (P := fun u => i_Rel k u v → wpX_at (fun r => wpY_at (fun r' => r' = r ∧ i_Rel (k + 5) u v) v v1) u v1) (fun I => rs_vc_at I v1) u I
theorem i_vc_points {k : Nat} {u : SX} {v : SY} (I : i_Rel k u v) (hk : k + 5 ≤ 2560) : wpX_points (fun r => wpY_points (fun r' => r' = r ∧ i_Rel (k + 5) u v) v) u :=
  rs_el (P := fun u => i_Rel k u v → wpX_points (fun r => wpY_points (fun r' => r' = r ∧ i_Rel (k + 5) u v) v) u) (fun I => rs_vc_points I) u I
theorem i_vc_inside {k : Nat} {u : SX} {v : SY} (I : i_Rel k u v) (hk : k + 5 ≤ 2560) (v1 : Int32) (v2 : Int32) (v3 : Int32) : wpX_inside (fun r u' => wpY_inside (fun r' => r' = r ∧ i_Rel (k + 5) u' v) v v1 v2 v3) u v1 v2 v3 :=
  rs_el (P := fun u => i_Rel k u v → wpX_inside (fun r u' => wpY_inside (fun r' => r' = r ∧ i_Rel (k + 5) u' v) v v1 v2 v3) u v1 v2 v3) (fun I => rs_vc_inside I v1 v2 v3) u I
theorem i_vc_count {k : Nat} {u : SX} {v : SY} (I : i_Rel k u v) (hk : k + 5 ≤ 2560) (v1 : Int32) (v2 : Int32) (v3 : Int32) : wpX_count (fun r u' => wpY_count (fun r' => r' = r ∧ i_Rel (k + 5) u' v) v v1 v2 v3) u v1 v2 v3 :=
  rs_el (P := fun u => i_Rel k u v → wpX_count (fun r u' => wpY_count (fun r' => r' = r ∧ i_Rel (k + 5) u' v) v v1 v2 v3) u v1 v2 v3) (fun I => rs_vc_count I v1 v2 v3) u I
theorem i_vc_agree {k : Nat} {u : SX} {v : SY} (I : i_Rel k u v) (hk : k + 5 ≤ 2560) (v1 : Int32) (v2 : Int32) (v3 : Int32) (v4 : Int32) : wpX_agree (fun r u' => wpY_agree (fun r' => r' = r ∧ i_Rel (k + 5) u' v) v v1 v2 v3 v4) u v1 v2 v3 v4 :=
  rs_el (P := fun u => i_Rel k u v → wpX_agree (fun r u' => wpY_agree (fun r' => r' = r ∧ i_Rel (k + 5) u' v) v v1 v2 v3 v4) u v1 v2 v3 v4) (fun I => rs_vc_agree I v1 v2 v3 v4) u I
theorem i_vc_nearest {k : Nat} {u : SX} {v : SY} (I : i_Rel k u v) (hk : k + 5 ≤ 2560) (v1 : Int32) (v2 : Int32) : wpX_nearest (fun r u' => wpY_nearest (fun r' => r' = r ∧ i_Rel (k + 5) u' v) v v1 v2) u v1 v2 :=
  rs_el (P := fun u => i_Rel k u v → wpX_nearest (fun r u' => wpY_nearest (fun r' => r' = r ∧ i_Rel (k + 5) u' v) v v1 v2) u v1 v2) (fun I => rs_vc_nearest I v1 v2) u I
theorem i_vc_ranked {k : Nat} {u : SX} {v : SY} (I : i_Rel k u v) (hk : k + 5 ≤ 2560) (v1 : Int32) (v2 : Int32) : wpX_ranked (fun r u' => wpY_ranked (fun r' => r' = r ∧ i_Rel (k + 5) u' v) v v1 v2) u v1 v2 :=
  rs_el (P := fun u => i_Rel k u v → wpX_ranked (fun r u' => wpY_ranked (fun r' => r' = r ∧ i_Rel (k + 5) u' v) v v1 v2) u v1 v2) (fun I => rs_vc_ranked I v1 v2) u I
theorem i_vc_square {k : Nat} {u : SX} {v : SY} (I : i_Rel k u v) (hk : k + 5 ≤ 2560) (v1 : Int32) : wpX_square (fun r u' => wpY_square (fun r' => r' = r ∧ i_Rel (k + 5) u' v) v v1) u v1 :=
  rs_el (P := fun u => i_Rel k u v → wpX_square (fun r u' => wpY_square (fun r' => r' = r ∧ i_Rel (k + 5) u' v) v v1) u v1) (fun I => rs_vc_square I v1) u I
theorem i_vc_around {k : Nat} {u : SX} {v : SY} (I : i_Rel k u v) (hk : k + 5 ≤ 2560) (v1 : Int32) (v2 : Int32) : wpX_around (fun r u' => wpY_around (fun r' => r' = r ∧ i_Rel (k + 5) u' v) v v1 v2) u v1 v2 :=
  rs_el (P := fun u => i_Rel k u v → wpX_around (fun r u' => wpY_around (fun r' => r' = r ∧ i_Rel (k + 5) u' v) v v1 v2) u v1 v2) (fun I => rs_vc_around I v1 v2) u I
theorem i_vc_closest {k : Nat} {u : SX} {v : SY} (I : i_Rel k u v) (hk : k + 5 ≤ 2560) : wpX_closest (fun r u' => wpY_closest (fun r' => r' = r ∧ i_Rel (k + 5) u' v) v) u :=
  rs_el (P := fun u => i_Rel k u v → wpX_closest (fun r u' => wpY_closest (fun r' => r' = r ∧ i_Rel (k + 5) u' v) v) u) (fun I => rs_vc_closest I) u I
theorem i_vc_staircase {k : Nat} {u : SX} {v : SY} (I : i_Rel k u v) (hk : k + 5 ≤ 2560) : wpX_staircase (fun r u' => wpY_staircase (fun r' => r' = r ∧ i_Rel (k + 5) u' v) v) u :=
  rs_el (P := fun u => i_Rel k u v → wpX_staircase (fun r u' => wpY_staircase (fun r' => r' = r ∧ i_Rel (k + 5) u' v) v) u) (fun I => rs_vc_staircase I) u I
theorem i_vc_below {k : Nat} {u : SX} {v : SY} (I : i_Rel k u v) (hk : k + 5 ≤ 2560) (v1 : Int32) : wpX_below (fun r u' => wpY_below (fun r' => r' = r ∧ i_Rel (k + 5) u' v) v v1) u v1 :=
  rs_el (P := fun u => i_Rel k u v → wpX_below (fun r u' => wpY_below (fun r' => r' = r ∧ i_Rel (k + 5) u' v) v v1) u v1) (fun I => rs_vc_below I v1) u I
end
