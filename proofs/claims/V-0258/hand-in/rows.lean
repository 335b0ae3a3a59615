section
/-! starting text: rows of kit/rows (PURE-ROWS and BITS), as given -/
theorem pk_us {f : Nat → Int32} {k : Nat} {x : Int32} : upd f k x k = x := if_pos rfl
theorem pk_un {f : Nat → Int32} {k j : Nat} {x : Int32} (h : j ≠ k) : upd f k x j = f j := if_neg h
theorem pk_uLs {f : Nat → Int64} {k : Nat} {x : Int64} : vp_updL f k x k = x := if_pos rfl
theorem pk_uLn {f : Nat → Int64} {k j : Nat} {x : Int64} (h : j ≠ k) : vp_updL f k x j = f j := if_neg h
theorem pk_sub {a b : Nat} (h : b ≤ a) : nI a - nI b = nI (a - b) := by
  obtain ⟨c, rfl⟩ : ∃ c, a = c + b := ⟨a - b, by omega⟩
  rw [← nI_add, Int32.add_sub_cancel, Nat.add_sub_cancel]
theorem pk_m1 (n : Nat) : nI (n + 1) + (-1) = nI n := by
  rw [← nI_1, Int32.add_assoc, show (1 : Int32) + (-1) = 0 from rfl, Int32.add_zero]
theorem pk_mul (a b : Nat) : nI a * nI b = nI (a * b) := (Int32.ofNat_mul a b).symm
theorem pk_sub_toInt {a b : Nat} (ha : a < 2 ^ 30) (hb : b < 2 ^ 30) : (nI a - nI b).toInt = (a : Int) - b := by
  rw [Int32.toInt_sub, nI_toInt (by omega), nI_toInt (by omega)]
  exact Int.bmod_eq_of_le (by omega) (by omega)
theorem pk_sneg {a b : Nat} (hb : b < 2 ^ 30) (h : a < b) : nI a - nI b < 0 := by
  rw [Int32.lt_iff_toInt_lt, pk_sub_toInt (by omega) hb, show (0 : Int32).toInt = 0 from by decide]
  omega
theorem pk_ix (x : Int32) {n : Nat} (hn : n < 2 ^ 31) : x < 0 ∨ nI n ≤ x ∨ ∃ j : Nat, j < n ∧ x = nI j := by
  by_cases h : x < 0
  · exact Or.inl h
  · obtain ⟨j, hj, rfl⟩ := nI_of h
    by_cases h2 : j < n
    · exact Or.inr (Or.inr ⟨j, h2, rfl⟩)
    · exact Or.inr (Or.inl (nI_le (by omega) hj))
theorem pk_le {x y : Int32} {A B : Prop} (a b : Nat) (f : a ≤ b → A) (g : b < a → B) (hx : x = nI a := by rfl) (hy : y = nI b := by rfl) (ha : a < 2 ^ 31 := by omega) (hb : b < 2 ^ 31 := by omega) : (x ≤ y → A) ∧ (¬ x ≤ y → B) := by
  subst hx hy
  rw [nI_leI ha hb]
  exact ⟨f, fun z => g (by omega)⟩
theorem pk_lt {x y : Int32} {A B : Prop} (a b : Nat) (f : a < b → A) (g : b ≤ a → B) (hx : x = nI a := by rfl) (hy : y = nI b := by rfl) (ha : a < 2 ^ 31 := by omega) (hb : b < 2 ^ 31 := by omega) : (x < y → A) ∧ (¬ x < y → B) := by
  subst hx hy
  rw [nI_ltI ha hb]
  exact ⟨f, fun z => g (by omega)⟩
theorem pk_eq {x y : Int32} {A B : Prop} (a b : Nat) (f : a = b → A) (g : a ≠ b → B) (hx : x = nI a := by rfl) (hy : y = nI b := by rfl) (ha : a < 2 ^ 31 := by omega) (hb : b < 2 ^ 31 := by omega) : (x = y → A) ∧ (¬ x = y → B) := by
  subst hx hy
  rw [nI_eq ha hb]
  exact ⟨f, g⟩
theorem pk_in {x : Int32} (n N : Nat) (h : n < N) (hx : x = nI n := by rfl) (hN : N < 2 ^ 31 := by omega) : vp_in x N := by
  subst hx
  exact vp_in_nI h hN
theorem pk_cl {x : Int32} (n : Nat) (hx : x = nI n := by rfl) (h : n < 2 ^ 31 := by omega) : x.toNatClampNeg = n := by
  subst hx
  exact nI_clamp h
theorem pk_tn {n : Nat} (h : n < 2 ^ 32) : (nI n).toBitVec.toNat = n := Nat.mod_eq_of_lt h
theorem pk_and (x : Int32) {m : Int32} (k : Nat) (hm : m.toBitVec.toNat = 2 ^ k - 1) : x &&& m = nI (x.toBitVec.toNat % 2 ^ k) := by
  apply Int32.toBitVec_inj.mp
  apply BitVec.eq_of_toNat_eq
  rw [Int32.toBitVec_and, BitVec.toNat_and, hm, Nat.and_two_pow_sub_one_eq_mod]
  show _ = (BitVec.ofNat 32 _).toNat
  rw [BitVec.toNat_ofNat]
  exact (Nat.mod_eq_of_lt (Nat.lt_of_le_of_lt (Nat.mod_le _ _) x.toBitVec.isLt)).symm
theorem pk_andN {n : Nat} (h : n < 2 ^ 32) {m : Int32} (k : Nat) (hm : m.toBitVec.toNat = 2 ^ k - 1) : nI n &&& m = nI (n % 2 ^ k) := by
  rw [pk_and _ k hm, pk_tn h]
theorem pk_andE (x : Int32) {m : Int32} (k : Nat) (hm : m.toBitVec.toNat = 2 ^ k - 1) : ∃ j : Nat, j < 2 ^ k ∧ x &&& m = nI j := ⟨_, Nat.mod_lt _ (Nat.two_pow_pos k), pk_and x k hm⟩
theorem pk_andIn (x : Int32) {m : Int32} (k : Nat) (hm : m.toBitVec.toNat = 2 ^ k - 1) (hk : k ≤ 30) : vp_in (x &&& m) (2 ^ k) := by
  obtain ⟨j, hj, e⟩ := pk_andE x k hm
  rw [e]
  exact vp_in_nI hj (Nat.lt_of_le_of_lt (Nat.pow_le_pow_right (by decide) hk) (by decide))
theorem pk_shl (a s : Int32) (k : Nat) (hs : (s.toBitVec.smod 32).toNat = k) : (a <<< s).toBitVec.toNat = a.toBitVec.toNat * 2 ^ k % 2 ^ 32 := by
  show (a.toBitVec <<< (s.toBitVec.smod 32).toNat).toNat = _
  rw [hs, BitVec.toNat_shiftLeft, Nat.shiftLeft_eq]
theorem pk_shlN {n : Nat} (s : Int32) (k : Nat) (hs : (s.toBitVec.smod 32).toNat = k) (h : n * 2 ^ k < 2 ^ 32) : nI n <<< s = nI (n * 2 ^ k) := by
  apply Int32.toBitVec_inj.mp
  apply BitVec.eq_of_toNat_eq
  have hn : n < 2 ^ 32 := Nat.lt_of_le_of_lt (Nat.le_mul_of_pos_right n (Nat.two_pow_pos k)) h
  rw [pk_shl _ _ k hs, pk_tn hn, pk_tn h, Nat.mod_eq_of_lt h]
theorem pk_shr (a s : Int32) (k : Nat) (hs : (s.toBitVec.smod 32).toNat = k) : (a >>> s).toInt = a.toInt >>> k := by
  show (a.toBitVec.sshiftRight (s.toBitVec.smod 32).toNat).toInt = _
  rw [hs, BitVec.toInt_sshiftRight]
  rfl
theorem pk_shrN {n : Nat} (h : n < 2 ^ 31) (s : Int32) (k : Nat) (hs : (s.toBitVec.smod 32).toNat = k) : nI n >>> s = nI (n / 2 ^ k) := by
  apply Int32.toInt_inj.mp
  have h2 : n / 2 ^ k ≤ n := Nat.div_le_self _ _
  rw [pk_shr _ _ k hs, nI_toInt h, nI_toInt (by omega), Int.shiftRight_eq_div_pow]
  rfl
theorem pk_ushr (x s : Int32) (k : Nat) (hs : ((s.toUInt32 &&& Int32.toUInt32 31).toBitVec % 32).toNat = k) : (x.toUInt32 >>> (s.toUInt32 &&& Int32.toUInt32 31)).toInt32.toBitVec.toNat = x.toBitVec.toNat / 2 ^ k := by
  have e : (x.toUInt32 >>> (s.toUInt32 &&& Int32.toUInt32 31)).toInt32.toBitVec = x.toBitVec >>> k := by
    rw [← hs]
    exact UInt32.toBitVec_shiftRight _ _
  rw [e, BitVec.toNat_ushiftRight, Nat.shiftRight_eq_div_pow]
theorem pk_ushrN {n : Nat} (hn : n < 2 ^ 32) (s : Int32) (k : Nat) (hs : ((s.toUInt32 &&& Int32.toUInt32 31).toBitVec % 32).toNat = k) : ((nI n).toUInt32 >>> (s.toUInt32 &&& Int32.toUInt32 31)).toInt32 = nI (n / 2 ^ k) := by
  apply Int32.toBitVec_inj.mp
  apply BitVec.eq_of_toNat_eq
  rw [pk_ushr _ s k hs, pk_tn hn, pk_tn (Nat.lt_of_le_of_lt (Nat.div_le_self _ _) hn)]
theorem pk_lT {n : Nat} (h : n < 2 ^ 63) : (lN n).toInt = (n : Int) := lg_ofNat_toInt h
theorem pk_lLT {a b : Nat} (ha : a < 2 ^ 63) (hb : b < 2 ^ 63) : lN a < lN b ↔ a < b := by
  rw [Int64.lt_iff_toInt_lt, pk_lT ha, pk_lT hb]; omega
theorem pk_lLE {a b : Nat} (ha : a < 2 ^ 63) (hb : b < 2 ^ 63) : lN a ≤ lN b ↔ a ≤ b := by
  rw [Int64.le_iff_toInt_le, pk_lT ha, pk_lT hb]; omega
theorem pk_lEQ {a b : Nat} (ha : a < 2 ^ 63) (hb : b < 2 ^ 63) : lN a = lN b ↔ a = b := by
  rw [← Int64.toInt_inj, pk_lT ha, pk_lT hb]; omega
theorem pk_lOf {x : Int64} (h : ¬ x < 0) : ∃ k : Nat, k < 2 ^ 63 ∧ x = lN k := by
  rw [Int64.lt_iff_toInt_lt] at h
  have h0 : (0 : Int64).toInt = 0 := by decide
  have hx := Int64.toInt_lt x
  refine ⟨x.toInt.toNat, by omega, Int64.toInt_inj.mp ?_⟩
  rw [pk_lT (by omega)]
  omega
theorem pk_least (P : Nat → Prop) (h : ∃ k, P k) : ∃ k, P k ∧ ∀ j, j < k → ¬ P j := by
  obtain ⟨k, hk⟩ := h
  induction k using Nat.strongRecOn with
  | ind k ih =>
    by_cases e : ∃ j, j < k ∧ P j
    · obtain ⟨j, hj, pj⟩ := e
      exact ih j hj pj
    · exact ⟨k, hk, fun j hj pj => e ⟨j, hj, pj⟩⟩
theorem sb_cl0 : (0 : Int32).toNatClampNeg = 0 := by decide
theorem sb_m1 {p : Nat} (h : 0 < p) : nI p + (-1) = nI (p - 1) := by
  obtain ⟨q, rfl⟩ : ∃ q, p = q + 1 := ⟨p - 1, by omega⟩
  exact pk_m1 q
def bt (x : Int32) (i : Nat) : Bool := x.toBitVec.getLsbD i
theorem b_ext {x y : Int32} (h : ∀ i, i < 32 → bt x i = bt y i) : x = y := Int32.toBitVec_inj.mp (BitVec.eq_of_getLsbD_eq (fun i hi => h i hi))
theorem b_or (x y : Int32) (i : Nat) : bt (x ||| y) i = (bt x i || bt y i) := by unfold bt; rw [Int32.toBitVec_or, BitVec.getLsbD_or]
theorem b_and (x y : Int32) (i : Nat) : bt (x &&& y) i = (bt x i && bt y i) := by unfold bt; rw [Int32.toBitVec_and, BitVec.getLsbD_and]
theorem b_xor (x y : Int32) (i : Nat) : bt (x ^^^ y) i = (bt x i ^^ bt y i) := by unfold bt; rw [Int32.toBitVec_xor, BitVec.getLsbD_xor]
theorem b_big {x : Int32} {i : Nat} (h : 32 ≤ i) : bt x i = false := BitVec.getLsbD_of_ge _ _ h
theorem b_m1 : ∀ i, i < 32 → bt (-1) i = true := by decide +kernel
theorem b_0 (i : Nat) : bt 0 i = false := BitVec.getLsbD_zero
theorem s_l : ∀ n, n < 32 → ((nI n &&& 31).toBitVec.smod 32).toNat = n := by decide +kernel
theorem s_u : ∀ n, n < 32 → (((nI n).toUInt32 &&& Int32.toUInt32 31).toBitVec % 32).toNat = n := by decide +kernel
theorem b_shl (n : Nat) (hn : n < 32) (x : Int32) {i : Nat} (hi : i < 32) : bt (x <<< (nI n &&& 31)) i = (decide (n ≤ i) && bt x (i - n)) := by
  unfold bt
  rw [Int32.toBitVec_shiftLeft]
  show (x.toBitVec <<< ((nI n &&& 31).toBitVec.smod 32).toNat).getLsbD i = _
  rw [s_l n hn, BitVec.getLsbD_shiftLeft]
  rcases Nat.lt_or_ge i n with h | h
  · simp [h, Nat.not_le.mpr h]
  · simp [hi, h, Nat.not_lt.mpr h]
theorem b_ushr (n : Nat) (hn : n < 32) (x : Int32) (i : Nat) : bt ((x.toUInt32 >>> ((nI n).toUInt32 &&& Int32.toUInt32 31)).toInt32) i = bt x (n + i) := by
  show (x.toUInt32 >>> ((nI n).toUInt32 &&& Int32.toUInt32 31)).toBitVec.getLsbD i = x.toUInt32.toBitVec.getLsbD (n + i)
  rw [UInt32.toBitVec_shiftRight]
  show (x.toUInt32.toBitVec >>> (((nI n).toUInt32 &&& Int32.toUInt32 31).toBitVec % 32).toNat).getLsbD i = _
  rw [s_u n hn, BitVec.getLsbD_ushiftRight]
theorem nx_and (a b : Nat) : nI a &&& nI b = nI (a &&& b) := by
  apply Int32.toBitVec_inj.1
  show BitVec.ofNat 32 a &&& BitVec.ofNat 32 b = BitVec.ofNat 32 (a &&& b)
  apply BitVec.eq_of_getLsbD_eq
  intro i hi
  simp [hi]
theorem nf_sh : ∀ l, l < 32 → ((1 : Int32) <<< (nI l &&& 31)).toBitVec = BitVec.twoPow 32 l := by decide +kernel
theorem nf_sl : ∀ l, l < 32 → (((nI l).toUInt32 &&& Int32.toUInt32 31).toBitVec % 32).toNat = l := by decide +kernel
theorem nf_tp : ∀ l, l < 32 → BitVec.twoPow 32 l ≠ 0#32 := by decide +kernel
theorem nf_bit (m : Int32) (l : Nat) (hl : l < 32) : ((m.toUInt32 >>> ((nI l).toUInt32 &&& Int32.toUInt32 31)).toInt32 &&& 1) = 0 ↔ (m &&& ((1 : Int32) <<< (nI l &&& 31))) = 0 := by
  have e : ((m.toUInt32 >>> ((nI l).toUInt32 &&& Int32.toUInt32 31)).toInt32).toBitVec = m.toBitVec >>> l := by
    show m.toBitVec >>> (((nI l).toUInt32 &&& Int32.toUInt32 31).toBitVec % 32) = m.toBitVec >>> l
    rw [BitVec.ushiftRight_eq', nf_sl l hl]
  rw [← Int32.toBitVec_inj, ← Int32.toBitVec_inj, Int32.toBitVec_and, Int32.toBitVec_and, nf_sh l hl, e, BitVec.and_twoPow]
  show (m.toBitVec >>> l &&& 1#32) = 0#32 ↔ _ = 0#32
  rw [BitVec.and_one_eq_setWidth_ofBool_getLsbD, BitVec.getLsbD_ushiftRight, Nat.add_zero]
  cases hb : m.toBitVec.getLsbD l
  · exact ⟨fun _ => by simp, fun _ => by decide⟩
  · exact ⟨fun z => absurd z (by decide), fun z => absurd ((if_pos rfl).symm.trans z) (nf_tp l hl)⟩
theorem ts_nf {x : Bool} (h : ¬ x = false) : x = true := by cases x <;> first | rfl | exact absurd rfl h
theorem ts_nt {x : Bool} (h : ¬ x = true) : x = false := by cases x <;> first | rfl | exact absurd rfl h
theorem wb_of32 (x : Int32) : ∃ n, n < 2 ^ 32 ∧ x = nI n := ⟨x.toBitVec.toNat, x.toBitVec.isLt, Int32.toBitVec_inj.mp (by show _ = BitVec.ofNat 32 _; simp)⟩
end
section
/-! ===== fields of a header word ===== -/
def sf_cap (x : Int32) : Int32 := x &&& 511
def sf_note (x : Int32) : Int32 := ((x.toUInt32 >>> ((9 : Int32).toUInt32 &&& Int32.toUInt32 31)).toInt32) &&& 511
def sf_log (x : Int32) : Int32 := ((x.toUInt32 >>> ((18 : Int32).toUInt32 &&& Int32.toUInt32 31)).toInt32) &&& 7
def sf_liv (x : Int32) : Int32 := x &&& 2097152
def sf_hdr (x f c : Int32) : Int32 := ((x &&& 261632) ||| f) ||| c
def sf_nxt (x c : Int32) : Int32 := (x &&& (-261633)) ||| (c <<< ((9 : Int32) &&& 31))
theorem sf_b511 (i : Nat) : bt 511 i = decide (i < 9) := by
  rcases Nat.lt_or_ge i 32 with h | h
  · exact (by decide +kernel : ∀ i, i < 32 → bt 511 i = decide (i < 9)) i h
  · rw [b_big h, decide_eq_false (by omega)]
theorem sf_b7 (i : Nat) : bt 7 i = decide (i < 3) := by
  rcases Nat.lt_or_ge i 32 with h | h
  · exact (by decide +kernel : ∀ i, i < 32 → bt 7 i = decide (i < 3)) i h
  · rw [b_big h, decide_eq_false (by omega)]
theorem sf_bM (i : Nat) : bt 261632 i = decide (9 ≤ i ∧ i < 18) := by
  rcases Nat.lt_or_ge i 32 with h | h
  · exact (by decide +kernel : ∀ i, i < 32 → bt 261632 i = decide (9 ≤ i ∧ i < 18)) i h
  · rw [b_big h, decide_eq_false (by omega)]
theorem sf_bN {i : Nat} (h : i < 32) : bt (-261633) i = decide (¬ (9 ≤ i ∧ i < 18)) :=
  (by decide +kernel : ∀ i, i < 32 → bt (-261633) i = decide (¬ (9 ≤ i ∧ i < 18))) i h
theorem sf_bL (i : Nat) : bt 2097152 i = decide (i = 21) := by
  rcases Nat.lt_or_ge i 32 with h | h
  · exact (by decide +kernel : ∀ i, i < 32 → bt 2097152 i = decide (i = 21)) i h
  · rw [b_big h, decide_eq_false (by omega)]
theorem sf_ush18 (x : Int32) (i : Nat) : bt ((x.toUInt32 >>> ((18 : Int32).toUInt32 &&& Int32.toUInt32 31)).toInt32) i = bt x (18 + i) := b_ushr 18 (by omega) x i
theorem sf_ush9 (x : Int32) (i : Nat) : bt ((x.toUInt32 >>> ((9 : Int32).toUInt32 &&& Int32.toUInt32 31)).toInt32) i = bt x (9 + i) := b_ushr 9 (by omega) x i
theorem sf_shl9 (x : Int32) {i : Nat} (hi : i < 32) : bt (x <<< ((9 : Int32) &&& 31)) i = (decide (9 ≤ i) && bt x (i - 9)) := b_shl 9 (by omega) x hi
theorem sf_bI (c i : Nat) : bt (nI c) i = (decide (i < 32) && c.testBit i) := by
  show (BitVec.ofNat 32 c).getLsbD i = _
  rw [BitVec.getLsbD_ofNat]
theorem sf_bI9 {c i : Nat} (hc : c < 512) (hi : 9 ≤ i) : bt (nI c) i = false := by
  rw [sf_bI, Nat.testBit_lt_two_pow, Bool.and_false]
  exact Nat.lt_of_lt_of_le (m := 2 ^ 9) hc (Nat.pow_le_pow_right (by decide) hi)
theorem sf_cap_hdr {x f : Int32} {c : Nat} (hf : ∀ i, i < 18 → bt f i = false) (hc : c < 512) : sf_cap (sf_hdr x f (nI c)) = nI c := by
  apply b_ext
  intro i hi
  unfold sf_cap sf_hdr
  rw [b_and, b_or, b_or, b_and, sf_b511, sf_bM]
  rcases Nat.lt_or_ge i 9 with h | h
  · rw [hf i (by omega), decide_eq_true (by omega : i < 9), decide_eq_false (by omega : ¬ (9 ≤ i ∧ i < 18))]; simp
  · rw [sf_bI9 hc h, decide_eq_false (by omega : ¬ i < 9)]; simp
theorem sf_liv_hdr {x f : Int32} {c : Nat} (hc : c < 512) : sf_liv (sf_hdr x f (nI c)) = sf_liv f := by
  apply b_ext
  intro i hi
  unfold sf_liv sf_hdr
  rw [b_and, b_or, b_or, b_and, b_and, sf_bL, sf_bM]
  by_cases h : i = 21
  · subst h; rw [sf_bI9 hc (by omega)]; simp
  · rw [decide_eq_false h]; simp
theorem sf_log_hdr {x f : Int32} {c : Nat} (hc : c < 512) : sf_log (sf_hdr x f (nI c)) = sf_log f := by
  apply b_ext
  intro i hi
  unfold sf_log sf_hdr
  rw [b_and, sf_ush18, b_and, sf_ush18, b_or, b_or, b_and, sf_bM, sf_bI9 hc (by omega), decide_eq_false (by omega : ¬ (9 ≤ 18 + i ∧ 18 + i < 18))]; simp
theorem sf_note_hdr {x f : Int32} {c : Nat} (hf : ∀ i, i < 18 → bt f i = false) (hc : c < 512) : sf_note (sf_hdr x f (nI c)) = sf_note x := by
  apply b_ext
  intro i hi
  unfold sf_note sf_hdr
  rw [b_and, sf_ush9, b_and, sf_ush9, b_or, b_or, b_and, sf_bM, sf_bI9 hc (by omega), sf_b511]
  rcases Nat.lt_or_ge i 9 with h | h
  · rw [hf (9 + i) (by omega), decide_eq_true (by omega : (9 ≤ 9 + i ∧ 9 + i < 18))]; simp
  · rw [decide_eq_false (by omega : ¬ i < 9)]; simp
theorem sf_cap_nxt {x c : Int32} : sf_cap (sf_nxt x c) = sf_cap x := by
  apply b_ext
  intro i hi
  unfold sf_cap sf_nxt
  rw [b_and, b_or, b_and, b_and, sf_bN hi, sf_shl9 _ hi, sf_b511]
  rcases Nat.lt_or_ge i 9 with h | h
  · rw [decide_eq_false (by omega : ¬ 9 ≤ i), decide_eq_true (by omega : ¬ (9 ≤ i ∧ i < 18))]; simp
  · rw [decide_eq_false (by omega : ¬ i < 9)]; simp
theorem sf_liv_nxt {x : Int32} {c : Nat} (hc : c < 512) : sf_liv (sf_nxt x (nI c)) = sf_liv x := by
  apply b_ext
  intro i hi
  unfold sf_liv sf_nxt
  rw [b_and, b_or, b_and, b_and, sf_bN hi, sf_shl9 _ hi, sf_bL]
  by_cases h : i = 21
  · subst h; rw [sf_bI9 hc (by omega)]; simp
  · rw [decide_eq_false h]; simp
theorem sf_log_nxt {x : Int32} {c : Nat} (hc : c < 512) : sf_log (sf_nxt x (nI c)) = sf_log x := by
  apply b_ext
  intro i hi
  unfold sf_log sf_nxt
  rw [b_and, sf_ush18, b_and, sf_ush18, sf_b7]
  rcases Nat.lt_or_ge i 3 with h | h
  · rw [b_or, b_and, sf_bN (by omega), sf_shl9 _ (by omega), sf_bI9 hc (by omega), decide_eq_true (by omega : ¬ (9 ≤ 18 + i ∧ 18 + i < 18))]; simp
  · rw [decide_eq_false (by omega : ¬ i < 3)]; simp
theorem sf_note_nxt {x : Int32} {c : Nat} (hc : c < 512) : sf_note (sf_nxt x (nI c)) = nI c := by
  apply b_ext
  intro i hi
  unfold sf_note sf_nxt
  rw [b_and, sf_ush9, sf_b511]
  rcases Nat.lt_or_ge i 9 with h | h
  · rw [b_or, b_and, sf_bN (by omega), sf_shl9 _ (by omega), decide_eq_false (by omega : ¬ ¬ (9 ≤ 9 + i ∧ 9 + i < 18)), decide_eq_true (by omega : 9 ≤ 9 + i), show 9 + i - 9 = i by omega, decide_eq_true h]; simp
  · rw [decide_eq_false (by omega : ¬ i < 9), sf_bI9 hc h]; simp
/-- the flags of a live block -/
def sf_fl1 (l : Nat) : Int32 := 2097152 ||| (nI l <<< ((18 : Int32) &&& 31))
theorem sf_fl1_ok : ∀ l, l < 8 → (∀ i, i < 18 → bt (sf_fl1 l) i = false) ∧ sf_liv (sf_fl1 l) ≠ 0 ∧ sf_log (sf_fl1 l) = nI l := by decide +kernel
theorem sf_fl0_ok : (∀ i, i < 18 → bt 0 i = false) ∧ sf_liv 0 = 0 := ⟨fun i _ => b_0 i, by decide +kernel⟩
/-! ===== single bits ===== -/
theorem sf_one : ∀ n, n < 32 → ∀ i, i < 32 → bt ((1 : Int32) <<< (nI n &&& 31)) i = decide (i = n) := by decide +kernel
theorem sf_set {x : Int32} {n i : Nat} (hn : n < 32) (hi : i < 32) : bt (x ||| ((1 : Int32) <<< (nI n &&& 31))) i = (bt x i || decide (i = n)) := by
  rw [b_or, sf_one n hn i hi]
theorem sf_clr {x : Int32} {n i : Nat} (hn : n < 32) (hi : i < 32) : bt (x &&& (((1 : Int32) <<< (nI n &&& 31)) ^^^ (-1))) i = (bt x i && !decide (i = n)) := by
  rw [b_and, b_xor, sf_one n hn i hi, b_m1 i hi]
  cases bt x i <;> cases decide (i = n) <;> rfl
theorem sf_ge {x : Int32} {n i : Nat} (hn : n < 32) (hi : i < 32) : bt (x &&& ((-1 : Int32) <<< (nI n &&& 31))) i = (bt x i && decide (n ≤ i)) := by
  rw [b_and, b_shl n hn _ hi]
  rcases Nat.lt_or_ge i n with h | h
  · rw [decide_eq_false (by omega : ¬ n ≤ i)]; simp
  · rw [b_m1 (i - n) (by omega)]; simp
theorem sf_zero {x : Int32} (h : ∀ i, i < 32 → bt x i = false) : x = 0 := b_ext fun i hi => by rw [h i hi, b_0]
theorem sf_nz {x : Int32} {i : Nat} (h : bt x i = true) : x ≠ 0 := fun e => by rw [e, b_0] at h; exact Bool.noConfusion h
theorem sf_nz_ex {x : Int32} (h : x ≠ 0) : ∃ i, i < 32 ∧ bt x i = true := Classical.byContradiction fun n => h (sf_zero fun i hi => by
  cases e : bt x i
  · rfl
  · exact absurd ⟨i, hi, e⟩ n)
theorem sf_and7 (k : Nat) (h : k < 2 ^ 32) : nI k &&& 7 = nI (k % 8) := pk_andN h 3 (by decide)
theorem sf_and31 (k : Nat) (h : k < 2 ^ 32) : nI k &&& 31 = nI (k % 32) := pk_andN h 5 (by decide)
theorem sf_u3 {k : Nat} (h : k < 2 ^ 32) : ((nI k).toUInt32 >>> ((3 : Int32).toUInt32 &&& Int32.toUInt32 31)).toInt32 = nI (k / 8) := pk_ushrN h 3 3 (by decide)
theorem sf_u5 {k : Nat} (h : k < 2 ^ 32) : ((nI k).toUInt32 >>> ((5 : Int32).toUInt32 &&& Int32.toUInt32 31)).toInt32 = nI (k / 32) := pk_ushrN h 5 5 (by decide)
theorem sf_s3 {k : Nat} (h : k < 2 ^ 20) : nI k <<< ((3 : Int32) &&& 31) = nI (k * 8) := pk_shlN _ 3 (by decide) (by omega)
theorem sf_s5 {k : Nat} (h : k < 2 ^ 20) : nI k <<< ((5 : Int32) &&& 31) = nI (k * 32) := pk_shlN _ 5 (by decide) (by omega)
theorem sf_1sh : ∀ k, k < 31 → (1 : Int32) <<< (nI k &&& 31) = nI (2 ^ k) := by decide +kernel
/-! ===== the top bit ===== -/
theorem sf_l2 {m k : Nat} (h : m / 2 ^ k ≠ 0) : m.log2 = k + (m / 2 ^ k).log2 := by
  have hm : m ≠ 0 := fun e => h (by rw [e, Nat.zero_div])
  rw [Nat.log2_eq_iff hm]
  have h1 := (Nat.log2_eq_iff h).mp rfl
  have hp : 0 < 2 ^ k := Nat.two_pow_pos k
  constructor
  · rw [Nat.pow_add, Nat.mul_comm]
    exact (Nat.le_div_iff_mul_le hp).mp h1.1
  · rw [Nat.add_assoc, Nat.pow_add, Nat.mul_comm]
    exact (Nat.div_lt_iff_lt_mul hp).mp h1.2
theorem sf_nI0 {a : Nat} (h : a < 2 ^ 31) : nI a = 0 ↔ a = 0 := nI_eq (b := 0) h (by omega)
theorem sf_if {c d A B : Prop} (e : c ↔ d) (f : d → A) (g : ¬ d → B) : (c → A) ∧ (¬ c → B) := ⟨fun z => f (e.mp z), fun z => g (fun y => z (e.mpr y))⟩
theorem sf_l0 {m : Nat} (h : m < 2) : m.log2 = 0 := by rw [Nat.log2_def, if_neg (by omega)]
section
variable {lv tot dg lb fb ls p : Int32} {hp ss hs rs : Nat → Int32} {post : Int32 → Prop}
theorem sf_tb60 {m b : Nat} (hm : m < 4) (J : post (nI (b + m.log2))) : wX_topBit_60 post (nI m) (nI b) lv tot dg lb fb ls p hp ss hs rs := by
  unfold wX_topBit_60
  rw [pk_ushrN (n := m) (by omega) 1 1 (by decide)]
  refine sf_if (sf_nI0 (by omega)) (fun h => ?_) (fun h => nm_r (nI_1 b) ?_)
  · rw [sf_l0 (by omega)] at J; exact J
  · rw [sf_l2 h, sf_l0 (by omega)] at J; exact J
theorem sf_tb47 {m b : Nat} (hm : m < 16) (J : post (nI (b + m.log2))) : wX_topBit_47 post (nI m) (nI b) lv tot dg lb fb ls p hp ss hs rs := by
  unfold wX_topBit_47
  rw [pk_ushrN (n := m) (by omega) 2 2 (by decide)]
  refine sf_if (sf_nI0 (by omega)) (fun h => ?_) (fun h => nm_e (nm_r (nI_add b 2) ?_))
  · exact sf_tb60 (by omega) J
  · rw [sf_l2 h, ← Nat.add_assoc] at J; exact sf_tb60 (by omega) J
theorem sf_tb34 {m b : Nat} (hm : m < 256) (J : post (nI (b + m.log2))) : wX_topBit_34 post (nI m) (nI b) lv tot dg lb fb ls p hp ss hs rs := by
  unfold wX_topBit_34
  rw [pk_ushrN (n := m) (by omega) 4 4 (by decide)]
  refine sf_if (sf_nI0 (by omega)) (fun h => ?_) (fun h => nm_e (nm_r (nI_add b 4) ?_))
  · exact sf_tb47 (by omega) J
  · rw [sf_l2 h, ← Nat.add_assoc] at J; exact sf_tb47 (by omega) J
theorem sf_tb19 {m b : Nat} (hm : m < 65536) (J : post (nI (b + m.log2))) : wX_topBit_19 post (nI m) (nI b) lv tot dg lb fb ls p hp ss hs rs := by
  unfold wX_topBit_19
  rw [pk_ushrN (n := m) (by omega) 8 8 (by decide)]
  refine sf_if (sf_nI0 (by omega)) (fun h => ?_) (fun h => nm_e (nm_r (nI_add b 8) ?_))
  · exact sf_tb34 (by omega) J
  · rw [sf_l2 h, ← Nat.add_assoc] at J; exact sf_tb34 (by omega) J
end
theorem sf_xtb {u : SX} {post : Int32 → Prop} {m : Nat} (hm : m < 2 ^ 32) (J : post (nI m.log2)) : wpX_topBit post u (nI m) := by
  obtain ⟨lv, tot, dg, lb, fb, ls, p, hp, ss, hs, rs⟩ := u
  unfold wpX_topBit
  dsimp only
  rw [pk_ushrN (n := m) hm 16 16 (by decide)]
  refine sf_if (sf_nI0 (by omega)) (fun h => ?_) (fun h => nm_e (nm_r (nI_add 0 16) ?_))
  · rw [← nI_0]; exact sf_tb19 (by omega) (by rw [Nat.zero_add]; exact J)
  · rw [sf_l2 h] at J; exact sf_tb19 (by omega) (by rw [Nat.zero_add]; exact J)
theorem sf_tbit {m : Nat} (h : m ≠ 0) : m.testBit m.log2 = true ∧ ∀ j, m.log2 < j → m.testBit j = false := by
  have h1 := (Nat.log2_eq_iff h).mp rfl
  refine ⟨Nat.testBit_of_two_pow_le_and_two_pow_add_one_gt h1.1 h1.2, fun j hj => Nat.testBit_lt_two_pow (Nat.lt_of_lt_of_le h1.2 (Nat.pow_le_pow_right (by decide) hj))⟩
/-- the highest bit of a nonzero int, as topBit finds it -/
theorem sf_high {u : SX} {x : Int32} (h : x ≠ 0) : ∃ t, t < 32 ∧ bt x t = true ∧ (∀ j, t < j → bt x j = false) ∧ ∀ post : Int32 → Prop, post (nI t) → wpX_topBit post u x := by
  obtain ⟨m, hm, rfl⟩ := wb_of32 x
  have h0 : m ≠ 0 := fun e => h (by rw [e]; rfl)
  have h1 : m.log2 < 32 := (Nat.log2_lt h0).mpr hm
  have h2 := sf_tbit h0
  refine ⟨m.log2, h1, ?_, fun j hj => ?_, fun post J => sf_xtb hm J⟩
  · rw [sf_bI, decide_eq_true h1, h2.1]; rfl
  · rw [sf_bI, h2.2 j hj, Bool.and_false]
theorem sf_low0 : ∀ m, m < 256 → m ≠ 0 → ∃ t, t < 8 ∧ m.testBit t = true ∧ (∀ j, j < t → m.testBit j = false) ∧ (nI m &&& (-nI m)) = nI (2 ^ t) := by decide +kernel
theorem sf_byte {x : Int32} (h : ∀ j, 8 ≤ j → bt x j = false) : ∃ m, m < 256 ∧ x = nI m := by
  obtain ⟨j, hj, e⟩ := pk_andE x (m := 255) 8 (by decide)
  refine ⟨j, hj, ?_⟩
  rw [← e]
  apply b_ext
  intro i hi
  rw [b_and]
  rcases Nat.lt_or_ge i 8 with h8 | h8
  · rw [show bt 255 i = true from (by decide +kernel : ∀ i, i < 8 → bt 255 i = true) i h8, Bool.and_true]
  · rw [h i h8, Bool.false_and]
/-- the lowest bit of a nonzero byte, as topBit of x & -x finds it -/
theorem sf_low {u : SX} {x : Int32} (h8 : ∀ j, 8 ≤ j → bt x j = false) (h : x ≠ 0) : ∃ t, t < 8 ∧ bt x t = true ∧ (∀ j, j < t → bt x j = false) ∧ ∀ post : Int32 → Prop, post (nI t) → wpX_topBit post u (x &&& (-x)) := by
  obtain ⟨m, hm, rfl⟩ := sf_byte h8
  have h0 : m ≠ 0 := fun e => h (by rw [e]; rfl)
  obtain ⟨t, ht, h1, h2, h3⟩ := sf_low0 m hm h0
  refine ⟨t, ht, ?_, fun j hj => ?_, fun post J => ?_⟩
  · rw [sf_bI, decide_eq_true (by omega : t < 32), h1]; rfl
  · rw [sf_bI, h2 j hj, Bool.and_false]
  · rw [h3]
    refine sf_xtb (Nat.pow_lt_pow_right (by decide) (by omega)) ?_
    rw [Nat.log2_two_pow]; exact J
/-! ===== classes ===== -/
def sf_q (K n : Nat) : Nat := if n.log2 < K then n else (n.log2 - K + 1) * 8 + n / 2 ^ (n.log2 - K) - 2 ^ K
def sf_fl (K n : Nat) : Nat := if n.log2 < K then n else n / 2 ^ (n.log2 - K) * 2 ^ (n.log2 - K)
def sf_dec (K k : Nat) : Nat := if k < 8 then k else (2 ^ K + k % 8) * 2 ^ (k / 8 - 1)
def sf_go (K n : Nat) : Nat := if K < n.log2 then n + 2 ^ (n.log2 - K) - 1 else n
theorem sf_q1 : ∀ K, K < 4 → 1 ≤ K → ∀ n, n < 256 → 1 ≤ n → sf_q K n < 64 ∧ sf_dec K (sf_q K n) = sf_fl K n ∧ sf_q K (sf_fl K n) = sf_q K n := by decide +kernel
theorem sf_q2 : ∀ K, K < 4 → 1 ≤ K → ∀ n, n < 256 → 1 ≤ n → sf_fl K n ≤ n ∧ 1 ≤ sf_fl K n ∧ sf_fl K (sf_fl K n) = sf_fl K n := by decide +kernel
theorem sf_q3 : ∀ K, K < 4 → 1 ≤ K → ∀ n, n < 255 → 1 ≤ n → sf_q K n ≤ sf_q K (n + 1) ∧ sf_fl K n ≤ sf_fl K (n + 1) ∧ sf_go K n ≤ sf_go K (n + 1) := by decide +kernel
theorem sf_q4a : ∀ K, K < 4 → 1 ≤ K → ∀ n, n < 256 → 1 ≤ n → sf_q K (sf_go K (sf_fl K n)) = sf_q K n ∧ sf_go K (sf_fl K n) < 256 := by decide +kernel
theorem sf_q4b : ∀ K, K < 4 → 1 ≤ K → ∀ n, n < 256 → 1 ≤ n → (256 ≤ sf_go K n ∨ n ≤ sf_fl K (sf_go K n)) ∧ n ≤ sf_go K n := by decide +kernel
theorem sf_q4 (K : Nat) (hK : K < 4) (hK1 : 1 ≤ K) (n : Nat) (hn : n < 256) (h1 : 1 ≤ n) : sf_q K (sf_go K (sf_fl K n)) = sf_q K n ∧ sf_go K (sf_fl K n) < 256 ∧ (sf_go K n < 256 → n ≤ sf_fl K (sf_go K n)) ∧ n ≤ sf_go K n := by
  have a := sf_q4a K hK hK1 n hn h1
  have b := sf_q4b K hK hK1 n hn h1
  exact ⟨a.1, a.2, fun g => by omega, b.2⟩
theorem sf_mono {f : Nat → Nat} (h : ∀ n, n < 255 → 1 ≤ n → f n ≤ f (n + 1)) {a b : Nat} (h1 : 1 ≤ a) (hab : a ≤ b) (hb : b < 256) : f a ≤ f b := by
  induction b with
  | zero => omega
  | succ b ih =>
    rcases Nat.lt_or_ge a (b + 1) with h2 | h2
    · exact Nat.le_trans (ih (by omega) (by omega)) (h b (by omega) (by omega))
    · rw [show a = b + 1 by omega]; exact Nat.le_refl _
section
variable {K : Nat} (hK : K < 4) (hK1 : 1 ≤ K)
theorem sf_qm {a b : Nat} (hK : K < 4) (hK1 : 1 ≤ K) (h1 : 1 ≤ a) (hab : a ≤ b) (hb : b < 256) : sf_q K a ≤ sf_q K b := sf_mono (fun n h h' => (sf_q3 K hK hK1 n h h').1) h1 hab hb
theorem sf_flm {a b : Nat} (hK : K < 4) (hK1 : 1 ≤ K) (h1 : 1 ≤ a) (hab : a ≤ b) (hb : b < 256) : sf_fl K a ≤ sf_fl K b := sf_mono (fun n h h' => (sf_q3 K hK hK1 n h h').2.1) h1 hab hb
theorem sf_gom {a b : Nat} (hK : K < 4) (hK1 : 1 ≤ K) (h1 : 1 ≤ a) (hab : a ≤ b) (hb : b < 256) : sf_go K a ≤ sf_go K b := sf_mono (fun n h h' => (sf_q3 K hK hK1 n h h').2.2) h1 hab hb
/-- one class, one floor -/
theorem sf_qfl {a b : Nat} (hK : K < 4) (hK1 : 1 ≤ K) (ha1 : 1 ≤ a) (ha : a < 256) (hb1 : 1 ≤ b) (hb : b < 256) : sf_q K a = sf_q K b ↔ sf_fl K a = sf_fl K b := by
  constructor
  · intro e; rw [← (sf_q1 K hK hK1 a ha ha1).2.1, ← (sf_q1 K hK hK1 b hb hb1).2.1, e]
  · intro e; rw [← (sf_q1 K hK hK1 a ha ha1).2.2, ← (sf_q1 K hK hK1 b hb hb1).2.2, e]
theorem sf_qle {a b : Nat} (hK : K < 4) (hK1 : 1 ≤ K) (ha1 : 1 ≤ a) (ha : a < 256) (hb1 : 1 ≤ b) (hb : b < 256) (h : sf_q K a ≤ sf_q K b) : sf_fl K a ≤ sf_fl K b := by
  rcases Nat.lt_or_ge b a with h2 | h2
  · have := sf_qm hK hK1 hb1 (Nat.le_of_lt h2) ha
    exact Nat.le_of_eq ((sf_qfl hK hK1 ha1 ha hb1 hb).mp (by omega))
  · exact sf_flm hK hK1 ha1 h2 hb
theorem sf_qlt' {a b : Nat} (hK : K < 4) (hK1 : 1 ≤ K) (ha1 : 1 ≤ a) (ha : a < 256) (hb1 : 1 ≤ b) (hb : b < 256) (h : sf_fl K a < sf_fl K b) : sf_q K a < sf_q K b := by
  rcases Nat.lt_or_ge (sf_q K a) (sf_q K b) with h2 | h2
  · exact h2
  · have := sf_qle hK hK1 hb1 hb ha1 ha h2; omega
/-- the class of the rounded need bounds exactly the floors that are large enough -/
theorem sf_goal {n c : Nat} (hK : K < 4) (hK1 : 1 ≤ K) (h1 : 1 ≤ n) (hn : n < 256) (hc1 : 1 ≤ c) (hc : c < 256) (hg : sf_go K n < 256) : sf_q K (sf_go K n) ≤ sf_q K c ↔ n ≤ sf_fl K c := by
  have h4 := sf_q4 K hK hK1 n hn h1
  have h4c := sf_q4 K hK hK1 c hc hc1
  have h2c := sf_q2 K hK hK1 c hc hc1
  constructor
  · intro h
    exact Nat.le_trans (h4.2.2.1 hg) (sf_qle hK hK1 (by omega) hg hc1 hc h)
  · intro h
    rw [← h4c.1]
    exact sf_qm hK hK1 (by omega) (sf_gom hK hK1 h1 h (by omega)) h4c.2.1
theorem sf_nogoal {n c : Nat} (hK : K < 4) (hK1 : 1 ≤ K) (h1 : 1 ≤ n) (hn : n < 256) (hc1 : 1 ≤ c) (hc : c < 256) (hg : 256 ≤ sf_go K n) : sf_fl K c < n := by
  have h4c := sf_q4 K hK hK1 c hc hc1
  have h2c := sf_q2 K hK hK1 c hc hc1
  rcases Nat.lt_or_ge (sf_fl K c) n with h | h
  · exact h
  · have := sf_gom hK hK1 h1 h (by omega); omega
end
end
section
/-! ===== the abstract state: kinds, capacities, logs, births at addresses; the clock ===== -/
abbrev sf_Ab : Type := (Nat → Nat) × (Nat → Nat) × (Nat → Nat) × (Nat → Nat) × Nat
def sf_s (c : sf_Ab) : Nat → Nat := c.1
def sf_c (c : sf_Ab) : Nat → Nat := c.2.1
def sf_l (c : sf_Ab) : Nat → Nat := c.2.2.1
def sf_b (c : sf_Ab) : Nat → Nat := c.2.2.2.1
def sf_k (c : sf_Ab) : Nat := c.2.2.2.2
def sf_up (f : Nat → Nat) (k x : Nat) : Nat → Nat := fun j => if j = k then x else f j
theorem sf_ups (f : Nat → Nat) (k x : Nat) : sf_up f k x k = x := if_pos rfl
theorem sf_upn (f : Nat → Nat) {k j : Nat} (x : Nat) (h : j ≠ k) : sf_up f k x j = f j := if_neg h
def sf_rem (c : sf_Ab) (a : Nat) : sf_Ab := (sf_up (sf_s c) a 0, sf_c c, sf_l c, sf_b c, sf_k c)
def sf_fre (c : sf_Ab) (a n : Nat) : sf_Ab := (sf_up (sf_s c) a 4, sf_up (sf_c c) a n, sf_l c, sf_up (sf_b c) a (sf_k c), sf_k c + 1)
def sf_lvb (c : sf_Ab) (a n l : Nat) : sf_Ab := (sf_up (sf_s c) a 2, sf_up (sf_c c) a n, sf_up (sf_l c) a l, sf_b c, sf_k c)
theorem sf_rem_s (c : sf_Ab) (a j : Nat) : sf_s (sf_rem c a) j = if j = a then 0 else sf_s c j := rfl
theorem sf_rem_c (c : sf_Ab) (a j : Nat) : sf_c (sf_rem c a) j = sf_c c j := rfl
theorem sf_rem_l (c : sf_Ab) (a j : Nat) : sf_l (sf_rem c a) j = sf_l c j := rfl
theorem sf_rem_b (c : sf_Ab) (a j : Nat) : sf_b (sf_rem c a) j = sf_b c j := rfl
theorem sf_rem_k (c : sf_Ab) (a : Nat) : sf_k (sf_rem c a) = sf_k c := rfl
theorem sf_fre_s (c : sf_Ab) (a n j : Nat) : sf_s (sf_fre c a n) j = if j = a then 4 else sf_s c j := rfl
theorem sf_fre_c (c : sf_Ab) (a n j : Nat) : sf_c (sf_fre c a n) j = if j = a then n else sf_c c j := rfl
theorem sf_fre_l (c : sf_Ab) (a n j : Nat) : sf_l (sf_fre c a n) j = sf_l c j := rfl
theorem sf_fre_b (c : sf_Ab) (a n j : Nat) : sf_b (sf_fre c a n) j = if j = a then sf_k c else sf_b c j := rfl
theorem sf_fre_k (c : sf_Ab) (a n : Nat) : sf_k (sf_fre c a n) = sf_k c + 1 := rfl
theorem sf_lvb_s (c : sf_Ab) (a n l j : Nat) : sf_s (sf_lvb c a n l) j = if j = a then 2 else sf_s c j := rfl
theorem sf_lvb_c (c : sf_Ab) (a n l j : Nat) : sf_c (sf_lvb c a n l) j = if j = a then n else sf_c c j := rfl
theorem sf_lvb_l (c : sf_Ab) (a n l j : Nat) : sf_l (sf_lvb c a n l) j = if j = a then l else sf_l c j := rfl
theorem sf_lvb_b (c : sf_Ab) (a n l j : Nat) : sf_b (sf_lvb c a n l) j = sf_b c j := rfl
theorem sf_lvb_k (c : sf_Ab) (a n l : Nat) : sf_k (sf_lvb c a n l) = sf_k c := rfl
/-- blocks lie within the heap, apart from each other; births are before the clock and all different; live blocks are aligned -/
def sf_WF (W : Nat) (c : sf_Ab) : Prop :=
  (∀ a, sf_s c a ≠ 0 → (sf_s c a = 2 ∨ sf_s c a = 4) ∧ 1 ≤ a ∧ 2 ≤ sf_c c a ∧ a + sf_c c a ≤ W) ∧
  (∀ a b, sf_s c a ≠ 0 → sf_s c b ≠ 0 → a < b → a + sf_c c a < b) ∧
  (∀ a, sf_s c a = 4 → sf_b c a < sf_k c) ∧
  (∀ a b, sf_s c a = 4 → sf_s c b = 4 → sf_b c a = sf_b c b → a = b) ∧
  (∀ a, sf_s c a = 2 → sf_l c a ≤ 5 ∧ a % 2 ^ sf_l c a = 0)
/-- a block of n words at a would touch no other block -/
def sf_fit (W : Nat) (c : sf_Ab) (a n : Nat) : Prop := 1 ≤ a ∧ 2 ≤ n ∧ a + n ≤ W ∧ ∀ b, sf_s c b ≠ 0 → b + sf_c c b < a ∨ a + n < b
/-- every word outside lo .. hi-1 belongs to a block -/
def sf_CV (W : Nat) (c : sf_Ab) (lo hi : Nat) : Prop := ∀ w, w < W → (w < lo ∨ hi ≤ w) → ∃ a, sf_s c a ≠ 0 ∧ a ≤ w + 1 ∧ w < a + sf_c c a
/-- a word of a free block's payload -/
def sf_pl (c : sf_Ab) (w : Nat) : Prop := ∃ b, sf_s c b = 4 ∧ b ≤ w ∧ w < b + sf_c c b
/-- a word of a live block's payload -/
def sf_lw (c : sf_Ab) (w : Nat) : Prop := ∃ b, sf_s c b = 2 ∧ b ≤ w ∧ w < b + sf_c c b
section
variable {W : Nat} {c : sf_Ab}
theorem sf_wf_rem {a : Nat} (h : sf_WF W c) : sf_WF W (sf_rem c a) := by
  obtain ⟨h1, h2, h3, h4, h5⟩ := h
  refine ⟨fun x hx => ?_, fun x y hx hy hxy => ?_, fun x hx => ?_, fun x y hx hy e => ?_, fun x hx => ?_⟩
  · rw [sf_rem_s] at hx ⊢
    split at hx
    · exact absurd rfl hx
    · rename_i hn; rw [if_neg hn]; exact h1 x hx
  · rw [sf_rem_s] at hx hy
    split at hx
    · exact absurd rfl hx
    · split at hy
      · exact absurd rfl hy
      · exact h2 x y hx hy hxy
  · rw [sf_rem_s] at hx
    split at hx
    · omega
    · exact h3 x hx
  · rw [sf_rem_s] at hx hy
    split at hx
    · omega
    · split at hy
      · omega
      · exact h4 x y hx hy e
  · rw [sf_rem_s] at hx
    split at hx
    · omega
    · exact h5 x hx
theorem sf_fit0 {a n : Nat} (h : sf_fit W c a n) : sf_s c a = 0 := Classical.byContradiction fun z => by
  have := h.2.2.2 a z; omega
theorem sf_wf_add {a n : Nat} {c' : sf_Ab} (h : sf_WF W c) (f : sf_fit W c a n) (hs : ∀ j, sf_s c' j = if j = a then sf_s c' a else sf_s c j) (hc : ∀ j, sf_c c' j = if j = a then n else sf_c c j) (ha : sf_s c' a = 2 ∨ sf_s c' a = 4) (hb : ∀ x, sf_s c' x = 4 → sf_b c' x < sf_k c') (hb2 : ∀ x y, sf_s c' x = 4 → sf_s c' y = 4 → sf_b c' x = sf_b c' y → x = y) (hl : ∀ x, sf_s c' x = 2 → sf_l c' x ≤ 5 ∧ x % 2 ^ sf_l c' x = 0) : sf_WF W c' := by
  obtain ⟨h1, h2, h3, h4, h5⟩ := h
  obtain ⟨f1, f2, f3, f4⟩ := f
  refine ⟨fun x hx => ?_, fun x y hx hy hxy => ?_, hb, hb2, hl⟩
  · by_cases e : x = a
    · subst e; rw [hc, if_pos rfl]; exact ⟨ha, f1, f2, f3⟩
    · rw [hs, if_neg e] at hx ⊢; rw [hc, if_neg e]; exact h1 x hx
  · by_cases ex : x = a
    · subst ex
      by_cases ey : y = x
      · omega
      · rw [hs, if_neg ey] at hy
        have := f4 y hy
        rw [hc, if_pos rfl]; omega
    · rw [hs, if_neg ex] at hx
      rw [hc, if_neg ex]
      by_cases ey : y = a
      · subst ey
        have := f4 x hx; omega
      · rw [hs, if_neg ey] at hy
        exact h2 x y hx hy hxy
theorem sf_wf_fre {a n : Nat} (h : sf_WF W c) (f : sf_fit W c a n) : sf_WF W (sf_fre c a n) := by
  have z := sf_fit0 f
  refine sf_wf_add h f (fun j => ?_) (fun j => sf_fre_c c a n j) (Or.inr (by rw [sf_fre_s, if_pos rfl])) (fun x hx => ?_) (fun x y hx hy e => ?_) (fun x hx => ?_)
  · rw [sf_fre_s, sf_fre_s, if_pos rfl]
  · rw [sf_fre_b, sf_fre_k]
    rw [sf_fre_s] at hx
    by_cases e : x = a
    · rw [if_pos e]; omega
    · rw [if_neg e] at hx ⊢
      have := h.2.2.1 x hx; omega
  · rw [sf_fre_s] at hx hy
    rw [sf_fre_b, sf_fre_b] at e
    by_cases ex : x = a
    · by_cases ey : y = a
      · omega
      · rw [if_neg ey] at hy
        rw [if_pos ex, if_neg ey] at e
        have := h.2.2.1 y hy; omega
    · rw [if_neg ex] at hx
      by_cases ey : y = a
      · rw [if_neg ex, if_pos ey] at e
        have := h.2.2.1 x hx; omega
      · rw [if_neg ey] at hy
        rw [if_neg ex, if_neg ey] at e
        exact h.2.2.2.1 x y hx hy e
  · rw [sf_fre_s] at hx
    by_cases e : x = a
    · rw [if_pos e] at hx; omega
    · rw [if_neg e] at hx; exact h.2.2.2.2 x hx
theorem sf_wf_lvb {a n l : Nat} (h : sf_WF W c) (f : sf_fit W c a n) (hl : l ≤ 5) (hd : a % 2 ^ l = 0) : sf_WF W (sf_lvb c a n l) := by
  refine sf_wf_add h f (fun j => ?_) (fun j => sf_lvb_c c a n l j) (Or.inl (by rw [sf_lvb_s, if_pos rfl])) (fun x hx => ?_) (fun x y hx hy e => ?_) (fun x hx => ?_)
  · rw [sf_lvb_s, sf_lvb_s, if_pos rfl]
  · rw [sf_lvb_s] at hx
    by_cases e : x = a
    · rw [if_pos e] at hx; omega
    · rw [if_neg e] at hx; exact h.2.2.1 x hx
  · rw [sf_lvb_s] at hx hy
    by_cases ex : x = a
    · rw [if_pos ex] at hx; omega
    · by_cases ey : y = a
      · rw [if_pos ey] at hy; omega
      · rw [if_neg ex] at hx
        rw [if_neg ey] at hy
        exact h.2.2.2.1 x y hx hy e
  · rw [sf_lvb_s] at hx
    rw [sf_lvb_l]
    by_cases e : x = a
    · subst e; rw [if_pos rfl]; exact ⟨hl, hd⟩
    · rw [if_neg e] at hx ⊢; exact h.2.2.2.2 x hx
/-! the words of a block are its own -/
theorem sf_own {a b w : Nat} (h : sf_WF W c) (ha : sf_s c a ≠ 0) (hb : sf_s c b ≠ 0) (h1 : a ≤ w + 1) (h2 : w < a + sf_c c a) (h3 : b ≤ w + 1) (h4 : w < b + sf_c c b) : a = b := by
  rcases Nat.lt_trichotomy a b with e | e | e
  · have := h.2.1 a b ha hb e; omega
  · exact e
  · have := h.2.1 b a hb ha e; omega
theorem sf_npl_hdr {a : Nat} (h : sf_WF W c) (ha : sf_s c a ≠ 0) : ¬ sf_pl c (a - 1) := fun ⟨b, hb, h1, h2⟩ => by
  have hb0 : sf_s c b ≠ 0 := by omega
  have ha1 := h.1 a ha
  have e := sf_own (w := a - 1) h ha hb0 (by omega) (by omega) (by omega) h2
  subst e; omega
theorem sf_npl_end {a : Nat} (h : sf_WF W c) (ha : sf_s c a ≠ 0) : ¬ sf_pl c (a + sf_c c a) := fun ⟨b, hb, h1, h2⟩ => by
  have hb0 : sf_s c b ≠ 0 := by omega
  rcases Nat.lt_trichotomy a b with e | e | e
  · have := h.2.1 a b ha hb0 e; omega
  · subst e; omega
  · have := h.2.1 b a hb0 ha e; omega
theorem sf_npl_0 (h : sf_WF W c) : ¬ sf_pl c 0 := fun ⟨b, hb, h1, h2⟩ => by
  have := h.1 b (by omega); omega
theorem sf_npl_lw (h : sf_WF W c) {w : Nat} (hw : sf_lw c w) : ¬ sf_pl c w := fun ⟨b, hb, h1, h2⟩ => by
  obtain ⟨a, ha, h3, h4⟩ := hw
  have e := sf_own (w := w) h (a := a) (b := b) (by omega) (by omega) (by omega) h4 (by omega) h2
  subst e; omega
/-! the block after, the block before -/
theorem sf_next {a : Nat} (h : sf_WF W c) (v : sf_CV W c 0 0) (ha : sf_s c a ≠ 0) (hw : a + sf_c c a < W) : sf_s c (a + sf_c c a + 1) ≠ 0 := by
  obtain ⟨b, hb, h1, h2⟩ := v (a + sf_c c a) hw (Or.inr (Nat.zero_le _))
  rcases Nat.lt_trichotomy a b with e | e | e
  · have := h.2.1 a b ha hb e
    rw [show a + sf_c c a + 1 = b by omega]; exact hb
  · subst e; omega
  · have := h.2.1 b a hb ha e; omega
theorem sf_prev {a : Nat} (h : sf_WF W c) (v : sf_CV W c 0 0) (ha : sf_s c a ≠ 0) (h1 : 1 < a) : ∃ p, sf_s c p ≠ 0 ∧ p + sf_c c p + 1 = a := by
  have ha1 := h.1 a ha
  obtain ⟨b, hb, h2, h3⟩ := v (a - 2) (by omega) (Or.inr (Nat.zero_le _))
  refine ⟨b, hb, ?_⟩
  rcases Nat.lt_trichotomy a b with e | e | e
  · omega
  · subst e; omega
  · have := h.2.1 b a hb ha e; omega
theorem sf_first (h : sf_WF W c) (v : sf_CV W c 0 0) (hW : 0 < W) : sf_s c 1 ≠ 0 := by
  obtain ⟨b, hb, h2, h3⟩ := v 0 hW (Or.inr (Nat.zero_le _))
  have := h.1 b hb
  rw [show 1 = b by omega]; exact hb
end
/-! ===== holes ===== -/
/-- no block touches the words lo .. hi-1; all others are covered -/
def sf_hole (W : Nat) (c : sf_Ab) (lo hi : Nat) : Prop := (∀ b, sf_s c b ≠ 0 → b + sf_c c b ≤ lo ∨ hi < b) ∧ sf_CV W c lo hi
section
variable {W : Nat} {c : sf_Ab}
theorem sf_hole_rem {a : Nat} (h : sf_WF W c) (v : sf_CV W c 0 0) (ha : sf_s c a ≠ 0) : sf_hole W (sf_rem c a) (a - 1) (a + sf_c c a) := by
  have ha1 := h.1 a ha
  refine ⟨fun b hb => ?_, fun w hw ho => ?_⟩
  · rw [sf_rem_s] at hb
    rw [sf_rem_c]
    by_cases e : b = a
    · rw [if_pos e] at hb; exact absurd rfl hb
    · rw [if_neg e] at hb
      rcases Nat.lt_or_ge a b with g | g
      · have := h.2.1 a b ha hb g; omega
      · have := h.2.1 b a hb ha (by omega); omega
  · obtain ⟨b, hb, h1, h2⟩ := v w hw (Or.inr (Nat.zero_le _))
    refine ⟨b, ?_, h1, h2⟩
    rw [sf_rem_s, if_neg]
    · exact hb
    · intro e; subst e; omega
/-- a hole grows upwards by the block that lies on it -/
theorem sf_hole_up {a lo hi : Nat} (h : sf_WF W c) (v : sf_hole W c lo hi) (ha : sf_s c a ≠ 0) (e : a = hi + 1) (hlh : lo < hi) : sf_hole W (sf_rem c a) lo (a + sf_c c a) := by
  have ha1 := h.1 a ha
  refine ⟨fun b hb => ?_, fun w hw ho => ?_⟩
  · rw [sf_rem_s] at hb
    rw [sf_rem_c]
    by_cases e2 : b = a
    · rw [if_pos e2] at hb; exact absurd rfl hb
    · rw [if_neg e2] at hb
      have := v.1 b hb
      rcases Nat.lt_or_ge a b with g | g
      · have := h.2.1 a b ha hb g; omega
      · omega
  · obtain ⟨b, hb, h1, h2⟩ := v.2 w hw (by omega)
    refine ⟨b, ?_, h1, h2⟩
    rw [sf_rem_s, if_neg]
    · exact hb
    · intro e3; subst e3; omega
/-- a hole grows downwards by the block that lies below it -/
theorem sf_hole_dn {a lo hi : Nat} (h : sf_WF W c) (v : sf_hole W c lo hi) (ha : sf_s c a ≠ 0) (e : a + sf_c c a = lo) (hlh : lo < hi) : sf_hole W (sf_rem c a) (a - 1) hi := by
  have ha1 := h.1 a ha
  refine ⟨fun b hb => ?_, fun w hw ho => ?_⟩
  · rw [sf_rem_s] at hb
    rw [sf_rem_c]
    by_cases e2 : b = a
    · rw [if_pos e2] at hb; exact absurd rfl hb
    · rw [if_neg e2] at hb
      have := v.1 b hb
      rcases Nat.lt_or_ge b a with g | g
      · have := h.2.1 b a hb ha g; omega
      · have := h.2.1 a b ha hb (by omega); omega
  · obtain ⟨b, hb, h1, h2⟩ := v.2 w hw (by omega)
    refine ⟨b, ?_, h1, h2⟩
    rw [sf_rem_s, if_neg]
    · exact hb
    · intro e3; subst e3; omega
theorem sf_hole_fit {a n lo hi : Nat} (v : sf_hole W c lo hi) (h1 : lo < a) (h2 : 2 ≤ n) (h3 : a + n ≤ hi) (h4 : hi ≤ W) : sf_fit W c a n :=
  ⟨by omega, h2, by omega, fun b hb => by have := v.1 b hb; omega⟩
/-- a block entered at the lower end of a hole -/
theorem sf_hole_add {a n lo hi : Nat} {c' : sf_Ab} (v : sf_hole W c lo hi) (h1 : a = lo + 1) (h2 : 2 ≤ n) (h3 : a + n ≤ hi) (ha : sf_s c' a ≠ 0) (hs : ∀ j, j ≠ a → sf_s c' j = sf_s c j) (hc : ∀ j, j ≠ a → sf_c c' j = sf_c c j) (hn : sf_c c' a = n) : sf_hole W c' (a + n) hi := by
  refine ⟨fun b hb => ?_, fun w hw ho => ?_⟩
  · by_cases e : b = a
    · subst e; rw [hn]; omega
    · rw [hs b e] at hb
      rw [hc b e]
      have := v.1 b hb; omega
  · by_cases hl : w < lo ∨ hi ≤ w
    · obtain ⟨b, hb, g1, g2⟩ := v.2 w hw hl
      have e : b ≠ a := by
        intro e; subst e
        have := v.1 b hb; omega
      exact ⟨b, by rw [hs b e]; exact hb, g1, by rw [hc b e]; exact g2⟩
    · exact ⟨a, ha, by omega, by rw [hn]; omega⟩
theorem sf_hole_fre {a n lo hi : Nat} (v : sf_hole W c lo hi) (h1 : a = lo + 1) (h2 : 2 ≤ n) (h3 : a + n ≤ hi) : sf_hole W (sf_fre c a n) (a + n) hi :=
  sf_hole_add v h1 h2 h3 (by rw [sf_fre_s, if_pos rfl]; omega) (fun j e => by rw [sf_fre_s, if_neg e]) (fun j e => by rw [sf_fre_c, if_neg e]) (by rw [sf_fre_c, if_pos rfl])
theorem sf_hole_lvb {a n l lo hi : Nat} (v : sf_hole W c lo hi) (h1 : a = lo + 1) (h2 : 2 ≤ n) (h3 : a + n ≤ hi) : sf_hole W (sf_lvb c a n l) (a + n) hi :=
  sf_hole_add v h1 h2 h3 (by rw [sf_lvb_s, if_pos rfl]; omega) (fun j e => by rw [sf_lvb_s, if_neg e]) (fun j e => by rw [sf_lvb_c, if_neg e]) (by rw [sf_lvb_c, if_pos rfl])
theorem sf_hole_end {lo hi : Nat} (v : sf_hole W c lo hi) (e : hi ≤ lo) : sf_CV W c 0 0 := fun w hw _ => v.2 w hw (by omega)
end
/-! ===== place and cut ===== -/
def sf_plc (b m : Nat) : Nat := if b % m = 0 then b else (b + 2 + m) / m * m
/-- the capacity of the live block that cut makes -/
def sf_cc (b cc n l : Nat) : Nat := if b + cc - sf_plc b (2 ^ l) < n + 3 then b + cc - sf_plc b (2 ^ l) else n
def sf_cut1 (c : sf_Ab) (b l : Nat) : sf_Ab := if b < sf_plc b (2 ^ l) then sf_fre c b (sf_plc b (2 ^ l) - b - 1) else c
def sf_cut (c : sf_Ab) (b cc n l : Nat) : sf_Ab :=
  if b + cc - sf_plc b (2 ^ l) < n + 3 then sf_lvb (sf_cut1 c b l) (sf_plc b (2 ^ l)) (b + cc - sf_plc b (2 ^ l)) l
  else sf_fre (sf_lvb (sf_cut1 c b l) (sf_plc b (2 ^ l)) n l) (sf_plc b (2 ^ l) + n + 1) (b + cc - sf_plc b (2 ^ l) - n - 1)
theorem sf_plc_ge {b m : Nat} (hm : 0 < m) : (sf_plc b m = b ∧ b % m = 0) ∨ (b + 3 ≤ sf_plc b m ∧ sf_plc b m ≤ b + 2 + m ∧ sf_plc b m % m = 0) := by
  unfold sf_plc
  by_cases h : b % m = 0
  · rw [if_pos h]; exact Or.inl ⟨rfl, h⟩
  · rw [if_neg h]
    have h1 := Nat.div_add_mod' (b + 2 + m) m
    have h2 := Nat.mod_lt (b + 2 + m) hm
    exact Or.inr ⟨by omega, by omega, Nat.mul_mod_left _ _⟩
theorem sf_plc_al {b m : Nat} (hm : 0 < m) : sf_plc b m % m = 0 := by
  rcases sf_plc_ge (b := b) hm with h | h
  · rw [h.1]; exact h.2
  · exact h.2.2
end
section
/-! ===== sums over the addresses ===== -/
def sf_sm (f : Nat → Nat) : Nat → Nat
  | 0 => 0
  | n + 1 => sf_sm f n + f n
theorem sf_sm_eq {f g : Nat → Nat} : ∀ {n : Nat}, (∀ j, j < n → g j = f j) → sf_sm g n = sf_sm f n
  | 0, _ => rfl
  | n + 1, h => by
    show sf_sm g n + g n = sf_sm f n + f n
    rw [sf_sm_eq (fun j hj => h j (by omega)), h n (by omega)]
theorem sf_sm_up {f g : Nat → Nat} {a : Nat} (hg : ∀ j, j ≠ a → g j = f j) : ∀ {n : Nat}, a < n → sf_sm g n + f a = sf_sm f n + g a
  | 0, h => by omega
  | n + 1, h => by
    show sf_sm g n + g n + f a = sf_sm f n + f n + g a
    by_cases e : a = n
    · subst e
      rw [sf_sm_eq (fun j hj => hg j (by omega))]; omega
    · have := sf_sm_up hg (n := n) (by omega)
      rw [hg n (by omega)]; omega
def sf_nl (c : sf_Ab) : Nat := sf_sm (fun a => if sf_s c a = 2 then 1 else 0) 256
def sf_nf (c : sf_Ab) : Nat := sf_sm (fun a => if sf_s c a = 4 then 1 else 0) 256
def sf_ls (c : sf_Ab) : Nat := sf_sm (fun a => if sf_s c a = 2 then sf_c c a + 1 else 0) 256
/-! ===== the component's state against the abstract one ===== -/
def sf_WK (W K : Nat) : Prop := 32 ≤ W ∧ W ≤ 256 ∧ 1 ≤ K ∧ K < 4
/-- r is the youngest free block of class k born before lim, or 0 -/
def sf_yg (K : Nat) (c : sf_Ab) (k lim r : Nat) : Prop :=
  (r = 0 ∧ ∀ b, sf_s c b = 4 → sf_q K (sf_c c b) = k → lim ≤ sf_b c b) ∨
  (sf_s c r = 4 ∧ sf_q K (sf_c c r) = k ∧ sf_b c r < lim ∧ ∀ b, sf_s c b = 4 → sf_q K (sf_c c b) = k → sf_b c b < lim → sf_b c b ≤ sf_b c r)
/-- r is the oldest free block of class k born after lim, or 0 -/
def sf_ol (K : Nat) (c : sf_Ab) (k lim r : Nat) : Prop :=
  (r = 0 ∧ ∀ b, sf_s c b = 4 → sf_q K (sf_c c b) = k → sf_b c b ≤ lim) ∨
  (sf_s c r = 4 ∧ sf_q K (sf_c c r) = k ∧ lim < sf_b c r ∧ ∀ b, sf_s c b = 4 → sf_q K (sf_c c b) = k → lim < sf_b c b → sf_b c r ≤ sf_b c b)
/-- class k has a free block -/
def sf_ne (K : Nat) (c : sf_Ab) (k : Nat) : Prop := ∃ a, sf_s c a = 4 ∧ sf_q K (sf_c c a) = k
def sf_XH (c : sf_Ab) (hp : Nat → Int32) : Prop := ∀ a, sf_s c a ≠ 0 → sf_cap (hp (a - 1)) = nI (sf_c c a) ∧ (sf_s c a = 2 → sf_liv (hp (a - 1)) ≠ 0 ∧ sf_log (hp (a - 1)) = nI (sf_l c a)) ∧ (sf_s c a = 4 → sf_liv (hp (a - 1)) = 0)
def sf_XN (W : Nat) (c : sf_Ab) (hp : Nat → Int32) : Prop := sf_note (hp 0) = 0 ∧ ∀ a, sf_s c a ≠ 0 → a + sf_c c a < W → sf_note (hp (a + sf_c c a)) = nI (sf_c c a)
def sf_XS (c : sf_Ab) (ss : Nat → Int32) : Prop := ∀ h, h < 256 → (bt (ss (h / 32)) (h % 32) = true ↔ sf_s c (h + 1) ≠ 0)
def sf_XL (K : Nat) (c : sf_Ab) (hp : Nat → Int32) : Prop := ∀ a, sf_s c a = 4 → ∃ o y, hp a = nI o ∧ sf_yg K c (sf_q K (sf_c c a)) (sf_b c a) o ∧ hp (a + 1) = nI y ∧ sf_ol K c (sf_q K (sf_c c a)) (sf_b c a) y
def sf_XD (K : Nat) (c : sf_Ab) (hs : Nat → Int32) : Prop := ∀ k, k < 64 → ∃ o, hs k = nI o ∧ sf_yg K c k (sf_k c) o
def sf_XB (K : Nat) (c : sf_Ab) (rs : Nat → Int32) (lv : Int32) : Prop :=
  (∀ l, l < 8 → (∀ j, j < 8 → (bt (rs l) j = true ↔ sf_ne K c (8 * l + j))) ∧ (∀ j, 8 ≤ j → bt (rs l) j = false)) ∧
  (∀ l, l < 8 → (bt lv l = true ↔ rs l ≠ 0)) ∧ (∀ l, 8 ≤ l → bt lv l = false)
def sf_XV (c : sf_Ab) (P : Nat → Prop) (vl : Nat → Int32) (hp : Nat → Int32) : Prop := ∀ w, P w → hp w = vl w ∧ ¬ sf_pl c w
def sf_XR (W K : Nat) (c : sf_Ab) (P : Nat → Prop) (vl : Nat → Int32) (pk : Int32) (u : SX) : Prop :=
  ∃ (lv : Int32) (hp ss hs rs : Nat → Int32), u = (lv, nI W, nI K, nI (sf_nl c), nI (sf_nf c), nI (sf_ls c), pk, hp, ss, hs, rs) ∧ sf_XH c hp ∧ sf_XN W c hp ∧ sf_XS c ss ∧ sf_XL K c hp ∧ sf_XD K c hs ∧ sf_XB K c rs lv ∧ sf_XV c P vl hp
theorem sf_m1 {a : Nat} (h : 1 ≤ a) : nI a - 1 = nI (a - 1) := pk_sub (b := 1) h
section
variable {W K : Nat} {c : sf_Ab} {P : Nat → Prop} {vl : Nat → Int32} {pk : Int32} {u : SX} {post : Int32 → Prop} {a : Nat}
theorem sf_xcap (hw : sf_WK W K) (hf : sf_WF W c) (h : sf_XR W K c P vl pk u) (ha : sf_s c a ≠ 0) (J : post (nI (sf_c c a))) : wpX_capAt post u (nI a) := by
  obtain ⟨lv, hp, ss, hs, rs, rfl, hH, -⟩ := h
  have ha1 := hf.1 a ha
  have hw2 := hw.2.1
  unfold wpX_capAt
  dsimp only
  rw [sf_m1 (by omega), nI_clamp (by omega)]
  refine ⟨vp_in_nI (by omega) (by omega), ?_⟩
  rw [← (hH a ha).1] at J
  exact J
theorem sf_xlog (hw : sf_WK W K) (hf : sf_WF W c) (h : sf_XR W K c P vl pk u) (ha : sf_s c a = 2) (J : post (nI (sf_l c a))) : wpX_logAt post u (nI a) := by
  obtain ⟨lv, hp, ss, hs, rs, rfl, hH, -⟩ := h
  have ha1 := hf.1 a (by omega)
  have hw2 := hw.2.1
  unfold wpX_logAt
  dsimp only
  rw [sf_m1 (by omega), nI_clamp (by omega)]
  refine ⟨vp_in_nI (by omega) (by omega), ?_⟩
  rw [← ((hH a (by omega)).2.1 ha).2] at J
  exact J
theorem sf_xliv1 (hw : sf_WK W K) (hf : sf_WF W c) (h : sf_XR W K c P vl pk u) (ha : sf_s c a = 2) (J : post 1) : wpX_isLive post u (nI a) := by
  obtain ⟨lv, hp, ss, hs, rs, rfl, hH, -⟩ := h
  have ha1 := hf.1 a (by omega)
  have hw2 := hw.2.1
  unfold wpX_isLive
  dsimp only
  rw [sf_m1 (by omega), nI_clamp (by omega)]
  exact ⟨vp_in_nI (by omega) (by omega), br_f ((hH a (by omega)).2.1 ha).1 J⟩
theorem sf_xliv0 (hw : sf_WK W K) (hf : sf_WF W c) (h : sf_XR W K c P vl pk u) (ha : sf_s c a = 4) (J : post 0) : wpX_isLive post u (nI a) := by
  obtain ⟨lv, hp, ss, hs, rs, rfl, hH, -⟩ := h
  have ha1 := hf.1 a (by omega)
  have hw2 := hw.2.1
  unfold wpX_isLive
  dsimp only
  rw [sf_m1 (by omega), nI_clamp (by omega)]
  exact ⟨vp_in_nI (by omega) (by omega), br_t ((hH a (by omega)).2.2 ha) J⟩
theorem sf_xba (hw : sf_WK W K) (hf : sf_WF W c) (h : sf_XR W K c P vl pk u) (ha : sf_s c a ≠ 0) (J : post (nI (if a + sf_c c a < W then a + sf_c c a + 1 else 0))) : wpX_blockAfter post u (nI a) := by
  have h' := h
  obtain ⟨lv, hp, ss, hs, rs, rfl, hH, -⟩ := h
  have ha1 := hf.1 a ha
  have hw2 := hw.2.1
  unfold wpX_blockAfter
  dsimp only
  refine sf_xcap hw hf h' ha (nm_r (nI_add a _) (pk_le W (a + sf_c c a) (fun g => ?_) (fun g => ?_)))
  · rw [if_neg (by omega)] at J; exact J
  · rw [if_pos g] at J; rw [nI_1]; exact J
/-- the free block just after a, or 0 -/
def sf_fa (W : Nat) (c : sf_Ab) (a : Nat) : Nat := if a + sf_c c a < W ∧ sf_s c (a + sf_c c a + 1) = 4 then a + sf_c c a + 1 else 0
theorem sf_xfa (hw : sf_WK W K) (hf : sf_WF W c) (hv : sf_CV W c 0 0) (h : sf_XR W K c P vl pk u) (ha : sf_s c a ≠ 0) (J : post (nI (sf_fa W c a))) : wpX_freeAfter post u (nI a) := by
  have h' := h
  obtain ⟨lv, hp, ss, hs, rs, rfl, hH, -⟩ := h
  have ha1 := hf.1 a ha
  have hw2 := hw.2.1
  unfold wpX_freeAfter
  dsimp only
  refine sf_xba hw hf h' ha ?_
  by_cases g : a + sf_c c a < W
  · rw [if_pos g]
    refine br_f (nI_ne0 (by omega) (by omega)) ?_
    have hn := sf_next hf hv ha g
    rcases (hf.1 _ hn).1 with e | e
    · refine sf_xliv1 hw hf h' e (br_f (by decide) ?_)
      rw [sf_fa, if_neg (by omega)] at J; exact J
    · refine sf_xliv0 hw hf h' e (br_t rfl ?_)
      rw [sf_fa, if_pos ⟨g, e⟩] at J; exact J
  · rw [if_neg g]
    refine br_t rfl ?_
    rw [sf_fa, if_neg (by omega)] at J; exact J
/-- p is the free block just before a, or 0 if there is none -/
def sf_fbr (c : sf_Ab) (a p : Nat) : Prop := (p = 0 ∧ (a = 1 ∨ ∃ q, sf_s c q = 2 ∧ q + sf_c c q + 1 = a)) ∨ (sf_s c p = 4 ∧ p + sf_c c p + 1 = a)
theorem sf_fb_ex (hf : sf_WF W c) (hv : sf_CV W c 0 0) (ha : sf_s c a ≠ 0) : ∃ p, sf_fbr c a p := by
  have ha1 := hf.1 a ha
  rcases Nat.lt_or_ge 1 a with g | g
  · obtain ⟨p, hp, e⟩ := sf_prev hf hv ha g
    rcases (hf.1 p hp).1 with z | z
    · exact ⟨0, Or.inl ⟨rfl, Or.inr ⟨p, z, e⟩⟩⟩
    · exact ⟨p, Or.inr ⟨z, e⟩⟩
  · exact ⟨0, Or.inl ⟨rfl, Or.inl (by omega)⟩⟩
theorem sf_xfb {p : Nat} (hw : sf_WK W K) (hf : sf_WF W c) (h : sf_XR W K c P vl pk u) (ha : sf_s c a ≠ 0) (hp : sf_fbr c a p) (J : post (nI p)) : wpX_freeBefore post u (nI a) := by
  have h' := h
  obtain ⟨lv, hp', ss, hs, rs, rfl, hH, hN, -⟩ := h
  have ha1 := hf.1 a ha
  have hw2 := hw.2.1
  unfold wpX_freeBefore
  dsimp only
  rw [sf_m1 (by omega), nI_clamp (by omega)]
  refine ⟨vp_in_nI (by omega) (by omega), ?_⟩
  show ∀ y, y = sf_note (hp' (a - 1)) → _
  have hq : ∀ q, sf_s c q ≠ 0 → q + sf_c c q + 1 = a → sf_note (hp' (a - 1)) = nI (sf_c c q) := fun q h1 h2 => by
    have := hN.2 q h1 (by omega)
    rw [show a - 1 = q + sf_c c q by omega]; exact this
  have hr : ∀ q, sf_s c q ≠ 0 → q + sf_c c q + 1 = a → nI a - nI (sf_c c q) - 1 = nI q := fun q h1 h2 => by
    have := hf.1 q h1
    rw [pk_sub (by omega), sf_m1 (by omega)]
    exact congrArg nI (by omega)
  rcases hp with ⟨rfl, e | ⟨q, hq1, hq2⟩⟩ | ⟨hp1, hp2⟩
  · subst e
    exact nm_r hN.1 (br_t rfl J)
  · have hq3 := hf.1 q (by omega)
    refine nm_r (hq q (by omega) hq2) (br_f (nI_ne0 (by omega) (by omega)) (nm_r (hr q (by omega) hq2) ?_))
    exact sf_xliv1 hw hf h' hq1 (br_f (by decide) J)
  · have hq3 := hf.1 p (by omega)
    refine nm_r (hq p (by omega) hp2) (br_f (nI_ne0 (by omega) (by omega)) (nm_r (hr p (by omega) hp2) ?_))
    exact sf_xliv0 hw hf h' hp1 (br_t rfl J)
theorem sf_b1 {x : Int32} {n : Nat} (hn : n < 32) : ((x.toUInt32 >>> ((nI n).toUInt32 &&& Int32.toUInt32 31)).toInt32 &&& 1) = 0 ↔ bt x n = false := by
  have e : ∀ i, bt ((x.toUInt32 >>> ((nI n).toUInt32 &&& Int32.toUInt32 31)).toInt32 &&& 1) i = (bt x (n + i) && bt 1 i) := fun i => by rw [b_and, b_ushr n hn]
  constructor
  · intro h
    have := e 0
    rw [h, b_0, show bt 1 0 = true by decide +kernel, Bool.and_true] at this
    exact this.symm
  · intro h
    refine sf_zero fun i hi => ?_
    rw [e i]
    by_cases z : i = 0
    · rw [z, Nat.add_zero, h, Bool.false_and]
    · rw [show bt 1 i = false from (by decide +kernel : ∀ i, i < 32 → i ≠ 0 → bt 1 i = false) i hi z, Bool.and_false]
theorem sf_xib (hw : sf_WK W K) (h : sf_XR W K c P vl pk u) (ha1 : 1 ≤ a) (ha2 : a < W) (J0 : sf_s c a = 0 → post 0) (J1 : sf_s c a ≠ 0 → post 1) : wpX_isBlock post u (nI a) := by
  obtain ⟨lv, hp, ss, hs, rs, rfl, hH, hN, hS, -⟩ := h
  have hw2 := hw.2.1
  unfold wpX_isBlock
  dsimp only
  refine br_f (nI_nlt (b := 1) ha1 (by omega)) (br_t (nI_lt ha2 (by omega)) (nm_r (sf_m1 ha1) ?_))
  rw [sf_u5 (by omega), nI_clamp (by omega), sf_and31 _ (by omega)]
  refine ⟨vp_in_nI (by omega) (by omega), ?_⟩
  have hs1 := hS (a - 1) (by omega)
  rw [show a - 1 + 1 = a by omega] at hs1
  refine sf_if (sf_b1 (Nat.mod_lt _ (by decide))) (fun g => J0 ?_) (fun g => J1 ?_)
  · exact Classical.byContradiction fun z => by rw [hs1.mpr z] at g; exact Bool.noConfusion g
  · exact hs1.mp (ts_nf g)
theorem sf_xib0 {x : Int32} (hw : sf_WK W K) (h : sf_XR W K c P vl pk u) (hx : x < 1 ∨ ¬ x < nI W) (J : post 0) : wpX_isBlock post u x := by
  obtain ⟨lv, hp, ss, hs, rs, rfl, -⟩ := h
  unfold wpX_isBlock
  dsimp only
  refine br_c (fun _ => J) (fun g => br_f (hx.resolve_left g) J)
/-! ===== the owner of a word ===== -/
theorem sf_xbo55 {lv tot dg lb fb ls p x : Int32} {hp ss hs rs : Nat → Int32} {slot t : Nat} (hs1 : slot < 8) (ht : t < 32) (hx : ∀ post : Int32 → Prop, post (nI t) → wpX_topBit post (lv, tot, dg, lb, fb, ls, p, hp, ss, hs, rs) x) (J : post (nI (slot * 32 + t + 1))) : wX_blockOf_55 post (nI slot) x lv tot dg lb fb ls p hp ss hs rs := by
  unfold wX_blockOf_55
  refine hx _ ?_
  rw [sf_s5 (by omega), nI_add, nI_1]
  exact J
theorem sf_bo_t {w slot t : Nat} {x : Int32} (hf : sf_WF W c) (ha : sf_s c a ≠ 0) (h1 : a ≤ w + 1) (h2 : w < a + sf_c c a) (hx : ∀ j, j < 32 → (bt x j = true ↔ sf_s c (32 * slot + j + 1) ≠ 0 ∧ 32 * slot + j ≤ w)) (hn : ∀ h, 32 * slot + 32 ≤ h → h ≤ w → sf_s c (h + 1) = 0) (ht : t < 32) (ht1 : bt x t = true) (ht2 : ∀ j, t < j → bt x j = false) : slot * 32 + t + 1 = a := by
  have hal := hf.1 a ha
  have ht4 := (hx t ht).mp ht1
  have g1 : a - 1 < 32 * slot + 32 := by
    rcases Nat.lt_or_ge (a - 1) (32 * slot + 32) with g | g
    · exact g
    · have := hn (a - 1) g (by omega)
      rw [show a - 1 + 1 = a by omega] at this; exact absurd this ha
  have g2 : 32 * slot + t ≤ a - 1 := by
    rcases Nat.lt_or_ge (a - 1) (32 * slot + t) with g | g
    · have := hf.2.1 a (32 * slot + t + 1) ha ht4.1 (by omega); omega
    · exact g
  have hb := (hx (a - 1 - 32 * slot) (by omega)).mpr ⟨by rw [show 32 * slot + (a - 1 - 32 * slot) + 1 = a by omega]; exact ha, by omega⟩
  rcases Nat.lt_or_ge t (a - 1 - 32 * slot) with g | g
  · rw [ht2 _ g] at hb; exact Bool.noConfusion hb
  · omega
theorem sf_xbo24 {lv tot dg lb fb ls p : Int32} {hp ss hs rs : Nat → Int32} {w : Nat} (hf : sf_WF W c) (hS : sf_XS c ss) (ha : sf_s c a ≠ 0) (h1 : a ≤ w + 1) (h2 : w < a + sf_c c a) (hw : w < 256) (J : post (nI a)) : ∀ (slot i : Nat) (x : Int32), i + slot ≤ 7 → 32 * slot ≤ w → (∀ j, j < 32 → (bt x j = true ↔ sf_s c (32 * slot + j + 1) ≠ 0 ∧ 32 * slot + j ≤ w)) → (∀ h, 32 * slot + 32 ≤ h → h ≤ w → sf_s c (h + 1) = 0) → wX_blockOf_24 post lv tot dg lb fb ls p hp ss hs rs (slot + 1) (nI slot) x (nI i) := by
  have hal := hf.1 a ha
  intro slot
  induction slot with
  | zero =>
    intro i x hi hsw hx hn
    have hal32 : a - 1 < 32 := by
      rcases Nat.lt_or_ge (a - 1) 32 with g | g
      · exact g
      · have := hn (a - 1) (by omega) (by omega)
        rw [show a - 1 + 1 = a by omega] at this; exact absurd this ha
    have hb := (hx (a - 1) hal32).mpr ⟨by rw [show 32 * 0 + (a - 1) + 1 = a by omega]; exact ha, by omega⟩
    have hx0 := sf_nz hb
    obtain ⟨t, ht, ht1, ht2, ht3⟩ := sf_high (u := (lv, tot, dg, lb, fb, ls, p, hp, ss, hs, rs)) hx0
    unfold wX_blockOf_24
    refine br_f (nI_ge (b := 8) (by omega) (by omega)) (br_f hx0 (sf_xbo55 (by omega) ht ht3 ?_))
    rw [sf_bo_t hf ha h1 h2 hx hn ht ht1 ht2]; exact J
  | succ slot ih =>
    intro i x hi hsw hx hn
    unfold wX_blockOf_24
    refine br_f (nI_ge (b := 8) (by omega) (by omega)) (br_c (fun z => ?_) (fun z => ?_))
    · refine br_f (nI_nle (by omega) (by omega)) (nm_r (pk_m1 slot) ?_)
      rw [nI_clamp (by omega)]
      refine ⟨vp_in_nI (by omega) (by omega), nm_e (nm_r (nI_1 i) (ih (i + 1) _ (by omega) (by omega) (fun j hj => ?_) (fun h g1 g2 => ?_)))⟩
      · have := hS (32 * slot + j) (by omega)
        rw [show (32 * slot + j) / 32 = slot by omega, show (32 * slot + j) % 32 = j by omega] at this
        rw [this]
        exact ⟨fun g => ⟨g, by omega⟩, fun g => g.1⟩
      · rcases Nat.lt_or_ge h (32 * (slot + 1) + 32) with g3 | g3
        · refine Classical.byContradiction fun z2 => ?_
          have := (hx (h - 32 * (slot + 1)) (by omega)).mpr ⟨by rw [show 32 * (slot + 1) + (h - 32 * (slot + 1)) = h by omega]; exact z2, by omega⟩
          rw [z, b_0] at this; exact Bool.noConfusion this
        · exact hn h g3 g2
    · obtain ⟨t, ht, ht1, ht2, ht3⟩ := sf_high (u := (lv, tot, dg, lb, fb, ls, p, hp, ss, hs, rs)) z
      refine sf_xbo55 (by omega) ht ht3 ?_
      rw [sf_bo_t hf ha h1 h2 hx hn ht ht1 ht2]; exact J
theorem sf_xbo {w : Nat} (hw : sf_WK W K) (hf : sf_WF W c) (h : sf_XR W K c P vl pk u) (ha : sf_s c a ≠ 0) (h1 : a ≤ w + 1) (h2 : w < a + sf_c c a) (J : post (nI a)) : wpX_blockOf post u (nI w) := by
  obtain ⟨lv, hp, ss, hs, rs, rfl, hH, hN, hS, -⟩ := h
  have hal := hf.1 a ha
  have hw2 := hw.2.1
  unfold wpX_blockOf
  dsimp only
  refine nm_r (sf_u5 (k := w) (by omega)) ?_
  rw [nI_clamp (by omega)]
  refine ⟨vp_in_nI (by omega) (by omega), nm_e ⟨w / 32 + 1, ?_⟩⟩
  rw [← nI_0]
  refine sf_xbo24 hf hS ha h1 h2 (by omega) J (w / 32) 0 _ (by omega) (by omega) (fun j hj => ?_) (fun h g1 g2 => by omega)
  rw [sf_and31 w (by omega), show (31 : Int32) - nI (w % 32) = nI (31 - w % 32) from pk_sub (a := 31) (by omega), b_and, b_ushr _ (by omega)]
  have hs1 := hS (32 * (w / 32) + j)
  rw [show (32 * (w / 32) + j) / 32 = w / 32 by omega, show (32 * (w / 32) + j) % 32 = j by omega] at hs1
  rcases Nat.lt_or_ge (w % 32) j with g | g
  · rw [b_big (x := -1) (by omega), Bool.and_false]
    exact ⟨fun z => Bool.noConfusion z, fun z => by omega⟩
  · rw [b_m1 _ (by omega), Bool.and_true, hs1 (by omega)]
    exact ⟨fun z => ⟨z, by omega⟩, fun z => z.1⟩
/-- the kind of word w, which block a owns -/
def sf_kv (c : sf_Ab) (w a : Nat) : Nat := if a = w + 1 then 1 else if a = w then sf_s c a else sf_s c a + 1
theorem sf_xkd {w : Nat} (hw : sf_WK W K) (hf : sf_WF W c) (h : sf_XR W K c P vl pk u) (hww : w < W) (ha : sf_s c a ≠ 0) (h1 : a ≤ w + 1) (h2 : w < a + sf_c c a) (J : post (nI (sf_kv c w a))) : wpX_kindOf post u (nI w) := by
  have h' := h
  obtain ⟨lv, hp, ss, hs, rs, rfl, -⟩ := h
  have hal := hf.1 a ha
  have hw2 := hw.2.1
  unfold wpX_kindOf
  dsimp only
  refine br_f (nI_pos (by omega)) (br_t (nI_lt hww (by omega)) (sf_xbo hw hf h' ha h1 h2 (pk_le a w (fun g => ?_) (fun g => ?_))))
  · rw [sf_kv, if_neg (by omega)] at J
    rcases hal.1 with e | e
    · refine sf_xliv1 hw hf h' e (br_f (by decide) (pk_eq a w (fun g2 => ?_) (fun g2 => ?_)))
      · rw [if_pos g2, e] at J; exact J
      · rw [if_neg g2, e] at J; exact J
    · refine sf_xliv0 hw hf h' e (br_t rfl (pk_eq a w (fun g2 => ?_) (fun g2 => ?_)))
      · rw [if_pos g2, e] at J; exact J
      · rw [if_neg g2, e] at J; exact J
  · rw [sf_kv, if_pos (by omega)] at J; exact J
theorem sf_xkd0 {x : Int32} (h : sf_XR W K c P vl pk u) (hx : x < 0 ∨ ¬ x < nI W) (J : post 0) : wpX_kindOf post u x := by
  obtain ⟨lv, hp, ss, hs, rs, rfl, -⟩ := h
  unfold wpX_kindOf
  dsimp only
  exact br_c (fun _ => J) (fun g => br_f (hx.resolve_left g) J)
end
end
section
/-! ===== the youngest and the oldest, under entering and removing ===== -/
section
variable {W K : Nat} {c : sf_Ab} {a n k : Nat}
theorem sf_yg0 {lim r : Nat} (hf : sf_WF W c) (h : sf_yg K c k lim r) (hr : r = 0) : ∀ b, sf_s c b = 4 → sf_q K (sf_c c b) = k → lim ≤ sf_b c b := by
  rcases h with h | h
  · exact h.2
  · have := hf.1 r (by omega); omega
theorem sf_yg1 {lim r : Nat} (h : sf_yg K c k lim r) (hr : r ≠ 0) : sf_s c r = 4 ∧ sf_q K (sf_c c r) = k ∧ sf_b c r < lim ∧ ∀ b, sf_s c b = 4 → sf_q K (sf_c c b) = k → sf_b c b < lim → sf_b c b ≤ sf_b c r := by
  rcases h with h | h
  · exact absurd h.1 hr
  · exact h
theorem sf_ol0 {lim r : Nat} (hf : sf_WF W c) (h : sf_ol K c k lim r) (hr : r = 0) : ∀ b, sf_s c b = 4 → sf_q K (sf_c c b) = k → sf_b c b ≤ lim := by
  rcases h with h | h
  · exact h.2
  · have := hf.1 r (by omega); omega
theorem sf_ol1 {lim r : Nat} (h : sf_ol K c k lim r) (hr : r ≠ 0) : sf_s c r = 4 ∧ sf_q K (sf_c c r) = k ∧ lim < sf_b c r ∧ ∀ b, sf_s c b = 4 → sf_q K (sf_c c b) = k → lim < sf_b c b → sf_b c r ≤ sf_b c b := by
  rcases h with h | h
  · exact absurd h.1 hr
  · exact h
theorem sf_yg_uni {lim r r' : Nat} (hf : sf_WF W c) (h : sf_yg K c k lim r) (h' : sf_yg K c k lim r') : r = r' := by
  by_cases e : r = 0
  · by_cases e' : r' = 0
    · omega
    · have h1 := sf_yg1 h' e'
      have := sf_yg0 hf h e r' h1.1 h1.2.1; omega
  · have h0 := sf_yg1 h e
    by_cases e' : r' = 0
    · have := sf_yg0 hf h' e' r h0.1 h0.2.1; omega
    · have h1 := sf_yg1 h' e'
      have g1 := h0.2.2.2 r' h1.1 h1.2.1 h1.2.2.1
      have g2 := h1.2.2.2 r h0.1 h0.2.1 h0.2.2.1
      exact hf.2.2.2.1 r r' h0.1 h1.1 (by omega)
/-! entering -/
theorem sf_fre_free {b : Nat} (f : sf_fit W c a n) : sf_s (sf_fre c a n) b = 4 ↔ b = a ∨ sf_s c b = 4 := by
  rw [sf_fre_s]
  by_cases e : b = a
  · rw [if_pos e]; simp [e]
  · rw [if_neg e]; simp [e]
theorem sf_yg_fre {lim r : Nat} (f : sf_fit W c a n) (h : sf_yg K c k lim r) (hl : lim ≤ sf_k c) : sf_yg K (sf_fre c a n) k lim r := by
  have z := sf_fit0 f
  have key : ∀ b, sf_s (sf_fre c a n) b = 4 → sf_q K (sf_c (sf_fre c a n) b) = k → sf_b (sf_fre c a n) b < lim → sf_s c b = 4 ∧ sf_q K (sf_c c b) = k ∧ b ≠ a := fun b h1 h2 h3 => by
    rw [sf_fre_s] at h1; rw [sf_fre_c] at h2; rw [sf_fre_b] at h3
    by_cases e : b = a
    · rw [if_pos e] at h3; omega
    · rw [if_neg e] at h1 h2; exact ⟨h1, h2, e⟩
  rcases h with ⟨h1, h2⟩ | ⟨h1, h2, h3, h4⟩
  · refine Or.inl ⟨h1, fun b g1 g2 => ?_⟩
    rcases Nat.lt_or_ge (sf_b (sf_fre c a n) b) lim with g3 | g3
    · have g4 := key b g1 g2 g3
      have := h2 b g4.1 g4.2.1
      rw [sf_fre_b, if_neg g4.2.2]; exact this
    · exact g3
  · have e : r ≠ a := fun e => by rw [e, z] at h1; omega
    refine Or.inr ⟨by rw [sf_fre_s, if_neg e]; exact h1, by rw [sf_fre_c, if_neg e]; exact h2, by rw [sf_fre_b, if_neg e]; exact h3, fun b g1 g2 g3 => ?_⟩
    have g4 := key b g1 g2 g3
    rw [sf_fre_b, if_neg g4.2.2] at g3 ⊢
    rw [sf_fre_b, if_neg e]
    exact h4 b g4.1 g4.2.1 g3
/-- another class's head -/
theorem sf_yg_fre' {r : Nat} (hf : sf_WF W c) (f : sf_fit W c a n) (h : sf_yg K c k (sf_k c) r) (hk : sf_q K n ≠ k) : sf_yg K (sf_fre c a n) k (sf_k c + 1) r := by
  have z := sf_fit0 f
  have key : ∀ b, sf_s (sf_fre c a n) b = 4 → sf_q K (sf_c (sf_fre c a n) b) = k → sf_s c b = 4 ∧ sf_q K (sf_c c b) = k ∧ b ≠ a := fun b h1 h2 => by
    rw [sf_fre_s] at h1; rw [sf_fre_c] at h2
    by_cases e : b = a
    · rw [if_pos e] at h2; exact absurd h2 hk
    · rw [if_neg e] at h1 h2; exact ⟨h1, h2, e⟩
  rcases h with ⟨h1, h2⟩ | ⟨h1, h2, h3, h4⟩
  · refine Or.inl ⟨h1, fun b g1 g2 => ?_⟩
    have g4 := key b g1 g2
    have := h2 b g4.1 g4.2.1
    have := hf.2.2.1 b g4.1; omega
  · have e : r ≠ a := fun e => by rw [e, z] at h1; omega
    refine Or.inr ⟨by rw [sf_fre_s, if_neg e]; exact h1, by rw [sf_fre_c, if_neg e]; exact h2, by rw [sf_fre_b, if_neg e]; omega, fun b g1 g2 g3 => ?_⟩
    have g4 := key b g1 g2
    rw [sf_fre_b, if_neg g4.2.2, sf_fre_b, if_neg e]
    exact h4 b g4.1 g4.2.1 (hf.2.2.1 b g4.1)
/-- the new block heads its class -/
theorem sf_yg_new (hf : sf_WF W c) (f : sf_fit W c a n) : sf_yg K (sf_fre c a n) (sf_q K n) (sf_k c + 1) a := by
  refine Or.inr ⟨by rw [sf_fre_s, if_pos rfl], by rw [sf_fre_c, if_pos rfl], by rw [sf_fre_b, if_pos rfl]; omega, fun b g1 g2 g3 => ?_⟩
  rw [sf_fre_b, sf_fre_b, if_pos rfl]
  rw [sf_fre_s] at g1
  by_cases e : b = a
  · rw [if_pos e]; omega
  · rw [if_neg e] at g1 ⊢
    have := hf.2.2.1 b g1; omega
theorem sf_ol_new (hf : sf_WF W c) (f : sf_fit W c a n) : sf_ol K (sf_fre c a n) k (sf_k c) 0 := by
  refine Or.inl ⟨rfl, fun b g1 g2 => ?_⟩
  rw [sf_fre_b]
  rw [sf_fre_s] at g1
  by_cases e : b = a
  · rw [if_pos e]; omega
  · rw [if_neg e] at g1 ⊢
    have := hf.2.2.1 b g1; omega
/-- the old head has the new block as its younger one -/
theorem sf_ol_old {o : Nat} (hf : sf_WF W c) (f : sf_fit W c a n) (h : sf_yg K c (sf_q K n) (sf_k c) o) (ho : o ≠ 0) : sf_ol K (sf_fre c a n) (sf_q K n) (sf_b c o) a := by
  have h1 := sf_yg1 h ho
  refine Or.inr ⟨by rw [sf_fre_s, if_pos rfl], by rw [sf_fre_c, if_pos rfl], by rw [sf_fre_b, if_pos rfl]; exact hf.2.2.1 o h1.1, fun b g1 g2 g3 => ?_⟩
  rw [sf_fre_b] at g3 ⊢
  rw [sf_fre_s] at g1
  rw [sf_fre_c] at g2
  rw [sf_fre_b, if_pos rfl]
  by_cases e : b = a
  · rw [if_pos e]; omega
  · rw [if_neg e] at g1 g2 g3 ⊢
    have := h1.2.2.2 b g1 g2 (hf.2.2.1 b g1); omega
/-- a block that was no head keeps its younger one -/
theorem sf_ol_fre {o b y : Nat} (hf : sf_WF W c) (f : sf_fit W c a n) (h : sf_yg K c (sf_q K n) (sf_k c) o) (hb : sf_s c b = 4) (hbo : b ≠ o) (hy : sf_ol K c (sf_q K (sf_c c b)) (sf_b c b) y) : sf_ol K (sf_fre c a n) (sf_q K (sf_c c b)) (sf_b c b) y := by
  have z := sf_fit0 f
  have hbk := hf.2.2.1 b hb
  rcases hy with ⟨h1, h2⟩ | ⟨h1, h2, h3, h4⟩
  · refine Or.inl ⟨h1, fun x g1 g2 => ?_⟩
    rw [sf_fre_b]
    rw [sf_fre_s] at g1
    rw [sf_fre_c] at g2
    by_cases e : x = a
    · rw [if_pos e] at g2
      have ho : o ≠ 0 := fun e0 => by
        have := sf_yg0 hf h e0 b hb g2.symm; omega
      have h5 := sf_yg1 h ho
      have h6 := h5.2.2.2 b hb g2.symm hbk
      have h7 := h2 o h5.1 (by rw [h5.2.1, g2])
      exact absurd (hf.2.2.2.1 b o hb h5.1 (by omega)) hbo
    · rw [if_neg e] at g1 g2 ⊢
      exact h2 x g1 g2
  · have e : y ≠ a := fun e => by rw [e, z] at h1; omega
    refine Or.inr ⟨by rw [sf_fre_s, if_neg e]; exact h1, by rw [sf_fre_c, if_neg e]; exact h2, by rw [sf_fre_b, if_neg e]; exact h3, fun x g1 g2 g3 => ?_⟩
    rw [sf_fre_b] at g3 ⊢
    rw [sf_fre_s] at g1
    rw [sf_fre_c] at g2
    rw [sf_fre_b, if_neg e]
    by_cases e2 : x = a
    · rw [if_pos e2]
      have := hf.2.2.1 y h1; omega
    · rw [if_neg e2] at g1 g2 g3 ⊢
      exact h4 x g1 g2 g3
/-! removing -/
theorem sf_rem_free {b : Nat} : sf_s (sf_rem c a) b = 4 ↔ b ≠ a ∧ sf_s c b = 4 := by
  rw [sf_rem_s]
  by_cases e : b = a
  · rw [if_pos e]; simp [e]
  · rw [if_neg e]; simp [e]
theorem sf_yg_rem {lim r : Nat} (h : sf_yg K c k lim r) (hr : r ≠ a) : sf_yg K (sf_rem c a) k lim r := by
  rcases h with ⟨h1, h2⟩ | ⟨h1, h2, h3, h4⟩
  · exact Or.inl ⟨h1, fun b g1 g2 => h2 b (sf_rem_free.mp g1).2 g2⟩
  · exact Or.inr ⟨sf_rem_free.mpr ⟨hr, h1⟩, h2, h3, fun b g1 g2 g3 => h4 b (sf_rem_free.mp g1).2 g2 g3⟩
theorem sf_ol_rem {lim r : Nat} (h : sf_ol K c k lim r) (hr : r ≠ a) : sf_ol K (sf_rem c a) k lim r := by
  rcases h with ⟨h1, h2⟩ | ⟨h1, h2, h3, h4⟩
  · exact Or.inl ⟨h1, fun b g1 g2 => h2 b (sf_rem_free.mp g1).2 g2⟩
  · exact Or.inr ⟨sf_rem_free.mpr ⟨hr, h1⟩, h2, h3, fun b g1 g2 g3 => h4 b (sf_rem_free.mp g1).2 g2 g3⟩
/-- who has a as its older one is a's younger one -/
theorem sf_yg_back {b y : Nat} (hf : sf_WF W c) (hb : sf_s c b = 4) (hbk : sf_q K (sf_c c b) = k) (h : sf_yg K c k (sf_b c b) a) (ha : sf_s c a = 4) (hy : sf_ol K c k (sf_b c a) y) : b = y := by
  have ha0 : a ≠ 0 := by have := hf.1 a (by omega); omega
  have h1 := sf_yg1 h ha0
  have hy0 : y ≠ 0 := fun e => by have := sf_ol0 hf hy e b hb hbk; omega
  have h2 := sf_ol1 hy hy0
  have h3 := h2.2.2.2 b hb hbk h1.2.2.1
  rcases Nat.lt_or_ge (sf_b c y) (sf_b c b) with g | g
  · have := h1.2.2.2 y h2.1 h2.2.1 g; omega
  · exact hf.2.2.2.1 b y hb h2.1 (by omega)
theorem sf_ol_back {b o : Nat} (hf : sf_WF W c) (hb : sf_s c b = 4) (hbk : sf_q K (sf_c c b) = k) (h : sf_ol K c k (sf_b c b) a) (ha : sf_s c a = 4) (ho : sf_yg K c k (sf_b c a) o) : b = o := by
  have ha0 : a ≠ 0 := by have := hf.1 a (by omega); omega
  have h1 := sf_ol1 h ha0
  have ho0 : o ≠ 0 := fun e => by have := sf_yg0 hf ho e b hb hbk; omega
  have h2 := sf_yg1 ho ho0
  have h3 := h2.2.2.2 b hb hbk h1.2.2.1
  rcases Nat.lt_or_ge (sf_b c b) (sf_b c o) with g | g
  · have := h1.2.2.2 o h2.1 h2.2.1 g; omega
  · exact hf.2.2.2.1 b o hb h2.1 (by omega)
/-- the younger neighbour of a takes a's older one -/
theorem sf_yg_join {o y : Nat} (hf : sf_WF W c) (ha : sf_s c a = 4) (hy : sf_ol K c k (sf_b c a) y) (hy0 : y ≠ 0) (ho : sf_yg K c k (sf_b c a) o) : sf_yg K (sf_rem c a) k (sf_b c y) o := by
  have h2 := sf_ol1 hy hy0
  have key : ∀ b, sf_s (sf_rem c a) b = 4 → sf_q K (sf_c c b) = k → sf_b c b < sf_b c y → sf_s c b = 4 ∧ sf_b c b < sf_b c a := fun b g1 g2 g3 => by
    have g4 := sf_rem_free.mp g1
    refine ⟨g4.2, ?_⟩
    rcases Nat.lt_trichotomy (sf_b c b) (sf_b c a) with g | g | g
    · exact g
    · exact absurd (hf.2.2.2.1 b a g4.2 ha g) g4.1
    · have := h2.2.2.2 b g4.2 g2 g; omega
  rcases ho with ⟨h3, h4⟩ | ⟨h3, h4, h5, h6⟩
  · refine Or.inl ⟨h3, fun b g1 g2 => ?_⟩
    rcases Nat.lt_or_ge (sf_b c b) (sf_b c y) with g | g
    · have g5 := key b g1 g2 g
      have := h4 b g5.1 g2; omega
    · exact g
  · refine Or.inr ⟨sf_rem_free.mpr ⟨fun e => by rw [e] at h5; omega, h3⟩, h4, ?_, fun b g1 g2 g3 => ?_⟩
    · rw [sf_rem_b]; omega
    · have g5 := key b g1 g2 g3
      exact h6 b g5.1 g2 g5.2
theorem sf_ol_join {o y : Nat} (hf : sf_WF W c) (ha : sf_s c a = 4) (hy : sf_ol K c k (sf_b c a) y) (ho : sf_yg K c k (sf_b c a) o) (ho0 : o ≠ 0) : sf_ol K (sf_rem c a) k (sf_b c o) y := by
  have h2 := sf_yg1 ho ho0
  have key : ∀ b, sf_s (sf_rem c a) b = 4 → sf_q K (sf_c c b) = k → sf_b c o < sf_b c b → sf_s c b = 4 ∧ sf_b c a < sf_b c b := fun b g1 g2 g3 => by
    have g4 := sf_rem_free.mp g1
    refine ⟨g4.2, ?_⟩
    rcases Nat.lt_trichotomy (sf_b c a) (sf_b c b) with g | g | g
    · exact g
    · exact absurd (hf.2.2.2.1 b a g4.2 ha g.symm) g4.1
    · have := h2.2.2.2 b g4.2 g2 g; omega
  rcases hy with ⟨h3, h4⟩ | ⟨h3, h4, h5, h6⟩
  · refine Or.inl ⟨h3, fun b g1 g2 => ?_⟩
    rcases Nat.lt_or_ge (sf_b c o) (sf_b c b) with g | g
    · have g5 := key b g1 g2 g
      have := h4 b g5.1 g2; omega
    · exact g
  · refine Or.inr ⟨sf_rem_free.mpr ⟨fun e => by rw [e] at h5; omega, h3⟩, h4, ?_, fun b g1 g2 g3 => ?_⟩
    · rw [sf_rem_b]; omega
    · have g5 := key b g1 g2 g3
      exact h6 b g5.1 g2 g5.2
/-- without a younger one, a's older one heads the class when a goes -/
theorem sf_yg_pop {o : Nat} (hf : sf_WF W c) (ha : sf_s c a = 4) (hy : sf_ol K c k (sf_b c a) 0) (ho : sf_yg K c k (sf_b c a) o) : sf_yg K (sf_rem c a) k (sf_k c) o := by
  have h2 := sf_ol0 hf hy rfl
  have hak := hf.2.2.1 a ha
  have key : ∀ b, sf_s (sf_rem c a) b = 4 → sf_q K (sf_c c b) = k → sf_s c b = 4 ∧ sf_b c b < sf_b c a := fun b g1 g2 => by
    have g4 := sf_rem_free.mp g1
    refine ⟨g4.2, ?_⟩
    have := h2 b g4.2 g2
    rcases Nat.lt_or_ge (sf_b c b) (sf_b c a) with g | g
    · exact g
    · exact absurd (hf.2.2.2.1 b a g4.2 ha (by omega)) g4.1
  rcases ho with ⟨h3, h4⟩ | ⟨h3, h4, h5, h6⟩
  · refine Or.inl ⟨h3, fun b g1 g2 => ?_⟩
    have g5 := key b g1 g2
    have := h4 b g5.1 g2; omega
  · refine Or.inr ⟨sf_rem_free.mpr ⟨fun e => by rw [e] at h5; omega, h3⟩, h4, ?_, fun b g1 g2 g3 => ?_⟩
    · rw [sf_rem_b]; omega
    · have g5 := key b g1 g2
      exact h6 b g5.1 g2 g5.2
/-- the whole chain, when links are written so -/
theorem sf_XL_fre {o : Nat} {hp hp' : Nat → Int32} (hf : sf_WF W c) (f : sf_fit W c a n) (h : sf_XL K c hp) (ho : sf_yg K c (sf_q K n) (sf_k c) o) (e1 : hp' a = nI o) (e2 : hp' (a + 1) = nI 0) (e3 : o ≠ 0 → hp' (o + 1) = nI a) (e4 : ∀ b, sf_s c b = 4 → hp' b = hp b) (e5 : ∀ b, sf_s c b = 4 → b ≠ o → hp' (b + 1) = hp (b + 1)) : sf_XL K (sf_fre c a n) hp' := by
  have z := sf_fit0 f
  intro b hb
  rcases (sf_fre_free f).mp hb with e | e
  · subst e
    rw [sf_fre_c, if_pos rfl, sf_fre_b, if_pos rfl]
    exact ⟨o, 0, e1, sf_yg_fre f ho (Nat.le_refl _), e2, sf_ol_new hf f⟩
  · have hba : b ≠ a := fun e0 => by rw [e0, z] at e; omega
    rw [sf_fre_c, if_neg hba, sf_fre_b, if_neg hba]
    obtain ⟨o', y', h1, h2, h3, h4⟩ := h b e
    have hk := hf.2.2.1 b e
    by_cases ebo : b = o
    · subst ebo
      have hb0 : b ≠ 0 := by have := hf.1 b (by omega); omega
      have hq := (sf_yg1 ho hb0).2.1
      rw [hq] at h2 ⊢
      exact ⟨o', a, by rw [e4 b e]; exact h1, sf_yg_fre f h2 (by omega), e3 hb0, sf_ol_old hf f ho hb0⟩
    · exact ⟨o', y', by rw [e4 b e]; exact h1, sf_yg_fre f h2 (by omega), by rw [e5 b e ebo]; exact h3, sf_ol_fre hf f ho e ebo h4⟩
theorem sf_XL_rem {o y : Nat} {hp hp' : Nat → Int32} (hf : sf_WF W c) (ha : sf_s c a = 4) (h : sf_XL K c hp) (ho : sf_yg K c (sf_q K (sf_c c a)) (sf_b c a) o) (hy : sf_ol K c (sf_q K (sf_c c a)) (sf_b c a) y) (e1 : o ≠ 0 → hp' (o + 1) = nI y) (e2 : y ≠ 0 → hp' y = nI o) (e3 : ∀ b, sf_s c b = 4 → b ≠ y → hp' b = hp b) (e4 : ∀ b, sf_s c b = 4 → b ≠ o → hp' (b + 1) = hp (b + 1)) : sf_XL K (sf_rem c a) hp' := by
  intro b hb
  have hb' := sf_rem_free.mp hb
  rw [sf_rem_c, sf_rem_b]
  obtain ⟨ob, yb, h1, h2, h3, h4⟩ := h b hb'.2
  have hb0 : b ≠ 0 := by have := hf.1 b (by omega); omega
  have A : ∃ o', hp' b = nI o' ∧ sf_yg K (sf_rem c a) (sf_q K (sf_c c b)) (sf_b c b) o' := by
    by_cases e : b = y
    · subst e
      have hq := (sf_ol1 hy hb0).2.1
      rw [hq]
      exact ⟨o, e2 hb0, sf_yg_join hf ha hy hb0 ho⟩
    · refine ⟨ob, by rw [e3 b hb'.2 e]; exact h1, sf_yg_rem h2 fun e0 => e ?_⟩
      subst e0
      have ha0 : ob ≠ 0 := by have := hf.1 ob (by omega); omega
      have hq := (sf_yg1 h2 ha0).2.1
      rw [hq] at hy
      exact sf_yg_back hf hb'.2 rfl h2 ha hy
  have B : ∃ y', hp' (b + 1) = nI y' ∧ sf_ol K (sf_rem c a) (sf_q K (sf_c c b)) (sf_b c b) y' := by
    by_cases e : b = o
    · subst e
      have hq := (sf_yg1 ho hb0).2.1
      rw [hq]
      exact ⟨y, e1 hb0, sf_ol_join hf ha hy ho hb0⟩
    · refine ⟨yb, by rw [e4 b hb'.2 e]; exact h3, sf_ol_rem h4 fun e0 => e ?_⟩
      subst e0
      have ha0 : yb ≠ 0 := by have := hf.1 yb (by omega); omega
      have hq := (sf_ol1 h4 ha0).2.1
      rw [hq] at ho
      exact sf_ol_back hf hb'.2 rfl h4 ha ho
  obtain ⟨o', a1, a2⟩ := A
  obtain ⟨y', b1, b2⟩ := B
  exact ⟨o', y', a1, a2, b1, b2⟩
end
end
section
/-! ===== headers and start bits written ===== -/
def sf_wh (W : Nat) (hp : Nat → Int32) (a n : Nat) (f : Int32) : Nat → Int32 :=
  if a + n < W then upd (upd hp (a - 1) (sf_hdr (hp (a - 1)) f (nI n))) (a + n) (sf_nxt (upd hp (a - 1) (sf_hdr (hp (a - 1)) f (nI n)) (a + n)) (nI n))
  else upd hp (a - 1) (sf_hdr (hp (a - 1)) f (nI n))
def sf_sset (ss : Nat → Int32) (h : Nat) : Nat → Int32 := upd ss (h / 32) (ss (h / 32) ||| ((1 : Int32) <<< (nI (h % 32) &&& 31)))
def sf_sclr (ss : Nat → Int32) (h : Nat) : Nat → Int32 := upd ss (h / 32) (ss (h / 32) &&& (((1 : Int32) <<< (nI (h % 32) &&& 31)) ^^^ (-1)))
section
variable {lv dg lb fb ls p : Int32} {hp ss hs rs : Nat → Int32} {post : SX → Prop} {W a n : Nat} {f : Int32}
theorem sf_xwh (hW : W ≤ 256) (h1 : 1 ≤ a) (h2 : a + n ≤ W) (hn : 2 ≤ n) (J : post (lv, nI W, dg, lb, fb, ls, p, sf_wh W hp a n f, sf_sset ss (a - 1), hs, rs)) : wpX_writeHeader post (lv, nI W, dg, lb, fb, ls, p, hp, ss, hs, rs) (nI a) (nI n) f := by
  unfold wpX_writeHeader
  dsimp only
  refine nm_r (sf_m1 h1) ?_
  rw [nI_clamp (n := a - 1) (by omega), sf_u5 (k := a - 1) (by omega), nI_clamp (n := (a - 1) / 32) (by omega), sf_and31 (a - 1) (by omega)]
  have i1 : vp_in (nI (a - 1)) 256 := vp_in_nI (by omega) (by omega)
  have i2 : vp_in (nI ((a - 1) / 32)) 8 := vp_in_nI (by omega) (by omega)
  refine ⟨i1, i1, nm_e ⟨i2, i2, nm_e (nm_r (nI_add a n) (pk_le W (a + n) (fun g => ?_) (fun g => ?_)))⟩⟩
  · rw [sf_wh, if_neg (by omega)] at J; exact J
  · have i3 : vp_in (nI (a + n)) 256 := vp_in_nI (by omega) (by omega)
    rw [nI_clamp (n := a + n) (by omega)]
    refine ⟨i3, i3, nm_e ?_⟩
    rw [sf_wh, if_pos g] at J; exact J
theorem sf_xcs (h1 : 1 ≤ a) (h2 : a ≤ 256) {tot : Int32} (J : post (lv, tot, dg, lb, fb, ls, p, hp, sf_sclr ss (a - 1), hs, rs)) : wpX_clearStart post (lv, tot, dg, lb, fb, ls, p, hp, ss, hs, rs) (nI a) := by
  unfold wpX_clearStart
  dsimp only
  refine nm_r (sf_m1 h1) ?_
  rw [sf_u5 (k := a - 1) (by omega), nI_clamp (n := (a - 1) / 32) (by omega), sf_and31 (a - 1) (by omega)]
  have i2 : vp_in (nI ((a - 1) / 32)) 8 := vp_in_nI (by omega) (by omega)
  exact ⟨i2, i2, nm_e J⟩
theorem sf_sset_b {h h0 : Nat} (hh : h < 256) (hh0 : h0 < 256) : bt (sf_sset ss h (h0 / 32)) (h0 % 32) = (bt (ss (h0 / 32)) (h0 % 32) || decide (h0 = h)) := by
  unfold sf_sset
  by_cases e : h0 / 32 = h / 32
  · rw [e, pk_us, sf_set (by omega) (by omega)]
    congr 1
    exact decide_eq_decide.mpr (by omega)
  · rw [pk_un e, decide_eq_false (by intro z; rw [z] at e; exact e rfl), Bool.or_false]
theorem sf_sclr_b {h h0 : Nat} (hh : h < 256) (hh0 : h0 < 256) : bt (sf_sclr ss h (h0 / 32)) (h0 % 32) = (bt (ss (h0 / 32)) (h0 % 32) && !decide (h0 = h)) := by
  unfold sf_sclr
  by_cases e : h0 / 32 = h / 32
  · rw [e, pk_us, sf_clr (by omega) (by omega)]
    congr 2
    exact decide_eq_decide.mpr (by omega)
  · rw [pk_un e, decide_eq_false (by intro z; rw [z] at e; exact e rfl), Bool.not_false, Bool.and_true]
theorem sf_XS_set {c c' : sf_Ab} (h : sf_XS c ss) (h1 : 1 ≤ a) (h2 : a ≤ 256) (hs : ∀ j, j ≠ a → sf_s c' j = sf_s c j) (ha : sf_s c' a ≠ 0) : sf_XS c' (sf_sset ss (a - 1)) := by
  intro x hx
  rw [sf_sset_b (by omega) hx]
  by_cases e : x = a - 1
  · rw [decide_eq_true e, Bool.or_true, show x + 1 = a by omega]
    exact ⟨fun _ => ha, fun _ => rfl⟩
  · rw [decide_eq_false e, Bool.or_false, hs (x + 1) (by omega)]
    exact h x hx
theorem sf_XS_clr {c : sf_Ab} (h : sf_XS c ss) (h1 : 1 ≤ a) (h2 : a ≤ 256) : sf_XS (sf_rem c a) (sf_sclr ss (a - 1)) := by
  intro x hx
  rw [sf_sclr_b (by omega) hx, sf_rem_s]
  by_cases e : x = a - 1
  · rw [decide_eq_true e, Bool.not_true, Bool.and_false, if_pos (by omega)]
    exact ⟨fun z => Bool.noConfusion z, fun z => absurd rfl z⟩
  · rw [decide_eq_false e, Bool.not_false, Bool.and_true, if_neg (by omega)]
    exact h x hx
theorem sf_wh_at (h1 : 1 ≤ a) (hn : 2 ≤ n) : sf_wh W hp a n f (a - 1) = sf_hdr (hp (a - 1)) f (nI n) := by
  unfold sf_wh
  split
  · rw [pk_un (by omega), pk_us]
  · rw [pk_us]
theorem sf_wh_end (h1 : 1 ≤ a) (g : a + n < W) : sf_wh W hp a n f (a + n) = sf_nxt (hp (a + n)) (nI n) := by
  unfold sf_wh
  rw [if_pos g, pk_us, pk_un (by omega)]
theorem sf_wh_ne {w : Nat} (e1 : w ≠ a - 1) (e2 : w ≠ a + n) : sf_wh W hp a n f w = hp w := by
  unfold sf_wh
  split
  · rw [pk_un e2, pk_un e1]
  · rw [pk_un e1]
theorem sf_wh_hi {w : Nat} (e1 : w ≠ a - 1) (g : W ≤ a + n) : sf_wh W hp a n f w = hp w := by
  unfold sf_wh
  rw [if_neg (by omega), pk_un e1]
theorem sf_wh_H {c c' : sf_Ab} (hW : W ≤ 256) (hf : sf_WF W c) (t : sf_fit W c a n) (hs : ∀ j, j ≠ a → sf_s c' j = sf_s c j) (hc : ∀ j, j ≠ a → sf_c c' j = sf_c c j) (hl : ∀ j, j ≠ a → sf_l c' j = sf_l c j) (hca : sf_c c' a = n) (hfl : ∀ i, i < 18 → bt f i = false) (hv2 : sf_s c' a = 2 → sf_liv f ≠ 0 ∧ sf_log f = nI (sf_l c' a)) (hv4 : sf_s c' a = 4 → sf_liv f = 0) (h : sf_XH c hp) : sf_XH c' (sf_wh W hp a n f) := by
  intro b hb
  have hn9 : n < 512 := by have := t.2.2.1; omega
  have t1 := t.1
  by_cases e : b = a
  · subst e
    rw [sf_wh_at t.1 t.2.1, sf_cap_hdr hfl hn9, sf_liv_hdr hn9, sf_log_hdr hn9, hca]
    exact ⟨rfl, hv2, hv4⟩
  · rw [hs b e] at hb ⊢
    rw [hc b e, hl b e]
    have h0 := h b hb
    have hb1 := hf.1 b hb
    by_cases e2 : b - 1 = a + n
    · by_cases g : a + n < W
      · rw [e2, sf_wh_end t.1 g, sf_cap_nxt, sf_liv_nxt hn9, sf_log_nxt hn9, ← e2]
        exact h0
      · rw [sf_wh_hi (by omega) (by omega)]; exact h0
    · rw [sf_wh_ne (by omega) e2]; exact h0
theorem sf_wh_N {c c' : sf_Ab} (hW : W ≤ 256) (hf : sf_WF W c) (t : sf_fit W c a n) (hs : ∀ j, j ≠ a → sf_s c' j = sf_s c j) (hc : ∀ j, j ≠ a → sf_c c' j = sf_c c j) (hca : sf_c c' a = n) (hfl : ∀ i, i < 18 → bt f i = false) (h : sf_XN W c hp) : sf_XN W c' (sf_wh W hp a n f) := by
  have hn9 : n < 512 := by have := t.2.2.1; omega
  have t1 := t.1
  refine ⟨?_, fun b hb hbw => ?_⟩
  · by_cases e : a - 1 = 0
    · rw [← e, sf_wh_at t.1 t.2.1, sf_note_hdr hfl hn9, e]; exact h.1
    · rw [sf_wh_ne (by omega) (by omega)]; exact h.1
  · by_cases e : b = a
    · subst e
      rw [hca] at hbw ⊢
      rw [sf_wh_end t.1 hbw, sf_note_nxt hn9]
    · rw [hs b e] at hb
      rw [hc b e] at hbw ⊢
      have t4 := t.2.2.2 b hb
      by_cases e2 : b + sf_c c b = a - 1
      · rw [e2, sf_wh_at t.1 t.2.1, sf_note_hdr hfl hn9, ← e2]; exact h.2 b hb hbw
      · have hb1 := hf.1 b hb
        rw [sf_wh_ne e2 (by omega)]; exact h.2 b hb hbw
/-! frames -/
theorem sf_XH_fr {c : sf_Ab} {hp' : Nat → Int32} (hf : sf_WF W c) (fr : ∀ w, ¬ sf_pl c w → hp' w = hp w) (h : sf_XH c hp) : sf_XH c hp' := fun b hb => by
  rw [fr (b - 1) (sf_npl_hdr hf hb)]; exact h b hb
theorem sf_XN_fr {c : sf_Ab} {hp' : Nat → Int32} (hf : sf_WF W c) (fr : ∀ w, ¬ sf_pl c w → hp' w = hp w) (h : sf_XN W c hp) : sf_XN W c hp' :=
  ⟨by rw [fr 0 (sf_npl_0 hf)]; exact h.1, fun b hb hw => by rw [fr _ (sf_npl_end hf hb)]; exact h.2 b hb hw⟩
theorem sf_XV_fr {c : sf_Ab} {P : Nat → Prop} {vl hp' : Nat → Int32} (fr : ∀ w, ¬ sf_pl c w → hp' w = hp w) (h : sf_XV c P vl hp) : sf_XV c P vl hp' := fun w hw => by
  rw [fr w (h w hw).2]; exact h w hw
theorem sf_XH_rem {c : sf_Ab} (h : sf_XH c hp) : sf_XH (sf_rem c a) hp := fun b hb => by
  rw [sf_rem_s] at hb ⊢
  rw [sf_rem_c, sf_rem_l]
  by_cases e : b = a
  · rw [if_pos e] at hb; exact absurd rfl hb
  · rw [if_neg e] at hb ⊢; exact h b hb
theorem sf_XN_rem {c : sf_Ab} (h : sf_XN W c hp) : sf_XN W (sf_rem c a) hp := ⟨h.1, fun b hb hw => by
  rw [sf_rem_s] at hb
  rw [sf_rem_c] at hw ⊢
  by_cases e : b = a
  · rw [if_pos e] at hb; exact absurd rfl hb
  · rw [if_neg e] at hb; exact h.2 b hb hw⟩
theorem sf_pl_rem {c : sf_Ab} {w : Nat} (h : sf_pl (sf_rem c a) w) : sf_pl c w := by
  obtain ⟨b, hb, h1⟩ := h
  exact ⟨b, (sf_rem_free.mp hb).2, h1⟩
theorem sf_XV_rem {c : sf_Ab} {P : Nat → Prop} {vl : Nat → Int32} (h : sf_XV c P vl hp) : sf_XV (sf_rem c a) P vl hp := fun w hw => ⟨(h w hw).1, fun g => (h w hw).2 (sf_pl_rem g)⟩
end
/-! ===== link ===== -/
section
variable {lb fb ls p lv : Int32} {hp ss hs rs : Nat → Int32} {post : SX → Prop} {W K a n : Nat} {c : sf_Ab}
theorem sf_q64 (hw : sf_WK W K) (h1 : 1 ≤ n) (h2 : n < 256) : sf_q K n < 64 := (sf_q1 K hw.2.2.2 hw.2.2.1 n h2 h1).1
theorem sf_xcls {post : Int32 → Prop} {tot : Int32} (hw : sf_WK W K) (h1 : 1 ≤ n) (h2 : n < 256) (J : post (nI (sf_q K n))) : wpX_classOf post (lv, tot, nI K, lb, fb, ls, p, hp, ss, hs, rs) (nI n) := by
  have hK := hw.2.2.1
  have hK4 := hw.2.2.2
  have ht : n.log2 < 8 := (Nat.log2_lt (by omega)).mpr h2
  unfold wpX_classOf
  dsimp only
  refine sf_xtb (by omega) ?_
  unfold sf_q at J
  by_cases g : n.log2 < K
  · rw [if_pos g] at J
    refine nm_e (br_f (Int32.not_le.mpr (pk_sneg (by omega) g)) J)
  · rw [if_neg g] at J
    refine nm_r (pk_sub (by omega)) (br_t (nI_pos' (by omega)) ?_)
    have hp2 : 2 ^ K ≤ n / 2 ^ (n.log2 - K) := by
      rw [Nat.le_div_iff_mul_le (Nat.two_pow_pos _), ← Nat.pow_add, show K + (n.log2 - K) = n.log2 by omega]
      exact Nat.log2_self_le (by omega)
    rw [nI_1, sf_s3 (by omega), pk_ushrN (by omega) _ (n.log2 - K) (s_u _ (by omega)), nI_add, sf_1sh K (by omega), pk_sub (by omega)]
    exact J
theorem sf_pl_fre {w : Nat} (t : sf_fit W c a n) (h : ¬ sf_pl (sf_fre c a n) w) : ¬ sf_pl c w ∧ ¬ (a ≤ w ∧ w < a + n) := by
  have z := sf_fit0 t
  refine ⟨fun ⟨b, hb, h1, h2⟩ => h ⟨b, ?_, h1, ?_⟩, fun g => h ⟨a, ?_, g.1, ?_⟩⟩
  · rw [sf_fre_s, if_neg (fun e => by rw [e, z] at hb; omega)]; exact hb
  · rw [sf_fre_c, if_neg (fun e => by rw [e, z] at hb; omega)]; exact h2
  · rw [sf_fre_s, if_pos rfl]
  · rw [sf_fre_c, if_pos rfl]; exact g.2
theorem sf_ne_fre {k : Nat} (t : sf_fit W c a n) : sf_ne K (sf_fre c a n) k ↔ sf_ne K c k ∨ k = sf_q K n := by
  have z := sf_fit0 t
  constructor
  · rintro ⟨b, h1, h2⟩
    rw [sf_fre_s] at h1; rw [sf_fre_c] at h2
    by_cases e : b = a
    · rw [if_pos e] at h2; exact Or.inr h2.symm
    · rw [if_neg e] at h1 h2; exact Or.inl ⟨b, h1, h2⟩
  · rintro (⟨b, h1, h2⟩ | e)
    · have e : b ≠ a := fun e => by rw [e, z] at h1; omega
      exact ⟨b, by rw [sf_fre_s, if_neg e]; exact h1, by rw [sf_fre_c, if_neg e]; exact h2⟩
    · exact ⟨a, by rw [sf_fre_s, if_pos rfl], by rw [sf_fre_c, if_pos rfl]; exact e.symm⟩
theorem sf_XB_set {k : Nat} {c' : sf_Ab} (hk : k < 64) (hB : sf_XB K c rs lv) (h : ∀ j, sf_ne K c' j ↔ sf_ne K c j ∨ j = k) : sf_XB K c' (upd rs (k / 8) (rs (k / 8) ||| ((1 : Int32) <<< (nI (k % 8) &&& 31)))) (lv ||| ((1 : Int32) <<< (nI (k / 8) &&& 31))) := by
  obtain ⟨h1, h2, h3⟩ := hB
  refine ⟨fun l hl => ⟨fun j hj => ?_, fun j hj => ?_⟩, fun l hl => ?_, fun l hl => ?_⟩
  · rw [h]
    by_cases e : l = k / 8
    · subst e
      rw [pk_us, sf_set (by omega) (by omega), Bool.or_eq_true, (h1 _ hl).1 j hj, decide_eq_true_eq]
      exact or_congr Iff.rfl (by omega)
    · rw [pk_un e, (h1 l hl).1 j hj]
      exact ⟨Or.inl, fun z => z.resolve_right (by omega)⟩
  · by_cases e : l = k / 8
    · subst e
      rw [pk_us]
      rcases Nat.lt_or_ge j 32 with g | g
      · rw [sf_set (by omega) g, (h1 _ hl).2 j hj, decide_eq_false (by omega)]; rfl
      · exact b_big g
    · rw [pk_un e]; exact (h1 l hl).2 j hj
  · rw [sf_set (by omega) (by omega), Bool.or_eq_true, decide_eq_true_eq, h2 l hl]
    by_cases e : l = k / 8
    · subst e
      rw [pk_us]
      refine ⟨fun _ => sf_nz (i := k % 8) ?_, fun _ => Or.inr rfl⟩
      rw [sf_set (by omega) (by omega), decide_eq_true rfl, Bool.or_true]
    · rw [pk_un e]
      exact ⟨fun z => z.resolve_right e, Or.inl⟩
  · rcases Nat.lt_or_ge l 32 with g | g
    · rw [sf_set (by omega) g, h3 l hl, decide_eq_false (by omega)]; rfl
    · exact b_big g
theorem sf_xlink46 {tot dg : Int32} {k : Nat} (hk : k < 64) (J : post (lv ||| ((1 : Int32) <<< (nI (k / 8) &&& 31)), tot, dg, lb, fb, ls, p, hp, ss, upd hs k (nI a), upd rs (k / 8) (rs (k / 8) ||| ((1 : Int32) <<< (nI (k % 8) &&& 31))))) : wX_link_46 post (nI a) (nI k) lv tot dg lb fb ls p hp ss hs rs := by
  unfold wX_link_46
  rw [sf_u3 (by omega), nI_clamp (n := k) (by omega), nI_clamp (n := k / 8) (by omega), sf_and7 k (by omega)]
  have i2 : vp_in (nI (k / 8)) 8 := vp_in_nI (by omega) (by omega)
  exact ⟨vp_in_nI hk (by omega), nm_e ⟨i2, i2, nm_e (nm_e J)⟩⟩
theorem sf_xlink (hw : sf_WK W K) (hf : sf_WF W c) (t : sf_fit W c a n) (hL : sf_XL K c hp) (hD : sf_XD K c hs) (hB : sf_XB K c rs lv)
    (J : ∀ lv' hp' hs' rs', (∀ w, ¬ sf_pl (sf_fre c a n) w → hp' w = hp w) → sf_XL K (sf_fre c a n) hp' → sf_XD K (sf_fre c a n) hs' → sf_XB K (sf_fre c a n) rs' lv' → post (lv', nI W, nI K, lb, fb, ls, p, hp', ss, hs', rs')) : wpX_link post (lv, nI W, nI K, lb, fb, ls, p, hp, ss, hs, rs) (nI a) (nI n) := by
  have hw2 := hw.2.1
  have t1 := t.1
  have t2 := t.2.1
  have t3 := t.2.2.1
  have hk := sf_q64 (n := n) hw (by omega) (by omega)
  obtain ⟨o, ho1, ho2⟩ := hD _ hk
  have hox : o ≠ 0 → o + 2 < a ∨ a + n < o := fun e => by
    have h1 := (sf_yg1 ho2 e).1
    have h2 := t.2.2.2 o (by omega)
    have h3 := hf.1 o (by omega); omega
  have hoW : o < 255 := by
    by_cases e : o = 0
    · omega
    · have h1 := (sf_yg1 ho2 e).1
      have h3 := hf.1 o (by omega); omega
  have hXD : sf_XD K (sf_fre c a n) (upd hs (sf_q K n) (nI a)) := fun k hk2 => by
    by_cases e : k = sf_q K n
    · subst e; rw [pk_us]; exact ⟨a, rfl, sf_yg_new hf t⟩
    · rw [pk_un e]
      obtain ⟨o', h1, h2⟩ := hD k hk2
      exact ⟨o', h1, sf_yg_fre' hf t h2 (fun e2 => e e2.symm)⟩
  have hXB := sf_XB_set hk hB (fun j => sf_ne_fre (K := K) (k := j) t)
  unfold wpX_link
  dsimp only
  refine sf_xcls hw (by omega) (by omega) ?_
  rw [nI_clamp (n := sf_q K n) (by omega), nI_clamp (n := a) (by omega), show nI a + 1 = nI (a + 1) from nI_1 a, nI_clamp (n := a + 1) (by omega)]
  refine ⟨vp_in_nI hk (by omega), nm_r ho1 ⟨vp_in_nI (by omega) (by omega), nm_e ⟨vp_in_nI (by omega) (by omega), nm_e ?_⟩⟩⟩
  refine sf_if (sf_nI0 (by omega)) (fun e => ?_) (fun e => ?_)
  · subst e
    refine sf_xlink46 hk (J _ _ _ _ (fun w hx => ?_) ?_ hXD hXB)
    · have := (sf_pl_fre t hx).2
      rw [pk_un (by omega), pk_un (by omega)]
    · refine sf_XL_fre hf t hL ho2 ?_ pk_us (fun z => absurd rfl z) (fun b hb => ?_) (fun b hb _ => ?_)
      · rw [pk_un (by omega), pk_us]
      · have h2 := t.2.2.2 b (by omega)
        have h3 := hf.1 b (by omega)
        rw [pk_un (by omega), pk_un (by omega)]
      · have h2 := t.2.2.2 b (by omega)
        have h3 := hf.1 b (by omega)
        rw [pk_un (by omega), pk_un (by omega)]
  · have hx := hox e
    rw [nI_1, nI_clamp (n := o + 1) (by omega)]
    refine ⟨vp_in_nI (by omega) (by omega), nm_e ?_⟩
    have hof := (sf_yg1 ho2 e).1
    have hoc := hf.1 o (by omega)
    refine sf_xlink46 hk (J _ _ _ _ (fun w hx => ?_) ?_ hXD hXB)
    · have h1 := (sf_pl_fre t hx).2
      have h2 : w ≠ o + 1 := fun e2 => (sf_pl_fre t hx).1 ⟨o, hof, by omega, by omega⟩
      rw [pk_un h2, pk_un (by omega), pk_un (by omega)]
    · refine sf_XL_fre hf t hL ho2 ?_ ?_ (fun _ => pk_us) (fun b hb => ?_) (fun b hb hbo => ?_)
      · rw [pk_un (by omega), pk_un (by omega), pk_us]
      · rw [pk_un (by omega), pk_us]; rfl
      · have h2 := t.2.2.2 b (by omega)
        have h3 := hf.1 b (by omega)
        have h4 : b ≠ o + 1 := fun e2 => by have := hf.2.1 o b (by omega) (by omega) (by omega); omega
        rw [pk_un h4, pk_un (by omega), pk_un (by omega)]
      · have h2 := t.2.2.2 b (by omega)
        have h3 := hf.1 b (by omega)
        rw [pk_un (by omega), pk_un (by omega), pk_un (by omega)]
end
end
section
/-! ===== unlink ===== -/
section
variable {lb fb ls p lv : Int32} {hp ss hs rs : Nat → Int32} {post : SX → Prop} {W K a n : Nat} {c : sf_Ab}
theorem sf_XB_same {c' : sf_Ab} (hB : sf_XB K c rs lv) (h : ∀ j, sf_ne K c' j ↔ sf_ne K c j) : sf_XB K c' rs lv :=
  ⟨fun l hl => ⟨fun j hj => by rw [h]; exact (hB.1 l hl).1 j hj, (hB.1 l hl).2⟩, hB.2⟩
theorem sf_XB_clr {k : Nat} {c' : sf_Ab} (hk : k < 64) (hB : sf_XB K c rs lv) (h : ∀ j, sf_ne K c' j ↔ sf_ne K c j ∧ j ≠ k) {rs' : Nat → Int32} {lv' : Int32} (er : rs' = upd rs (k / 8) (rs (k / 8) &&& (((1 : Int32) <<< (nI (k % 8) &&& 31)) ^^^ (-1)))) (e0 : rs' (k / 8) = 0 → lv' = lv &&& (((1 : Int32) <<< (nI (k / 8) &&& 31)) ^^^ (-1))) (e1 : rs' (k / 8) ≠ 0 → lv' = lv) : sf_XB K c' rs' lv' := by
  obtain ⟨h1, h2, h3⟩ := hB
  have A : ∀ l, l < 8 → (∀ j, j < 8 → (bt (rs' l) j = true ↔ sf_ne K c' (8 * l + j))) ∧ (∀ j, 8 ≤ j → bt (rs' l) j = false) := by
    intro l hl
    rw [er]
    by_cases e : l = k / 8
    · subst e
      rw [pk_us]
      refine ⟨fun j hj => ?_, fun j hj => ?_⟩
      · rw [h, sf_clr (by omega) (by omega), Bool.and_eq_true, (h1 _ hl).1 j hj, Bool.not_eq_true', decide_eq_false_iff_not]
        exact and_congr Iff.rfl (by omega)
      · rcases Nat.lt_or_ge j 32 with g | g
        · rw [sf_clr (by omega) g, (h1 _ hl).2 j hj, Bool.false_and]
        · exact b_big g
    · rw [pk_un e]
      refine ⟨fun j hj => ?_, (h1 l hl).2⟩
      rw [h, (h1 l hl).1 j hj]
      exact ⟨fun z => ⟨z, by omega⟩, fun z => z.1⟩
  have B : ∀ l, l < 8 → l ≠ k / 8 → rs' l = rs l := fun l _ e => by rw [er, pk_un e]
  refine ⟨A, fun l hl => ?_, fun l hl => ?_⟩
  · by_cases z : rs' (k / 8) = 0
    · rw [e0 z, sf_clr (by omega) (by omega), Bool.and_eq_true, h2 l hl, Bool.not_eq_true', decide_eq_false_iff_not]
      by_cases e : l = k / 8
      · rw [e, z]; simp
      · rw [B l hl e]; simp [e]
    · rw [e1 z, h2 l hl]
      by_cases e : l = k / 8
      · rw [e]
        refine ⟨fun _ => z, fun _ q => z ?_⟩
        rw [er, pk_us, q]
        refine sf_zero fun i hi => ?_
        rw [b_and, b_0, Bool.false_and]
      · rw [B l hl e]
  · by_cases z : rs' (k / 8) = 0
    · rw [e0 z]
      rcases Nat.lt_or_ge l 32 with g | g
      · rw [sf_clr (by omega) g, h3 l hl, Bool.false_and]
      · exact b_big g
    · rw [e1 z]; exact h3 l hl
theorem sf_ne_rem {k : Nat} : sf_ne K (sf_rem c a) k ↔ ∃ b, b ≠ a ∧ sf_s c b = 4 ∧ sf_q K (sf_c c b) = k := by
  constructor
  · rintro ⟨b, h1, h2⟩
    exact ⟨b, (sf_rem_free.mp h1).1, (sf_rem_free.mp h1).2, h2⟩
  · rintro ⟨b, h1, h2, h3⟩
    exact ⟨b, sf_rem_free.mpr ⟨h1, h2⟩, h3⟩
/-- another one of a's class remains -/
theorem sf_ne_rem1 {x : Nat} (hx : sf_s c x = 4) (hxa : x ≠ a) (hq : sf_q K (sf_c c x) = sf_q K (sf_c c a)) : ∀ k, sf_ne K (sf_rem c a) k ↔ sf_ne K c k := fun k => by
  rw [sf_ne_rem]
  constructor
  · rintro ⟨b, h1, h2, h3⟩; exact ⟨b, h2, h3⟩
  · rintro ⟨b, h2, h3⟩
    by_cases e : b = a
    · subst e; exact ⟨x, hxa, hx, hq.trans h3⟩
    · exact ⟨b, e, h2, h3⟩
theorem sf_ne_rem0 (hf : sf_WF W c) (ha : sf_s c a = 4) (ho : sf_yg K c (sf_q K (sf_c c a)) (sf_b c a) 0) (hy : sf_ol K c (sf_q K (sf_c c a)) (sf_b c a) 0) : ∀ k, sf_ne K (sf_rem c a) k ↔ sf_ne K c k ∧ k ≠ sf_q K (sf_c c a) := fun k => by
  rw [sf_ne_rem]
  constructor
  · rintro ⟨b, h1, h2, h3⟩
    refine ⟨⟨b, h2, h3⟩, fun e => h1 ?_⟩
    have g1 := sf_yg0 hf ho rfl b h2 (h3.trans e)
    have g2 := sf_ol0 hf hy rfl b h2 (h3.trans e)
    exact hf.2.2.2.1 b a h2 ha (by omega)
  · rintro ⟨⟨b, h2, h3⟩, e⟩
    exact ⟨b, fun e2 => e (by rw [← h3, e2]), h2, h3⟩
theorem sf_xunlink (hw : sf_WK W K) (hf : sf_WF W c) (ha : sf_s c a = 4) (hH : sf_XH c hp) (hL : sf_XL K c hp) (hD : sf_XD K c hs) (hB : sf_XB K c rs lv)
    (J : ∀ lv' hp' hs' rs', (∀ w, ¬ sf_pl c w → hp' w = hp w) → sf_XL K (sf_rem c a) hp' → sf_XD K (sf_rem c a) hs' → sf_XB K (sf_rem c a) rs' lv' → post (lv', nI W, nI K, lb, fb, ls, p, hp', ss, hs', rs')) : wpX_unlink post (lv, nI W, nI K, lb, fb, ls, p, hp, ss, hs, rs) (nI a) := by
  have hw2 := hw.2.1
  have hw3 := hw.1
  have ha1 := hf.1 a (by omega)
  obtain ⟨o, y, e1, ho, e2, hy⟩ := hL a ha
  have hk := sf_q64 (n := sf_c c a) hw (by omega) (by omega)
  have hoW : o < 255 := by
    by_cases e : o = 0
    · omega
    · have h1 := (sf_yg1 ho e).1
      have h3 := hf.1 o (by omega); omega
  have hyW : y < 255 := by
    by_cases e : y = 0
    · omega
    · have h1 := (sf_ol1 hy e).1
      have h3 := hf.1 y (by omega); omega
  have hoa : o ≠ 0 → o ≠ a := fun e e0 => by have := (sf_yg1 ho e).2.2.1; rw [e0] at this; omega
  have hya : y ≠ 0 → y ≠ a := fun e e0 => by have := (sf_ol1 hy e).2.2.1; rw [e0] at this; omega
  -- the part behind the first store
  have key : ∀ hp1 : Nat → Int32, (∀ w, ¬ sf_pl c w → hp1 w = hp w) → (o ≠ 0 → hp1 (o + 1) = nI y) → (∀ b, sf_s c b = 4 → hp1 b = hp b) → (∀ b, sf_s c b = 4 → b ≠ o → hp1 (b + 1) = hp (b + 1)) → wX_unlink_29 post (nI a) (nI o) (nI y) lv (nI W) (nI K) lb fb ls p hp1 ss hs rs := by
    intro hp1 f1 f2 f3 f4
    unfold wX_unlink_29
    refine sf_if (sf_nI0 (by omega)) (fun ey => ?_) (fun ey => ?_)
    · subst ey
      have hXL : sf_XL K (sf_rem c a) hp1 := sf_XL_rem hf ha hL ho hy f2 (fun z => absurd rfl z) (fun b hb _ => f3 b hb) f4
      have hXD : sf_XD K (sf_rem c a) (upd hs (sf_q K (sf_c c a)) (nI o)) := fun k hk2 => by
        rw [sf_rem_k]
        by_cases e : k = sf_q K (sf_c c a)
        · subst e; rw [pk_us]; exact ⟨o, rfl, sf_yg_pop hf ha hy ho⟩
        · rw [pk_un e]
          obtain ⟨o', h1, h2⟩ := hD k hk2
          refine ⟨o', h1, sf_yg_rem h2 fun e3 => e ?_⟩
          subst e3
          exact (sf_yg1 h2 (by omega)).2.1.symm
      unfold wpX_capAt
      dsimp only
      rw [sf_m1 (by omega), nI_clamp (n := a - 1) (by omega), f1 (a - 1) (sf_npl_hdr hf (by omega))]
      refine ⟨vp_in_nI (by omega) (by omega), ?_⟩
      show wpX_classOf _ _ (sf_cap (hp (a - 1)))
      rw [(hH a (by omega)).1]
      refine sf_xcls hw (by omega) (by omega) ?_
      rw [nI_clamp (n := sf_q K (sf_c c a)) (by omega)]
      refine ⟨vp_in_nI hk (by omega), nm_e (sf_if (sf_nI0 (by omega)) (fun eo => ?_) (fun eo => ?_))⟩
      · subst eo
        refine nm_r (sf_u3 (by omega)) ?_
        rw [nI_clamp (n := sf_q K (sf_c c a) / 8) (by omega), sf_and7 _ (by omega)]
        have i2 : vp_in (nI (sf_q K (sf_c c a) / 8)) 8 := vp_in_nI (by omega) (by omega)
        refine ⟨i2, i2, nm_e ⟨i2, br_c (fun z => nm_e (J _ _ _ _ f1 hXL hXD ?_)) (fun z => J _ _ _ _ f1 hXL hXD ?_)⟩⟩
        · exact sf_XB_clr hk hB (sf_ne_rem0 hf ha ho hy) rfl (fun _ => rfl) (fun z2 => absurd z z2)
        · exact sf_XB_clr hk hB (sf_ne_rem0 hf ha ho hy) rfl (fun z2 => absurd z2 z) (fun _ => rfl)
      · have h1 := sf_yg1 ho eo
        exact J _ _ _ _ f1 hXL hXD (sf_XB_same hB (sf_ne_rem1 h1.1 (hoa eo) h1.2.1))
    · have h1 := sf_ol1 hy ey
      have h2 := hf.1 y (by omega)
      rw [nI_clamp (n := y) (by omega)]
      refine ⟨vp_in_nI (by omega) (by omega), nm_e (J _ _ _ _ (fun w hx => ?_) ?_ ?_ (sf_XB_same hB (sf_ne_rem1 h1.1 (hya ey) h1.2.1)))⟩
      · rw [pk_un (fun e => hx ⟨y, h1.1, by omega, by omega⟩)]; exact f1 w hx
      · refine sf_XL_rem hf ha hL ho hy (fun eo => ?_) (fun _ => pk_us) (fun b hb hby => ?_) (fun b hb hbo => ?_)
        · have g1 := sf_yg1 ho eo
          have g2 := hf.1 o (by omega)
          have g3 : o + 1 ≠ y := fun e => by have := hf.2.1 o y (by omega) (by omega) (by omega); omega
          rw [pk_un g3]; exact f2 eo
        · rw [pk_un hby]; exact f3 b hb
        · have g2 := hf.1 b (by omega)
          have g3 : b + 1 ≠ y := fun e => by have := hf.2.1 b y (by omega) (by omega) (by omega); omega
          rw [pk_un g3]; exact f4 b hb hbo
      · intro k hk2
        rw [sf_rem_k]
        obtain ⟨o', g1, g2⟩ := hD k hk2
        refine ⟨o', g1, sf_yg_rem g2 fun e3 => ?_⟩
        subst e3
        have g3 := sf_yg1 g2 (by omega)
        have g4 := g3.2.2.2 y h1.1 (h1.2.1.trans g3.2.1) (hf.2.2.1 y h1.1)
        omega
  unfold wpX_unlink
  dsimp only
  rw [nI_clamp (n := a) (by omega), nI_1, nI_clamp (n := a + 1) (by omega)]
  refine ⟨vp_in_nI (by omega) (by omega), nm_r e1 ⟨vp_in_nI (by omega) (by omega), nm_r e2 (sf_if (sf_nI0 (by omega)) (fun eo => ?_) (fun eo => ?_))⟩⟩
  · exact key hp (fun _ _ => rfl) (fun z => absurd eo z) (fun _ _ => rfl) (fun _ _ _ => rfl)
  · have g1 := sf_yg1 ho eo
    have g2 := hf.1 o (by omega)
    rw [nI_1, nI_clamp (n := o + 1) (by omega)]
    refine ⟨vp_in_nI (by omega) (by omega), nm_e (key _ (fun w hx => ?_) (fun _ => pk_us) (fun b hb => ?_) (fun b hb hbo => ?_))⟩
    · rw [pk_un (fun e => hx ⟨o, g1.1, by omega, by omega⟩)]
    · have g3 : b ≠ o + 1 := fun e => by have := hf.2.1 o b (by omega) (by omega) (by omega); omega
      rw [pk_un g3]
    · rw [pk_un (by omega)]
end
/-! ===== counts ===== -/
section
variable {W K a n l : Nat} {c : sf_Ab}
theorem sf_nf_fre (t : sf_fit W c a n) (h : a < 256) : sf_nf (sf_fre c a n) = sf_nf c + 1 := by
  have z := sf_fit0 t
  have e := sf_sm_up (a := a) (f := fun x => if sf_s c x = 4 then 1 else 0) (g := fun x => if sf_s (sf_fre c a n) x = 4 then 1 else 0) (fun j hj => by show (if sf_s (sf_fre c a n) j = 4 then 1 else 0) = _; rw [sf_fre_s, if_neg hj]) h
  rw [z, sf_fre_s, if_pos rfl] at e
  exact e
theorem sf_nl_fre (t : sf_fit W c a n) : sf_nl (sf_fre c a n) = sf_nl c := by
  have z := sf_fit0 t
  refine sf_sm_eq fun j _ => ?_
  show (if sf_s (sf_fre c a n) j = 2 then 1 else 0) = (if sf_s c j = 2 then 1 else 0)
  rw [sf_fre_s]
  by_cases e : j = a
  · rw [if_pos e, e, z]; rfl
  · rw [if_neg e]
theorem sf_ls_fre (t : sf_fit W c a n) : sf_ls (sf_fre c a n) = sf_ls c := by
  have z := sf_fit0 t
  refine sf_sm_eq fun j _ => ?_
  show (if sf_s (sf_fre c a n) j = 2 then sf_c (sf_fre c a n) j + 1 else 0) = (if sf_s c j = 2 then sf_c c j + 1 else 0)
  rw [sf_fre_s, sf_fre_c]
  by_cases e : j = a
  · rw [if_pos e, e, z]; rfl
  · rw [if_neg e, if_neg e]
theorem sf_nf_lvb (t : sf_fit W c a n) : sf_nf (sf_lvb c a n l) = sf_nf c := by
  have z := sf_fit0 t
  refine sf_sm_eq fun j _ => ?_
  show (if sf_s (sf_lvb c a n l) j = 4 then 1 else 0) = (if sf_s c j = 4 then 1 else 0)
  rw [sf_lvb_s]
  by_cases e : j = a
  · rw [if_pos e, e, z]; rfl
  · rw [if_neg e]
theorem sf_nl_lvb (t : sf_fit W c a n) (h : a < 256) : sf_nl (sf_lvb c a n l) = sf_nl c + 1 := by
  have z := sf_fit0 t
  have e := sf_sm_up (a := a) (f := fun x => if sf_s c x = 2 then 1 else 0) (g := fun x => if sf_s (sf_lvb c a n l) x = 2 then 1 else 0) (fun j hj => by show (if sf_s (sf_lvb c a n l) j = 2 then 1 else 0) = _; rw [sf_lvb_s, if_neg hj]) h
  rw [z, sf_lvb_s, if_pos rfl] at e
  exact e
theorem sf_ls_lvb (t : sf_fit W c a n) (h : a < 256) : sf_ls (sf_lvb c a n l) = sf_ls c + (n + 1) := by
  have z := sf_fit0 t
  have e := sf_sm_up (a := a) (f := fun x => if sf_s c x = 2 then sf_c c x + 1 else 0) (g := fun x => if sf_s (sf_lvb c a n l) x = 2 then sf_c (sf_lvb c a n l) x + 1 else 0) (fun j hj => by show (if sf_s (sf_lvb c a n l) j = 2 then sf_c (sf_lvb c a n l) j + 1 else 0) = _; rw [sf_lvb_s, if_neg hj, sf_lvb_c, if_neg hj]) h
  rw [z, show sf_s (sf_lvb c a n l) a = 2 by rw [sf_lvb_s, if_pos rfl], show sf_c (sf_lvb c a n l) a = n by rw [sf_lvb_c, if_pos rfl]] at e
  exact e
theorem sf_nf_rem4 (ha : sf_s c a = 4) (h : a < 256) : sf_nf c = sf_nf (sf_rem c a) + 1 := by
  have e := sf_sm_up (a := a) (f := fun x => if sf_s c x = 4 then 1 else 0) (g := fun x => if sf_s (sf_rem c a) x = 4 then 1 else 0) (fun j hj => by show (if sf_s (sf_rem c a) j = 4 then 1 else 0) = _; rw [sf_rem_s, if_neg hj]) h
  rw [ha, show sf_s (sf_rem c a) a = 0 by rw [sf_rem_s, if_pos rfl]] at e
  exact e.symm
theorem sf_nl_rem4 (ha : sf_s c a = 4) : sf_nl (sf_rem c a) = sf_nl c := by
  refine sf_sm_eq fun j _ => ?_
  show (if sf_s (sf_rem c a) j = 2 then 1 else 0) = (if sf_s c j = 2 then 1 else 0)
  rw [sf_rem_s]
  by_cases e : j = a
  · rw [if_pos e, e, ha]; rfl
  · rw [if_neg e]
theorem sf_ls_rem4 (ha : sf_s c a = 4) : sf_ls (sf_rem c a) = sf_ls c := by
  refine sf_sm_eq fun j _ => ?_
  show (if sf_s (sf_rem c a) j = 2 then sf_c (sf_rem c a) j + 1 else 0) = (if sf_s c j = 2 then sf_c c j + 1 else 0)
  rw [sf_rem_s, sf_rem_c]
  by_cases e : j = a
  · rw [if_pos e, e, ha]; rfl
  · rw [if_neg e]
theorem sf_nf_rem2 (ha : sf_s c a = 2) : sf_nf (sf_rem c a) = sf_nf c := by
  refine sf_sm_eq fun j _ => ?_
  show (if sf_s (sf_rem c a) j = 4 then 1 else 0) = (if sf_s c j = 4 then 1 else 0)
  rw [sf_rem_s]
  by_cases e : j = a
  · rw [if_pos e, e, ha]; rfl
  · rw [if_neg e]
theorem sf_nl_rem2 (ha : sf_s c a = 2) (h : a < 256) : sf_nl c = sf_nl (sf_rem c a) + 1 := by
  have e := sf_sm_up (a := a) (f := fun x => if sf_s c x = 2 then 1 else 0) (g := fun x => if sf_s (sf_rem c a) x = 2 then 1 else 0) (fun j hj => by show (if sf_s (sf_rem c a) j = 2 then 1 else 0) = _; rw [sf_rem_s, if_neg hj]) h
  rw [ha, show sf_s (sf_rem c a) a = 0 by rw [sf_rem_s, if_pos rfl]] at e
  exact e.symm
theorem sf_ls_rem2 (ha : sf_s c a = 2) (h : a < 256) : sf_ls c = sf_ls (sf_rem c a) + (sf_c c a + 1) := by
  have e := sf_sm_up (a := a) (f := fun x => if sf_s c x = 2 then sf_c c x + 1 else 0) (g := fun x => if sf_s (sf_rem c a) x = 2 then sf_c (sf_rem c a) x + 1 else 0) (fun j hj => by show (if sf_s (sf_rem c a) j = 2 then sf_c (sf_rem c a) j + 1 else 0) = _; rw [sf_rem_s, if_neg hj, sf_rem_c]) h
  rw [ha, show sf_s (sf_rem c a) a = 0 by rw [sf_rem_s, if_pos rfl]] at e
  exact e.symm
end
end
section
/-! ===== entering and removing blocks, on the component's whole state ===== -/
section
variable {W K a n l : Nat} {c : sf_Ab} {P : Nat → Prop} {vl : Nat → Int32} {pk : Int32} {u : SX} {post : SX → Prop}
theorem sf_pl_fre' {w : Nat} (h : sf_pl (sf_fre c a n) w) : sf_pl c w ∨ (a ≤ w ∧ w < a + n) := by
  obtain ⟨b, h1, h2, h3⟩ := h
  rw [sf_fre_s] at h1
  rw [sf_fre_c] at h3
  by_cases e : b = a
  · rw [if_pos e] at h3; exact Or.inr (by omega)
  · rw [if_neg e] at h1 h3; exact Or.inl ⟨b, h1, h2, h3⟩
theorem sf_xef (hw : sf_WK W K) (hf : sf_WF W c) (h : sf_XR W K c P vl pk u) (t : sf_fit W c a n) (hP : ∀ w, P w → w + 1 < a ∨ a + n < w) (J : ∀ u', sf_XR W K (sf_fre c a n) P vl pk u' → post u') : wpX_enterFree post u (nI a) (nI n) := by
  obtain ⟨lv, hp, ss, hs, rs, rfl, hH, hN, hS, hL, hD, hB, hV⟩ := h
  have hw2 := hw.2.1
  have t1 := t.1
  have t2 := t.2.1
  have t3 := t.2.2.1
  have hf' := sf_wf_fre hf t
  unfold wpX_enterFree
  dsimp only
  refine sf_xwh hw2 t.1 t.2.2.1 t.2.1 ?_
  have hL1 : sf_XL K c (sf_wh W hp a n 0) := fun b hb => by
    have h2 := t.2.2.2 b (by omega)
    have h3 := hf.1 b (by omega)
    rw [sf_wh_ne (by omega) (by omega), sf_wh_ne (by omega) (by omega)]
    exact hL b hb
  have hH1 : sf_XH (sf_fre c a n) (sf_wh W hp a n 0) := sf_wh_H hw2 hf t (fun j e => by rw [sf_fre_s, if_neg e]) (fun j e => by rw [sf_fre_c, if_neg e]) (fun j e => rfl) (by rw [sf_fre_c, if_pos rfl]) sf_fl0_ok.1 (fun e => by rw [sf_fre_s, if_pos rfl] at e; omega) (fun _ => sf_fl0_ok.2) hH
  have hN1 : sf_XN W (sf_fre c a n) (sf_wh W hp a n 0) := sf_wh_N hw2 hf t (fun j e => by rw [sf_fre_s, if_neg e]) (fun j e => by rw [sf_fre_c, if_neg e]) (by rw [sf_fre_c, if_pos rfl]) sf_fl0_ok.1 hN
  have hS1 : sf_XS (sf_fre c a n) (sf_sset ss (a - 1)) := sf_XS_set hS t1 (by omega) (fun j e => by rw [sf_fre_s, if_neg e]) (by rw [sf_fre_s, if_pos rfl]; omega)
  have hV1 : sf_XV (sf_fre c a n) P vl (sf_wh W hp a n 0) := fun w hwp => by
    have h2 := hP w hwp
    have h3 := hV w hwp
    rw [sf_wh_ne (by omega) (by omega)]
    exact ⟨h3.1, fun g => (sf_pl_fre' g).elim h3.2 (by omega)⟩
  refine sf_xlink hw hf t hL1 hD hB (fun lv' hp' hs' rs' fr hL2 hD2 hB2 => ?_)
  refine nm_r (nI_1 (sf_nf c)) (J _ ⟨lv', hp', _, hs', rs', ?_, sf_XH_fr hf' fr hH1, sf_XN_fr hf' fr hN1, hS1, hL2, hD2, hB2, sf_XV_fr fr hV1⟩)
  rw [sf_nl_fre t, sf_nf_fre t (by omega), sf_ls_fre t]
theorem sf_xrf (hw : sf_WK W K) (hf : sf_WF W c) (h : sf_XR W K c P vl pk u) (ha : sf_s c a = 4) (J : ∀ u', sf_XR W K (sf_rem c a) P vl pk u' → post u') : wpX_removeFree post u (nI a) := by
  obtain ⟨lv, hp, ss, hs, rs, rfl, hH, hN, hS, hL, hD, hB, hV⟩ := h
  have hw2 := hw.2.1
  have ha1 := hf.1 a (by omega)
  unfold wpX_removeFree
  dsimp only
  refine sf_xunlink hw hf ha hH hL hD hB (fun lv' hp' hs' rs' fr hL2 hD2 hB2 => ?_)
  refine sf_xcs (by omega) (by omega) ?_
  have e1 : nI (sf_nf c) - 1 = nI (sf_nf (sf_rem c a)) := by
    rw [sf_nf_rem4 ha (by omega), nI_pred]
  refine nm_r e1 (J _ ⟨lv', hp', _, hs', rs', ?_, sf_XH_rem (sf_XH_fr hf fr hH), sf_XN_rem (sf_XN_fr hf fr hN), sf_XS_clr hS (by omega) (by omega), hL2, hD2, hB2, sf_XV_rem (sf_XV_fr fr hV)⟩)
  rw [sf_nl_rem4 ha, sf_ls_rem4 ha]
/-! what depends on the free blocks alone -/
theorem sf_yg_cg {c' : sf_Ab} {k lim r : Nat} (h1 : ∀ b, sf_s c' b = 4 ↔ sf_s c b = 4) (h2 : ∀ b, sf_s c b = 4 → sf_c c' b = sf_c c b ∧ sf_b c' b = sf_b c b) (h : sf_yg K c k lim r) : sf_yg K c' k lim r := by
  rcases h with ⟨g1, g2⟩ | ⟨g1, g2, g3, g4⟩
  · refine Or.inl ⟨g1, fun b x1 x2 => ?_⟩
    have x3 := (h1 b).mp x1
    rw [(h2 b x3).1] at x2; rw [(h2 b x3).2]; exact g2 b x3 x2
  · refine Or.inr ⟨(h1 r).mpr g1, by rw [(h2 r g1).1]; exact g2, by rw [(h2 r g1).2]; exact g3, fun b x1 x2 x4 => ?_⟩
    have x3 := (h1 b).mp x1
    rw [(h2 b x3).1] at x2; rw [(h2 b x3).2] at x4 ⊢; rw [(h2 r g1).2]; exact g4 b x3 x2 x4
theorem sf_ol_cg {c' : sf_Ab} {k lim r : Nat} (h1 : ∀ b, sf_s c' b = 4 ↔ sf_s c b = 4) (h2 : ∀ b, sf_s c b = 4 → sf_c c' b = sf_c c b ∧ sf_b c' b = sf_b c b) (h : sf_ol K c k lim r) : sf_ol K c' k lim r := by
  rcases h with ⟨g1, g2⟩ | ⟨g1, g2, g3, g4⟩
  · refine Or.inl ⟨g1, fun b x1 x2 => ?_⟩
    have x3 := (h1 b).mp x1
    rw [(h2 b x3).1] at x2; rw [(h2 b x3).2]; exact g2 b x3 x2
  · refine Or.inr ⟨(h1 r).mpr g1, by rw [(h2 r g1).1]; exact g2, by rw [(h2 r g1).2]; exact g3, fun b x1 x2 x4 => ?_⟩
    have x3 := (h1 b).mp x1
    rw [(h2 b x3).1] at x2; rw [(h2 b x3).2] at x4 ⊢; rw [(h2 r g1).2]; exact g4 b x3 x2 x4
theorem sf_XL_cg {c' : sf_Ab} {hp hp' : Nat → Int32} (h1 : ∀ b, sf_s c' b = 4 ↔ sf_s c b = 4) (h2 : ∀ b, sf_s c b = 4 → sf_c c' b = sf_c c b ∧ sf_b c' b = sf_b c b) (h3 : ∀ b, sf_s c b = 4 → hp' b = hp b ∧ hp' (b + 1) = hp (b + 1)) (h : sf_XL K c hp) : sf_XL K c' hp' := fun b hb => by
  have x3 := (h1 b).mp hb
  rw [(h2 b x3).1, (h2 b x3).2, (h3 b x3).1, (h3 b x3).2]
  obtain ⟨o, y, g1, g2, g3, g4⟩ := h b x3
  exact ⟨o, y, g1, sf_yg_cg h1 h2 g2, g3, sf_ol_cg h1 h2 g4⟩
theorem sf_XD_cg {c' : sf_Ab} {hs : Nat → Int32} (h1 : ∀ b, sf_s c' b = 4 ↔ sf_s c b = 4) (h2 : ∀ b, sf_s c b = 4 → sf_c c' b = sf_c c b ∧ sf_b c' b = sf_b c b) (hk : sf_k c' = sf_k c) (h : sf_XD K c hs) : sf_XD K c' hs := fun k hk2 => by
  rw [hk]
  obtain ⟨o, g1, g2⟩ := h k hk2
  exact ⟨o, g1, sf_yg_cg h1 h2 g2⟩
theorem sf_XB_cg {c' : sf_Ab} {rs : Nat → Int32} {lv : Int32} (h1 : ∀ b, sf_s c' b = 4 ↔ sf_s c b = 4) (h2 : ∀ b, sf_s c b = 4 → sf_c c' b = sf_c c b ∧ sf_b c' b = sf_b c b) (h : sf_XB K c rs lv) : sf_XB K c' rs lv := sf_XB_same h fun j => by
  constructor
  · rintro ⟨b, x1, x2⟩
    have x3 := (h1 b).mp x1
    exact ⟨b, x3, by rw [← (h2 b x3).1]; exact x2⟩
  · rintro ⟨b, x1, x2⟩
    exact ⟨b, (h1 b).mpr x1, by rw [(h2 b x1).1]; exact x2⟩
theorem sf_xel (hw : sf_WK W K) (hf : sf_WF W c) (h : sf_XR W K c P vl pk u) (t : sf_fit W c a n) (hl : l < 8) (hP : ∀ w, P w → w + 1 ≠ a ∧ w ≠ a + n) (J : ∀ u', sf_XR W K (sf_lvb c a n l) P vl pk u' → post u') : wpX_enterLive post u (nI a) (nI n) (nI l) := by
  obtain ⟨lv, hp, ss, hs, rs, rfl, hH, hN, hS, hL, hD, hB, hV⟩ := h
  have hw2 := hw.2.1
  have t1 := t.1
  have t2 := t.2.1
  have t3 := t.2.2.1
  have z := sf_fit0 t
  have hfl := sf_fl1_ok l hl
  unfold wpX_enterLive
  dsimp only
  show wpX_writeHeader _ _ _ _ (sf_fl1 l)
  refine sf_xwh hw2 t.1 t.2.2.1 t.2.1 ?_
  have c1 : ∀ b, sf_s (sf_lvb c a n l) b = 4 ↔ sf_s c b = 4 := fun b => by
    rw [sf_lvb_s]
    by_cases e : b = a
    · rw [if_pos e, e, z]; omega
    · rw [if_neg e]
  have c2 : ∀ b, sf_s c b = 4 → sf_c (sf_lvb c a n l) b = sf_c c b ∧ sf_b (sf_lvb c a n l) b = sf_b c b := fun b hb => by
    have e : b ≠ a := fun e => by rw [e, z] at hb; omega
    rw [sf_lvb_c, if_neg e]; exact ⟨rfl, rfl⟩
  have hL1 : sf_XL K (sf_lvb c a n l) (sf_wh W hp a n (sf_fl1 l)) := sf_XL_cg c1 c2 (fun b hb => by
    have h2 := t.2.2.2 b (by omega)
    have h3 := hf.1 b (by omega)
    exact ⟨sf_wh_ne (by omega) (by omega), sf_wh_ne (by omega) (by omega)⟩) hL
  have hH1 : sf_XH (sf_lvb c a n l) (sf_wh W hp a n (sf_fl1 l)) := sf_wh_H hw2 hf t (fun j e => by rw [sf_lvb_s, if_neg e]) (fun j e => by rw [sf_lvb_c, if_neg e]) (fun j e => by rw [sf_lvb_l, if_neg e]) (by rw [sf_lvb_c, if_pos rfl]) hfl.1 (fun _ => ⟨hfl.2.1, by rw [sf_lvb_l, if_pos rfl]; exact hfl.2.2⟩) (fun e => by rw [sf_lvb_s, if_pos rfl] at e; omega) hH
  have hN1 : sf_XN W (sf_lvb c a n l) (sf_wh W hp a n (sf_fl1 l)) := sf_wh_N hw2 hf t (fun j e => by rw [sf_lvb_s, if_neg e]) (fun j e => by rw [sf_lvb_c, if_neg e]) (by rw [sf_lvb_c, if_pos rfl]) hfl.1 hN
  have hS1 : sf_XS (sf_lvb c a n l) (sf_sset ss (a - 1)) := sf_XS_set hS t1 (by omega) (fun j e => by rw [sf_lvb_s, if_neg e]) (by rw [sf_lvb_s, if_pos rfl]; omega)
  have hV1 : sf_XV (sf_lvb c a n l) P vl (sf_wh W hp a n (sf_fl1 l)) := fun w hwp => by
    have h2 := hP w hwp
    have h3 := hV w hwp
    rw [sf_wh_ne (by omega) (by omega)]
    refine ⟨h3.1, fun ⟨b, g1, g2, g3⟩ => h3.2 ⟨b, (c1 b).mp g1, g2, ?_⟩⟩
    rw [(c2 b ((c1 b).mp g1)).1] at g3; exact g3
  have e1 : nI (sf_ls c) + (nI n + 1) = nI (sf_ls (sf_lvb c a n l)) := by
    rw [nI_1, nI_add, sf_ls_lvb t (by omega)]
  have e2 : nI (sf_nl c) + 1 = nI (sf_nl (sf_lvb c a n l)) := by
    rw [nI_1, sf_nl_lvb t (by omega)]
  refine nm_r e2 (nm_r e1 (J _ ⟨lv, _, _, hs, rs, ?_, hH1, hN1, hS1, hL1, sf_XD_cg c1 c2 rfl hD, sf_XB_cg c1 c2 hB, hV1⟩))
  rw [sf_nf_lvb t]
theorem sf_xrl (hw : sf_WK W K) (hf : sf_WF W c) (h : sf_XR W K c P vl pk u) (ha : sf_s c a = 2) (J : ∀ u', sf_XR W K (sf_rem c a) P vl pk u' → post u') : wpX_removeLive post u (nI a) := by
  have h' := h
  obtain ⟨lv, hp, ss, hs, rs, rfl, hH, hN, hS, hL, hD, hB, hV⟩ := h
  have hw2 := hw.2.1
  have ha1 := hf.1 a (by omega)
  unfold wpX_removeLive
  dsimp only
  refine sf_xcap hw hf h' (by omega) ?_
  have e1 : nI (sf_ls c) - (nI (sf_c c a) + 1) = nI (sf_ls (sf_rem c a)) := by
    rw [nI_1, sf_ls_rem2 ha (by omega), pk_sub (by omega)]
    exact congrArg nI (by omega)
  have e2 : nI (sf_nl c) - 1 = nI (sf_nl (sf_rem c a)) := by
    rw [sf_nl_rem2 ha (by omega), nI_pred]
  refine nm_r e1 (sf_xcs (by omega) (by omega) (nm_r e2 ?_))
  have c1 : ∀ b, sf_s (sf_rem c a) b = 4 ↔ sf_s c b = 4 := fun b => by
    rw [sf_rem_s]
    by_cases e : b = a
    · rw [if_pos e, e, ha]; omega
    · rw [if_neg e]
  have c2 : ∀ b, sf_s c b = 4 → sf_c (sf_rem c a) b = sf_c c b ∧ sf_b (sf_rem c a) b = sf_b c b := fun b hb => ⟨rfl, rfl⟩
  refine J _ ⟨lv, hp, _, hs, rs, ?_, sf_XH_rem hH, sf_XN_rem hN, sf_XS_clr hS (by omega) (by omega), sf_XL_cg c1 c2 (fun _ _ => ⟨rfl, rfl⟩) hL, sf_XD_cg c1 c2 rfl hD, sf_XB_cg c1 c2 hB, sf_XV_rem hV⟩
  rw [sf_nf_rem2 ha]
/-! ===== stores into words that mean nothing to the blocks ===== -/
/-- w is no header, no word just after a block, no payload of a free block -/
def sf_qt (c : sf_Ab) (w : Nat) : Prop := w ≠ 0 ∧ ∀ b, sf_s c b ≠ 0 → w + 1 ≠ b ∧ w ≠ b + sf_c c b ∧ (sf_s c b = 4 → ¬ (b ≤ w ∧ w < b + sf_c c b))
theorem sf_qt_live {w : Nat} (hf : sf_WF W c) (ha : sf_s c a = 2) (h1 : a ≤ w) (h2 : w < a + sf_c c a) : sf_qt c w := by
  have ha1 := hf.1 a (by omega)
  refine ⟨by omega, fun b hb => ?_⟩
  have hb1 := hf.1 b hb
  rcases Nat.lt_trichotomy a b with e | e | e
  · have := hf.2.1 a b (by omega) hb e; exact ⟨by omega, by omega, by omega⟩
  · subst e; exact ⟨by omega, by omega, by omega⟩
  · have := hf.2.1 b a hb (by omega) e; exact ⟨by omega, by omega, by omega⟩
theorem sf_qt_hole {w lo hi : Nat} (hv : sf_hole W c lo hi) (h1 : lo < w) (h2 : w < hi) : sf_qt c w :=
  ⟨by omega, fun b hb => by have := hv.1 b hb; exact ⟨by omega, by omega, by omega⟩⟩
/-- a store into quiet words keeps the picture -/
theorem sf_xqt {lv : Int32} {hp hp' ss hs rs : Nat → Int32} {P' : Nat → Prop} {vl' : Nat → Int32} {u' : SX} (hf : sf_WF W c) (h : sf_XR W K c P vl pk (lv, nI W, nI K, nI (sf_nl c), nI (sf_nf c), nI (sf_ls c), pk, hp, ss, hs, rs)) (fr : ∀ w, ¬ sf_qt c w → hp' w = hp w) (hV : ∀ w, P' w → hp' w = vl' w ∧ ¬ sf_pl c w) (e : u' = (lv, nI W, nI K, nI (sf_nl c), nI (sf_nf c), nI (sf_ls c), pk, hp', ss, hs, rs)) : sf_XR W K c P' vl' pk u' := by
  obtain ⟨lv2, hp2, ss2, hs2, rs2, e2, hH, hN, hS, hL, hD, hB, -⟩ := h
  have e3 : lv = lv2 ∧ hp = hp2 ∧ ss = ss2 ∧ hs = hs2 ∧ rs = rs2 := by
    simp only [Prod.mk.injEq, true_and] at e2; exact e2
  obtain ⟨rfl, rfl, rfl, rfl, rfl⟩ := e3
  refine ⟨lv, hp', ss, hs, rs, e, fun b hb => ?_, ⟨?_, fun b hb hbw => ?_⟩, hS, fun b hb => ?_, hD, hB, hV⟩
  · have hb1 := hf.1 b hb
    rw [fr (b - 1) (fun g => (g.2 b hb).1 (by omega))]; exact hH b hb
  · rw [fr 0 (fun g => g.1 rfl)]; exact hN.1
  · rw [fr _ (fun g => (g.2 b hb).2.1 rfl)]; exact hN.2 b hb hbw
  · have hb1 := hf.1 b (by omega)
    rw [fr b (fun g => (g.2 b (by omega)).2.2 hb (by omega)), fr (b + 1) (fun g => (g.2 b (by omega)).2.2 hb (by omega))]; exact hL b hb
/-- weaker promises -/
theorem sf_xweak {P' : Nat → Prop} {vl' : Nat → Int32} (h : sf_XR W K c P vl pk u) (hP : ∀ w, P' w → P w ∧ vl' w = vl w) : sf_XR W K c P' vl' pk u := by
  obtain ⟨lv, hp, ss, hs, rs, e, hH, hN, hS, hL, hD, hB, hV⟩ := h
  exact ⟨lv, hp, ss, hs, rs, e, hH, hN, hS, hL, hD, hB, fun w hw => by rw [(hP w hw).2]; exact hV w (hP w hw).1⟩
end
end
section
/-! ===== place, cut, clear, copy, notePeak ===== -/
theorem sf_mk0 : ∀ l, l < 6 → ∀ x, x < 320 → nI x &&& (nI (2 ^ l - 1) ^^^ (-1)) = nI (x / 2 ^ l * 2 ^ l) := by decide +kernel
theorem sf_p2 {l : Nat} (hl : l ≤ 5) : 1 ≤ 2 ^ l ∧ 2 ^ l ≤ 32 := ⟨Nat.two_pow_pos l, by have := Nat.pow_le_pow_right (n := 2) (by decide) hl; exact this⟩
theorem sf_xplc {u : SX} {post : Int32 → Prop} {b l : Nat} (hl : l ≤ 5) (hb : b ≤ 256) (J : post (nI (sf_plc b (2 ^ l)))) : wpX_place post u (nI b) (nI (2 ^ l)) := by
  obtain ⟨lv, tot, dg, lb, fb, ls, p, hp, ss, hs, rs⟩ := u
  have h2 := sf_p2 hl
  unfold wpX_place
  dsimp only
  refine nm_r (sf_m1 h2.1) ?_
  rw [pk_andN (n := b) (by omega) l (pk_tn (by omega)), show nI b + 3 = nI (b + 3) from nI_add b 3, nI_add, sf_mk0 l (by omega) _ (by omega), show b + 3 + (2 ^ l - 1) = b + 2 + 2 ^ l by omega]
  have h3 := Nat.mod_lt b h2.1
  unfold sf_plc at J
  refine sf_if (sf_nI0 (by omega)) (fun e => ?_) (fun e => ?_)
  · rw [if_pos e] at J; exact J
  · rw [if_neg e] at J; exact J
section
variable {W K a n l b cc : Nat} {c : sf_Ab} {P : Nat → Prop} {vl : Nat → Int32} {pk : Int32} {u : SX}
theorem sf_cut1_ok (hf : sf_WF W c) (hv : sf_hole W c (b - 1) (b + cc)) (h1 : 1 ≤ b) (hbw : b + cc ≤ W) (hl : l ≤ 5) (hfit : sf_plc b (2 ^ l) + n ≤ b + cc) : sf_WF W (sf_cut1 c b l) ∧ sf_hole W (sf_cut1 c b l) (sf_plc b (2 ^ l) - 1) (b + cc) := by
  have h2 := sf_p2 hl
  unfold sf_cut1
  rcases sf_plc_ge (b := b) (m := 2 ^ l) h2.1 with g | g
  · rw [if_neg (by omega), g.1]; exact ⟨hf, hv⟩
  · rw [if_pos (by omega)]
    refine ⟨sf_wf_fre hf (sf_hole_fit hv (by omega) (by omega) (by omega) hbw), ?_⟩
    have := sf_hole_fre (a := b) (n := sf_plc b (2 ^ l) - b - 1) hv (by omega) (by omega) (by omega)
    rw [show b + (sf_plc b (2 ^ l) - b - 1) = sf_plc b (2 ^ l) - 1 by omega] at this
    exact this
theorem sf_plc_lo {m : Nat} (hm : 1 ≤ m) : b ≤ sf_plc b m := by
  rcases sf_plc_ge (b := b) hm with g | g <;> omega
theorem sf_cut_ok (hf : sf_WF W c) (hv : sf_hole W c (b - 1) (b + cc)) (h1 : 1 ≤ b) (hbw : b + cc ≤ W) (hl : l ≤ 5) (hn : 2 ≤ n) (hfit : sf_plc b (2 ^ l) + n ≤ b + cc) : sf_WF W (sf_cut c b cc n l) ∧ sf_CV W (sf_cut c b cc n l) 0 0 := by
  have h2 := sf_p2 hl
  have hp := sf_plc_lo (b := b) h2.1
  have hal := sf_plc_al (b := b) (m := 2 ^ l) h2.1
  obtain ⟨k1, k2⟩ := sf_cut1_ok hf hv h1 hbw hl hfit
  unfold sf_cut
  generalize hA : sf_plc b (2 ^ l) = A at *
  by_cases g : b + cc - A < n + 3
  · rw [if_pos g]
    have t : sf_fit W (sf_cut1 c b l) A (b + cc - A) := sf_hole_fit k2 (by omega) (by omega) (by omega) hbw
    exact ⟨sf_wf_lvb k1 t hl hal, sf_hole_end (sf_hole_lvb (l := l) k2 (by omega) (by omega) (by omega)) (by omega)⟩
  · rw [if_neg g]
    have t : sf_fit W (sf_cut1 c b l) A n := sf_hole_fit k2 (by omega) (by omega) (by omega) hbw
    have k3 := sf_wf_lvb k1 t hl hal
    have k4 := sf_hole_lvb (l := l) k2 (a := A) (n := n) (by omega) (by omega) (by omega)
    have t2 : sf_fit W (sf_lvb (sf_cut1 c b l) A n l) (A + n + 1) (b + cc - A - n - 1) := sf_hole_fit k4 (by omega) (by omega) (by omega) hbw
    exact ⟨sf_wf_fre k3 t2, sf_hole_end (sf_hole_fre k4 (by omega) (by omega) (by omega)) (by omega)⟩
theorem sf_xcut28 {post : Int32 → SX → Prop} {lv tot dg lb fb ls p : Int32} {hp ss hs rs : Nat → Int32} (hw : sf_WK W K) (h1 : 1 ≤ b) (hbw : b + cc ≤ W) (hl : l ≤ 5) (hn : 2 ≤ n) (hA : b ≤ a) (hfit : a + n ≤ b + cc) (hal : a % 2 ^ l = 0) (k1 : sf_WF W c) (k2 : sf_hole W c (a - 1) (b + cc)) (h : sf_XR W K c P vl pk (lv, tot, dg, lb, fb, ls, p, hp, ss, hs, rs)) (hP : ∀ w, P w → w + 1 < a ∨ b + cc < w ∨ (a ≤ w ∧ w < a + if b + cc - a < n + 3 then b + cc - a else n))
    (J : ∀ u', sf_XR W K (if b + cc - a < n + 3 then sf_lvb c a (b + cc - a) l else sf_fre (sf_lvb c a n l) (a + n + 1) (b + cc - a - n - 1)) P vl pk u' → post (nI a) u') : wX_cut_28 post (nI b) (nI cc) (nI n) (nI l) (nI a) lv tot dg lb fb ls p hp ss hs rs := by
  have hw2 := hw.2.1
  unfold wX_cut_28
  refine nm_r (e' := nI (b + cc - a)) (by rw [nI_add, pk_sub (by omega)]) ?_
  rw [pk_sub (a := b + cc - a) (b := n) (by omega)]
  refine pk_lt (b + cc - a - n) 3 (fun g => ?_) (fun g => ?_)
  · rw [if_pos (by omega)] at J
    have t : sf_fit W c a (b + cc - a) := sf_hole_fit k2 (by omega) (by omega) (by omega) hbw
    refine sf_xel hw k1 h t (by omega) (fun w hwp => ?_) (fun u' h' => ?_)
    · have := hP w hwp
      rw [if_pos (by omega)] at this; omega
    · obtain ⟨_, _, _, _, _, _, _, _, _, _, _⟩ := u'
      exact J _ h'
  · rw [if_neg (by omega)] at J
    have t : sf_fit W c a n := sf_hole_fit k2 (by omega) (by omega) (by omega) hbw
    have k3 := sf_wf_lvb k1 t hl hal
    have k4 := sf_hole_lvb (l := l) k2 (a := a) (n := n) (by omega) (by omega) (by omega)
    have t2 : sf_fit W (sf_lvb c a n l) (a + n + 1) (b + cc - a - n - 1) := sf_hole_fit k4 (by omega) (by omega) (by omega) hbw
    refine sf_xel hw k1 h t (by omega) (fun w hwp => ?_) (fun u' h' => ?_)
    · have := hP w hwp
      rw [if_neg (by omega)] at this; omega
    · obtain ⟨_, _, _, _, _, _, _, _, _, _, _⟩ := u'
      dsimp only
      rw [nI_add, nI_1, sf_m1 (by omega)]
      refine sf_xef hw k3 h' t2 (fun w hwp => ?_) (fun u2 h2 => ?_)
      · have := hP w hwp
        rw [if_neg (by omega)] at this; omega
      · obtain ⟨_, _, _, _, _, _, _, _, _, _, _⟩ := u2
        exact J _ h2
theorem sf_xcut {post : Int32 → SX → Prop} (hw : sf_WK W K) (hf : sf_WF W c) (h : sf_XR W K c P vl pk u) (hv : sf_hole W c (b - 1) (b + cc)) (h1 : 1 ≤ b) (hbw : b + cc ≤ W) (hl : l ≤ 5) (hn : 2 ≤ n) (hfit : sf_plc b (2 ^ l) + n ≤ b + cc) (hP : ∀ w, P w → w + 1 < b ∨ b + cc < w ∨ (sf_plc b (2 ^ l) ≤ w ∧ w < sf_plc b (2 ^ l) + sf_cc b cc n l)) (J : ∀ u', sf_XR W K (sf_cut c b cc n l) P vl pk u' → post (nI (sf_plc b (2 ^ l))) u') : wpX_cut post u (nI b) (nI cc) (nI n) (nI l) := by
  have h2 := sf_p2 hl
  have hw2 := hw.2.1
  have hp := sf_plc_lo (b := b) h2.1
  have hal := sf_plc_al (b := b) (m := 2 ^ l) h2.1
  obtain ⟨k1, k2⟩ := sf_cut1_ok hf hv h1 hbw hl hfit
  have hge := sf_plc_ge (b := b) (m := 2 ^ l) h2.1
  obtain ⟨lv, tot, dg, lb, fb, ls, p, hp', ss, hs, rs⟩ := u
  unfold wpX_cut
  dsimp only
  rw [sf_1sh l (by omega)]
  refine sf_xplc hl (by omega) ?_
  unfold sf_cut at J
  unfold sf_cc at hP
  have e0 : sf_cut1 c b l = if b < sf_plc b (2 ^ l) then sf_fre c b (sf_plc b (2 ^ l) - b - 1) else c := rfl
  generalize sf_cut1 c b l = c1 at *
  generalize hA : sf_plc b (2 ^ l) = A at *
  refine pk_le A b (fun g => ?_) (fun g => ?_)
  · rw [if_neg (by omega)] at e0
    subst e0
    exact sf_xcut28 hw h1 hbw hl hn hp hfit hal k1 k2 h (fun w hwp => by have := hP w hwp; omega) J
  · rw [if_pos g] at e0
    subst e0
    rw [pk_sub (a := A) (b := b) (by omega), sf_m1 (by omega)]
    have t : sf_fit W c b (A - b - 1) := sf_hole_fit hv (by omega) (by omega) (by omega) hbw
    refine sf_xef hw hf h t (fun w hwp => by have := hP w hwp; omega) (fun u' h' => ?_)
    obtain ⟨_, _, _, _, _, _, _, _, _, _, _⟩ := u'
    exact sf_xcut28 hw h1 hbw hl hn hp hfit hal k1 k2 h' (fun w hwp => by have := hP w hwp; omega) J
/-! clear -/
theorem sf_xcl_lp {post : SX → Prop} {lv tot dg lb fb ls p : Int32} {ss hs rs : Nat → Int32} {y : Nat} (hy : y ≤ 256) : ∀ (d i : Nat) (hp : Nat → Int32), i ≤ 256 → y - i < d → post (lv, tot, dg, lb, fb, ls, p, (fun w => if i ≤ w ∧ w < y then 0 else hp w), ss, hs, rs) → wX_clearWords_2 post (nI y) lv tot dg lb fb ls p d (nI i) hp ss hs rs := by
  intro d
  induction d with
  | zero => intro i hp _ h; omega
  | succ d ih =>
    intro i hp hi hd J
    unfold wX_clearWords_2
    refine pk_le y i (fun g => ?_) (fun g => ?_)
    · have e : (fun w => if i ≤ w ∧ w < y then (0 : Int32) else hp w) = hp := funext fun w => if_neg (by omega)
      rw [e] at J; exact J
    · rw [nI_clamp (n := i) (by omega)]
      refine ⟨vp_in_nI (by omega) (by omega), nm_e (nm_r (nI_1 i) (ih (i + 1) _ (by omega) (by omega) ?_))⟩
      have e : (fun w => if i + 1 ≤ w ∧ w < y then (0 : Int32) else upd hp i 0 w) = (fun w => if i ≤ w ∧ w < y then 0 else hp w) := funext fun w => by
        by_cases e : w = i
        · subst e; rw [if_neg (by omega), pk_us, if_pos (by omega)]
        · rw [pk_un e]
          by_cases e2 : i + 1 ≤ w ∧ w < y
          · rw [if_pos e2, if_pos (by omega)]
          · rw [if_neg e2, if_neg (by omega)]
      rw [e]; exact J
theorem sf_xcl {post : SX → Prop} {x y : Nat} (hf : sf_WF W c) (h : sf_XR W K c P vl pk u) (hx : x ≤ 256) (hy : y ≤ 256) (hq : ∀ w, x ≤ w → w < y → sf_qt c w ∧ ¬ sf_pl c w) (J : ∀ u', sf_XR W K c (fun w => P w ∨ (x ≤ w ∧ w < y)) (fun w => if x ≤ w ∧ w < y then 0 else vl w) pk u' → post u') : wpX_clearWords post u (nI x) (nI y) := by
  have h' := h
  obtain ⟨lv, hp, ss, hs, rs, rfl, hH, hN, hS, hL, hD, hB, hV⟩ := h
  unfold wpX_clearWords
  dsimp only
  refine ⟨y - x + 1, sf_xcl_lp hy _ _ _ hx (by omega) (J _ (sf_xqt hf h' (fun w g => ?_) (fun w g => ?_) rfl))⟩
  · exact if_neg (fun g2 => g (hq w g2.1 g2.2).1)
  · by_cases e : x ≤ w ∧ w < y
    · rw [if_pos e, if_pos e]; exact ⟨rfl, (hq w e.1 e.2).2⟩
    · rw [if_neg e, if_neg e]; exact hV w (g.resolve_right e)
/-! copy -/
theorem sf_xcp_lp {post : SX → Prop} {lv tot dg lb fb ls p : Int32} {hp ss hs rs : Nat → Int32} {x y m : Nat} (hx : x + m ≤ 256) (hy : y + m ≤ 256) (hxy : y ≤ x ∨ x + m ≤ y) (J : post (lv, tot, dg, lb, fb, ls, p, (fun w => if y ≤ w ∧ w < y + m then hp (x + (w - y)) else hp w), ss, hs, rs)) : ∀ (d i : Nat), i ≤ m → m - i < d → wX_copyWords_3 post (nI x) (nI y) (nI m) lv tot dg lb fb ls p d (nI i) (fun w => if y ≤ w ∧ w < y + i then hp (x + (w - y)) else hp w) ss hs rs := by
  intro d
  induction d with
  | zero => intro i _ h; omega
  | succ d ih =>
    intro i hi hd
    unfold wX_copyWords_3
    refine pk_le m i (fun g => ?_) (fun g => ?_)
    · rw [show i = m by omega]; exact J
    · rw [nI_add, nI_add, nI_clamp (n := x + i) (by omega), nI_clamp (n := y + i) (by omega)]
      refine ⟨vp_in_nI (by omega) (by omega), vp_in_nI (by omega) (by omega), nm_e (nm_r (nI_1 i) ?_)⟩
      have e : upd (fun w => if y ≤ w ∧ w < y + i then hp (x + (w - y)) else hp w) (y + i) ((fun w => if y ≤ w ∧ w < y + i then hp (x + (w - y)) else hp w) (x + i)) = (fun w => if y ≤ w ∧ w < y + (i + 1) then hp (x + (w - y)) else hp w) := funext fun w => by
        by_cases e : w = y + i
        · subst e
          rw [pk_us, if_pos (by omega)]
          show (if y ≤ x + i ∧ x + i < y + i then _ else _) = _
          rw [if_neg (by omega), show y + i - y = i by omega]
        · rw [pk_un e]
          show (if y ≤ w ∧ w < y + i then _ else _) = _
          by_cases e2 : y ≤ w ∧ w < y + i
          · rw [if_pos e2, if_pos (by omega)]
          · rw [if_neg e2, if_neg (by omega)]
      rw [e]
      exact ih (i + 1) (by omega) (by omega)
theorem sf_xcp {post : SX → Prop} {x y m : Nat} (hf : sf_WF W c) (h : sf_XR W K c P vl pk u) (hx : x + m ≤ 256) (hy : y + m ≤ 256) (hxy : y ≤ x ∨ x + m ≤ y) (hs : ∀ i, i < m → P (x + i)) (hq : ∀ w, y ≤ w → w < y + m → sf_qt c w ∧ ¬ sf_pl c w) (J : ∀ u', sf_XR W K c (fun w => P w ∨ (y ≤ w ∧ w < y + m)) (fun w => if y ≤ w ∧ w < y + m then vl (x + (w - y)) else vl w) pk u' → post u') : wpX_copyWords post u (nI x) (nI y) (nI m) := by
  have h' := h
  obtain ⟨lv, hp, ss, hs', rs, rfl, hH, hN, hS, hL, hD, hB, hV⟩ := h
  unfold wpX_copyWords
  dsimp only
  have e0 : hp = (fun w => if y ≤ w ∧ w < y + 0 then hp (x + (w - y)) else hp w) := funext fun w => (if_neg (by omega)).symm
  refine ⟨m + 1, ?_⟩
  rw [e0, ← nI_0]
  refine sf_xcp_lp (hp := hp) hx hy hxy (J _ (sf_xqt hf h' (fun w g => ?_) (fun w g => ?_) rfl)) _ _ (by omega) (by omega)
  · exact if_neg (fun g2 => g (hq w g2.1 g2.2).1)
  · by_cases e : y ≤ w ∧ w < y + m
    · rw [if_pos e, if_pos e]
      refine ⟨(hV _ ?_).1, (hq w e.1 e.2).2⟩
      exact hs (w - y) (by omega)
    · rw [if_neg e, if_neg e]; exact hV w (g.resolve_right e)
/-- the peak after a look at the live words -/
def sf_npk (c : sf_Ab) (pk : Int32) : Int32 := if nI (sf_ls c) ≤ pk then pk else nI (sf_ls c)
theorem sf_xnp {post : SX → Prop} (h : sf_XR W K c P vl pk u) (J : ∀ u', sf_XR W K c P vl (sf_npk c pk) u' → post u') : wpX_notePeak post u := by
  obtain ⟨lv, hp, ss, hs', rs, rfl, hh⟩ := h
  unfold wpX_notePeak
  dsimp only
  unfold sf_npk at J
  refine br_c (fun g => ?_) (fun g => ?_)
  · rw [if_pos g] at J; exact J _ ⟨lv, hp, ss, hs', rs, rfl, hh⟩
  · rw [if_neg g] at J; exact J _ ⟨lv, hp, ss, hs', rs, rfl, hh⟩
end
end
section
/-! ===== the reference's state against the abstract one ===== -/
def sf_YK (c : sf_Ab) (kd : Nat → Int32) : Prop := ∀ a, sf_s c a ≠ 0 → kd (a - 1) = 1 ∧ kd a = nI (sf_s c a) ∧ ∀ w, a < w → w < a + sf_c c a → kd w = nI (sf_s c a + 1)
def sf_YA (c : sf_Ab) (al : Nat → Int32) : Prop := ∀ a, sf_s c a ≠ 0 → al a = if sf_s c a = 2 then nI (2 ^ sf_l c a) else 0
def sf_YB (c : sf_Ab) (bo : Nat → Int64) : Prop := ∀ a, sf_s c a = 4 → bo a = lN (sf_b c a)
def sf_YR (W K : Nat) (c : sf_Ab) (P : Nat → Prop) (vl : Nat → Int32) (pk : Int32) (sv : Nat → Int32) (v : SY) : Prop :=
  ∃ (kd va al : Nat → Int32) (bo : Nat → Int64), v = (nI W, nI K, lN (sf_k c), pk, kd, va, al, bo, sv) ∧ sf_YK c kd ∧ sf_YA c al ∧ sf_YB c bo ∧ ∀ w, P w → va w = vl w
section
variable {W K a : Nat} {c : sf_Ab} {P : Nat → Prop} {vl sv : Nat → Int32} {pk : Int32} {v : SY} {post : Int32 → Prop}
theorem sf_ykv {kd : Nat → Int32} {w : Nat} (h : sf_YK c kd) (ha : sf_s c a ≠ 0) (h1 : a ≤ w + 1) (h2 : w < a + sf_c c a) : kd w = nI (sf_kv c w a) := by
  have h0 := h a ha
  unfold sf_kv
  by_cases e : a = w + 1
  · rw [if_pos e, show w = a - 1 by omega]; exact h0.1
  · rw [if_neg e]
    by_cases e2 : a = w
    · rw [if_pos e2, ← e2]; exact h0.2.1
    · rw [if_neg e2]; exact h0.2.2 w (by omega) h2
/-- the kinds of words against the blocks -/
theorem sf_yk {kd : Nat → Int32} {w : Nat} (hf : sf_WF W c) (hv : sf_CV W c 0 0) (h : sf_YK c kd) (hw : w < W) : (kd w = 1 ↔ sf_s c (w + 1) ≠ 0) ∧ (kd w = 2 ↔ sf_s c w = 2) ∧ (kd w = 4 ↔ sf_s c w = 4) := by
  obtain ⟨b, hb, h1, h2⟩ := hv w hw (Or.inr (Nat.zero_le _))
  have hb1 := hf.1 b hb
  rw [sf_ykv h hb h1 h2]
  have key : ∀ t, t < 8 → sf_kv c w b < 8 → (nI (sf_kv c w b) = nI t ↔ sf_kv c w b = t) := fun t ht hk => nI_eq (by omega) (by omega)
  have hk8 : sf_kv c w b < 8 := by
    unfold sf_kv
    split
    · omega
    · split <;> omega
  have hsw1 : sf_s c (w + 1) ≠ 0 → b = w + 1 := fun g => by
    have g1 := hf.1 _ g
    exact sf_own (w := w) hf hb g h1 h2 (by omega) (by omega)
  have hsw : sf_s c w ≠ 0 → b = w := fun g => by
    have g1 := hf.1 _ g
    exact sf_own (w := w) hf hb g h1 h2 (by omega) (by omega)
  refine ⟨(key 1 (by omega) hk8).trans ?_, (key 2 (by omega) hk8).trans ?_, (key 4 (by omega) hk8).trans ?_⟩
  · unfold sf_kv
    by_cases e : b = w + 1
    · rw [if_pos e, ← e]; exact ⟨fun _ => hb, fun _ => rfl⟩
    · rw [if_neg e]
      refine ⟨fun g => ?_, fun g => absurd (hsw1 g) e⟩
      by_cases e2 : b = w
      · rw [if_pos e2] at g; omega
      · rw [if_neg e2] at g; omega
  · unfold sf_kv
    by_cases e : b = w + 1
    · rw [if_pos e]
      exact ⟨fun g => by omega, fun g => by have := hsw (by omega); omega⟩
    · rw [if_neg e]
      by_cases e2 : b = w
      · rw [if_pos e2, e2]
      · rw [if_neg e2]
        exact ⟨fun g => by omega, fun g => absurd (hsw (by omega)) e2⟩
  · unfold sf_kv
    by_cases e : b = w + 1
    · rw [if_pos e]
      exact ⟨fun g => by omega, fun g => by have := hsw (by omega); omega⟩
    · rw [if_neg e]
      by_cases e2 : b = w
      · rw [if_pos e2, e2]
      · rw [if_neg e2]
        exact ⟨fun g => by omega, fun g => absurd (hsw (by omega)) e2⟩
theorem sf_ycap_lp {k : Int32} {clk : Int64} {p : Int32} {kd va al : Nat → Int32} {bo : Nat → Int64} (hW : W ≤ 256) (hf : sf_WF W c) (hv : sf_CV W c 0 0) (h : sf_YK c kd) (ha : sf_s c a ≠ 0) (J : post (nI (sf_c c a))) : ∀ d i, i ≤ sf_c c a → sf_c c a - i < d → wY_capAt_4 post (nI W) k clk p kd va al bo sv d (nI i) (nI (a + i)) := by
  have ha1 := hf.1 a ha
  intro d
  induction d with
  | zero => intro i _ h; omega
  | succ d ih =>
    intro i hi hd
    unfold wY_capAt_4
    refine pk_le W (a + i) (fun g => ?_) (fun g => ?_)
    · rw [show i = sf_c c a by omega]; exact J
    · rw [nI_clamp (n := a + i) (by omega)]
      refine ⟨vp_in_nI (by omega) (by omega), sf_if (sf_yk hf hv h g).1 (fun z => ?_) (fun z => ?_)⟩
      · have : i = sf_c c a := by
          have := hf.2.1 a _ ha z (by omega); omega
        rw [this]; exact J
      · have : i ≠ sf_c c a := fun e => z (by rw [e]; exact sf_next hf hv ha (by omega))
        refine nm_r (nI_1 i) (nm_r (nI_1 (a + i)) (ih (i + 1) (by omega) (by omega)))
theorem sf_ycap (hw : sf_WK W K) (hf : sf_WF W c) (hv : sf_CV W c 0 0) (h : sf_YR W K c P vl pk sv v) (ha : sf_s c a ≠ 0) (J : post (nI (sf_c c a))) : wpY_capAt post v (nI a) := by
  obtain ⟨kd, va, al, bo, rfl, hK, -⟩ := h
  unfold wpY_capAt
  dsimp only
  refine ⟨sf_c c a + 1, ?_⟩
  exact sf_ycap_lp hw.2.1 hf hv hK ha J _ 0 (by omega) (by omega)
/-! the floor -/
theorem sf_dg {n b : Nat} (hn : n < 2 ^ 31) (hb : b < 31) : nI n &&& ((1 : Int32) <<< (nI b &&& 31)) = nI (if n.testBit b = true then 2 ^ b else 0) := by
  apply b_ext
  intro i hi
  rw [b_and, sf_one b (by omega) i hi, sf_bI, decide_eq_true hi, Bool.true_and]
  by_cases e : i = b
  · subst e
    rw [decide_eq_true rfl, Bool.and_true]
    by_cases g : n.testBit i = true
    · rw [if_pos g, g, sf_bI, decide_eq_true hi, Nat.testBit_two_pow_self]; rfl
    · rw [if_neg g, nI_0, b_0]; exact ts_nt g
  · rw [decide_eq_false e, Bool.and_false]
    by_cases g : n.testBit b = true
    · rw [if_pos g, sf_bI, Nat.testBit_two_pow_of_ne (fun z => e z.symm), Bool.and_false]
    · rw [if_neg g, nI_0, b_0]
def sf_fw (K n : Nat) : Nat → Nat → Nat → Nat
  | 0, _, res => res
  | b + 1, kept, res => if (0 < kept ∨ n.testBit b = true) ∧ kept < K + 1 then sf_fw K n b (kept + 1) (res + if n.testBit b = true then 2 ^ b else 0) else sf_fw K n b kept res
theorem sf_fw_fl : ∀ K, K < 4 → 1 ≤ K → ∀ n, n < 256 → 1 ≤ n → sf_fw K n 31 0 0 = sf_fl K n := by decide +kernel
theorem sf_yfl_lp {w : Int32} {clk : Int64} {p : Int32} {kd va al : Nat → Int32} {bo : Nat → Int64} {n : Nat} (hK : K < 4) (hn : n < 2 ^ 31) : ∀ b, b ≤ 31 → ∀ kept res, kept ≤ K + 1 → post (nI (sf_fw K n b kept res)) → wY_floor_8 post (nI n) w (nI K) clk p kd va al bo sv (b + 1) (nI kept) (nI res) (nI b + (-1)) := by
  intro b
  induction b with
  | zero =>
    intro hb kept res hk J
    unfold wY_floor_8
    exact br_t (by decide) J
  | succ b ih =>
    intro hb kept res hk J
    have hpow : 0 < 2 ^ b ∧ 2 ^ b < 2 ^ 31 := ⟨Nat.two_pow_pos b, Nat.pow_lt_pow_right (by decide) (by omega)⟩
    unfold wY_floor_8
    rw [pk_m1, sf_dg hn (by omega)]
    unfold sf_fw at J
    refine br_f (nI_pos (by omega)) (nm_e ?_)
    have go : (0 < kept ∨ n.testBit b = true) → wY_floor_30 post (wY_floor_8 post (nI n) w (nI K) clk p kd va al bo sv (b + 1)) (nI n) (nI kept) (nI res) (nI b) (nI (if n.testBit b = true then 2 ^ b else 0)) w (nI K) clk p kd va al bo sv := by
      intro hg
      unfold wY_floor_30
      rw [nI_1 K, nI_add res, nI_1 kept]
      refine pk_le (K + 1) kept (fun g => ?_) (fun g => ?_)
      · rw [if_neg (by omega)] at J
        exact nm_e (ih (by omega) _ _ hk J)
      · rw [if_pos ⟨hg, g⟩] at J
        exact nm_e (nm_e (nm_e (ih (by omega) _ _ (by omega) J)))
    refine pk_lt 0 kept (fun g => go (Or.inl g)) (fun g => ?_)
    by_cases e : n.testBit b = true
    · refine br_f ?_ (go (Or.inr e))
      rw [if_pos e]; exact nI_ne0 hpow.1 hpow.2
    · refine br_t (by rw [if_neg e]; rfl) (nm_e (ih (by omega) _ _ hk ?_))
      rw [if_neg (fun z => z.1.elim (by omega) e)] at J
      exact J
theorem sf_yfl {n : Nat} (hw : sf_WK W K) (h : sf_YR W K c P vl pk sv v) (h1 : 1 ≤ n) (hn : n < 256) (J : post (nI (sf_fl K n))) : wpY_floor post v (nI n) := by
  obtain ⟨kd, va, al, bo, rfl, hK, -⟩ := h
  unfold wpY_floor
  dsimp only
  rw [← sf_fw_fl K hw.2.2.2 hw.2.2.1 n hn h1] at J
  exact ⟨32, sf_yfl_lp hw.2.2.2 (by omega) 31 (by omega) 0 0 (by omega) J⟩
/-! the youngest -/
def sf_ygi (K : Nat) (c : sf_Ab) (k lim i r : Nat) : Prop :=
  (r = 0 ∧ ∀ b, b < i → sf_s c b = 4 → sf_q K (sf_c c b) = k → lim ≤ sf_b c b) ∨
  (r < i ∧ sf_s c r = 4 ∧ sf_q K (sf_c c r) = k ∧ sf_b c r < lim ∧ ∀ b, b < i → sf_s c b = 4 → sf_q K (sf_c c b) = k → sf_b c b < lim → sf_b c b ≤ sf_b c r)
theorem sf_ygi_skip {k lim i r : Nat} (hf : sf_WF W c) (h : sf_ygi K c k lim i r) (g : sf_s c i = 4 → sf_q K (sf_c c i) = k → sf_b c i < lim → r ≠ 0 ∧ sf_b c i ≤ sf_b c r) : sf_ygi K c k lim (i + 1) r := by
  rcases h with ⟨h1, h2⟩ | ⟨h1, h2, h3, h4, h5⟩
  · refine Or.inl ⟨h1, fun b x1 x2 x3 => ?_⟩
    by_cases e : b = i
    · subst e
      rcases Nat.lt_or_ge (sf_b c b) lim with x4 | x4
      · exact absurd h1 (g x2 x3 x4).1
      · exact x4
    · exact h2 b (by omega) x2 x3
  · refine Or.inr ⟨by omega, h2, h3, h4, fun b x1 x2 x3 x4 => ?_⟩
    by_cases e : b = i
    · subst e; exact (g x2 x3 x4).2
    · exact h5 b (by omega) x2 x3 x4
theorem sf_ygi_take {k lim i r : Nat} (h : sf_ygi K c k lim i r) (h1 : sf_s c i = 4) (h2 : sf_q K (sf_c c i) = k) (h3 : sf_b c i < lim) (h4 : r = 0 ∨ sf_b c r ≤ sf_b c i) (h0 : sf_s c 0 = 0) : sf_ygi K c k lim (i + 1) i := by
  refine Or.inr ⟨by omega, h1, h2, h3, fun b x1 x2 x3 x4 => ?_⟩
  by_cases e : b = i
  · subst e; omega
  · rcases h with ⟨g1, g2⟩ | ⟨g1, g2, g3, g4, g5⟩
    · have := g2 b (by omega) x2 x3; omega
    · have := g5 b (by omega) x2 x3 x4
      rcases h4 with h4 | h4
      · rw [h4, h0] at g2; omega
      · omega
theorem sf_s0 (hf : sf_WF W c) : sf_s c 0 = 0 := Classical.byContradiction fun z => by have := hf.1 0 z; omega
theorem sf_ygi_yg {k lim i r : Nat} (hf : sf_WF W c) (hi : W ≤ i) (h : sf_ygi K c k lim i r) : sf_yg K c k lim r := by
  have hb : ∀ b, sf_s c b = 4 → b < i := fun b hb => by have := hf.1 b (by omega); omega
  rcases h with ⟨h1, h2⟩ | ⟨h1, h2, h3, h4, h5⟩
  · exact Or.inl ⟨h1, fun b x1 x2 => h2 b (hb b x1) x1 x2⟩
  · exact Or.inr ⟨h2, h3, h4, fun b x1 x2 x3 => h5 b (hb b x1) x1 x2 x3⟩
theorem sf_yg_ex (hf : sf_WF W c) (K k lim : Nat) : ∃ r, sf_yg K c k lim r := by
  have A : ∀ i, ∃ r, sf_ygi K c k lim i r := by
    intro i
    induction i with
    | zero => exact ⟨0, Or.inl ⟨rfl, fun b h => by omega⟩⟩
    | succ i ih =>
      obtain ⟨r, hr⟩ := ih
      by_cases e : sf_s c i = 4 ∧ sf_q K (sf_c c i) = k ∧ sf_b c i < lim ∧ (r = 0 ∨ sf_b c r ≤ sf_b c i)
      · exact ⟨i, sf_ygi_take hr e.1 e.2.1 e.2.2.1 e.2.2.2 (sf_s0 hf)⟩
      · refine ⟨r, sf_ygi_skip hf hr fun g1 g2 g3 => ?_⟩
        by_cases e2 : r = 0
        · exact absurd ⟨g1, g2, g3, Or.inl e2⟩ e
        · refine ⟨e2, ?_⟩
          rcases Nat.lt_or_ge (sf_b c r) (sf_b c i) with g | g
          · exact absurd ⟨g1, g2, g3, Or.inr (by omega)⟩ e
          · exact g
  obtain ⟨r, hr⟩ := A W
  exact ⟨r, sf_ygi_yg hf (Nat.le_refl _) hr⟩
theorem sf_yyg_lp {kd va al : Nat → Int32} {bo : Nat → Int64} {n lim r : Nat} (hw : sf_WK W K) (hf : sf_WF W c) (hv : sf_CV W c 0 0) (hclk : sf_k c < 2 ^ 31) (h : sf_YR W K c P vl pk sv (nI W, nI K, lN (sf_k c), pk, kd, va, al, bo, sv)) (hkd : sf_YK c kd) (hbo : sf_YB c bo) (h1 : 1 ≤ n) (hn : n < 256) (hlim : lim ≤ sf_k c) (hr : sf_yg K c (sf_q K n) lim r) (J : post (nI r)) : ∀ d i r', i ≤ W → W - i < d → sf_ygi K c (sf_q K n) lim i r' → wY_youngest_6 post (nI (sf_fl K n)) (lN lim) (nI W) (nI K) (lN (sf_k c)) pk kd va al bo sv d (nI r') (nI i) := by
  have hw2 := hw.2.1
  intro d
  induction d with
  | zero => intro i r' _ h; omega
  | succ d ih =>
    intro i r' hi hd hg
    have hr' : r' < 256 ∧ (r' = 0 ∨ sf_s c r' = 4) := by
      rcases hg with g | g
      · exact ⟨by omega, Or.inl g.1⟩
      · have := hf.1 r' (by omega); exact ⟨by omega, Or.inr g.2.1⟩
    unfold wY_youngest_6
    refine pk_le W i (fun g => ?_) (fun g => ?_)
    · rw [sf_yg_uni hf (sf_ygi_yg hf g hg) hr]; exact J
    · rw [nI_clamp (n := i) (by omega)]
      have iin : vp_in (nI i) 256 := vp_in_nI (by omega) (by omega)
      refine ⟨iin, sf_if (sf_yk hf hv hkd g).2.2 (fun z => ⟨iin, ?_⟩) (fun z => nm_r (nI_1 i) (ih _ _ (by omega) (by omega) (sf_ygi_skip hf hg (fun z2 => absurd z2 z))))⟩
      have hbi := hf.2.2.1 i z
      have hci := hf.1 i (by omega)
      rw [hbo i z]
      refine sf_if (lN_le (by omega) (by omega)) (fun x => nm_r (nI_1 i) (ih _ _ (by omega) (by omega) (sf_ygi_skip hf hg (fun _ _ x2 => by omega)))) (fun x => ?_)
      have go : (r' = 0 ∨ sf_b c r' ≤ sf_b c i) → wY_youngest_61 post (wY_youngest_6 post (nI (sf_fl K n)) (lN lim) (nI W) (nI K) (lN (sf_k c)) pk kd va al bo sv d) (nI (sf_fl K n)) (lN lim) (nI r') (nI i) (nI W) (nI K) (lN (sf_k c)) pk kd va al bo sv := by
        intro hor
        unfold wY_youngest_61
        refine sf_ycap hw hf hv h (by omega) ?_
        refine sf_yfl hw h (by omega) (by omega) ?_
        have f1 := sf_q2 K hw.2.2.2 hw.2.2.1 n hn h1
        have f2 := sf_q2 K hw.2.2.2 hw.2.2.1 (sf_c c i) (by omega) (by omega)
        have f3 := sf_qfl (a := sf_c c i) (b := n) hw.2.2.2 hw.2.2.1 (by omega) (by omega) h1 hn
        refine sf_if (nI_eq (by omega) (by omega)) (fun e => nm_r (nI_1 i) (ih _ _ (by omega) (by omega) ?_)) (fun e => nm_r (nI_1 i) (ih _ _ (by omega) (by omega) ?_))
        · exact sf_ygi_take hg z (f3.mpr e) (by omega) hor (sf_s0 hf)
        · exact sf_ygi_skip hf hg (fun _ x2 _ => absurd (f3.mp x2) e)
      refine sf_if (sf_nI0 (by omega)) (fun e => go (Or.inl e)) (fun e => ⟨iin, vp_in_nI hr'.1 (by omega), ?_⟩)
      have hr4 := hr'.2.resolve_left e
      have hbr := hf.2.2.1 r' hr4
      rw [nI_clamp (n := r') (by omega), hbo r' hr4]
      refine sf_if (lN_le (by omega) (by omega)) (fun x2 => nm_r (nI_1 i) (ih _ _ (by omega) (by omega) (sf_ygi_skip hf hg (fun _ _ _ => ⟨e, x2⟩)))) (fun x2 => go (Or.inr (by omega)))
theorem sf_yyg {n lim r : Nat} (hw : sf_WK W K) (hf : sf_WF W c) (hv : sf_CV W c 0 0) (hclk : sf_k c < 2 ^ 31) (h : sf_YR W K c P vl pk sv v) (h1 : 1 ≤ n) (hn : n < 256) (hlim : lim ≤ sf_k c) (hr : sf_yg K c (sf_q K n) lim r) (J : post (nI r)) : wpY_youngest post v (nI (sf_fl K n)) (lN lim) := by
  have h' := h
  obtain ⟨kd, va, al, bo, rfl, hK, hA, hB, hV⟩ := h
  have hw1 := hw.1
  unfold wpY_youngest
  dsimp only
  exact ⟨W, sf_yyg_lp hw hf hv hclk h' hK hB h1 hn hlim hr J W 1 0 (by omega) (by omega) (Or.inl ⟨rfl, fun b hb hb2 => by rw [show b = 0 by omega, sf_s0 hf] at hb2; omega⟩)⟩
/-! find -/
/-- r is the block that FIND answers for this need, or 0 -/
def sf_fd (K : Nat) (c : sf_Ab) (need r : Nat) : Prop :=
  (r = 0 ∧ ∀ b, sf_s c b = 4 → sf_fl K (sf_c c b) < need) ∨
  (sf_s c r = 4 ∧ need ≤ sf_fl K (sf_c c r) ∧ ∀ b, sf_s c b = 4 → need ≤ sf_fl K (sf_c c b) → sf_fl K (sf_c c r) ≤ sf_fl K (sf_c c b) ∧ (sf_fl K (sf_c c b) = sf_fl K (sf_c c r) → sf_b c b ≤ sf_b c r))
theorem sf_fd_uni {need r r' : Nat} (hf : sf_WF W c) (h : sf_fd K c need r) (h' : sf_fd K c need r') : r = r' := by
  rcases h with ⟨h1, h2⟩ | ⟨h1, h2, h3⟩
  · rcases h' with ⟨g1, g2⟩ | ⟨g1, g2, g3⟩
    · omega
    · have := h2 r' g1; omega
  · rcases h' with ⟨g1, g2⟩ | ⟨g1, g2, g3⟩
    · have := g2 r h1; omega
    · have x1 := h3 r' g1 g2
      have x2 := g3 r h1 h2
      have e : sf_fl K (sf_c c r') = sf_fl K (sf_c c r) := by omega
      have x3 := x1.2 e
      have x4 := x2.2 e.symm
      exact hf.2.2.2.1 r r' h1 g1 (by omega)
theorem sf_yfd_lp {kd va al : Nat → Int32} {bo : Nat → Int64} {need r : Nat} (hw : sf_WK W K) (hf : sf_WF W c) (hv : sf_CV W c 0 0) (hclk : sf_k c < 2 ^ 31) (h : sf_YR W K c P vl pk sv (nI W, nI K, lN (sf_k c), pk, kd, va, al, bo, sv)) (h1 : 1 ≤ need) (hr : sf_fd K c need r) (J : post (nI r)) : ∀ d i, need ≤ i → i < 512 → W - i < d → (∀ b, sf_s c b = 4 → sf_fl K (sf_c c b) < need ∨ i ≤ sf_fl K (sf_c c b)) → wY_find_2 post (nI W) (nI K) (lN (sf_k c)) pk kd va al bo sv d (nI i) := by
  have hw2 := hw.2.1
  have hcap : ∀ b, sf_s c b = 4 → 1 ≤ sf_c c b ∧ sf_c c b < 256 ∧ sf_c c b < W ∧ sf_fl K (sf_c c b) ≤ sf_c c b ∧ sf_fl K (sf_fl K (sf_c c b)) = sf_fl K (sf_c c b) := fun b hb => by
    have x := hf.1 b (by omega)
    have y := sf_q2 K hw.2.2.2 hw.2.2.1 (sf_c c b) (by omega) (by omega)
    exact ⟨by omega, by omega, by omega, y.1, y.2.2⟩
  intro d
  induction d with
  | zero => intro i _ _ h; omega
  | succ d ih =>
    intro i hi hi5 hd hg
    unfold wY_find_2
    refine pk_le W i (fun g => ?_) (fun g => ?_)
    · rw [sf_fd_uni hf hr (Or.inl ⟨rfl, fun b hb => by have := hg b hb; have := hcap b hb; omega⟩)] at J
      exact J
    · have f1 := sf_q2 K hw.2.2.2 hw.2.2.1 i (by omega) (by omega)
      refine sf_yfl hw h (by omega) (by omega) ?_
      refine sf_if (nI_eq (by omega) (by omega)) (fun e => ?_) (fun e => nm_r (nI_1 i) (ih (i + 1) (by omega) (by omega) (by omega) (fun b hb => ?_)))
      · obtain ⟨y, hy⟩ := sf_yg_ex hf K (sf_q K i) (sf_k c)
        have hcls : ∀ b, sf_s c b = 4 → (sf_q K (sf_c c b) = sf_q K i ↔ sf_fl K (sf_c c b) = i) := fun b hb => by
          have := hcap b hb
          rw [sf_qfl (a := sf_c c b) (b := i) hw.2.2.2 hw.2.2.1 (by omega) (by omega) (by omega) (by omega), e]
        have hy2 : y < 2 ^ 31 := by
          by_cases y0 : y = 0
          · omega
          · have := hf.1 y (by have := (sf_yg1 hy y0).1; omega); omega
        have Q : ∀ post' : Int32 → Prop, post' (nI y) → wpY_youngest post' (nI W, nI K, lN (sf_k c), pk, kd, va, al, bo, sv) (nI i) (lN (sf_k c)) := fun post' J' => by
          have := sf_yyg hw hf hv hclk h (n := i) (by omega) (by omega) (Nat.le_refl _) hy J'
          rw [e] at this; exact this
        refine Q _ (sf_if (sf_nI0 hy2) (fun y0 => nm_r (nI_1 i) (ih (i + 1) (by omega) (by omega) (by omega) (fun b hb => ?_))) (fun y0 => ?_))
        · have x1 := hg b hb
          have x2 : sf_fl K (sf_c c b) ≠ i := fun e2 => by
            have := sf_yg0 hf hy y0 b hb ((hcls b hb).mpr e2)
            have := hf.2.2.1 b hb; omega
          omega
        · have x1 := sf_yg1 hy y0
          have x2 := (hcls y x1.1).mp x1.2.1
          rw [sf_fd_uni hf hr (r' := y) (Or.inr ⟨x1.1, by omega, fun b hb hbn => ⟨by have := hg b hb; omega, fun e2 => x1.2.2.2 b hb ((hcls b hb).mpr (by omega)) (hf.2.2.1 b hb)⟩⟩)] at J
          exact J
      · have x1 := hg b hb
        have x2 : sf_fl K (sf_c c b) ≠ i := fun e2 => by
          have := (hcap b hb).2.2.2.2
          rw [e2] at this; exact e this
        omega
theorem sf_yfd {need r : Nat} (hw : sf_WK W K) (hf : sf_WF W c) (hv : sf_CV W c 0 0) (hclk : sf_k c < 2 ^ 31) (h : sf_YR W K c P vl pk sv v) (h1 : 1 ≤ need) (hn : need < 512) (hr : sf_fd K c need r) (J : post (nI r)) : wpY_find post v (nI need) := by
  have h' := h
  obtain ⟨kd, va, al, bo, rfl, hK, hA, hB, hV⟩ := h
  have hw1 := hw.1
  unfold wpY_find
  dsimp only
  exact ⟨W + 1, sf_yfd_lp hw hf hv hclk h' h1 hr J (W + 1) need (Nat.le_refl _) hn (by omega) (fun b hb => by omega)⟩
end
end
section
/-! ===== the reference's stores ===== -/
section
variable {W K a n l b cc : Nat} {c : sf_Ab} {P : Nat → Prop} {vl sv : Nat → Int32} {pk : Int32} {v : SY}
theorem sf_yweak {P' : Nat → Prop} {vl' : Nat → Int32} (h : sf_YR W K c P vl pk sv v) (hP : ∀ w, P' w → P w ∧ vl' w = vl w) : sf_YR W K c P' vl' pk sv v := by
  obtain ⟨kd, va, al, bo, e, hK, hA, hB, hV⟩ := h
  exact ⟨kd, va, al, bo, e, hK, hA, hB, fun w hw => by rw [(hP w hw).2]; exact hV w (hP w hw).1⟩
theorem sf_yrem (h : sf_YR W K c P vl pk sv v) : sf_YR W K (sf_rem c a) P vl pk sv v := by
  obtain ⟨kd, va, al, bo, e, hK, hA, hB, hV⟩ := h
  have key : ∀ b, sf_s (sf_rem c a) b ≠ 0 → sf_s c b ≠ 0 ∧ sf_s (sf_rem c a) b = sf_s c b := fun b hb => by
    rw [sf_rem_s] at hb ⊢
    by_cases e : b = a
    · rw [if_pos e] at hb; exact absurd rfl hb
    · rw [if_neg e] at hb ⊢; exact ⟨hb, rfl⟩
  refine ⟨kd, va, al, bo, e, fun b hb => ?_, fun b hb => ?_, fun b hb => ?_, hV⟩
  · rw [(key b hb).2]; exact hK b (key b hb).1
  · rw [(key b hb).2]; exact hA b (key b hb).1
  · exact hB b (sf_rem_free.mp hb).2
theorem sf_mulgap {x y m : Nat} (hx : x % m = 0) (hy : y % m = 0) (h : x < y) : x + m ≤ y := by
  have h1 := Nat.div_add_mod x m
  have h2 := Nat.div_add_mod y m
  have h3 : x / m < y / m := by
    rcases Nat.lt_or_ge (x / m) (y / m) with g | g
    · exact g
    · have := Nat.mul_le_mul_left m g; omega
  have h4 := Nat.mul_le_mul_left m h3
  rw [Nat.mul_succ] at h4
  omega
theorem sf_yplc_lp {post : Int32 → Prop} {w k : Int32} {clk : Int64} {kd va al : Nat → Int32} {bo : Nat → Int64} (hl : l ≤ 5) (hb : b ≤ 256) (J : post (nI (sf_plc b (2 ^ l)))) : ∀ d j, b + j ≤ sf_plc b (2 ^ l) → sf_plc b (2 ^ l) - (b + j) < d → wY_place_2 post (nI b) (nI (2 ^ l)) w k clk pk kd va al bo sv d (nI (b + j)) := by
  have h2 := sf_p2 hl
  have hge := sf_plc_ge (b := b) (m := 2 ^ l) h2.1
  have hal := sf_plc_al (b := b) (m := 2 ^ l) h2.1
  have hz : b % 2 ^ l = 0 → sf_plc b (2 ^ l) = b := fun g => if_pos g
  generalize hA : sf_plc b (2 ^ l) = A at *
  generalize hM : 2 ^ l = m at *
  have hand : ∀ x, x < 2 ^ 31 → (nI x &&& (nI m - 1) = 0 ↔ x % m = 0) := fun x hx => by
    rw [sf_m1 h2.1, pk_andN (n := x) (by omega) l (by rw [hM]; exact pk_tn (by omega)), hM]
    have := Nat.mod_lt x h2.1
    exact sf_nI0 (by omega)
  intro d
  induction d with
  | zero => intro j _ h; omega
  | succ d ih =>
    intro j hj hd
    unfold wY_place_2
    have step : b + j ≠ A → wY_place_2 post (nI b) (nI m) w k clk pk kd va al bo sv d (nI (b + j) + 1) := fun g => by
      rw [nI_1]; exact ih (j + 1) (by omega) (by omega)
    have go : ((b + j) % m = 0 ↔ b + j = A) → wY_place_22 post (wY_place_2 post (nI b) (nI m) w k clk pk kd va al bo sv d) (nI b) (nI m) (nI (b + j)) w k clk pk kd va al bo sv := fun hx => by
      unfold wY_place_22
      refine sf_if (hand (b + j) (by omega)) (fun e => ?_) (fun e => nm_e (step (fun e2 => e (hx.mpr e2))))
      rw [hx.mp e]; exact J
    refine br_f ?_ (pk_eq (b + j) b (fun e => go ?_) (fun e => ?_))
    · rw [show nI b + 64 = nI (b + 64) from nI_add b 64]
      exact nI_ge (by omega) (by omega)
    · have : j = 0 := by omega
      subst this
      rw [Nat.add_zero]
      constructor
      · intro g; exact (hz g).symm
      · intro g; rw [g]; exact hal
    · rw [show nI b + 3 = nI (b + 3) from nI_add b 3]
      refine pk_lt (b + j) (b + 3) (fun g => nm_e (step (by omega))) (fun g => go ?_)
      constructor
      · intro g2
        rcases Nat.lt_or_ge (b + j) A with x | x
        · have := sf_mulgap g2 hal x; omega
        · omega
      · intro g2; rw [g2]; exact hal
theorem sf_yplc {post : Int32 → Prop} (hl : l ≤ 5) (hb : b ≤ 256) (J : post (nI (sf_plc b (2 ^ l)))) : wpY_place post v (nI b) (nI (2 ^ l)) := by
  obtain ⟨w, k, clk, p, kd, va, al, bo, sv'⟩ := v
  unfold wpY_place
  dsimp only
  exact ⟨_, sf_yplc_lp hl hb J (sf_plc b (2 ^ l) - b + 1) 0 (by have := sf_plc_lo (b := b) (sf_p2 hl).1; omega) (by omega)⟩
/-! paint -/
def sf_pk (kd : Nat → Int32) (a i : Nat) (f r : Int32) : Nat → Int32 := fun w => if a ≤ w ∧ w < i then (if w = a then f else r) else kd w
def sf_z (vl : Nat → Int32) (a n : Nat) : Nat → Int32 := fun w => if a ≤ w ∧ w < a + n then 0 else vl w
theorem sf_ypt_lp {post : SY → Prop} {w k : Int32} {clk : Int64} {kd va al : Nat → Int32} {bo : Nat → Int64} {f r x5 : Int32} (ha : a + n ≤ 256) (hn : 1 ≤ n) (J : post (w, k, clk, pk, sf_pk kd a (a + n) f r, sf_z va a n, upd al a x5, bo, sv)) : ∀ d i, i ≤ n → n - i < d → wY_paint_12 post (nI a) (nI n) f r x5 w k clk pk d (nI (a + i)) (sf_pk kd a (a + i) f r) (sf_z va a i) al bo sv := by
  intro d
  induction d with
  | zero => intro i _ h; omega
  | succ d ih =>
    intro i hi hd
    unfold wY_paint_12
    rw [nI_add]
    refine pk_le (a + n) (a + i) (fun g => ?_) (fun g => ?_)
    · rw [nI_clamp (n := a) (by omega)]
      refine ⟨vp_in_nI (by omega) (by omega), nm_e ?_⟩
      rw [show i = n by omega]; exact J
    · have iin : vp_in (nI (a + i)) 256 := vp_in_nI (by omega) (by omega)
      have ev : upd (sf_z va a i) (a + i) 0 = sf_z va a (i + 1) := funext fun x => by
        unfold sf_z
        by_cases e : x = a + i
        · subst e; rw [pk_us, if_pos (by omega)]
        · rw [pk_un e]
          by_cases e2 : a ≤ x ∧ x < a + i
          · rw [if_pos e2, if_pos (by omega)]
          · rw [if_neg e2, if_neg (by omega)]
      have ek : ∀ y, y = (if a + i = a then f else r) → upd (sf_pk kd a (a + i) f r) (a + i) y = sf_pk kd a (a + (i + 1)) f r := fun y hy => funext fun x => by
        unfold sf_pk
        by_cases e : x = a + i
        · subst e; rw [pk_us, if_pos (by omega)]; exact hy
        · rw [pk_un e]
          by_cases e2 : a ≤ x ∧ x < a + i
          · rw [if_pos e2, if_pos (show a ≤ x ∧ x < a + (i + 1) by omega)]
          · rw [if_neg e2, if_neg (show ¬ (a ≤ x ∧ x < a + (i + 1)) by omega)]
      have go : ∀ y, y = (if a + i = a then f else r) → wY_paint_38 post (wY_paint_12 post (nI a) (nI n) f r x5 w k clk pk d) (nI a) (nI n) f r x5 (nI (a + i)) y (nI (a + i)) w k clk pk (sf_pk kd a (a + i) f r) (sf_z va a i) al bo sv := fun y hy => by
        unfold wY_paint_38
        rw [nI_clamp (n := a + i) (by omega), nI_1]
        refine ⟨iin, nm_r (ek y hy) ⟨iin, nm_r ev (nm_e ?_)⟩⟩
        exact ih (i + 1) (by omega) (by omega)
      refine pk_eq (a + i) a (fun e => go f (if_pos e).symm) (fun e => go r (if_neg e).symm)
theorem sf_ypt {post : SY → Prop} {w k : Int32} {clk : Int64} {kd va al : Nat → Int32} {bo : Nat → Int64} {f r x5 : Int32} (h1 : 1 ≤ a) (ha : a + n ≤ 256) (hn : 1 ≤ n) (J : post (w, k, clk, pk, sf_pk (upd kd (a - 1) 1) a (a + n) f r, sf_z va a n, upd al a x5, bo, sv)) : wpY_paint post (w, k, clk, pk, kd, va, al, bo, sv) (nI a) (nI n) f r x5 := by
  unfold wpY_paint
  dsimp only
  rw [sf_m1 h1, nI_clamp (n := a - 1) (by omega)]
  refine ⟨vp_in_nI (by omega) (by omega), nm_e ⟨n + 1, ?_⟩⟩
  have e1 : upd kd (a - 1) 1 = sf_pk (upd kd (a - 1) 1) a (a + 0) f r := funext fun x => by
    unfold sf_pk; rw [if_neg (by omega)]
  have e2 : va = sf_z va a 0 := funext fun x => by
    unfold sf_z; rw [if_neg (by omega)]
  have := sf_ypt_lp (w := w) (k := k) (clk := clk) (kd := upd kd (a - 1) 1) ha hn J (n + 1) 0 (by omega) (by omega)
  rw [← e1, ← e2] at this
  exact this
theorem sf_YK_add {c' : sf_Ab} {kd : Nat → Int32} (hf : sf_WF W c) (t : sf_fit W c a n) (hs : ∀ j, j ≠ a → sf_s c' j = sf_s c j) (hc : ∀ j, j ≠ a → sf_c c' j = sf_c c j) (hca : sf_c c' a = n) (h : sf_YK c kd) {f r : Int32} (hf1 : f = nI (sf_s c' a)) (hr1 : r = nI (sf_s c' a + 1)) : sf_YK c' (sf_pk (upd kd (a - 1) 1) a (a + n) f r) := by
  intro b hb
  have t1 := t.1
  have t2 := t.2.1
  unfold sf_pk
  by_cases e : b = a
  · subst e
    rw [hca]
    refine ⟨?_, ?_, fun w h1 h2 => ?_⟩
    · rw [if_neg (by omega), pk_us]
    · rw [if_pos (by omega), if_pos rfl]; exact hf1
    · rw [if_pos (by omega), if_neg (by omega)]; exact hr1
  · rw [hs b e] at hb ⊢
    rw [hc b e]
    have h3 := t.2.2.2 b hb
    have h4 := hf.1 b hb
    have h5 := h b hb
    refine ⟨?_, ?_, fun w h1 h2 => ?_⟩
    · rw [if_neg (by omega), pk_un (by omega)]; exact h5.1
    · rw [if_neg (by omega), pk_un (by omega)]; exact h5.2.1
    · rw [if_neg (by omega), pk_un (by omega)]; exact h5.2.2 w h1 h2
theorem sf_yef {post : SY → Prop} (hw : sf_WK W K) (hf : sf_WF W c) (h : sf_YR W K c P vl pk sv v) (t : sf_fit W c a n) (hP : ∀ w, P w → w < a ∨ a + n ≤ w) (J : ∀ v', sf_YR W K (sf_fre c a n) P vl pk sv v' → post v') : wpY_enterFree post v (nI a) (nI n) := by
  obtain ⟨kd, va, al, bo, rfl, hK, hA, hB, hV⟩ := h
  have hw2 := hw.2.1
  have t1 := t.1
  have t2 := t.2.1
  have t3 := t.2.2.1
  have z := sf_fit0 t
  unfold wpY_enterFree
  dsimp only
  refine sf_ypt t1 (by omega) (by omega) ?_
  dsimp only
  rw [nI_clamp (n := a) (by omega)]
  refine ⟨vp_in_nI (by omega) (by omega), nm_e (nm_r (lN_1 _) (J _ ⟨_, _, _, _, rfl, ?_, fun b hb => ?_, fun b hb => ?_, fun w hwp => ?_⟩))⟩
  · exact sf_YK_add hf t (fun j e => by rw [sf_fre_s, if_neg e]) (fun j e => by rw [sf_fre_c, if_neg e]) (by rw [sf_fre_c, if_pos rfl]) hK (by rw [sf_fre_s, if_pos rfl]; rfl) (by rw [sf_fre_s, if_pos rfl]; rfl)
  · by_cases e : b = a
    · subst e; rw [pk_us, sf_fre_s, if_pos rfl, if_neg (by omega)]
    · rw [pk_un e, sf_fre_s, if_neg e, sf_fre_l]
      rw [sf_fre_s, if_neg e] at hb
      exact hA b hb
  · rw [sf_fre_b]
    by_cases e : b = a
    · subst e; rw [pk_uLs, if_pos rfl]
    · rw [pk_uLn e, if_neg e]
      rw [sf_fre_s, if_neg e] at hb
      exact hB b hb
  · unfold sf_z
    rw [if_neg (by have := hP w hwp; omega)]; exact hV w hwp
theorem sf_yel {post : SY → Prop} (hw : sf_WK W K) (hf : sf_WF W c) (h : sf_YR W K c P vl pk sv v) (t : sf_fit W c a n) (J : ∀ v', sf_YR W K (sf_lvb c a n l) (fun w => P w ∨ (a ≤ w ∧ w < a + n)) (sf_z vl a n) pk sv v' → post v') : wpY_paint post v (nI a) (nI n) 2 3 (nI (2 ^ l)) := by
  obtain ⟨kd, va, al, bo, rfl, hK, hA, hB, hV⟩ := h
  have hw2 := hw.2.1
  have t1 := t.1
  have t2 := t.2.1
  have t3 := t.2.2.1
  have z := sf_fit0 t
  refine sf_ypt t1 (by omega) (by omega) (J _ ⟨_, _, _, _, rfl, ?_, fun b hb => ?_, fun b hb => ?_, fun w hwp => ?_⟩)
  · exact sf_YK_add hf t (fun j e => by rw [sf_lvb_s, if_neg e]) (fun j e => by rw [sf_lvb_c, if_neg e]) (by rw [sf_lvb_c, if_pos rfl]) hK (by rw [sf_lvb_s, if_pos rfl]; rfl) (by rw [sf_lvb_s, if_pos rfl]; rfl)
  · by_cases e : b = a
    · subst e; rw [pk_us, sf_lvb_s, if_pos rfl, if_pos rfl, sf_lvb_l, if_pos rfl]
    · rw [pk_un e, sf_lvb_s, if_neg e, sf_lvb_l, if_neg e]
      rw [sf_lvb_s, if_neg e] at hb
      exact hA b hb
  · rw [sf_lvb_b]
    rw [sf_lvb_s] at hb
    by_cases e : b = a
    · rw [if_pos e] at hb; omega
    · rw [if_neg e] at hb; exact hB b hb
  · unfold sf_z
    by_cases e : a ≤ w ∧ w < a + n
    · rw [if_pos e, if_pos e]
    · rw [if_neg e, if_neg e]; exact hV w (hwp.resolve_right e)
theorem sf_ycut26 {post : SY → Prop} {w0 k0 : Int32} {clk : Int64} {p : Int32} {kd va al : Nat → Int32} {bo : Nat → Int64} {sv' : Nat → Int32} (hw : sf_WK W K) (h1 : 1 ≤ b) (hbw : b + cc ≤ W) (hl : l ≤ 5) (hn : 2 ≤ n) (hA : b ≤ a) (hfit : a + n ≤ b + cc) (hal : a % 2 ^ l = 0) (k1 : sf_WF W c) (k2 : sf_hole W c (a - 1) (b + cc)) (h : sf_YR W K c P vl pk sv (w0, k0, clk, p, kd, va, al, bo, sv')) (hP : ∀ w, P w → w < b ∨ b + cc ≤ w)
    (J : ∀ v', sf_YR W K (if b + cc - a < n + 3 then sf_lvb c a (b + cc - a) l else sf_fre (sf_lvb c a n l) (a + n + 1) (b + cc - a - n - 1)) (fun w => P w ∨ (a ≤ w ∧ w < a + if b + cc - a < n + 3 then b + cc - a else n)) (sf_z vl a (if b + cc - a < n + 3 then b + cc - a else n)) pk sv v' → post v') : wY_cut_26 post (nI b) (nI cc) (nI n) (nI (2 ^ l)) (nI a) w0 k0 clk p kd va al bo sv' := by
  have hw2 := hw.2.1
  unfold wY_cut_26
  refine nm_r (e' := nI (b + cc - a)) (by rw [nI_add, pk_sub (by omega)]) ?_
  rw [pk_sub (a := b + cc - a) (b := n) (by omega)]
  refine pk_lt (b + cc - a - n) 3 (fun g => ?_) (fun g => ?_)
  · rw [if_pos (by omega), if_pos (by omega)] at J
    have t : sf_fit W c a (b + cc - a) := sf_hole_fit k2 (by omega) (by omega) (by omega) hbw
    refine sf_yel hw k1 h t (fun v' h' => ?_)
    obtain ⟨_, _, _, _, _, _, _, _, _⟩ := v'
    exact J _ h'
  · rw [if_neg (by omega), if_neg (by omega)] at J
    have t : sf_fit W c a n := sf_hole_fit k2 (by omega) (by omega) (by omega) hbw
    have k3 := sf_wf_lvb k1 t hl hal
    have k4 := sf_hole_lvb (l := l) k2 (a := a) (n := n) (by omega) (by omega) (by omega)
    have t2 : sf_fit W (sf_lvb c a n l) (a + n + 1) (b + cc - a - n - 1) := sf_hole_fit k4 (by omega) (by omega) (by omega) hbw
    refine sf_yel hw k1 h t (fun v' h' => ?_)
    obtain ⟨_, _, _, _, _, _, _, _, _⟩ := v'
    dsimp only
    rw [nI_add, nI_1, sf_m1 (by omega)]
    refine sf_yef hw k3 h' t2 (fun w hwp => ?_) (fun v2 h2 => ?_)
    · rcases hwp with g2 | g2
      · have := hP w g2; omega
      · omega
    · obtain ⟨_, _, _, _, _, _, _, _, _⟩ := v2
      exact J _ h2
theorem sf_ycut {post : SY → Prop} (hw : sf_WK W K) (hf : sf_WF W c) (h : sf_YR W K c P vl pk sv v) (hv : sf_hole W c (b - 1) (b + cc)) (h1 : 1 ≤ b) (hbw : b + cc ≤ W) (hl : l ≤ 5) (hn : 2 ≤ n) (hfit : sf_plc b (2 ^ l) + n ≤ b + cc) (hP : ∀ w, P w → w < b ∨ b + cc ≤ w) (J : ∀ v', sf_YR W K (sf_cut c b cc n l) (fun w => P w ∨ (sf_plc b (2 ^ l) ≤ w ∧ w < sf_plc b (2 ^ l) + sf_cc b cc n l)) (sf_z vl (sf_plc b (2 ^ l)) (sf_cc b cc n l)) pk sv v' → post v') : wpY_cut post v (nI b) (nI cc) (nI n) (nI (2 ^ l)) := by
  have h2 := sf_p2 hl
  have hw2 := hw.2.1
  have hp := sf_plc_lo (b := b) h2.1
  have hal := sf_plc_al (b := b) (m := 2 ^ l) h2.1
  obtain ⟨k1, k2⟩ := sf_cut1_ok hf hv h1 hbw hl hfit
  have hge := sf_plc_ge (b := b) (m := 2 ^ l) h2.1
  obtain ⟨w0, k0, clk, p, kd, va, al, bo, sv'⟩ := v
  unfold wpY_cut
  dsimp only
  refine sf_yplc hl (by omega) ?_
  unfold sf_cut sf_cc at J
  have e0 : sf_cut1 c b l = if b < sf_plc b (2 ^ l) then sf_fre c b (sf_plc b (2 ^ l) - b - 1) else c := rfl
  generalize sf_cut1 c b l = c1 at *
  generalize hA : sf_plc b (2 ^ l) = A at *
  refine pk_le A b (fun g => ?_) (fun g => ?_)
  · rw [if_neg (by omega)] at e0
    subst e0
    exact sf_ycut26 hw h1 hbw hl hn hp hfit hal k1 k2 h hP J
  · rw [if_pos g] at e0
    subst e0
    rw [pk_sub (a := A) (b := b) (by omega), sf_m1 (by omega)]
    have t : sf_fit W c b (A - b - 1) := sf_hole_fit hv (by omega) (by omega) (by omega) hbw
    refine sf_yef hw hf h t (fun w hwp => by have := hP w hwp; omega) (fun v' h' => ?_)
    obtain ⟨_, _, _, _, _, _, _, _, _⟩ := v'
    exact sf_ycut26 hw h1 hbw hl hn hp hfit hal k1 k2 h' hP J
/-! live words -/
theorem sf_sm_hi {f : Nat → Nat} {m : Nat} (h : ∀ j, m ≤ j → f j = 0) : ∀ d, sf_sm f (m + d) = sf_sm f m
  | 0 => rfl
  | d + 1 => by
    show sf_sm f (m + d) + f (m + d) = _
    rw [sf_sm_hi h d, h (m + d) (by omega)]; rfl
theorem sf_ylw_lp {post : Int32 → Prop} {kd va al : Nat → Int32} {bo : Nat → Int64} (hw : sf_WK W K) (hf : sf_WF W c) (hv : sf_CV W c 0 0) (h : sf_YR W K c P vl pk sv (nI W, nI K, lN (sf_k c), pk, kd, va, al, bo, sv)) (hkd : sf_YK c kd) (J : post (nI (sf_ls c))) : ∀ d i, i ≤ W → W - i < d → wY_liveWords_4 post (nI W) (nI K) (lN (sf_k c)) pk kd va al bo sv d (nI (sf_sm (fun a => if sf_s c a = 2 then sf_c c a + 1 else 0) i)) (nI i) := by
  have hw2 := hw.2.1
  intro d
  induction d with
  | zero => intro i _ h; omega
  | succ d ih =>
    intro i hi hd
    unfold wY_liveWords_4
    refine pk_le W i (fun g => ?_) (fun g => ?_)
    · have e : sf_ls c = sf_sm (fun a => if sf_s c a = 2 then sf_c c a + 1 else 0) i := by
        unfold sf_ls
        have := sf_sm_hi (f := fun a => if sf_s c a = 2 then sf_c c a + 1 else 0) (m := i) (fun j hj => if_neg (fun z => by have := hf.1 j (by omega); omega)) (256 - i)
        rw [show i + (256 - i) = 256 by omega] at this; exact this
      rw [← e]; exact J
    · rw [nI_clamp (n := i) (by omega)]
      have st : ∀ x, sf_sm (fun a => if sf_s c a = 2 then sf_c c a + 1 else 0) i + (if sf_s c i = 2 then sf_c c i + 1 else 0) = x → sf_sm (fun a => if sf_s c a = 2 then sf_c c a + 1 else 0) (i + 1) = x := fun x e => e
      refine ⟨vp_in_nI (by omega) (by omega), sf_if (sf_yk hf hv hkd g).2.1 (fun z => ?_) (fun z => ?_)⟩
      · refine sf_ycap hw hf hv h (by omega) ?_
        rw [nI_1 (sf_c c i), nI_add]
        refine nm_e (nm_r (nI_1 i) ?_)
        have := ih (i + 1) (by omega) (by omega)
        rw [st _ (by rw [if_pos z])] at this; exact this
      · refine nm_r (nI_1 i) ?_
        have := ih (i + 1) (by omega) (by omega)
        rw [st _ (by rw [if_neg z])] at this; exact this
theorem sf_ylw {post : Int32 → Prop} (hw : sf_WK W K) (hf : sf_WF W c) (hv : sf_CV W c 0 0) (h : sf_YR W K c P vl pk sv v) (J : post (nI (sf_ls c))) : wpY_liveWords post v := by
  have h' := h
  obtain ⟨kd, va, al, bo, rfl, hK, hA, hB, hV⟩ := h
  have hw1 := hw.1
  unfold wpY_liveWords
  dsimp only
  have := sf_ylw_lp hw hf hv h' hK J W 1 (by omega) (by omega)
  rw [show sf_sm (fun a => if sf_s c a = 2 then sf_c c a + 1 else 0) 1 = 0 by show 0 + (if sf_s c 0 = 2 then sf_c c 0 + 1 else 0) = 0; rw [sf_s0 hf]; rfl] at this
  exact ⟨W, this⟩
theorem sf_ynp {post : SY → Prop} (hw : sf_WK W K) (hf : sf_WF W c) (hv : sf_CV W c 0 0) (h : sf_YR W K c P vl pk sv v) (J : ∀ v', sf_YR W K c P vl (sf_npk c pk) sv v' → post v') : wpY_notePeak post v := by
  have h' := h
  obtain ⟨kd, va, al, bo, rfl, hh⟩ := h
  unfold wpY_notePeak
  dsimp only
  refine sf_ylw hw hf hv h' ?_
  unfold sf_npk at J
  refine br_c (fun g => ?_) (fun g => ?_)
  · rw [if_pos g] at J; exact J _ ⟨kd, va, al, bo, rfl, hh⟩
  · rw [if_neg g] at J; exact J _ ⟨kd, va, al, bo, rfl, hh⟩
end
end
section
/-! ===== further reads of the reference ===== -/
section
variable {W K a : Nat} {c : sf_Ab} {P : Nat → Prop} {vl sv : Nat → Int32} {pk : Int32} {v : SY} {post : Int32 → Prop}
theorem sf_ykd {w : Nat} (hw : sf_WK W K) (hf : sf_WF W c) (h : sf_YR W K c P vl pk sv v) (hww : w < W) (ha : sf_s c a ≠ 0) (h1 : a ≤ w + 1) (h2 : w < a + sf_c c a) (J : post (nI (sf_kv c w a))) : wpY_kindOf post v (nI w) := by
  obtain ⟨kd, va, al, bo, rfl, hK, -⟩ := h
  have hw2 := hw.2.1
  unfold wpY_kindOf
  dsimp only
  refine br_f (nI_pos (by omega)) (br_t (nI_lt hww (by omega)) ⟨vp_in_nI (by omega) (by omega), ?_⟩)
  rw [nI_clamp (n := w) (by omega), sf_ykv hK ha h1 h2]; exact J
theorem sf_ykd0 {x : Int32} (h : sf_YR W K c P vl pk sv v) (hx : x < 0 ∨ ¬ x < nI W) (J : post 0) : wpY_kindOf post v x := by
  obtain ⟨kd, va, al, bo, rfl, -⟩ := h
  unfold wpY_kindOf
  dsimp only
  exact br_c (fun _ => J) (fun g => br_f (hx.resolve_left g) J)
theorem sf_yfa (hw : sf_WK W K) (hf : sf_WF W c) (hv : sf_CV W c 0 0) (h : sf_YR W K c P vl pk sv v) (ha : sf_s c a ≠ 0) (J : post (nI (sf_fa W c a))) : wpY_freeAfter post v (nI a) := by
  have h' := h
  obtain ⟨kd, va, al, bo, rfl, hK, -⟩ := h
  have hw2 := hw.2.1
  have ha1 := hf.1 a ha
  unfold wpY_freeAfter
  dsimp only
  refine sf_ycap hw hf hv h' ha ?_
  rw [nI_add, nI_1]
  refine nm_e ?_
  by_cases g : a + sf_c c a < W
  · have hn := sf_next hf hv ha g
    have hn1 := hf.1 _ hn
    refine sf_ykd hw hf h' (by omega) hn (by omega) (by omega) ?_
    unfold sf_kv
    rw [if_neg (by omega), if_pos rfl]
    refine pk_eq (sf_s c (a + sf_c c a + 1)) 4 (fun e => ?_) (fun e => ?_)
    · rw [sf_fa, if_pos ⟨g, e⟩] at J; exact J
    · rw [sf_fa, if_neg (fun z => e z.2)] at J; exact J
  · refine sf_ykd0 h' (Or.inr (nI_nlt (by omega) (by omega))) (br_f (by decide) ?_)
    rw [sf_fa, if_neg (fun z => g z.1)] at J; exact J
theorem sf_yfb_lp {w0 k0 : Int32} {clk : Int64} {p0 : Int32} {kd va al : Nat → Int32} {bo : Nat → Int64} {q : Nat} (hw : sf_WK W K) (hf : sf_WF W c) (hK : sf_YK c kd) (hq : sf_s c q ≠ 0) (J : (sf_s c q = 4 → post (nI q)) ∧ (sf_s c q = 2 → post 0)) : ∀ d j, q + j < q + sf_c c q → j < d → wY_freeBefore_4 post w0 k0 clk p0 kd va al bo sv d (nI (q + j)) := by
  have hw2 := hw.2.1
  have hq1 := hf.1 q hq
  have hq2 := hK q hq
  intro d
  induction d with
  | zero => intro j _ h; omega
  | succ d ih =>
    intro j hj hd
    unfold wY_freeBefore_4
    rw [nI_clamp (n := q + j) (by omega)]
    have iin : vp_in (nI (q + j)) 256 := vp_in_nI (by omega) (by omega)
    refine br_f (nI_nlt (b := 1) (by omega) (by omega)) ⟨iin, ?_⟩
    by_cases e : j = 0
    · subst e
      rw [Nat.add_zero, hq2.2.1]
      refine pk_eq (sf_s c q) 4 (fun e => J.1 e) (fun e => ⟨vp_in_nI (by omega) (by omega), pk_eq (sf_s c q) 2 (fun e2 => J.2 e2) (fun e2 => by omega)⟩)
    · rw [hq2.2.2 (q + j) (by omega) (by omega)]
      refine pk_eq (sf_s c q + 1) 4 (fun e => by omega) (fun e => ⟨iin, pk_eq (sf_s c q + 1) 2 (fun e2 => by omega) (fun e2 => ?_)⟩)
      refine nm_r (e' := nI (q + (j - 1))) ?_ (ih (j - 1) (by omega) (by omega))
      rw [show q + j = q + (j - 1) + 1 by omega]; exact pk_m1 _
theorem sf_yfb {p : Nat} (hw : sf_WK W K) (hf : sf_WF W c) (h : sf_YR W K c P vl pk sv v) (ha : sf_s c a ≠ 0) (hp : sf_fbr c a p) (J : post (nI p)) : wpY_freeBefore post v (nI a) := by
  obtain ⟨kd, va, al, bo, rfl, hK, -⟩ := h
  have hw2 := hw.2.1
  have ha1 := hf.1 a ha
  unfold wpY_freeBefore
  dsimp only
  have go : ∀ q, sf_s c q ≠ 0 → q + sf_c c q + 1 = a → (sf_s c q = 4 → post (nI q)) ∧ (sf_s c q = 2 → post 0) → ∀ x, x = nI a - 2 → ∃ n4, wY_freeBefore_4 post (nI W) (nI K) (lN (sf_k c)) pk kd va al bo sv n4 x := fun q hq e Q => by
    have hq1 := hf.1 q hq
    refine nm_r (pk_sub (b := 2) (by omega)) ⟨sf_c c q, ?_⟩
    rw [show a - 2 = q + (sf_c c q - 1) by omega]
    exact sf_yfb_lp hw hf hK hq Q _ _ (by omega) (by omega)
  rcases hp with ⟨rfl, e | ⟨q, hq1, hq2⟩⟩ | ⟨hp1, hp2⟩
  · subst e
    refine nm_e ⟨1, ?_⟩
    unfold wY_freeBefore_4
    exact br_t (by decide) J
  · exact go q (by omega) hq2 ⟨fun e => by omega, fun _ => J⟩
  · exact go p (by omega) hp2 ⟨fun _ => J, fun e => by omega⟩
theorem sf_yrs_lp {post : SY → Prop} {w0 k0 : Int32} {clk : Int64} {p0 : Int32} {kd va al : Nat → Int32} {bo : Nat → Int64} {c0 n m : Nat} (h0 : a + m ≤ 256) (hc0 : c0 < 2 ^ 31) (hn : n < 2 ^ 31) (hm1 : m ≤ c0) (hm2 : m ≤ n) (hm3 : m = c0 ∨ m = n) (J : post (w0, k0, clk, p0, kd, (fun w => if a ≤ w ∧ w < a + m then sv (w - a) else va w), al, bo, sv)) : ∀ d i, i ≤ m → m - i < d → wY_restore_9 post (nI a) (nI c0) (nI n) w0 k0 clk p0 d (nI i) kd (fun w => if a ≤ w ∧ w < a + i then sv (w - a) else va w) al bo sv := by
  intro d
  induction d with
  | zero => intro i _ h; omega
  | succ d ih =>
    intro i hi hd
    unfold wY_restore_9
    refine pk_le c0 i (fun g => ?_) (fun g => pk_le n i (fun g2 => ?_) (fun g2 => ?_))
    · rw [show i = m by omega]; exact J
    · rw [show i = m by omega]; exact J
    · rw [nI_add, nI_clamp (n := i) (by omega), nI_clamp (n := a + i) (by omega)]
      refine ⟨vp_in_nI (by omega) (by omega), vp_in_nI (by omega) (by omega), nm_r ?_ (nm_r (nI_1 i) (ih (i + 1) (by omega) (by omega)))⟩
      refine funext fun x => ?_
      by_cases e : x = a + i
      · subst e
        rw [pk_us, if_pos (by omega), show a + i - a = i by omega]
      · rw [pk_un e]
        by_cases e2 : a ≤ x ∧ x < a + i
        · rw [if_pos e2, if_pos (by omega)]
        · rw [if_neg e2, if_neg (by omega)]
theorem sf_yrs {post : SY → Prop} {c0 m : Nat} (hw : sf_WK W K) (hf : sf_WF W c) (hv : sf_CV W c 0 0) (h : sf_YR W K c P vl pk sv v) (ha : sf_s c a ≠ 0) (hc0 : c0 < 2 ^ 31) (hm1 : m ≤ c0) (hm2 : m ≤ sf_c c a) (hm3 : m = c0 ∨ m = sf_c c a) (J : ∀ v', sf_YR W K c (fun w => P w ∨ (a ≤ w ∧ w < a + m)) (fun w => if a ≤ w ∧ w < a + m then sv (w - a) else vl w) pk sv v' → post v') : wpY_restore post v (nI a) (nI c0) := by
  have h' := h
  obtain ⟨kd, va, al, bo, rfl, hK, hA, hB, hV⟩ := h
  have hw2 := hw.2.1
  have ha1 := hf.1 a ha
  unfold wpY_restore
  dsimp only
  refine sf_ycap hw hf hv h' ha ⟨m + 1, ?_⟩
  have e0 : va = (fun w => if a ≤ w ∧ w < a + 0 then sv (w - a) else va w) := funext fun w => (if_neg (by omega)).symm
  rw [e0, ← nI_0]
  refine sf_yrs_lp (va := va) (by omega) hc0 (by omega) hm1 hm2 hm3 (J _ ⟨kd, _, al, bo, rfl, hK, hA, hB, fun w hwp => ?_⟩) _ _ (by omega) (by omega)
  dsimp only at hwp ⊢
  by_cases e : a ≤ w ∧ w < a + m
  · rw [if_pos e, if_pos e]
  · rw [if_neg e, if_neg e]; exact hV w (hwp.resolve_right e)
end
/-! ===== the component's find ===== -/
section
variable {W K : Nat} {c : sf_Ab} {P : Nat → Prop} {vl : Nat → Int32} {pk : Int32} {u : SX} {post : Int32 → Prop} {need r k o : Nat}
theorem sf_fd_of (hw : sf_WK W K) (hf : sf_WF W c) (h1 : 1 ≤ need) (hn : need < 256) (hg : sf_go K need < 256) (hk : sf_q K (sf_go K need) ≤ k) (hne : sf_ne K c k) (hmin : ∀ j, sf_q K (sf_go K need) ≤ j → sf_ne K c j → k ≤ j) (hy : sf_yg K c k (sf_k c) o) : sf_fd K c need o := by
  have hw2 := hw.2.1
  have o0 : o ≠ 0 := fun e => by
    obtain ⟨b, hb1, hb2⟩ := hne
    have := sf_yg0 hf hy e b hb1 hb2
    have := hf.2.2.1 b hb1; omega
  have x := sf_yg1 hy o0
  have ho := hf.1 o (by omega)
  refine Or.inr ⟨x.1, ?_, fun b hb hbn => ?_⟩
  · exact (sf_goal hw.2.2.2 hw.2.2.1 h1 hn (by omega) (by omega) hg).mp (by rw [x.2.1]; exact hk)
  · have hb1 := hf.1 b (by omega)
    have y := (sf_goal hw.2.2.2 hw.2.2.1 h1 hn (by omega) (by omega) hg).mpr hbn
    have z := hmin _ y ⟨b, hb, rfl⟩
    refine ⟨sf_qle hw.2.2.2 hw.2.2.1 (by omega) (by omega) (by omega) (by omega) (by rw [x.2.1]; exact z), fun e => ?_⟩
    refine x.2.2.2 b hb ?_ (hf.2.2.1 b hb)
    rw [← x.2.1]
    exact (sf_qfl hw.2.2.2 hw.2.2.1 (by omega) (by omega) (by omega) (by omega)).mpr e
theorem sf_fd_none (hw : sf_WK W K) (hf : sf_WF W c) (h1 : 1 ≤ need) (hn : need < 256) (hg : sf_go K need < 256) (hno : ∀ j, sf_q K (sf_go K need) ≤ j → ¬ sf_ne K c j) : sf_fd K c need 0 := by
  have hw2 := hw.2.1
  refine Or.inl ⟨rfl, fun b hb => ?_⟩
  have hb1 := hf.1 b (by omega)
  rcases Nat.lt_or_ge (sf_fl K (sf_c c b)) need with g | g
  · exact g
  · exact absurd ⟨b, hb, rfl⟩ (hno _ ((sf_goal hw.2.2.2 hw.2.2.1 h1 hn (by omega) (by omega) hg).mpr g))
theorem sf_xfd122 {lv tot dg lb fb ls p x : Int32} {hp ss hs rs : Nat → Int32} {l : Nat} (hl : l < 8) (h8 : ∀ j, 8 ≤ j → bt x j = false) (hx : x ≠ 0) (J : ∀ t, t < 8 → bt x t = true → (∀ j, j < t → bt x j = false) → post (hs (8 * l + t))) : wX_find_122 post (nI l) x lv tot dg lb fb ls p hp ss hs rs := by
  unfold wX_find_122
  obtain ⟨t, ht, h1, h2, h3⟩ := sf_low (u := (lv, tot, dg, lb, fb, ls, p, hp, ss, hs, rs)) h8 hx
  refine h3 _ ?_
  rw [sf_s3 (by omega), nI_add, nI_clamp (by omega), show l * 8 + t = 8 * l + t by omega]
  exact ⟨vp_in_nI (by omega) (by omega), J t ht h1 h2⟩
theorem sf_xfd37 {lv lb fb ls : Int32} {hp ss hs rs : Nat → Int32} (hw : sf_WK W K) (hf : sf_WF W c) (hD : sf_XD K c hs) (hB : sf_XB K c rs lv) (h1 : 1 ≤ need) (hn : need < 256) (hr : sf_fd K c need r) (J : post (nI r)) : wX_find_37 post (nI (sf_go K need)) lv (nI W) (nI K) lb fb ls pk hp ss hs rs := by
  have hw2 := hw.2.1
  have hgo := (sf_q4 K hw.2.2.2 hw.2.2.1 need hn h1).2.2.2
  have hgo2 : sf_go K need < 2 ^ 31 := by
    unfold sf_go
    split
    · have : 2 ^ (need.log2 - K) ≤ 2 ^ 8 := Nat.pow_le_pow_right (by decide) (by have := (Nat.log2_lt (k := 8) (by omega : need ≠ 0)).mpr hn; omega)
      omega
    · omega
  unfold wX_find_37
  refine pk_le (sf_go K need) 255 (fun g => ?_) (fun g => ?_)
  · have hg : sf_go K need < 256 := by omega
    have hk := sf_q64 (n := sf_go K need) hw (by omega) hg
    refine sf_xcls hw (by omega) hg ?_
    refine nm_r (sf_u3 (by omega)) ?_
    rw [nI_clamp (n := sf_q K (sf_go K need) / 8) (by omega), sf_and7 _ (by omega), nI_1]
    refine ⟨vp_in_nI (by omega) (by omega), nm_e ?_⟩
    generalize hkk : sf_q K (sf_go K need) = k at *
    obtain ⟨b1, b2, b3⟩ := hB
    have hbit : ∀ j, j < 32 → bt (rs (k / 8) &&& ((-1 : Int32) <<< (nI (k % 8) &&& 31))) j = (bt (rs (k / 8)) j && decide (k % 8 ≤ j)) := fun j hj => sf_ge (by omega) hj
    have h8 : ∀ j, 8 ≤ j → bt (rs (k / 8) &&& ((-1 : Int32) <<< (nI (k % 8) &&& 31))) j = false := fun j hj => by
      rcases Nat.lt_or_ge j 32 with g2 | g2
      · rw [hbit j g2, (b1 _ (by omega)).2 j hj, Bool.false_and]
      · exact b_big g2
    generalize hy : rs (k / 8) &&& ((-1 : Int32) <<< (nI (k % 8) &&& 31)) = y at *
    have fin : ∀ k', k' < 64 → k ≤ k' → sf_ne K c k' → (∀ j, k ≤ j → sf_ne K c j → k' ≤ j) → post (hs k') := fun k' x1 x2 x3 x4 => by
      obtain ⟨o, g1, g2⟩ := hD k' x1
      rw [g1, sf_fd_uni hf (r := o) (sf_fd_of hw hf h1 hn hg (by rw [hkk]; exact x2) x3 (by rw [hkk]; exact x4) g2) hr]
      exact J
    have ne64 : ∀ j, sf_ne K c j → j < 64 := fun j ⟨b, hb1, hb2⟩ => by
      have := hf.1 b (by omega)
      rw [← hb2]; exact sf_q64 hw (by omega) (by omega)
    refine br_c (fun z => ?_) (fun z => ?_)
    · -- no class of this level
      have low : ∀ j, k ≤ j → sf_ne K c j → k / 8 < j / 8 := fun j g1 g2 => by
        rcases Nat.lt_or_ge (k / 8) (j / 8) with g3 | g3
        · exact g3
        · have g4 : j / 8 = k / 8 := by omega
          have g5 := ((b1 (k / 8) (by omega)).1 (j % 8) (by omega)).mpr (by rw [show 8 * (k / 8) + j % 8 = j by omega]; exact g2)
          have g6 := hbit (j % 8) (by omega)
          rw [z, b_0, g5, decide_eq_true (by omega : k % 8 ≤ j % 8)] at g6
          exact Bool.noConfusion g6
      have hbit2 : ∀ j, j < 32 → bt (lv &&& ((-1 : Int32) <<< (nI (k / 8 + 1) &&& 31))) j = (bt lv j && decide (k / 8 + 1 ≤ j)) := fun j hj => sf_ge (by omega) hj
      have h82 : ∀ j, 8 ≤ j → bt (lv &&& ((-1 : Int32) <<< (nI (k / 8 + 1) &&& 31))) j = false := fun j hj => by
        rcases Nat.lt_or_ge j 32 with g2 | g2
        · rw [hbit2 j g2, b3 j hj, Bool.false_and]
        · exact b_big g2
      refine nm_e ?_
      generalize hy2 : lv &&& ((-1 : Int32) <<< (nI (k / 8 + 1) &&& 31)) = y2 at *
      have lev : ∀ j, k ≤ j → sf_ne K c j → bt y2 (j / 8) = true := fun j g1 g2 => by
        have g3 := low j g1 g2
        have g4 := ne64 j g2
        have g5 := ((b1 (j / 8) (by omega)).1 (j % 8) (by omega)).mpr (by rw [show 8 * (j / 8) + j % 8 = j by omega]; exact g2)
        rw [hbit2 _ (by omega), (b2 (j / 8) (by omega)).mpr (sf_nz g5), decide_eq_true (by omega : k / 8 + 1 ≤ j / 8)]; rfl
      refine br_c (fun z2 => ?_) (fun z2 => ?_)
      · have : r = 0 := sf_fd_uni hf hr (sf_fd_none hw hf h1 hn hg (fun j g1 g2 => by
          rw [hkk] at g1
          have := lev j g1 g2
          rw [z2, b_0] at this; exact Bool.noConfusion this))
        rw [this] at J; exact J
      · obtain ⟨t, ht, t1, t2, t3⟩ := sf_low (u := (lv, nI W, nI K, lb, fb, ls, pk, hp, ss, hs, rs)) h82 z2
        refine t3 _ ?_
        rw [nI_clamp (n := t) (by omega)]
        refine ⟨vp_in_nI ht (by omega), nm_e ?_⟩
        have t4 := hbit2 t (by omega)
        rw [t1] at t4
        have t5 : bt lv t = true ∧ k / 8 + 1 ≤ t := by
          have := t4.symm
          rw [Bool.and_eq_true, decide_eq_true_eq] at this; exact this
        refine sf_xfd122 ht (b1 t ht).2 ((b2 t ht).mp t5.1) (fun s hs1 s2 s3 => fin _ (by omega) (by omega) (((b1 t ht).1 s hs1).mp s2) (fun j g1 g2 => ?_))
        have g3 := lev j g1 g2
        rcases Nat.lt_trichotomy t (j / 8) with g4 | g4 | g4
        · omega
        · rcases Nat.lt_or_ge (j % 8) s with g5 | g5
          · have g6 := s3 (j % 8) g5
            have g7 := ((b1 t ht).1 (j % 8) (by omega)).mpr (by rw [show 8 * t + j % 8 = j by omega]; exact g2)
            rw [g6] at g7; exact Bool.noConfusion g7
          · omega
        · rw [t2 _ g4] at g3; exact Bool.noConfusion g3
    · refine sf_xfd122 (by omega) h8 z (fun t ht t1 t2 => ?_)
      have t3 := hbit t (by omega)
      rw [t1] at t3
      have t4 : bt (rs (k / 8)) t = true ∧ k % 8 ≤ t := by
        have := t3.symm
        rw [Bool.and_eq_true, decide_eq_true_eq] at this; exact this
      refine fin _ (by omega) (by omega) (((b1 (k / 8) (by omega)).1 t ht).mp t4.1) (fun j g1 g2 => ?_)
      rcases Nat.lt_or_ge (k / 8) (j / 8) with g3 | g3
      · omega
      · have g4 : j / 8 = k / 8 := by omega
        rcases Nat.lt_or_ge (j % 8) t with g5 | g5
        · have g6 := t2 (j % 8) g5
          have g7 := ((b1 (k / 8) (by omega)).1 (j % 8) (by omega)).mpr (by rw [show 8 * (k / 8) + j % 8 = j by omega]; exact g2)
          rw [hbit _ (by omega), g7, decide_eq_true (by omega : k % 8 ≤ j % 8)] at g6
          exact Bool.noConfusion g6
        · omega
  · have : r = 0 := sf_fd_uni hf hr (Or.inl ⟨rfl, fun b hb => by
      have hb1 := hf.1 b (by omega)
      exact sf_nogoal hw.2.2.2 hw.2.2.1 h1 hn (by omega) (by omega) (by omega)⟩)
    rw [this] at J; exact J
theorem sf_xfd (hw : sf_WK W K) (hf : sf_WF W c) (h : sf_XR W K c P vl pk u) (h1 : 1 ≤ need) (hn : need < 512) (hr : sf_fd K c need r) (J : post (nI r)) : wpX_find post u (nI need) := by
  obtain ⟨lv, hp, ss, hs, rs, rfl, hH, hN, hS, hL, hD, hB, hV⟩ := h
  have hw1 := hw.1
  have hw2 := hw.2.1
  have hK1 := hw.2.2.1
  have hK4 := hw.2.2.2
  unfold wpX_find
  dsimp only
  rw [sf_m1 (a := W) (by omega)]
  refine pk_le need (W - 1) (fun g => ?_) (fun g => ?_)
  · have ht : need.log2 < 8 := (Nat.log2_lt (by omega)).mpr (by omega)
    refine sf_xtb (by omega) ?_
    have go := sf_xfd37 (post := post) (pk := pk) (lv := lv) (lb := nI (sf_nl c)) (fb := nI (sf_nf c)) (ls := nI (sf_ls c)) (hp := hp) (ss := ss) hw hf hD hB h1 (by omega) hr J
    unfold sf_go at go
    by_cases e : K < need.log2
    · rw [if_pos e] at go
      refine nm_r (pk_sub (by omega)) (br_f (nI_nle (by omega) (by omega)) ?_)
      have hp2 := Nat.two_pow_pos (need.log2 - K)
      rw [sf_1sh _ (by omega), nI_add, sf_m1 (by omega)]
      exact nm_e go
    · rw [if_neg e] at go
      refine nm_e (br_t ?_ go)
      rw [Int32.le_iff_toInt_le, pk_sub_toInt (by omega) (by omega), show (0 : Int32).toInt = 0 from by decide]
      omega
  · have : r = 0 := sf_fd_uni hf hr (Or.inl ⟨rfl, fun b hb => by
      have hb1 := hf.1 b (by omega)
      have := sf_q2 K hK4 hK1 (sf_c c b) (by omega) (by omega); omega⟩)
    rw [this] at J; exact J
/-- there is an answer of FIND -/
theorem sf_fd_ex (hw : sf_WK W K) (hf : sf_WF W c) (h1 : 1 ≤ need) : ∃ r, sf_fd K c need r := by
  have hw2 := hw.2.1
  by_cases e : ∃ k, ∃ b, sf_s c b = 4 ∧ need ≤ sf_fl K (sf_c c b) ∧ sf_fl K (sf_c c b) = k
  · obtain ⟨k, ⟨b, hb1, hb2, hb3⟩, hmin⟩ := pk_least _ e
    have hbx := hf.1 b (by omega)
    obtain ⟨r, hr⟩ := sf_yg_ex hf K (sf_q K (sf_c c b)) (sf_k c)
    have r0 : r ≠ 0 := fun e0 => by
      have := sf_yg0 hf hr e0 b hb1 rfl
      have := hf.2.2.1 b hb1; omega
    have x := sf_yg1 hr r0
    have hrx := hf.1 r (by omega)
    have hq := (sf_qfl (a := sf_c c r) (b := sf_c c b) hw.2.2.2 hw.2.2.1 (by omega) (by omega) (by omega) (by omega)).mp x.2.1
    refine ⟨r, Or.inr ⟨x.1, by omega, fun b' h1' h2' => ⟨?_, fun e2 => ?_⟩⟩⟩
    · rcases Nat.lt_or_ge (sf_fl K (sf_c c b')) k with g | g
      · exact absurd ⟨b', h1', h2', rfl⟩ (hmin _ g)
      · omega
    · have hbx' := hf.1 b' (by omega)
      exact x.2.2.2 b' h1' ((sf_qfl hw.2.2.2 hw.2.2.1 (by omega) (by omega) (by omega) (by omega)).mpr (by omega)) (hf.2.2.1 b' h1')
  · refine ⟨0, Or.inl ⟨rfl, fun b hb => ?_⟩⟩
    rcases Nat.lt_or_ge (sf_fl K (sf_c c b)) need with g | g
    · exact g
    · exact absurd ⟨_, b, hb, g, rfl⟩ e
end
end
section
/-! ===== the relation, the constructors ===== -/
/-- one abstract state stands behind both objects; the words of live blocks hold the same contents -/
def i_Rel (k : Nat) (u : SX) (v : SY) : Prop := ∃ (W K : Nat) (c : sf_Ab) (pk : Int32) (sv vl : Nat → Int32), sf_WK W K ∧ sf_WF W c ∧ sf_CV W c 0 0 ∧ sf_k c ≤ k ∧ sf_XR W K c (sf_lw c) vl pk u ∧ sf_YR W K c (sf_lw c) vl pk sv v
theorem i_up {k : Nat} {u : SX} {v : SY} (h : i_Rel k u v) : i_Rel (k + 4) u v := by
  obtain ⟨W, K, c, pk, sv, vl, h1, h2, h3, h4, h5⟩ := h
  exact ⟨W, K, c, pk, sv, vl, h1, h2, h3, by omega, h5⟩
def sf_c0 : sf_Ab := (fun _ => 0, fun _ => 0, fun _ => 0, fun _ => 0, 0)
theorem sf_c0s (a : Nat) : sf_s sf_c0 a = 0 := rfl
theorem sf_sm0 {f : Nat → Nat} (h : ∀ j, f j = 0) : ∀ n, sf_sm f n = 0
  | 0 => rfl
  | n + 1 => by
    show sf_sm f n + f n = 0
    rw [sf_sm0 h n, h n]
theorem sf_c0_wf (W : Nat) : sf_WF W sf_c0 := ⟨fun a h => absurd rfl h, fun a b h => absurd rfl h, fun a h => by rw [sf_c0s] at h; omega, fun a b h => by rw [sf_c0s] at h; omega, fun a h => by rw [sf_c0s] at h; omega⟩
theorem sf_c0_fit {W : Nat} (hW : 32 ≤ W) : sf_fit W sf_c0 1 (W - 1) := ⟨by omega, by omega, by omega, fun b hb => absurd rfl hb⟩
theorem sf_c0_X (W K : Nat) : sf_XR W K sf_c0 (fun _ => False) (fun _ => 0) 0 (0, nI W, nI K, 0, 0, 0, 0, (fun _ => 0), (fun _ => 0), (fun _ => 0), (fun _ => 0)) := by
  have e1 : sf_nl sf_c0 = 0 := sf_sm0 (fun _ => rfl) _
  have e2 : sf_nf sf_c0 = 0 := sf_sm0 (fun _ => rfl) _
  have e3 : sf_ls sf_c0 = 0 := sf_sm0 (fun _ => rfl) _
  have ne : ∀ k, ¬ sf_ne K sf_c0 k := fun k ⟨a, ha, _⟩ => by rw [sf_c0s] at ha; omega
  refine ⟨0, fun _ => 0, fun _ => 0, fun _ => 0, fun _ => 0, by rw [e1, e2, e3]; rfl, fun a h => absurd rfl h, ⟨by decide, fun a h => absurd rfl h⟩, fun h _ => ?_, fun a h => by rw [sf_c0s] at h; omega, fun k _ => ⟨0, rfl, Or.inl ⟨rfl, fun b hb => by rw [sf_c0s] at hb; omega⟩⟩, ⟨fun l _ => ⟨fun j _ => ?_, fun j _ => b_0 j⟩, fun l _ => ?_, fun l _ => b_0 l⟩, fun w h => h.elim⟩
  · rw [b_0]; exact ⟨fun z => Bool.noConfusion z, fun z => absurd rfl z⟩
  · rw [b_0]; exact ⟨fun z => Bool.noConfusion z, fun z => absurd z (ne _)⟩
  · rw [b_0]; exact ⟨fun z => Bool.noConfusion z, fun z => absurd rfl z⟩
theorem sf_c0_Y (W K : Nat) : sf_YR W K sf_c0 (fun _ => False) (fun _ => 0) 0 (fun _ => 0) (nI W, nI K, 0, 0, (fun _ => 0), (fun _ => 0), (fun _ => 0), (fun _ => 0), (fun _ => 0)) :=
  ⟨fun _ => 0, fun _ => 0, fun _ => 0, fun _ => 0, rfl, fun a h => absurd rfl h, fun a h => absurd rfl h, fun a h => by rw [sf_c0s] at h; omega, fun w h => h.elim⟩
/-- the first state -/
def sf_c1 (W : Nat) : sf_Ab := sf_fre sf_c0 1 (W - 1)
theorem sf_c1_lw {W w : Nat} : ¬ sf_lw (sf_c1 W) w := fun ⟨b, hb, _⟩ => by
  unfold sf_c1 at hb
  rw [sf_fre_s] at hb
  split at hb
  · omega
  · rw [sf_c0s] at hb; omega
theorem sf_rel0 {W K : Nat} {u : SX} {v : SY} (hw : sf_WK W K) (hX : sf_XR W K (sf_c1 W) (fun _ => False) (fun _ => 0) 0 u) (hY : sf_YR W K (sf_c1 W) (fun _ => False) (fun _ => 0) 0 (fun _ => 0) v) : i_Rel 2 u v := by
  have hw1 := hw.1
  refine ⟨W, K, sf_c1 W, 0, fun _ => 0, fun _ => 0, hw, sf_wf_fre (sf_c0_wf W) (sf_c0_fit hw.1), fun w h _ => ⟨1, ?_, by omega, ?_⟩, ?_, sf_xweak hX (fun w h => absurd h sf_c1_lw), sf_yweak hY (fun w h => absurd h sf_c1_lw)⟩
  · unfold sf_c1; rw [sf_fre_s, if_pos rfl]; omega
  · unfold sf_c1; rw [sf_fre_c, if_pos rfl]; omega
  · show 0 + 1 ≤ 2; omega
theorem sf_x80 {W K : Nat} {post : SX → Prop} (hw : sf_WK W K) (J : ∀ u, sf_XR W K (sf_c1 W) (fun _ => False) (fun _ => 0) 0 u → post u) : wX_init_80 post (nI W) (nI K) 0 0 0 0 0 0 0 (fun _ => 0) (fun _ => 0) (fun _ => 0) (fun _ => 0) := by
  have hw1 := hw.1
  unfold wX_init_80
  rw [sf_m1 (by omega)]
  refine sf_xef (a := 1) hw (sf_c0_wf W) (sf_c0_X W K) (sf_c0_fit hw.1) (fun w h => h.elim) (fun u h => ?_)
  obtain ⟨_, _, _, _, _, _, _, _, _, _, _⟩ := u
  exact J _ h
theorem sf_y98 {W K : Nat} {k0 p0 : Int32} {clk : Int64} {post : SY → Prop} (hw : sf_WK W K) (J : ∀ v, sf_YR W K (sf_c1 W) (fun _ => False) (fun _ => 0) 0 (fun _ => 0) v → post v) : wY_init_98 post (nI K) (nI W) k0 clk p0 (fun _ => 0) (fun _ => 0) (fun _ => 0) (fun _ => 0) (fun _ => 0) := by
  have hw1 := hw.1
  unfold wY_init_98
  rw [sf_m1 (by omega)]
  refine sf_yef (a := 1) hw (sf_c0_wf W) (sf_c0_Y W K) (sf_c0_fit hw.1) (fun w h => h.elim) (fun u h => ?_)
  obtain ⟨_, _, _, _, _, _, _, _, _⟩ := u
  exact J _ h
theorem sf_clW (x : Int32) : ∃ W, 32 ≤ W ∧ W ≤ 256 ∧ (∀ (post : SX → Prop) (y : Int32), wX_init_59 post y (nI W) 0 0 0 0 0 0 0 (fun _ => 0) (fun _ => 0) (fun _ => 0) (fun _ => 0) → wpX_init post x y) ∧ (∀ (post : SY → Prop) (y : Int32), wY_init_75 post y (nI W) 0 0 0 0 (fun _ => 0) (fun _ => 0) (fun _ => 0) (fun _ => 0) (fun _ => 0) → wpY_init post x y) := by
  by_cases h1 : 32 ≤ x
  · by_cases h2 : x ≤ 256
    · obtain ⟨j, hj, rfl⟩ := nI_of2 (x := x) (M := 256) (n := 256) (by decide) (Int32.not_lt.mpr (Int32.le_trans (by decide) h1)) h2
      have h3 : 32 ≤ j := (nI_leI (a := 32) (b := j) (by omega) (by omega)).mp h1
      refine ⟨j, h3, hj, fun post y J => ?_, fun post y J => ?_⟩
      · unfold wpX_init wX_init_48
        exact br_t h1 (br_t h2 J)
      · unfold wpY_init
        exact br_t h1 (br_t h2 J)
    · refine ⟨256, by omega, by omega, fun post y J => ?_, fun post y J => ?_⟩
      · unfold wpX_init wX_init_48
        exact br_t h1 (br_f h2 J)
      · unfold wpY_init
        exact br_t h1 (br_f h2 J)
  · refine ⟨32, by omega, by omega, fun post y J => ?_, fun post y J => ?_⟩
    · unfold wpX_init wX_init_48
      exact br_f h1 (br_t (by decide) J)
    · unfold wpY_init
      exact br_f h1 J
theorem sf_clK (x : Int32) : ∃ K, 1 ≤ K ∧ K < 4 ∧ (∀ (post : SX → Prop) (y : Int32), wX_init_80 post y (nI K) 0 0 0 0 0 0 0 (fun _ => 0) (fun _ => 0) (fun _ => 0) (fun _ => 0) → wX_init_59 post x y 0 0 0 0 0 0 0 (fun _ => 0) (fun _ => 0) (fun _ => 0) (fun _ => 0)) ∧ (∀ (post : SY → Prop) (y : Int32), wY_init_98 post (nI K) y 0 0 0 (fun _ => 0) (fun _ => 0) (fun _ => 0) (fun _ => 0) (fun _ => 0) → wY_init_75 post x y 0 0 0 0 (fun _ => 0) (fun _ => 0) (fun _ => 0) (fun _ => 0) (fun _ => 0)) := by
  by_cases h1 : 1 ≤ x
  · by_cases h2 : x ≤ 3
    · obtain ⟨j, hj, rfl⟩ := nI_of2 (x := x) (M := 3) (n := 3) (by decide) (Int32.not_lt.mpr (Int32.le_trans (by decide) h1)) h2
      have h3 : 1 ≤ j := (nI_leI (a := 1) (b := j) (by omega) (by omega)).mp h1
      refine ⟨j, h3, by omega, fun post y J => ?_, fun post y J => ?_⟩
      · unfold wX_init_59 wX_init_71
        exact br_t h1 (br_t h2 J)
      · unfold wY_init_75
        exact br_t h1 (br_t h2 J)
    · refine ⟨3, by omega, by omega, fun post y J => ?_, fun post y J => ?_⟩
      · unfold wX_init_59 wX_init_71
        exact br_t h1 (br_f h2 J)
      · unfold wY_init_75
        exact br_t h1 (br_f h2 J)
  · refine ⟨1, by omega, by omega, fun post y J => ?_, fun post y J => ?_⟩
    · unfold wX_init_59 wX_init_71
      exact br_f h1 (br_t (by decide) J)
    · unfold wY_init_75
      exact br_f h1 J
theorem i_vc0 (k0 : Int32) (k1 : Int32) : wpX_init (fun u => wpY_init (fun v => i_Rel 2 u v) k0 k1) k0 k1 := by
  obtain ⟨W, w1, w2, wx, wy⟩ := sf_clW k0
  obtain ⟨K, c1, c2, cx, cy⟩ := sf_clK k1
  have hw : sf_WK W K := ⟨w1, w2, c1, c2⟩
  refine wx _ _ (cx _ _ (sf_x80 hw fun u hu => wy _ _ (cy _ _ (sf_y98 hw fun v hv => sf_rel0 hw hu hv))))
/-! ===== the kind of a word, on both sides ===== -/
section
variable {W K : Nat} {c : sf_Ab} {P Q : Nat → Prop} {vl vl' sv : Nat → Int32} {pk : Int32} {u : SX} {v : SY}
theorem sf_kind (hw : sf_WK W K) (hf : sf_WF W c) (hv : sf_CV W c 0 0) (hX : sf_XR W K c P vl pk u) (hY : sf_YR W K c Q vl' pk sv v) (x : Int32) : ∃ r : Int32, (∀ post : Int32 → Prop, post r → wpX_kindOf post u x) ∧ (∀ post : Int32 → Prop, post r → wpY_kindOf post v x) ∧ ((r = 2 ∧ ∃ a, x = nI a ∧ sf_s c a = 2) ∨ (r = 4 ∧ ∃ a, x = nI a ∧ sf_s c a = 4) ∨ (r ≠ 2 ∧ r ≠ 4 ∧ ∀ a, a < W → x = nI a → sf_s c a = 0)) := by
  have hw2 := hw.2.1
  rcases pk_ix x (n := W) (by omega) with h | h | ⟨j, hj, rfl⟩
  · refine ⟨0, fun post J => sf_xkd0 hX (Or.inl h) J, fun post J => sf_ykd0 hY (Or.inl h) J, Or.inr (Or.inr ⟨by decide, by decide, fun a ha e => ?_⟩)⟩
    rw [e] at h; exact absurd h (nI_pos (by omega))
  · refine ⟨0, fun post J => sf_xkd0 hX (Or.inr (Int32.not_lt.mpr h)) J, fun post J => sf_ykd0 hY (Or.inr (Int32.not_lt.mpr h)) J, Or.inr (Or.inr ⟨by decide, by decide, fun a ha e => ?_⟩)⟩
    rw [e] at h; exact absurd h (nI_ge ha (by omega))
  · obtain ⟨b, hb, h1, h2⟩ := hv j hj (Or.inr (Nat.zero_le _))
    refine ⟨nI (sf_kv c j b), fun post J => sf_xkd hw hf hX hj hb h1 h2 J, fun post J => sf_ykd hw hf hY hj hb h1 h2 J, ?_⟩
    have hb1 := hf.1 b hb
    unfold sf_kv
    by_cases e : b = j + 1
    · rw [if_pos e]
      refine Or.inr (Or.inr ⟨by decide, by decide, fun a ha e2 => ?_⟩)
      have e3 : j = a := (nI_eq (by omega) (by omega)).mp e2
      subst e3
      refine Classical.byContradiction fun z => ?_
      have := hf.1 j z
      have := hf.2.1 j b z hb (by omega); omega
    · rw [if_neg e]
      by_cases e2 : b = j
      · rw [if_pos e2]
        subst e2
        rcases hb1.1 with g | g
        · exact Or.inl ⟨by rw [g]; rfl, b, rfl, g⟩
        · exact Or.inr (Or.inl ⟨by rw [g]; rfl, b, rfl, g⟩)
      · rw [if_neg e2]
        refine Or.inr (Or.inr ⟨?_, ?_, fun a ha e3 => ?_⟩)
        · intro z
          have := (nI_eq (b := 2) (by omega) (by omega)).mp z; omega
        · intro z
          have := (nI_eq (b := 4) (by omega) (by omega)).mp z; omega
        · have e4 : j = a := (nI_eq (by omega) (by omega)).mp e3
          subst e4
          refine Classical.byContradiction fun z => ?_
          exact e2 (sf_own (w := j) hf hb z h1 h2 (by omega) (by have := hf.1 j z; omega))
/-- the address rule, on both sides -/
theorem sf_check (hw : sf_WK W K) (hf : sf_WF W c) (hv : sf_CV W c 0 0) (hX : sf_XR W K c P vl pk u) (hY : sf_YR W K c Q vl' pk sv v) (x : Int32) : ∃ r : Int32, (∀ post : Int32 → Prop, post r → wpX_checkAddress post u x) ∧ (∀ post : Int32 → Prop, post r → wpY_check post v x) ∧ ((r = 0 ∧ ∃ a, x = nI a ∧ sf_s c a = 2) ∨ r ≠ 0) := by
  obtain ⟨r, h1, h2, h3⟩ := sf_kind hw hf hv hX hY x
  obtain ⟨lv, tot, dg, lb, fb, ls, p, hp, ss, hs, rs⟩ := u
  obtain ⟨w0, k0, clk, p0, kd, va, al, bo, sv'⟩ := v
  unfold wpX_checkAddress wpY_check
  dsimp only
  by_cases e : r = 2
  · refine ⟨0, fun post J => h1 _ (br_t e J), fun post J => h2 _ (br_t e J), Or.inl ⟨rfl, ?_⟩⟩
    rcases h3 with ⟨_, g⟩ | ⟨g, _⟩ | ⟨g, _⟩
    · exact g
    · rw [e] at g; exact absurd g (by decide)
    · exact absurd e g
  · by_cases e4 : r = 4
    · exact ⟨-5, fun post J => h1 _ (br_f e (br_t e4 J)), fun post J => h2 _ (br_f e (br_t e4 J)), Or.inr (by decide)⟩
    · by_cases e5 : r = 5
      · exact ⟨-5, fun post J => h1 _ (br_f e (br_f e4 (br_t e5 J))), fun post J => h2 _ (br_f e (br_f e4 (br_t e5 J))), Or.inr (by decide)⟩
      · exact ⟨-4, fun post J => h1 _ (br_f e (br_f e4 (br_f e5 J))), fun post J => h2 _ (br_f e (br_f e4 (br_f e5 J))), Or.inr (by decide)⟩
theorem sf_isb (hw : sf_WK W K) (hf : sf_WF W c) (hv : sf_CV W c 0 0) (hX : sf_XR W K c P vl pk u) (hY : sf_YR W K c Q vl' pk sv v) (x : Int32) : (∃ a, x = nI a ∧ sf_s c a ≠ 0 ∧ (∀ post : Int32 → Prop, post 1 → wpX_isBlock post u x) ∧ (∀ post : Int32 → Prop, post 1 → wpY_isBlock post v x)) ∨ ((∀ post : Int32 → Prop, post 0 → wpX_isBlock post u x) ∧ (∀ post : Int32 → Prop, post 0 → wpY_isBlock post v x)) := by
  obtain ⟨r, -, h2, h3⟩ := sf_kind hw hf hv hX hY x
  have hw2 := hw.2.1
  have hy1 : r = 2 ∨ r = 4 → ∀ post : Int32 → Prop, post 1 → wpY_isBlock post v x := fun e post J => by
    obtain ⟨w0, k0, clk, p0, kd, va, al, bo, sv'⟩ := v
    unfold wpY_isBlock
    refine h2 _ (br_c (fun _ => J) (fun g => br_t (e.resolve_left g) J))
  have hx1 : ∀ a, x = nI a → sf_s c a ≠ 0 → ∀ post : Int32 → Prop, post 1 → wpX_isBlock post u x := fun a e ha post J => by
    have := hf.1 a ha
    rw [e]
    exact sf_xib hw hX (by omega) (by omega) (fun z => absurd z ha) (fun _ => J)
  rcases h3 with ⟨e, a, e1, e2⟩ | ⟨e, a, e1, e2⟩ | ⟨e1, e2, e3⟩
  · exact Or.inl ⟨a, e1, by omega, hx1 a e1 (by omega), hy1 (Or.inl e)⟩
  · exact Or.inl ⟨a, e1, by omega, hx1 a e1 (by omega), hy1 (Or.inr e)⟩
  · refine Or.inr ⟨fun post J => ?_, fun post J => ?_⟩
    · by_cases g1 : x < 1
      · exact sf_xib0 hw hX (Or.inl g1) J
      · by_cases g2 : x < nI W
        · obtain ⟨j, hj, rfl⟩ := nI_of (x := x) (fun z => g1 (Int32.lt_of_lt_of_le z (by decide)))
          have g3 : j < W := (nI_ltI hj (by omega)).mp g2
          have g4 : ¬ j < 1 := fun z => g1 (nI_lt (b := 1) z (by omega))
          exact sf_xib hw hX (by omega) g3 (fun _ => J) (fun z => absurd (e3 j g3 rfl) z)
        · exact sf_xib0 hw hX (Or.inr g2) J
    · obtain ⟨w0, k0, clk, p0, kd, va, al, bo, sv'⟩ := v
      unfold wpY_isBlock
      exact h2 _ (br_f e1 (br_f e2 J))
end
end
section
/-! ===== getters on words and blocks ===== -/
def sf_mx (f : Nat → Int32) : Nat → Nat → Int32 → Int32
  | _, 0, d => d
  | a, n + 1, d => sf_mx f (a + 1) n (d * 31 + f a)
section
variable {W K a : Nat} {c : sf_Ab} {P : Nat → Prop} {vl sv : Nat → Int32} {pk : Int32} {u : SX} {v : SY} {post : Int32 → Prop}
theorem sf_xmix_lp {lv tot dg lb fb ls p : Int32} {hp ss hs rs : Nat → Int32} {E : Nat} (hE : E ≤ 256) : ∀ n b d fuel, b + n = E → n < fuel → (∀ w, b ≤ w → w < b + n → hp w = vl w) → post (sf_mx vl b n d) → wX_mixContents_14 post (nI E) lv tot dg lb fb ls p hp ss hs rs fuel d (nI b) := by
  intro n
  induction n with
  | zero =>
    intro b d fuel h1 h2 h3 J
    obtain ⟨f, rfl⟩ : ∃ f, fuel = f + 1 := ⟨fuel - 1, by omega⟩
    unfold wX_mixContents_14
    exact br_t (nI_le (by omega) (by omega)) J
  | succ n ih =>
    intro b d fuel h1 h2 h3 J
    obtain ⟨f, rfl⟩ : ∃ f, fuel = f + 1 := ⟨fuel - 1, by omega⟩
    unfold wX_mixContents_14
    rw [nI_clamp (n := b) (by omega), h3 b (by omega) (by omega)]
    exact br_f (nI_ge (by omega) (by omega)) ⟨vp_in_nI (by omega) (by omega), nm_e (nm_r (nI_1 b) (ih (b + 1) _ f (by omega) (by omega) (fun w g1 g2 => h3 w (by omega) (by omega)) J))⟩
theorem sf_xmix {d : Int32} (hw : sf_WK W K) (hf : sf_WF W c) (h : sf_XR W K c P vl pk u) (ha : sf_s c a ≠ 0) (hP : ∀ w, a ≤ w → w < a + sf_c c a → P w) (J : post (sf_mx vl a (sf_c c a) d)) : wpX_mixContents post u d (nI a) := by
  have h' := h
  obtain ⟨lv, hp, ss, hs, rs, rfl, hH, hN, hS, hL, hD, hB, hV⟩ := h
  have hw2 := hw.2.1
  have ha1 := hf.1 a ha
  unfold wpX_mixContents
  dsimp only
  refine sf_xcap hw hf h' ha (nm_r (nI_add a _) ⟨sf_c c a + 1, ?_⟩)
  exact sf_xmix_lp (by omega) _ _ _ _ rfl (by omega) (fun w g1 g2 => (hV w (hP w g1 g2)).1) J
theorem sf_ydig_lp {w0 k0 : Int32} {clk : Int64} {p0 : Int32} {kd va al : Nat → Int32} {bo : Nat → Int64} {m : Nat} (hm : a + m ≤ 256) : ∀ n i d fuel, i + n = m → n < fuel → (∀ w, a + i ≤ w → w < a + m → va w = vl w) → post (sf_mx vl (a + i) n d) → wY_digest_22 post (nI a) (nI m) w0 k0 clk p0 kd va al bo sv fuel d (nI i) := by
  intro n
  induction n with
  | zero =>
    intro i d fuel h1 h2 h3 J
    obtain ⟨f, rfl⟩ : ∃ f, fuel = f + 1 := ⟨fuel - 1, by omega⟩
    unfold wY_digest_22
    exact br_t (nI_le (by omega) (by omega)) J
  | succ n ih =>
    intro i d fuel h1 h2 h3 J
    obtain ⟨f, rfl⟩ : ∃ f, fuel = f + 1 := ⟨fuel - 1, by omega⟩
    unfold wY_digest_22
    rw [nI_add, nI_clamp (n := a + i) (by omega), h3 (a + i) (by omega) (by omega)]
    exact br_f (nI_ge (by omega) (by omega)) ⟨vp_in_nI (by omega) (by omega), nm_e (nm_r (nI_1 i) (ih (i + 1) _ f (by omega) (by omega) (fun w g1 g2 => h3 w (by omega) (by omega)) J))⟩
end
theorem i_vc_kindOf {k : Nat} {u : SX} {v : SY} (I : i_Rel k u v) (hk : k + 4 ≤ 2050) (v1 : Int32) : wpX_kindOf (fun r => wpY_kindOf (fun r' => r' = r ∧ i_Rel (k + 4) u v) v v1) u v1 := by
  have I' := i_up I
  obtain ⟨W, K, c, pk, sv, vl, hw, hf, hv, hk4, hX, hY⟩ := I
  obtain ⟨r, h1, h2, h3⟩ := sf_kind hw hf hv hX hY v1
  exact h1 _ (h2 _ ⟨rfl, I'⟩)
theorem i_vc_load {k : Nat} {u : SX} {v : SY} (I : i_Rel k u v) (hk : k + 4 ≤ 2050) (v1 : Int32) (v2 : Int32) : wpX_load (fun r => wpY_load (fun r' => r' = r ∧ i_Rel (k + 4) u v) v v1 v2) u v1 v2 := by
  have I' := i_up I
  obtain ⟨W, K, c, pk, sv, vl, hw, hf, hv, hk4, hX, hY⟩ := I
  obtain ⟨r, h1, h2, h3⟩ := sf_kind hw hf hv hX hY v1
  have hX' := hX
  have hY' := hY
  obtain ⟨lv, hp, ss, hs, rs, rfl, hH, hN, hS, hL, hD, hB, hV⟩ := hX
  obtain ⟨kd, va, al, bo, rfl, hKd, hA, hBo, hVy⟩ := hY
  have hw2 := hw.2.1
  unfold wpX_load wpY_load
  dsimp only
  by_cases e : r = 2
  · rcases h3 with ⟨-, a, rfl, ha⟩ | ⟨g, _⟩ | ⟨g, _⟩
    · have ha1 := hf.1 a (by omega)
      refine h1 _ (br_t e (br_c (fun g => h2 _ (br_t e (br_t g ⟨rfl, I'⟩))) (fun g => ?_)))
      obtain ⟨j, hj, rfl⟩ := nI_of g
      refine sf_xcap hw hf hX' (by omega) (pk_lt j (sf_c c a) (fun g2 => ?_) (fun g2 => ?_))
      · have hlw : sf_lw c (a + j) := ⟨a, ha, by omega, by omega⟩
        have iin : vp_in (nI (a + j)) 256 := vp_in_nI (by omega) (by omega)
        rw [nI_add, nI_clamp (n := a + j) (by omega), (hV _ hlw).1]
        refine ⟨iin, h2 _ (br_t e (br_f g (sf_ycap hw hf hv hY' (by omega) (br_t (nI_lt g2 (by omega)) ⟨iin, ?_⟩))))⟩
        rw [hVy _ hlw]
        exact ⟨rfl, I'⟩
      · exact h2 _ (br_t e (br_f g (sf_ycap hw hf hv hY' (by omega) (br_f (nI_nlt g2 (by omega)) ⟨rfl, I'⟩))))
    · rw [e] at g; exact absurd g (by decide)
    · exact absurd e g
  · exact h1 _ (br_f e (h2 _ (br_f e ⟨rfl, I'⟩)))
theorem i_vc_digest {k : Nat} {u : SX} {v : SY} (I : i_Rel k u v) (hk : k + 4 ≤ 2050) (v1 : Int32) : wpX_digest (fun r => wpY_digest (fun r' => r' = r ∧ i_Rel (k + 4) u v) v v1) u v1 := by
  have I' := i_up I
  obtain ⟨W, K, c, pk, sv, vl, hw, hf, hv, hk4, hX, hY⟩ := I
  obtain ⟨r, h1, h2, h3⟩ := sf_kind hw hf hv hX hY v1
  have hX' := hX
  have hY' := hY
  obtain ⟨lv, hp, ss, hs, rs, rfl, hH, hN, hS, hL, hD, hB, hV⟩ := hX
  obtain ⟨kd, va, al, bo, rfl, hKd, hA, hBo, hVy⟩ := hY
  have hw2 := hw.2.1
  unfold wpX_digest wpY_digest
  dsimp only
  by_cases e : r = 2
  · rcases h3 with ⟨-, a, rfl, ha⟩ | ⟨g, _⟩ | ⟨g, _⟩
    · have ha1 := hf.1 a (by omega)
      refine h1 _ (br_t e (sf_xmix hw hf hX' (by omega) (fun w g1 g2 => ⟨a, ha, g1, g2⟩) ?_))
      refine h2 _ (br_t e (sf_ycap hw hf hv hY' (by omega) ⟨sf_c c a + 1, ?_⟩))
      rw [← nI_0]
      exact sf_ydig_lp (vl := vl) (by omega) (sf_c c a) 0 _ _ (by omega) (by omega) (fun w g1 g2 => hVy w ⟨a, ha, by omega, g2⟩) ⟨rfl, I'⟩
    · rw [e] at g; exact absurd g (by decide)
    · exact absurd e g
  · exact h1 _ (br_f e (h2 _ (br_f e ⟨rfl, I'⟩)))
theorem i_vc_nextBlock {k : Nat} {u : SX} {v : SY} (I : i_Rel k u v) (hk : k + 4 ≤ 2050) (v1 : Int32) : wpX_nextBlock (fun r => wpY_nextBlock (fun r' => r' = r ∧ i_Rel (k + 4) u v) v v1) u v1 := by
  have I' := i_up I
  obtain ⟨W, K, c, pk, sv, vl, hw, hf, hv, hk4, hX, hY⟩ := I
  have hb := sf_isb hw hf hv hX hY v1
  have hX' := hX
  have hY' := hY
  obtain ⟨lv, hp, ss, hs, rs, rfl, -⟩ := hX
  obtain ⟨kd, va, al, bo, rfl, -⟩ := hY
  have hw2 := hw.2.1
  unfold wpX_nextBlock wpY_nextBlock
  dsimp only
  by_cases e : v1 = 0
  · exact br_t e (br_t e ⟨rfl, I'⟩)
  · refine br_f e ?_
    rcases hb with ⟨a, rfl, ha, hx, hy⟩ | ⟨hx, hy⟩
    · have ha1 := hf.1 a ha
      refine hx _ (br_f (by decide) (sf_xba hw hf hX' ha ?_))
      refine br_f e (hy _ (br_f (by decide) (sf_ycap hw hf hv hY' ha ?_)))
      refine nm_r (e' := nI (a + sf_c c a + 1)) (by rw [nI_add, nI_1]) (pk_le W (a + sf_c c a + 1) (fun g => ?_) (fun g => ?_))
      · refine ⟨?_, I'⟩
        rw [if_neg]
        · rfl
        · intro g2
          have := hf.1 _ (sf_next hf hv ha g2); omega
      · refine ⟨?_, I'⟩
        rw [if_pos (by omega)]
    · exact hx _ (br_t rfl (br_f e (hy _ (br_t rfl ⟨rfl, I'⟩))))
theorem i_vc_capacityOf {k : Nat} {u : SX} {v : SY} (I : i_Rel k u v) (hk : k + 4 ≤ 2050) (v1 : Int32) : wpX_capacityOf (fun r => wpY_capacityOf (fun r' => r' = r ∧ i_Rel (k + 4) u v) v v1) u v1 := by
  have I' := i_up I
  obtain ⟨W, K, c, pk, sv, vl, hw, hf, hv, hk4, hX, hY⟩ := I
  have hb := sf_isb hw hf hv hX hY v1
  have hX' := hX
  have hY' := hY
  obtain ⟨lv, hp, ss, hs, rs, rfl, -⟩ := hX
  obtain ⟨kd, va, al, bo, rfl, -⟩ := hY
  unfold wpX_capacityOf wpY_capacityOf
  dsimp only
  rcases hb with ⟨a, rfl, ha, hx, hy⟩ | ⟨hx, hy⟩
  · exact hx _ (br_f (by decide) (sf_xcap hw hf hX' ha (hy _ (br_f (by decide) (sf_ycap hw hf hv hY' ha ⟨rfl, I'⟩)))))
  · exact hx _ (br_t rfl (hy _ (br_t rfl ⟨rfl, I'⟩)))
theorem i_vc_alignmentOf {k : Nat} {u : SX} {v : SY} (I : i_Rel k u v) (hk : k + 4 ≤ 2050) (v1 : Int32) : wpX_alignmentOf (fun r => wpY_alignmentOf (fun r' => r' = r ∧ i_Rel (k + 4) u v) v v1) u v1 := by
  have I' := i_up I
  obtain ⟨W, K, c, pk, sv, vl, hw, hf, hv, hk4, hX, hY⟩ := I
  have hb := sf_isb hw hf hv hX hY v1
  obtain ⟨r, -, h2, h3⟩ := sf_kind hw hf hv hX hY v1
  have hX' := hX
  have hY' := hY
  obtain ⟨lv, hp, ss, hs, rs, rfl, -⟩ := hX
  obtain ⟨kd, va, al, bo, rfl, hKd, hA, -⟩ := hY
  have hw2 := hw.2.1
  unfold wpX_alignmentOf wpY_alignmentOf
  dsimp only
  have hx1 : ∀ a, v1 = nI a → sf_s c a ≠ 0 → ∀ post : Int32 → Prop, post 1 → wpX_isBlock post (lv, nI W, nI K, nI (sf_nl c), nI (sf_nf c), nI (sf_ls c), pk, hp, ss, hs, rs) v1 := fun a e ha post J => by
    have := hf.1 a ha
    rw [e]
    exact sf_xib hw hX' (by omega) (by omega) (fun z => absurd z ha) (fun _ => J)
  rcases h3 with ⟨e, a, rfl, ha⟩ | ⟨e, a, rfl, ha⟩ | ⟨e1, e2, e3⟩
  · have ha1 := hf.1 a (by omega)
    have hl := hf.2.2.2.2 a ha
    refine hx1 a rfl (by omega) _ (br_f (by decide) (sf_xliv1 hw hf hX' ha (br_f (by decide) (sf_xlog hw hf hX' ha ?_))))
    refine h2 _ (br_t e ⟨vp_in_nI (by omega) (by omega), ?_⟩)
    rw [nI_clamp (n := a) (by omega), hA a (by omega), if_pos ha, sf_1sh _ (by omega)]
    exact ⟨rfl, I'⟩
  · refine hx1 a rfl (by omega) _ (br_f (by decide) (sf_xliv0 hw hf hX' ha (br_t rfl ?_)))
    exact h2 _ (br_f (by rw [e]; decide) (br_t e ⟨rfl, I'⟩))
  · rcases hb with ⟨a, rfl, ha, hx, hy⟩ | ⟨hx, hy⟩
    · have ha1 := hf.1 a ha
      exact absurd (e3 a (by omega) rfl) ha
    · exact hx _ (br_t rfl (h2 _ (br_f e1 (br_f e2 ⟨rfl, I'⟩))))
theorem i_vc_floorOf {k : Nat} {u : SX} {v : SY} (I : i_Rel k u v) (hk : k + 4 ≤ 2050) (v1 : Int32) : wpX_floorOf (fun r => wpY_floorOf (fun r' => r' = r ∧ i_Rel (k + 4) u v) v v1) u v1 := by
  have I' := i_up I
  obtain ⟨W, K, c, pk, sv, vl, hw, hf, hv, hk4, hX, hY⟩ := I
  have hX' := hX
  have hY' := hY
  obtain ⟨lv, hp, ss, hs, rs, rfl, -⟩ := hX
  obtain ⟨kd, va, al, bo, rfl, hKd, hA, -⟩ := hY
  have hw1 := hw.1
  have hw2 := hw.2.1
  have hK1 := hw.2.2.1
  have hK4 := hw.2.2.2
  unfold wpX_floorOf wpY_floorOf
  dsimp only
  refine br_c (fun g => br_t g ⟨rfl, I'⟩) (fun g => ?_)
  rw [sf_m1 (a := W) (by omega)]
  refine br_c (fun g2 => ?_) (fun g2 => br_f g (br_f g2 ⟨rfl, I'⟩))
  obtain ⟨n, hn, rfl⟩ := nI_of (x := v1) (fun z => g (Int32.lt_of_lt_of_le z (by decide)))
  have h1 : ¬ n < 1 := fun z => g (nI_lt (b := 1) z (by omega))
  have h2 : n ≤ W - 1 := (nI_leI hn (by omega)).mp g2
  have ht : n.log2 < 8 := (Nat.log2_lt (by omega)).mpr (by omega)
  refine sf_xtb (by omega) ?_
  have fin2 : ∀ x, x = nI (sf_fl K n) → ((nI n < 1 → (fun r' => r' = x ∧ i_Rel (k + 4) (lv, nI W, nI K, nI (sf_nl c), nI (sf_nf c), nI (sf_ls c), pk, hp, ss, hs, rs) (nI W, nI K, lN (sf_k c), pk, kd, va, al, bo, sv)) 0) ∧ (¬ nI n < 1 → ((nI n ≤ nI (W - 1) → wpY_floor (fun r_3 => r_3 = x ∧ i_Rel (k + 4) (lv, nI W, nI K, nI (sf_nl c), nI (sf_nf c), nI (sf_ls c), pk, hp, ss, hs, rs) (nI W, nI K, lN (sf_k c), pk, kd, va, al, bo, sv)) (nI W, nI K, lN (sf_k c), pk, kd, va, al, bo, sv) (nI n)) ∧ (¬ nI n ≤ nI (W - 1) → (fun r' => r' = x ∧ i_Rel (k + 4) (lv, nI W, nI K, nI (sf_nl c), nI (sf_nf c), nI (sf_ls c), pk, hp, ss, hs, rs) (nI W, nI K, lN (sf_k c), pk, kd, va, al, bo, sv)) 0)))) := fun x e =>
    br_f g (br_t g2 (sf_yfl hw hY' (by omega) (by omega) ⟨e.symm, I'⟩))
  by_cases e : K < n.log2
  · refine nm_r (pk_sub (by omega)) (br_t (nI_lt (a := 0) (by omega) (by omega)) (fin2 _ ?_))
    rw [pk_ushrN (by omega) _ (n.log2 - K) (s_u _ (by omega))]
    have hd : n / 2 ^ (n.log2 - K) * 2 ^ (n.log2 - K) ≤ n := Nat.div_mul_le_self _ _
    rw [pk_shlN _ (n.log2 - K) (s_l _ (by omega)) (by omega)]
    unfold sf_fl
    rw [if_neg (by omega)]
  · refine nm_e (br_f ?_ (fin2 _ ?_))
    · rw [Int32.not_lt, Int32.le_iff_toInt_le, pk_sub_toInt (by omega) (by omega), show (0 : Int32).toInt = 0 from by decide]
      omega
    · unfold sf_fl
      by_cases e2 : n.log2 < K
      · rw [if_pos e2]
      · rw [if_neg e2, show n.log2 - K = 0 by omega, Nat.pow_zero, Nat.div_one, Nat.mul_one]
theorem i_vc_peakWords {k : Nat} {u : SX} {v : SY} (I : i_Rel k u v) (hk : k + 4 ≤ 2050) : wpX_peakWords (fun r => wpY_peakWords (fun r' => r' = r ∧ i_Rel (k + 4) u v) v) u := by
  have I' := i_up I
  obtain ⟨W, K, c, pk, sv, vl, hw, hf, hv, hk4, hX, hY⟩ := I
  obtain ⟨lv, hp, ss, hs, rs, rfl, -⟩ := hX
  obtain ⟨kd, va, al, bo, rfl, -⟩ := hY
  unfold wpX_peakWords wpY_peakWords
  exact ⟨rfl, I'⟩
theorem i_vc_liveWords {k : Nat} {u : SX} {v : SY} (I : i_Rel k u v) (hk : k + 4 ≤ 2050) : wpX_liveWords (fun r => wpY_liveWords (fun r' => r' = r ∧ i_Rel (k + 4) u v) v) u := by
  have I' := i_up I
  obtain ⟨W, K, c, pk, sv, vl, hw, hf, hv, hk4, hX, hY⟩ := I
  obtain ⟨lv, hp, ss, hs, rs, rfl, -⟩ := hX
  unfold wpX_liveWords
  dsimp only
  exact sf_ylw hw hf hv hY ⟨rfl, I'⟩
/-! ===== store, fill ===== -/
theorem i_vc_store {k : Nat} {u : SX} {v : SY} (I : i_Rel k u v) (hk : k + 4 ≤ 2050) (v1 : Int32) (v2 : Int32) (v3 : Int32) : wpX_store (fun r u' => wpY_store (fun r' v' => r' = r ∧ i_Rel (k + 4) u' v') v v1 v2 v3) u v1 v2 v3 := by
  have I' := i_up I
  obtain ⟨W, K, c, pk, sv, vl, hw, hf, hv, hk4, hX, hY⟩ := I
  obtain ⟨r, h1, h2, h3⟩ := sf_check hw hf hv hX hY v1
  have hX' := hX
  have hY' := hY
  obtain ⟨lv, hp, ss, hs, rs, rfl, hH, hN, hS, hL, hD, hB, hV⟩ := hX
  obtain ⟨kd, va, al, bo, rfl, hKd, hA, hBo, hVy⟩ := hY
  have hw2 := hw.2.1
  unfold wpX_store wpY_store
  dsimp only
  rcases h3 with ⟨e, a, rfl, ha⟩ | e
  · have ha1 := hf.1 a (by omega)
    refine h1 _ (br_t e (br_c (fun g => h2 _ (br_t e (br_t g ⟨rfl, I'⟩))) (fun g => ?_)))
    obtain ⟨j, hj, rfl⟩ := nI_of g
    refine sf_xcap hw hf hX' (by omega) (pk_lt j (sf_c c a) (fun g2 => ?_) (fun g2 => ?_))
    · have iin : vp_in (nI (a + j)) 256 := vp_in_nI (by omega) (by omega)
      rw [nI_add, nI_clamp (n := a + j) (by omega)]
      refine ⟨iin, nm_e (h2 _ (br_t e (br_f g (sf_ycap hw hf hv hY' (by omega) (br_t (nI_lt g2 (by omega)) ⟨iin, nm_e ⟨rfl, ?_⟩⟩)))))⟩
      refine ⟨W, K, c, pk, sv, upd vl (a + j) v3, hw, hf, hv, by omega, sf_xqt hf hX' (fun w g3 => ?_) (fun w g3 => ?_) rfl, ⟨kd, _, al, bo, rfl, hKd, hA, hBo, fun w g3 => ?_⟩⟩
      · exact pk_un (fun e2 => g3 (by rw [e2]; exact sf_qt_live hf ha (by omega) (by omega)))
      · by_cases e2 : w = a + j
        · rw [e2, pk_us, pk_us, ← e2]; exact ⟨rfl, (hV w g3).2⟩
        · rw [pk_un e2, pk_un e2]; exact hV w g3
      · by_cases e2 : w = a + j
        · rw [e2, pk_us, pk_us]
        · rw [pk_un e2, pk_un e2]; exact hVy w g3
    · exact h2 _ (br_t e (br_f g (sf_ycap hw hf hv hY' (by omega) (br_f (nI_nlt g2 (by omega)) ⟨rfl, I'⟩))))
  · exact h1 _ (br_f e (h2 _ (br_f e ⟨rfl, I'⟩)))
def sf_fil (vl : Nat → Int32) (a i : Nat) (x y : Int32) : Nat → Int32 := fun w => if a ≤ w ∧ w < a + i then x + nI (w - a) * y else vl w
theorem sf_fil_s {vl : Nat → Int32} {a i : Nat} {x y z : Int32} (hz : z = x + nI i * y) : upd (sf_fil vl a i x y) (a + i) z = sf_fil vl a (i + 1) x y := funext fun w => by
  unfold sf_fil
  by_cases e : w = a + i
  · subst e; rw [pk_us, if_pos (by omega), show a + i - a = i by omega]; exact hz
  · rw [pk_un e]
    by_cases e2 : a ≤ w ∧ w < a + i
    · rw [if_pos e2, if_pos (by omega)]
    · rw [if_neg e2, if_neg (by omega)]
theorem sf_fil_0 {vl : Nat → Int32} {a : Nat} {x y : Int32} : sf_fil vl a 0 x y = vl := funext fun w => by
  unfold sf_fil; rw [if_neg (by omega)]
theorem sf_xfil_lp {post : Int32 → SX → Prop} {lv tot dg lb fb ls p x y : Int32} {hp ss hs rs : Nat → Int32} {a n : Nat} (ha : a + n ≤ 256) (J : post 0 (lv, tot, dg, lb, fb, ls, p, sf_fil hp a n x y, ss, hs, rs)) : ∀ d i, i ≤ n → n - i < d → wX_fill_28 post (nI a) y (nI n) lv tot dg lb fb ls p d (x + nI i * y) (nI i) (sf_fil hp a i x y) ss hs rs := by
  intro d
  induction d with
  | zero => intro i _ h; omega
  | succ d ih =>
    intro i hi hd
    unfold wX_fill_28
    refine pk_le n i (fun g => ?_) (fun g => ?_)
    · rw [show i = n by omega]; exact J
    · rw [nI_add, nI_clamp (n := a + i) (by omega), sf_fil_s rfl]
      refine ⟨vp_in_nI (by omega) (by omega), nm_e (nm_r (e' := x + nI (i + 1) * y) ?_ (nm_r (nI_1 i) (ih (i + 1) (by omega) (by omega))))⟩
      rw [← nI_1, Int32.add_mul, Int32.one_mul, Int32.add_assoc]
theorem sf_yfil_lp {post : Int32 → SY → Prop} {w0 k0 : Int32} {clk : Int64} {p0 x y : Int32} {kd va al sv : Nat → Int32} {bo : Nat → Int64} {a n : Nat} (ha : a + n ≤ 256) (J : post 0 (w0, k0, clk, p0, kd, sf_fil va a n x y, al, bo, sv)) : ∀ d i, i ≤ n → n - i < d → wY_fill_25 post (nI a) x y (nI n) w0 k0 clk p0 d (nI i) kd (sf_fil va a i x y) al bo sv := by
  intro d
  induction d with
  | zero => intro i _ h; omega
  | succ d ih =>
    intro i hi hd
    unfold wY_fill_25
    refine pk_le n i (fun g => ?_) (fun g => ?_)
    · rw [show i = n by omega]; exact J
    · rw [nI_add, nI_clamp (n := a + i) (by omega), sf_fil_s rfl]
      exact ⟨vp_in_nI (by omega) (by omega), nm_e (nm_r (nI_1 i) (ih (i + 1) (by omega) (by omega)))⟩
theorem i_vc_fill {k : Nat} {u : SX} {v : SY} (I : i_Rel k u v) (hk : k + 4 ≤ 2050) (v1 : Int32) (v2 : Int32) (v3 : Int32) : wpX_fill (fun r u' => wpY_fill (fun r' v' => r' = r ∧ i_Rel (k + 4) u' v') v v1 v2 v3) u v1 v2 v3 := by
  have I' := i_up I
  obtain ⟨W, K, c, pk, sv, vl, hw, hf, hv, hk4, hX, hY⟩ := I
  obtain ⟨r, h1, h2, h3⟩ := sf_check hw hf hv hX hY v1
  have hX' := hX
  have hY' := hY
  obtain ⟨lv, hp, ss, hs, rs, rfl, hH, hN, hS, hL, hD, hB, hV⟩ := hX
  obtain ⟨kd, va, al, bo, rfl, hKd, hA, hBo, hVy⟩ := hY
  have hw2 := hw.2.1
  unfold wpX_fill wpY_fill
  dsimp only
  rcases h3 with ⟨e, a, rfl, ha⟩ | e
  · have ha1 := hf.1 a (by omega)
    refine h1 _ (br_t e (sf_xcap hw hf hX' (by omega) ⟨sf_c c a + 1, ?_⟩))
    have q1 := sf_xfil_lp (hp := hp) (a := a) (n := sf_c c a) (x := v2) (y := v3) (by omega) (post := fun r u' => wpY_fill (fun r' v' => r' = r ∧ i_Rel (k + 4) u' v') (nI W, nI K, lN (sf_k c), pk, kd, va, al, bo, sv) (nI a) v2 v3) (lv := lv) (tot := nI W) (dg := nI K) (lb := nI (sf_nl c)) (fb := nI (sf_nf c)) (ls := nI (sf_ls c)) (p := pk) (ss := ss) (hs := hs) (rs := rs) ?_ (sf_c c a + 1) 0 (by omega) (by omega)
    · rw [sf_fil_0, nI_0, Int32.zero_mul, Int32.add_zero] at q1
      unfold wpY_fill at q1
      exact q1
    · unfold wpY_fill
      dsimp only
      refine h2 _ (br_t e (sf_ycap hw hf hv hY' (by omega) ⟨sf_c c a + 1, ?_⟩))
      rw [← nI_0]
      have q2 := sf_yfil_lp (va := va) (a := a) (n := sf_c c a) (x := v2) (y := v3) (by omega) (post := fun r' v' => r' = 0 ∧ i_Rel (k + 4) (lv, nI W, nI K, nI (sf_nl c), nI (sf_nf c), nI (sf_ls c), pk, sf_fil hp a (sf_c c a) v2 v3, ss, hs, rs) v') (w0 := nI W) (k0 := nI K) (clk := lN (sf_k c)) (p0 := pk) (kd := kd) (al := al) (bo := bo) (sv := sv) ?_ (sf_c c a + 1) 0 (by omega) (by omega)
      · rw [sf_fil_0] at q2; exact q2
      · refine ⟨rfl, W, K, c, pk, sv, sf_fil vl a (sf_c c a) v2 v3, hw, hf, hv, by omega, sf_xqt hf hX' (fun w g3 => ?_) (fun w g3 => ?_) rfl, ⟨kd, _, al, bo, rfl, hKd, hA, hBo, fun w g3 => ?_⟩⟩
        · exact if_neg (fun e2 => g3 (sf_qt_live hf ha e2.1 e2.2))
        · unfold sf_fil
          by_cases e2 : a ≤ w ∧ w < a + sf_c c a
          · rw [if_pos e2, if_pos e2]; exact ⟨rfl, (hV w g3).2⟩
          · rw [if_neg e2, if_neg e2]; exact hV w g3
        · unfold sf_fil
          by_cases e2 : a ≤ w ∧ w < a + sf_c c a
          · rw [if_pos e2, if_pos e2]
          · rw [if_neg e2, if_neg e2]; exact hVy w g3
  · exact h1 _ (br_f e (h2 _ (br_f e ⟨rfl, I'⟩)))
end
section
/-! ===== chains: how many free blocks of a class are older than lim ===== -/
noncomputable def sf_b01 (p : Prop) : Nat := by classical exact if p then 1 else 0
theorem sf_b1t {p : Prop} (h : p) : sf_b01 p = 1 := by unfold sf_b01; exact if_pos h
theorem sf_b1f {p : Prop} (h : ¬ p) : sf_b01 p = 0 := by unfold sf_b01; exact if_neg h
theorem sf_b1c {p q : Prop} (h : p ↔ q) : sf_b01 p = sf_b01 q := by rw [propext h]
theorem sf_b1le (p : Prop) : sf_b01 p ≤ 1 := by
  by_cases h : p
  · rw [sf_b1t h]; omega
  · rw [sf_b1f h]; omega
/-- the number of free blocks of class k born before lim -/
noncomputable def sf_cl (K : Nat) (c : sf_Ab) (k lim : Nat) : Nat := sf_sm (fun b => sf_b01 (sf_s c b = 4 ∧ sf_q K (sf_c c b) = k ∧ sf_b c b < lim)) 256
section
variable {W K a k lim r : Nat} {c : sf_Ab} {P : Nat → Prop} {vl sv : Nat → Int32} {pk : Int32} {u : SX} {v : SY} {post : Int32 → Prop}
theorem sf_cl0 (hf : sf_WF W c) (h : sf_yg K c k lim 0) : sf_cl K c k lim = 0 :=
  sf_sm0 (fun j => sf_b1f fun z => by have := sf_yg0 hf h rfl j z.1 z.2.1; omega) _
theorem sf_cl1 (hw : sf_WK W K) (hf : sf_WF W c) (h : sf_yg K c k lim r) (hr : r ≠ 0) : sf_cl K c k lim = sf_cl K c k (sf_b c r) + 1 := by
  have x := sf_yg1 h hr
  have hr1 := hf.1 r (by omega)
  have hw2 := hw.2.1
  have e := sf_sm_up (a := r) (f := fun b => sf_b01 (sf_s c b = 4 ∧ sf_q K (sf_c c b) = k ∧ sf_b c b < lim)) (g := fun b => sf_b01 (sf_s c b = 4 ∧ sf_q K (sf_c c b) = k ∧ sf_b c b < sf_b c r)) (fun j hj => sf_b1c ?_) (n := 256) (by omega)
  · rw [sf_b1t ⟨x.1, x.2.1, x.2.2.1⟩, sf_b1f (fun z => by omega)] at e
    unfold sf_cl
    omega
  · constructor
    · intro z; exact ⟨z.1, z.2.1, by omega⟩
    · intro z
      have g1 := x.2.2.2 j z.1 z.2.1 z.2.2
      refine ⟨z.1, z.2.1, ?_⟩
      rcases Nat.lt_or_ge (sf_b c j) (sf_b c r) with g2 | g2
      · exact g2
      · exact absurd (hf.2.2.2.1 j r z.1 x.1 (by omega)) hj
theorem sf_sm_le {f : Nat → Nat} (h : ∀ j, f j ≤ 1) : ∀ n, sf_sm f n ≤ n
  | 0 => Nat.le_refl _
  | n + 1 => by
    show sf_sm f n + f n ≤ n + 1
    have := sf_sm_le h n
    have := h n; omega
theorem sf_sm_W {f : Nat → Nat} (hW : W ≤ 256) (h : ∀ j, W ≤ j → f j = 0) : sf_sm f 256 = sf_sm f W := by
  have := sf_sm_hi h (256 - W)
  rw [show W + (256 - W) = 256 by omega] at this; exact this
theorem sf_cl_le (hw : sf_WK W K) (hf : sf_WF W c) : sf_cl K c k lim ≤ W := by
  unfold sf_cl
  rw [sf_sm_W (W := W) hw.2.1 (fun j hj => sf_b1f fun z => by have := hf.1 j (by omega); omega)]
  exact sf_sm_le (fun j => sf_b1le _) W
/-- one step down a chain, on the component's side -/
theorem sf_xold {hp : Nat → Int32} (hf : sf_WF W c) (hL : sf_XL K c hp) (h : sf_yg K c k lim r) (hr : r ≠ 0) : ∃ o, hp r = nI o ∧ sf_yg K c k (sf_b c r) o := by
  have x := sf_yg1 h hr
  obtain ⟨o, y, h1, h2, -⟩ := hL r x.1
  rw [x.2.1] at h2
  exact ⟨o, h1, h2⟩
theorem sf_yg_lt (hw : sf_WK W K) (hf : sf_WF W c) (h : sf_yg K c k lim r) : r < 256 := by
  have hw2 := hw.2.1
  have hw1 := hw.1
  by_cases e : r = 0
  · omega
  · have := hf.1 r (by have := (sf_yg1 h e).1; omega); omega
/-! free blocks in a class -/
theorem sf_xfic_lp {lv dg lb fb ls p : Int32} {hp ss hs rs : Nat → Int32} (hw : sf_WK W K) (hf : sf_WF W c) (hL : sf_XL K c hp) : ∀ m lim r i cnt fuel, sf_yg K c k lim r → sf_cl K c k lim = m → m < fuel → i + m ≤ W → post (nI (cnt + m)) → wX_freeInClass_36 post lv (nI W) dg lb fb ls p hp ss hs rs fuel (nI r) (nI cnt) (nI i) := by
  have hw2 := hw.2.1
  intro m
  induction m with
  | zero =>
    intro lim r i cnt fuel hy hm hfu hi J
    obtain ⟨f, rfl⟩ : ∃ f, fuel = f + 1 := ⟨fuel - 1, by omega⟩
    have hr : r = 0 := Classical.byContradiction fun z => by have := sf_cl1 hw hf hy z; omega
    unfold wX_freeInClass_36
    exact br_c (fun _ => J) (fun _ => br_t (by rw [hr]; rfl) J)
  | succ m ih =>
    intro lim r i cnt fuel hy hm hfu hi J
    obtain ⟨f, rfl⟩ : ∃ f, fuel = f + 1 := ⟨fuel - 1, by omega⟩
    have hr : r ≠ 0 := fun z => by subst z; have := sf_cl0 hf hy; omega
    have hr2 := sf_yg_lt hw hf hy
    have hc := sf_cl1 hw hf hy hr
    obtain ⟨o, h1, h2⟩ := sf_xold hf hL hy hr
    unfold wX_freeInClass_36
    refine br_f (nI_ge (by omega) (by omega)) (br_f (nI_ne0 (by omega) (by omega)) (nm_r (nI_1 cnt) ⟨vp_in_nI (by omega) (by omega), ?_⟩))
    rw [nI_clamp (n := r) (by omega)]
    refine nm_r h1 (nm_r (nI_1 i) (ih (sf_b c r) o (i + 1) (cnt + 1) f h2 (by omega) (by omega) (by omega) ?_))
    rw [show cnt + 1 + m = cnt + (m + 1) by omega]; exact J
theorem sf_yfic_lp {kd va al : Nat → Int32} {bo : Nat → Int64} {n : Nat} (hw : sf_WK W K) (hf : sf_WF W c) (hv : sf_CV W c 0 0) (h : sf_YR W K c P vl pk sv (nI W, nI K, lN (sf_k c), pk, kd, va, al, bo, sv)) (hkd : sf_YK c kd) (h1 : 1 ≤ n) (hn : n < 256) (J : post (nI (sf_cl K c (sf_q K n) (sf_k c)))) : ∀ d i, i ≤ W → W - i < d → wY_freeInClass_28 post (nI (sf_fl K n)) (nI W) (nI K) (lN (sf_k c)) pk kd va al bo sv d (nI (sf_sm (fun b => sf_b01 (sf_s c b = 4 ∧ sf_q K (sf_c c b) = sf_q K n ∧ sf_b c b < sf_k c)) i)) (nI i) := by
  have hw2 := hw.2.1
  intro d
  induction d with
  | zero => intro i _ h; omega
  | succ d ih =>
    intro i hi hd
    unfold wY_freeInClass_28
    refine pk_le W i (fun g => ?_) (fun g => ?_)
    · unfold sf_cl at J
      rw [sf_sm_W (W := i) (by omega) (fun j hj => sf_b1f fun z => by have := hf.1 j (by omega); omega)] at J
      exact J
    · rw [nI_clamp (n := i) (by omega)]
      have st : ∀ x, sf_b01 (sf_s c i = 4 ∧ sf_q K (sf_c c i) = sf_q K n ∧ sf_b c i < sf_k c) = x → sf_sm (fun b => sf_b01 (sf_s c b = 4 ∧ sf_q K (sf_c c b) = sf_q K n ∧ sf_b c b < sf_k c)) (i + 1) = sf_sm (fun b => sf_b01 (sf_s c b = 4 ∧ sf_q K (sf_c c b) = sf_q K n ∧ sf_b c b < sf_k c)) i + x := fun x e => by rw [← e]; rfl
      refine ⟨vp_in_nI (by omega) (by omega), sf_if (sf_yk hf hv hkd g).2.2 (fun z => ?_) (fun z => ?_)⟩
      · have hci := hf.1 i (by omega)
        have f1 := sf_q2 K hw.2.2.2 hw.2.2.1 n hn h1
        have f2 := sf_q2 K hw.2.2.2 hw.2.2.1 (sf_c c i) (by omega) (by omega)
        have f3 := sf_qfl (a := sf_c c i) (b := n) hw.2.2.2 hw.2.2.1 (by omega) (by omega) h1 hn
        refine sf_ycap hw hf hv h (by omega) (sf_yfl hw h (by omega) (by omega) (sf_if (nI_eq (by omega) (by omega)) (fun e => ?_) (fun e => ?_)))
        · refine nm_r (nI_1 _) (nm_r (nI_1 i) ?_)
          have := ih (i + 1) (by omega) (by omega)
          rw [st 1 (sf_b1t ⟨z, f3.mpr e, hf.2.2.1 i z⟩)] at this; exact this
        · refine nm_r (nI_1 i) ?_
          have := ih (i + 1) (by omega) (by omega)
          rw [st 0 (sf_b1f fun q => e (f3.mp q.2.1))] at this; exact this
      · refine nm_r (nI_1 i) ?_
        have := ih (i + 1) (by omega) (by omega)
        rw [st 0 (sf_b1f fun q => z q.1)] at this; exact this
/-! the block of a rank -/
theorem sf_nth {lv tot dg lb fb ls p : Int32} {hp ss hs rs kd va al : Nat → Int32} {bo : Nat → Int64} {n rk : Nat} (hw : sf_WK W K) (hf : sf_WF W c) (hv : sf_CV W c 0 0) (hclk : sf_k c < 2 ^ 31) (hL : sf_XL K c hp) (h : sf_YR W K c P vl pk sv (nI W, nI K, lN (sf_k c), pk, kd, va, al, bo, sv)) (hbo : sf_YB c bo) (h1 : 1 ≤ n) (hn : n < 256) (hrk : rk < 2 ^ 31) : ∀ m lim r i, lim ≤ sf_k c → i + m < 2 ^ 30 → sf_yg K c (sf_q K n) lim r → sf_cl K c (sf_q K n) lim = m → ∃ x : Nat, (i + m ≤ rk → x = 0) ∧ (∀ (post : Int32 → Prop) fuel, m < fuel → post (nI x) → wX_inClass_46 post (nI rk) lv tot dg lb fb ls p hp ss hs rs fuel (nI r) (nI i)) ∧ (∀ (post : Int32 → Prop) fuel, m < fuel → post (nI x) → wY_inClass_41 post (nI rk) (nI (sf_fl K n)) (nI W) (nI K) (lN (sf_k c)) pk kd va al bo sv fuel (nI r) (nI i)) := by
  have hw2 := hw.2.1
  intro m
  induction m with
  | zero =>
    intro lim r i hlim hi hy hm
    have hr : r = 0 := Classical.byContradiction fun z => by have := sf_cl1 hw hf hy z; omega
    subst hr
    refine ⟨0, fun _ => rfl, fun post fuel hfu J => ?_, fun post fuel hfu J => ?_⟩
    · obtain ⟨f, rfl⟩ : ∃ f, fuel = f + 1 := ⟨fuel - 1, by omega⟩
      unfold wX_inClass_46
      exact br_c (fun _ => J) (fun _ => br_t rfl J)
    · obtain ⟨f, rfl⟩ : ∃ f, fuel = f + 1 := ⟨fuel - 1, by omega⟩
      unfold wY_inClass_41
      exact br_c (fun _ => J) (fun _ => br_t rfl J)
  | succ m ih =>
    intro lim r i hlim hi hy hm
    have hr : r ≠ 0 := fun z => by subst z; have := sf_cl0 hf hy; omega
    have hr2 := sf_yg_lt hw hf hy
    have hc := sf_cl1 hw hf hy hr
    have x := sf_yg1 hy hr
    have hbr := hf.2.2.1 r x.1
    obtain ⟨o, h2, h3⟩ := sf_xold hf hL hy hr
    rcases Nat.lt_or_ge i rk with g | g
    · obtain ⟨y, q1, q2, q3⟩ := ih (sf_b c r) o (i + 1) (by omega) (by omega) h3 (by omega)
      refine ⟨y, fun g2 => q1 (by omega), fun post fuel hfu J => ?_, fun post fuel hfu J => ?_⟩
      · obtain ⟨f, rfl⟩ : ∃ f, fuel = f + 1 := ⟨fuel - 1, by omega⟩
        unfold wX_inClass_46
        rw [nI_clamp (n := r) (by omega)]
        exact br_f (nI_ge g (by omega)) (br_f (nI_ne0 (by omega) (by omega)) ⟨vp_in_nI (by omega) (by omega), nm_r h2 (nm_r (nI_1 i) (q2 post f (by omega) J))⟩)
      · obtain ⟨f, rfl⟩ : ∃ f, fuel = f + 1 := ⟨fuel - 1, by omega⟩
        unfold wY_inClass_41
        rw [nI_clamp (n := r) (by omega), hbo r x.1]
        refine br_f (nI_ge g (by omega)) (br_f (nI_ne0 (by omega) (by omega)) ⟨vp_in_nI (by omega) (by omega), ?_⟩)
        exact sf_yyg hw hf hv hclk h h1 hn (by omega) h3 (nm_r (nI_1 i) (q3 post f (by omega) J))
    · refine ⟨r, fun g2 => by omega, fun post fuel hfu J => ?_, fun post fuel hfu J => ?_⟩
      · obtain ⟨f, rfl⟩ : ∃ f, fuel = f + 1 := ⟨fuel - 1, by omega⟩
        unfold wX_inClass_46
        exact br_t (nI_le g (by omega)) J
      · obtain ⟨f, rfl⟩ : ∃ f, fuel = f + 1 := ⟨fuel - 1, by omega⟩
        unfold wY_inClass_41
        exact br_t (nI_le g (by omega)) J
/-! counts of blocks -/
theorem sf_ybc_lp {k0 : Int32} {clk : Int64} {p0 : Int32} {kd va al : Nat → Int32} {bo : Nat → Int64} {t : Nat} (hw : sf_WK W K) (hf : sf_WF W c) (hkd : ∀ w, w < W → (kd w = nI t ↔ sf_s c w = t)) (ht : t ≠ 0) (J : post (nI (sf_sm (fun a => if sf_s c a = t then 1 else 0) 256))) : ∀ d i, i ≤ W → W - i < d → wY_blockCount_15 post (nI t) (nI W) k0 clk p0 kd va al bo sv d (nI (sf_sm (fun a => if sf_s c a = t then 1 else 0) i)) (nI i) := by
  have hw2 := hw.2.1
  intro d
  induction d with
  | zero => intro i _ h; omega
  | succ d ih =>
    intro i hi hd
    unfold wY_blockCount_15
    refine pk_le W i (fun g => ?_) (fun g => ?_)
    · rw [sf_sm_W (W := i) (by omega) (fun j hj => if_neg fun z => by have := hf.1 j (by omega); omega)] at J
      exact J
    · rw [nI_clamp (n := i) (by omega)]
      have st : ∀ x, (if sf_s c i = t then 1 else 0) = x → sf_sm (fun a => if sf_s c a = t then 1 else 0) (i + 1) = sf_sm (fun a => if sf_s c a = t then 1 else 0) i + x := fun x e => by rw [← e]; rfl
      refine ⟨vp_in_nI (by omega) (by omega), sf_if (hkd i g) (fun z => ?_) (fun z => ?_)⟩
      · refine nm_r (nI_1 _) (nm_r (nI_1 i) ?_)
        have := ih (i + 1) (by omega) (by omega)
        rw [st 1 (if_pos z)] at this; exact this
      · refine nm_r (nI_1 i) ?_
        have := ih (i + 1) (by omega) (by omega)
        rw [st 0 (if_neg z)] at this; exact this
end
theorem i_vc_freeInClass {k : Nat} {u : SX} {v : SY} (I : i_Rel k u v) (hk : k + 4 ≤ 2050) (v1 : Int32) : wpX_freeInClass (fun r => wpY_freeInClass (fun r' => r' = r ∧ i_Rel (k + 4) u v) v v1) u v1 := by
  have I' := i_up I
  obtain ⟨W, K, c, pk, sv, vl, hw, hf, hv, hk4, hX, hY⟩ := I
  have hX' := hX
  have hY' := hY
  obtain ⟨lv, hp, ss, hs, rs, rfl, hH, hN, hS, hL, hD, hB, hV⟩ := hX
  obtain ⟨kd, va, al, bo, rfl, hKd, hA, hBo, hVy⟩ := hY
  have hw1 := hw.1
  have hw2 := hw.2.1
  unfold wpX_freeInClass wpY_freeInClass
  dsimp only
  rw [sf_m1 (a := W) (by omega)]
  refine br_c (fun g => br_t g ⟨rfl, I'⟩) (fun g => br_c (fun g2 => ?_) (fun g2 => br_f g (br_f g2 ⟨rfl, I'⟩)))
  obtain ⟨n, hn, rfl⟩ := nI_of (x := v1) (fun z => g (Int32.lt_of_lt_of_le z (by decide)))
  have h1 : ¬ n < 1 := fun z => g (nI_lt (b := 1) z (by omega))
  have h2 : n ≤ W - 1 := (nI_leI hn (by omega)).mp g2
  have hq := sf_q64 (n := n) hw (by omega) (by omega)
  obtain ⟨o, ho1, ho2⟩ := hD _ hq
  refine sf_xcls hw (by omega) (by omega) ⟨vp_in_nI hq (by omega), ?_⟩
  rw [nI_clamp (n := sf_q K n) (by omega)]
  refine nm_r ho1 ⟨sf_cl K c (sf_q K n) (sf_k c) + 1, ?_⟩
  rw [← nI_0]
  refine sf_xfic_lp hw hf hL (sf_cl K c (sf_q K n) (sf_k c)) (sf_k c) o 0 0 _ ho2 rfl (by omega) (by have := sf_cl_le (k := sf_q K n) (lim := sf_k c) hw hf; omega) ?_
  refine br_f g (br_t g2 (sf_yfl hw hY' (by omega) (by omega) ⟨W, ?_⟩))
  have := sf_yfic_lp (post := fun r' => r' = nI (0 + sf_cl K c (sf_q K n) (sf_k c)) ∧ i_Rel (k + 4) (lv, nI W, nI K, nI (sf_nl c), nI (sf_nf c), nI (sf_ls c), pk, hp, ss, hs, rs) (nI W, nI K, lN (sf_k c), pk, kd, va, al, bo, sv)) (n := n) hw hf hv hY' hKd (by omega) (by omega) ⟨by rw [Nat.zero_add], I'⟩ W 1 (by omega) (by omega)
  rw [show sf_sm (fun b => sf_b01 (sf_s c b = 4 ∧ sf_q K (sf_c c b) = sf_q K n ∧ sf_b c b < sf_k c)) 1 = 0 by show 0 + sf_b01 _ = 0; rw [sf_b1f]; rw [sf_s0 hf]; omega] at this
  exact this
theorem i_vc_inClass {k : Nat} {u : SX} {v : SY} (I : i_Rel k u v) (hk : k + 4 ≤ 2050) (v1 : Int32) (v2 : Int32) : wpX_inClass (fun r => wpY_inClass (fun r' => r' = r ∧ i_Rel (k + 4) u v) v v1 v2) u v1 v2 := by
  have I' := i_up I
  obtain ⟨W, K, c, pk, sv, vl, hw, hf, hv, hk4, hX, hY⟩ := I
  have hX' := hX
  have hY' := hY
  obtain ⟨lv, hp, ss, hs, rs, rfl, hH, hN, hS, hL, hD, hB, hV⟩ := hX
  obtain ⟨kd, va, al, bo, rfl, hKd, hA, hBo, hVy⟩ := hY
  have hw1 := hw.1
  have hw2 := hw.2.1
  unfold wpX_inClass
  dsimp only
  rw [sf_m1 (a := W) (by omega)]
  refine br_c (fun g => ?_) (fun g => br_c (fun g2 => ?_) (fun g2 => br_c (fun g3 => ?_) (fun g3 => ?_)))
  · unfold wpY_inClass
    dsimp only
    exact br_t g ⟨rfl, I'⟩
  · unfold wpY_inClass
    dsimp only
    rw [sf_m1 (a := W) (by omega)]
    exact br_f g (br_t g2 ⟨rfl, I'⟩)
  · unfold wpY_inClass
    dsimp only
    rw [sf_m1 (a := W) (by omega)]
    exact br_f g (br_f g2 (br_f (Int32.not_le.mpr g3) ⟨rfl, I'⟩))
  obtain ⟨n, hn, rfl⟩ := nI_of (x := v1) (fun z => g (Int32.lt_of_lt_of_le z (by decide)))
  obtain ⟨rk, hrk, rfl⟩ := nI_of (x := v2) g3
  have h1 : ¬ n < 1 := fun z => g (nI_lt (b := 1) z (by omega))
  have h2 : n ≤ W - 1 := by
    rcases Nat.lt_or_ge (W - 1) n with z | z
    · exact absurd (nI_lt z hn) g2
    · exact z
  have hq := sf_q64 (n := n) hw (by omega) (by omega)
  obtain ⟨o, ho1, ho2⟩ := hD _ hq
  have hcl := sf_cl_le (k := sf_q K n) (lim := sf_k c) hw hf
  obtain ⟨x, q1, q2, q3⟩ := sf_nth (lv := lv) (tot := nI W) (dg := nI K) (lb := nI (sf_nl c)) (fb := nI (sf_nf c)) (ls := nI (sf_ls c)) (p := pk) (ss := ss) (hs := hs) (rs := rs) hw hf hv (by omega) hL hY' hBo (n := n) (by omega) (by omega) hrk (sf_cl K c (sf_q K n) (sf_k c)) (sf_k c) o 0 (Nat.le_refl _) (by omega) ho2 rfl
  have Y : ∀ y : Int32, y = nI x → wpY_inClass (fun r' => r' = y ∧ i_Rel (k + 4) (lv, nI W, nI K, nI (sf_nl c), nI (sf_nf c), nI (sf_ls c), pk, hp, ss, hs, rs) (nI W, nI K, lN (sf_k c), pk, kd, va, al, bo, sv)) (nI W, nI K, lN (sf_k c), pk, kd, va, al, bo, sv) (nI n) (nI rk) := fun y e => by
    unfold wpY_inClass
    dsimp only
    rw [sf_m1 (a := W) (by omega)]
    exact br_f g (br_f g2 (br_t (Int32.not_lt.mp g3) (sf_yfl hw hY' (by omega) (by omega) (sf_yyg hw hf hv (by omega) hY' (by omega) (by omega) (Nat.le_refl _) ho2 ⟨_, q3 _ (W + 1) (by omega) ⟨e.symm, I'⟩⟩))))
  refine pk_lt rk W (fun g4 => ?_) (fun g4 => ?_)
  · refine sf_xcls hw (by omega) (by omega) ⟨vp_in_nI hq (by omega), ?_⟩
    rw [nI_clamp (n := sf_q K n) (by omega)]
    refine nm_r ho1 ⟨W + 1, q2 _ (W + 1) (by omega) ?_⟩
    exact Y _ rfl
  · have e : x = 0 := q1 (by omega)
    exact Y _ (by rw [e]; rfl)
theorem i_vc_blockCount {k : Nat} {u : SX} {v : SY} (I : i_Rel k u v) (hk : k + 4 ≤ 2050) (v1 : Int32) : wpX_blockCount (fun r => wpY_blockCount (fun r' => r' = r ∧ i_Rel (k + 4) u v) v (lw_bz v1)) u (lw_bz v1) := by
  have I' := i_up I
  obtain ⟨W, K, c, pk, sv, vl, hw, hf, hv, hk4, hX, hY⟩ := I
  obtain ⟨lv, hp, ss, hs, rs, rfl, -⟩ := hX
  obtain ⟨kd, va, al, bo, rfl, hKd, -⟩ := hY
  have hw1 := hw.1
  have s1 : ∀ t, t ≠ 0 → sf_sm (fun a => if sf_s c a = t then 1 else 0) 1 = 0 := fun t ht => by
    show 0 + (if sf_s c 0 = t then 1 else 0) = 0
    rw [sf_s0 hf, if_neg (fun z => ht z.symm)]
  unfold wpX_blockCount wpY_blockCount
  dsimp only
  refine br_c (fun g => br_t g ⟨W, ?_⟩) (fun g => br_f g ⟨W, ?_⟩)
  · have := sf_ybc_lp (post := fun r' => r' = nI (sf_nf c) ∧ i_Rel (k + 4) (lv, nI W, nI K, nI (sf_nl c), nI (sf_nf c), nI (sf_ls c), pk, hp, ss, hs, rs) (nI W, nI K, lN (sf_k c), pk, kd, va, al, bo, sv)) (k0 := nI K) (clk := lN (sf_k c)) (p0 := pk) (va := va) (al := al) (bo := bo) (sv := sv) (t := 4) hw hf (fun w g2 => (sf_yk hf hv hKd g2).2.2) (by omega) ⟨rfl, I'⟩ W 1 (by omega) (by omega)
    rw [s1 4 (by omega)] at this
    exact this
  · have := sf_ybc_lp (post := fun r' => r' = nI (sf_nl c) ∧ i_Rel (k + 4) (lv, nI W, nI K, nI (sf_nl c), nI (sf_nf c), nI (sf_ls c), pk, hp, ss, hs, rs) (nI W, nI K, lN (sf_k c), pk, kd, va, al, bo, sv)) (k0 := nI K) (clk := lN (sf_k c)) (p0 := pk) (va := va) (al := al) (bo := bo) (sv := sv) (t := 2) hw hf (fun w g2 => (sf_yk hf hv hKd g2).2.1) (by omega) ⟨rfl, I'⟩ W 1 (by omega) (by omega)
    rw [s1 2 (by omega)] at this
    exact this
end
section
/-! ===== the largest free block ===== -/
/-- m is 0 or the capacity of a free block -/
def sf_att (c : sf_Ab) (m : Nat) : Prop := m = 0 ∨ ∃ b, sf_s c b = 4 ∧ sf_c c b = m
def sf_mf (c : sf_Ab) (m : Nat) : Prop := (∀ b, sf_s c b = 4 → sf_c c b ≤ m) ∧ sf_att c m
theorem sf_mf_uni {c : sf_Ab} {m m' : Nat} (h : sf_mf c m) (h' : sf_mf c m') : m = m' := by
  have g1 : m ≤ m' := by
    rcases h.2 with e | ⟨b, h1, h2⟩
    · omega
    · have := h'.1 b h1; omega
  have g2 : m' ≤ m := by
    rcases h'.2 with e | ⟨b, h1, h2⟩
    · omega
    · have := h.1 b h1; omega
  omega
section
variable {W K a k : Nat} {c : sf_Ab} {P : Nat → Prop} {vl sv : Nat → Int32} {pk : Int32} {u : SX} {v : SY} {post : Int32 → Prop}
theorem sf_ylf_lp {kd va al : Nat → Int32} {bo : Nat → Int64} {M : Nat} (hw : sf_WK W K) (hf : sf_WF W c) (hv : sf_CV W c 0 0) (h : sf_YR W K c P vl pk sv (nI W, nI K, lN (sf_k c), pk, kd, va, al, bo, sv)) (hkd : sf_YK c kd) (hM : sf_mf c M) (J : post (nI M)) : ∀ d i m, i ≤ W → W - i < d → (∀ b, b < i → sf_s c b = 4 → sf_c c b ≤ m) → sf_att c m → wY_largestFree_4 post (nI W) (nI K) (lN (sf_k c)) pk kd va al bo sv d (nI m) (nI i) := by
  have hw2 := hw.2.1
  intro d
  induction d with
  | zero => intro i m _ h; omega
  | succ d ih =>
    intro i m hi hd h1 h2
    have hm : m < 256 := by
      rcases h2 with e | ⟨b, g1, g2⟩
      · omega
      · have := hf.1 b (by omega); omega
    unfold wY_largestFree_4
    refine pk_le W i (fun g => ?_) (fun g => ?_)
    · have : m = M := sf_mf_uni ⟨fun b hb => h1 b (by have := hf.1 b (by omega); omega) hb, h2⟩ hM
      rw [this]; exact J
    · rw [nI_clamp (n := i) (by omega)]
      refine ⟨vp_in_nI (by omega) (by omega), sf_if (sf_yk hf hv hkd g).2.2 (fun z => ?_) (fun z => ?_)⟩
      · have hci := hf.1 i (by omega)
        refine sf_ycap hw hf hv h (by omega) (pk_le (sf_c c i) m (fun g2 => nm_r (nI_1 i) (ih _ _ (by omega) (by omega) (fun b hb hb2 => ?_) h2)) (fun g2 => nm_r (nI_1 i) (ih _ _ (by omega) (by omega) (fun b hb hb2 => ?_) (Or.inr ⟨i, z, rfl⟩))))
        · by_cases e : b = i
          · subst e; exact g2
          · exact h1 b (by omega) hb2
        · by_cases e : b = i
          · subst e; exact Nat.le_refl _
          · have := h1 b (by omega) hb2; omega
      · refine nm_r (nI_1 i) (ih _ _ (by omega) (by omega) (fun b hb hb2 => ?_) h2)
        by_cases e : b = i
        · subst e; exact absurd hb2 z
        · exact h1 b (by omega) hb2
theorem sf_xlf_lp {lv : Int32} {hp ss hs rs : Nat → Int32} (hw : sf_WK W K) (hf : sf_WF W c) (hX : sf_XR W K c P vl pk (lv, nI W, nI K, nI (sf_nl c), nI (sf_nf c), nI (sf_ls c), pk, hp, ss, hs, rs)) (hL : sf_XL K c hp) (J : ∀ m, (∀ b, sf_s c b = 4 → sf_q K (sf_c c b) = k → sf_c c b ≤ m) → sf_att c m → post (nI m)) : ∀ n lim r i m fuel, sf_yg K c k lim r → sf_cl K c k lim = n → n < fuel → i + n ≤ W → (∀ b, sf_s c b = 4 → sf_q K (sf_c c b) = k → lim ≤ sf_b c b → sf_c c b ≤ m) → sf_att c m → wX_largestFree_46 post lv (nI W) (nI K) (nI (sf_nl c)) (nI (sf_nf c)) (nI (sf_ls c)) pk hp ss hs rs fuel (nI r) (nI m) (nI i) := by
  have hw2 := hw.2.1
  intro n
  induction n with
  | zero =>
    intro lim r i m fuel hy hn hfu hi h1 h2
    obtain ⟨f, rfl⟩ : ∃ f, fuel = f + 1 := ⟨fuel - 1, by omega⟩
    have hr : r = 0 := Classical.byContradiction fun z => by have := sf_cl1 hw hf hy z; omega
    have J' := J m (fun b hb hq => h1 b hb hq (sf_yg0 hf hy hr b hb hq)) h2
    unfold wX_largestFree_46
    exact br_c (fun _ => J') (fun _ => br_t (by rw [hr]; rfl) J')
  | succ n ih =>
    intro lim r i m fuel hy hn hfu hi h1 h2
    obtain ⟨f, rfl⟩ : ∃ f, fuel = f + 1 := ⟨fuel - 1, by omega⟩
    have hr : r ≠ 0 := fun z => by subst z; have := sf_cl0 hf hy; omega
    have hr2 := sf_yg_lt hw hf hy
    have hc := sf_cl1 hw hf hy hr
    have x := sf_yg1 hy hr
    have hrx := hf.1 r (by omega)
    obtain ⟨o, h3, h4⟩ := sf_xold hf hL hy hr
    have hm : m < 256 := by
      rcases h2 with e | ⟨b, g1, g2⟩
      · omega
      · have := hf.1 b (by omega); omega
    have step : ∀ b, sf_s c b = 4 → sf_q K (sf_c c b) = k → sf_b c r ≤ sf_b c b → b = r ∨ lim ≤ sf_b c b := fun b g1 g2 g3 => by
      rcases Nat.lt_or_ge (sf_b c b) lim with g4 | g4
      · have := x.2.2.2 b g1 g2 g4
        exact Or.inl (hf.2.2.2.1 b r g1 x.1 (by omega))
      · exact Or.inr g4
    unfold wX_largestFree_46
    refine br_f (nI_ge (by omega) (by omega)) (br_f (nI_ne0 (by omega) (by omega)) (sf_xcap hw hf hX (by omega) ?_))
    rw [nI_clamp (n := r) (by omega)]
    have rin : vp_in (nI r) 256 := vp_in_nI (by omega) (by omega)
    refine pk_le (sf_c c r) m (fun g => ⟨rin, nm_r h3 (nm_r (nI_1 i) (ih (sf_b c r) o (i + 1) m f h4 (by omega) (by omega) (by omega) (fun b g1 g2 g3 => ?_) h2))⟩) (fun g => ⟨rin, nm_r h3 (nm_r (nI_1 i) (ih (sf_b c r) o (i + 1) (sf_c c r) f h4 (by omega) (by omega) (by omega) (fun b g1 g2 g3 => ?_) (Or.inr ⟨r, x.1, rfl⟩)))⟩)
    · rcases step b g1 g2 g3 with e | e
      · subst e; exact g
      · exact h1 b g1 g2 e
    · rcases step b g1 g2 g3 with e | e
      · subst e; exact Nat.le_refl _
      · have := h1 b g1 g2 e; omega
end
theorem i_vc_largestFree {k : Nat} {u : SX} {v : SY} (I : i_Rel k u v) (hk : k + 4 ≤ 2050) : wpX_largestFree (fun r => wpY_largestFree (fun r' => r' = r ∧ i_Rel (k + 4) u v) v) u := by
  have I' := i_up I
  obtain ⟨W, K, c, pk, sv, vl, hw, hf, hv, hk4, hX, hY⟩ := I
  have hX' := hX
  have hY' := hY
  obtain ⟨lv, hp, ss, hs, rs, rfl, hH, hN, hS, hL, hD, hB, hV⟩ := hX
  obtain ⟨kd, va, al, bo, rfl, hKd, hA, hBo, hVy⟩ := hY
  have hw1 := hw.1
  have hw2 := hw.2.1
  obtain ⟨b1, b2, b3⟩ := hB
  have Y : ∀ m, sf_mf c m → wpY_largestFree (fun r' => r' = nI m ∧ i_Rel (k + 4) (lv, nI W, nI K, nI (sf_nl c), nI (sf_nf c), nI (sf_ls c), pk, hp, ss, hs, rs) (nI W, nI K, lN (sf_k c), pk, kd, va, al, bo, sv)) (nI W, nI K, lN (sf_k c), pk, kd, va, al, bo, sv) := fun m hm => by
    unfold wpY_largestFree
    dsimp only
    exact ⟨W, sf_ylf_lp hw hf hv hY' hKd hm ⟨rfl, I'⟩ W 1 0 (by omega) (by omega) (fun b hb hb2 => by rw [show b = 0 by omega, sf_s0 hf] at hb2; omega) (Or.inl rfl)⟩
  have lev : ∀ j, sf_ne K c j → j < 64 ∧ bt (rs (j / 8)) (j % 8) = true ∧ bt lv (j / 8) = true := fun j hj => by
    have h64 : j < 64 := by
      obtain ⟨b, hb1, hb2⟩ := hj
      have := hf.1 b (by omega)
      rw [← hb2]; exact sf_q64 hw (by omega) (by omega)
    have g5 := ((b1 (j / 8) (by omega)).1 (j % 8) (by omega)).mpr (by rw [show 8 * (j / 8) + j % 8 = j by omega]; exact hj)
    exact ⟨h64, g5, (b2 (j / 8) (by omega)).mpr (sf_nz g5)⟩
  unfold wpX_largestFree
  dsimp only
  refine br_c (fun z => ?_) (fun z => ?_)
  · refine Y 0 ⟨fun b hb => ?_, Or.inl rfl⟩
    have := (lev _ ⟨b, hb, rfl⟩).2.2
    rw [z, b_0] at this; exact Bool.noConfusion this
  · obtain ⟨l, hl, l1, l2, l3⟩ := sf_high (u := (lv, nI W, nI K, nI (sf_nl c), nI (sf_nf c), nI (sf_ls c), pk, hp, ss, hs, rs)) z
    have hl8 : l < 8 := by
      rcases Nat.lt_or_ge l 8 with g | g
      · exact g
      · rw [b3 l g] at l1; exact Bool.noConfusion l1
    refine l3 _ ⟨vp_in_nI hl8 (by omega), ?_⟩
    rw [nI_clamp (n := l) (by omega)]
    obtain ⟨t, ht, t1, t2, t3⟩ := sf_high (u := (lv, nI W, nI K, nI (sf_nl c), nI (sf_nf c), nI (sf_ls c), pk, hp, ss, hs, rs)) ((b2 l hl8).mp l1)
    have ht8 : t < 8 := by
      rcases Nat.lt_or_ge t 8 with g | g
      · exact g
      · rw [(b1 l hl8).2 t g] at t1; exact Bool.noConfusion t1
    refine t3 _ ?_
    rw [sf_s3 (by omega), nI_add, nI_clamp (n := l * 8 + t) (by omega), show l * 8 + t = 8 * l + t by omega]
    obtain ⟨o, ho1, ho2⟩ := hD (8 * l + t) (by omega)
    refine ⟨vp_in_nI (by omega) (by omega), nm_r ho1 ⟨W + 1, ?_⟩⟩
    have hcl := sf_cl_le (k := 8 * l + t) (lim := sf_k c) hw hf
    obtain ⟨bs, bs1, bs2⟩ := ((b1 l hl8).1 t ht8).mp t1
    have hbs := hf.1 bs (by omega)
    rw [← nI_0]
    refine sf_xlf_lp hw hf hX' hL (fun m m1 m2 => Y m ⟨fun b hb => ?_, m2⟩) (sf_cl K c (8 * l + t) (sf_k c)) (sf_k c) o 0 0 (W + 1) ho2 rfl (by omega) (by omega) (fun b hb hq hlim => by have := hf.2.2.1 b hb; omega) (Or.inl rfl)
    have hbx := hf.1 b (by omega)
    have hj := lev _ ⟨b, hb, rfl⟩
    by_cases e : sf_q K (sf_c c b) = 8 * l + t
    · exact m1 b hb e
    · have g1 : sf_q K (sf_c c b) < 8 * l + t := by
        rcases Nat.lt_trichotomy (sf_q K (sf_c c b) / 8) l with g | g | g
        · omega
        · have g3 : sf_q K (sf_c c b) % 8 ≤ t := by
            rcases Nat.lt_or_ge t (sf_q K (sf_c c b) % 8) with g4 | g4
            · have g5 := hj.2.1
              rw [g, t2 _ g4] at g5; exact Bool.noConfusion g5
            · exact g4
          omega
        · have g5 := hj.2.2
          rw [l2 _ g] at g5; exact Bool.noConfusion g5
      have g2 := m1 bs bs1 bs2
      rcases Nat.lt_or_ge (sf_c c bs) (sf_c c b) with g3 | g3
      · have := sf_qm hw.2.2.2 hw.2.2.1 (a := sf_c c bs) (b := sf_c c b) (by omega) (by omega) (by omega)
        omega
      · omega
/-! ===== audit, first half: the blocks ===== -/
def sf_au (c : sf_Ab) (vl : Nat → Int32) (a : Nat) (d : Int32) : Int32 :=
  if sf_s c a = 2 then sf_mx vl a (sf_c c a) (((d * 31 + nI a) * 31 + nI (sf_c c a)) * 31 + nI (2 ^ sf_l c a)) else ((d * 31 + nI a) * 31 + nI (sf_c c a)) * 31
section
variable {W K a k : Nat} {c : sf_Ab} {vl sv : Nat → Int32} {pk : Int32} {post : Int32 → Prop}
theorem sf_yau78 {w0 k0 : Int32} {clk : Int64} {p0 : Int32} {kd va al : Nat → Int32} {bo : Nat → Int64} {J5 : Int32 → Int32 → Prop} {m : Nat} (hm : a + m ≤ 256) : ∀ n i d fuel, i + n = m → n < fuel → (∀ w, a + i ≤ w → w < a + m → va w = vl w) → J5 (sf_mx vl (a + i) n d) (nI (a + 1)) → wY_audit_78 post J5 (nI a) (nI m) w0 k0 clk p0 kd va al bo sv fuel d (nI i) := by
  intro n
  induction n with
  | zero =>
    intro i d fuel h1 h2 h3 J
    obtain ⟨f, rfl⟩ : ∃ f, fuel = f + 1 := ⟨fuel - 1, by omega⟩
    unfold wY_audit_78
    exact br_t (nI_le (by omega) (by omega)) (nm_r (nI_1 a) J)
  | succ n ih =>
    intro i d fuel h1 h2 h3 J
    obtain ⟨f, rfl⟩ : ∃ f, fuel = f + 1 := ⟨fuel - 1, by omega⟩
    unfold wY_audit_78
    rw [nI_add, nI_clamp (n := a + i) (by omega), h3 (a + i) (by omega) (by omega)]
    exact br_f (nI_ge (by omega) (by omega)) ⟨vp_in_nI (by omega) (by omega), nm_e (nm_r (nI_1 i) (ih (i + 1) _ f (by omega) (by omega) (fun w g1 g2 => h3 w (by omega) (by omega)) J))⟩
theorem sf_yau33 {kd va al : Nat → Int32} {bo : Nat → Int64} {J5 : Int32 → Int32 → Prop} {d : Int32} (hw : sf_WK W K) (hf : sf_WF W c) (hv : sf_CV W c 0 0) (h : sf_YR W K c (sf_lw c) vl pk sv (nI W, nI K, lN (sf_k c), pk, kd, va, al, bo, sv)) (hkd : sf_YK c kd) (hal : sf_YA c al) (hva : ∀ w, sf_lw c w → va w = vl w) (ha : sf_s c a ≠ 0) (J : J5 (sf_au c vl a d) (nI (a + 1))) : wY_audit_33 post J5 d (nI a) (nI W) (nI K) (lN (sf_k c)) pk kd va al bo sv := by
  have hw2 := hw.2.1
  have ha1 := hf.1 a ha
  have ain : vp_in (nI a) 256 := vp_in_nI (by omega) (by omega)
  unfold wY_audit_33
  refine sf_ycap hw hf hv h ha ?_
  rw [nI_clamp (n := a) (by omega), hal a ha]
  refine nm_e (nm_e ⟨ain, nm_e ⟨ain, sf_if (sf_yk hf hv hkd (w := a) (by omega)).2.1 (fun z => ⟨sf_c c a + 1, ?_⟩) (fun z => nm_r (nI_1 a) ?_)⟩⟩)
  · rw [if_pos z, ← nI_0]
    unfold sf_au at J
    rw [if_pos z] at J
    exact sf_yau78 (by omega) (sf_c c a) 0 _ _ (by omega) (by omega) (fun w g1 g2 => hva w ⟨a, z, by omega, g2⟩) J
  · unfold sf_au at J
    rw [if_neg z] at J
    rw [if_neg z, Int32.add_zero]
    exact J
theorem sf_yau_skip {kd va al : Nat → Int32} {bo : Nat → Int64} {d : Int32} (hw : sf_WK W K) (hf : sf_WF W c) (hv : sf_CV W c 0 0) (hkd : sf_YK c kd) {E : Nat} (hE : E ≤ W) {f : Nat} (J : wY_audit_5 post (nI W) (nI K) (lN (sf_k c)) pk kd va al bo sv f d (nI E)) : ∀ n w, w + n = E → (∀ x, w ≤ x → x < E → sf_s c x = 0) → wY_audit_5 post (nI W) (nI K) (lN (sf_k c)) pk kd va al bo sv (f + n) d (nI w) := by
  have hw2 := hw.2.1
  intro n
  induction n with
  | zero => intro w h1 h2; rw [show w = E by omega]; exact J
  | succ n ih =>
    intro w h1 h2
    have z := h2 w (by omega) (by omega)
    have y := sf_yk hf hv hkd (w := w) (by omega)
    have win : vp_in (nI w) 256 := vp_in_nI (by omega) (by omega)
    show wY_audit_5 post (nI W) (nI K) (lN (sf_k c)) pk kd va al bo sv (f + n + 1) d (nI w)
    unfold wY_audit_5
    rw [nI_clamp (n := w) (by omega)]
    exact br_f (nI_ge (by omega) (by omega)) ⟨win, br_f (fun e => by have := y.2.1.mp e; omega) ⟨win, br_f (fun e => by have := y.2.2.mp e; omega) (nm_r (nI_1 w) (ih (w + 1) (by omega) (fun x g1 g2 => h2 x (by omega) g2)))⟩⟩
theorem sf_au1 {lv : Int32} {hp ss hs rs kd va al : Nat → Int32} {bo : Nat → Int64} (hw : sf_WK W K) (hf : sf_WF W c) (hv : sf_CV W c 0 0) (hX : sf_XR W K c (sf_lw c) vl pk (lv, nI W, nI K, nI (sf_nl c), nI (sf_nf c), nI (sf_ls c), pk, hp, ss, hs, rs)) (hY : sf_YR W K c (sf_lw c) vl pk sv (nI W, nI K, lN (sf_k c), pk, kd, va, al, bo, sv)) (hkd : sf_YK c kd) (hal : sf_YA c al) (hva : ∀ w, sf_lw c w → va w = vl w) : ∀ m a d, sf_s c a ≠ 0 → W - a ≤ m → ∃ d' : Int32, (∀ (post : Int32 → Prop) i fuel, i < a → W - a + 1 < fuel → (∃ n87 : Nat, wX_audit_87 post lv (nI W) (nI K) (nI (sf_nl c)) (nI (sf_nf c)) (nI (sf_ls c)) pk hp ss hs rs n87 d' 0) → wX_audit_7 post lv (nI W) (nI K) (nI (sf_nl c)) (nI (sf_nf c)) (nI (sf_ls c)) pk hp ss hs rs fuel d (nI a) (nI i)) ∧ (∀ (post : Int32 → Prop) fuel, W - a < fuel → (∃ n113 : Nat, wY_audit_113 post (nI W) (nI K) (lN (sf_k c)) pk kd va al bo sv n113 d' 1) → wY_audit_5 post (nI W) (nI K) (lN (sf_k c)) pk kd va al bo sv fuel d (nI a)) := by
  have hw2 := hw.2.1
  intro m
  induction m with
  | zero => intro a d ha hm; have := hf.1 a ha; omega
  | succ m ih =>
    intro a d ha hm
    have ha1 := hf.1 a ha
    have hl := hf.2.2.2.2 a
    have ain : vp_in (nI a) 256 := vp_in_nI (by omega) (by omega)
    have yk := sf_yk hf hv hkd (w := a) (by omega)
    have gap : ∀ x, a + 1 ≤ x → x < a + sf_c c a + 1 → sf_s c x = 0 := fun x g1 g2 => Classical.byContradiction fun z => by
      have := hf.2.1 a x ha z (by omega); omega
    -- one block, on the component's side
    have X1 : ∀ (post : Int32 → Prop) (J7 : Int32 → Int32 → Int32 → Prop) i f, i < a → (∀ i', i' = i + 1 → wX_audit_7 post lv (nI W) (nI K) (nI (sf_nl c)) (nI (sf_nf c)) (nI (sf_ls c)) pk hp ss hs rs f (sf_au c vl a d) (nI (if a + sf_c c a < W then a + sf_c c a + 1 else 0)) (nI i')) → wX_audit_7 post lv (nI W) (nI K) (nI (sf_nl c)) (nI (sf_nf c)) (nI (sf_ls c)) pk hp ss hs rs (f + 1) d (nI a) (nI i) := by
      intro post J7 i f hi J
      have J := J _ rfl
      unfold wX_audit_7
      refine br_f (nI_ge (by omega) (by omega)) (br_f (nI_ne0 (by omega) (by omega)) (nm_e (sf_xcap hw hf hX ha (nm_e ?_))))
      rcases ha1.1 with e | e
      · refine sf_xliv1 hw hf hX e (br_f (by decide) (sf_xlog hw hf hX e ?_))
        rw [sf_1sh _ (by have := hl e; omega)]
        refine nm_e (sf_xmix hw hf hX ha (fun w g1 g2 => ⟨a, e, g1, g2⟩) ?_)
        unfold wX_audit_73
        refine sf_xba hw hf hX ha (nm_r (nI_1 i) ?_)
        unfold sf_au at J
        rw [if_pos e] at J
        exact J
      · refine sf_xliv0 hw hf hX e (br_t rfl (nm_e ?_))
        unfold wX_audit_73
        refine sf_xba hw hf hX ha (nm_r (nI_1 i) ?_)
        unfold sf_au at J
        rw [if_neg (by omega)] at J
        exact J
    -- one block, on the reference's side
    have Y1 : ∀ (post : Int32 → Prop) f E, E ≤ W → a + 1 ≤ E → (∀ x, a + 1 ≤ x → x < E → sf_s c x = 0) → wY_audit_5 post (nI W) (nI K) (lN (sf_k c)) pk kd va al bo sv f (sf_au c vl a d) (nI E) → wY_audit_5 post (nI W) (nI K) (lN (sf_k c)) pk kd va al bo sv (f + (E - (a + 1)) + 1) d (nI a) := by
      intro post f E hE hE2 hgap J
      have J2 := sf_yau_skip hw hf hv hkd hE J (E - (a + 1)) (a + 1) (by omega) hgap
      unfold wY_audit_5
      rw [nI_clamp (n := a) (by omega)]
      have J3 := sf_yau33 (post := post) (J5 := wY_audit_5 post (nI W) (nI K) (lN (sf_k c)) pk kd va al bo sv (f + (E - (a + 1)))) (d := d) hw hf hv hY hkd hal hva ha J2
      exact br_f (nI_ge (by omega) (by omega)) ⟨ain, br_c (fun _ => J3) (fun z => ⟨ain, br_t (by
        rcases ha1.1 with e | e
        · exact absurd (yk.2.1.mpr e) z
        · exact yk.2.2.mpr e) J3⟩)⟩
    by_cases g : a + sf_c c a < W
    · have hn := sf_next hf hv ha g
      have hn1 := hf.1 _ hn
      obtain ⟨d', q1, q2⟩ := ih (a + sf_c c a + 1) (sf_au c vl a d) hn (by omega)
      refine ⟨d', fun post i fuel hi hfu J => ?_, fun post fuel hfu J => ?_⟩
      · obtain ⟨f, rfl⟩ : ∃ f, fuel = f + 1 := ⟨fuel - 1, by omega⟩
        refine X1 post (fun _ _ _ => True) i f hi (fun i' e => ?_)
        rw [if_pos g]
        exact q1 post i' f (by omega) (by omega) J
      · have := Y1 post (fuel - 1 - (a + sf_c c a + 1 - (a + 1))) (a + sf_c c a + 1) (by omega) (by omega) gap (q2 post _ (by omega) J)
        rw [show fuel - 1 - (a + sf_c c a + 1 - (a + 1)) + (a + sf_c c a + 1 - (a + 1)) + 1 = fuel by omega] at this
        exact this
    · refine ⟨sf_au c vl a d, fun post i fuel hi hfu J => ?_, fun post fuel hfu J => ?_⟩
      · obtain ⟨f, rfl⟩ : ∃ f, fuel = f + 1 + 1 := ⟨fuel - 2, by omega⟩
        refine X1 post (fun _ _ _ => True) i (f + 1) hi (fun i' e => ?_)
        rw [if_neg g]
        unfold wX_audit_7
        exact br_c (fun _ => J) (fun _ => br_t rfl J)
      · have := Y1 post (fuel - 1 - (W - (a + 1))) W (Nat.le_refl _) (by omega) (fun x g1 g2 => gap x g1 (by omega)) ?_
        · rw [show fuel - 1 - (W - (a + 1)) + (W - (a + 1)) + 1 = fuel by omega] at this
          exact this
        · obtain ⟨f, e⟩ : ∃ f, fuel - 1 - (W - (a + 1)) = f + 1 := ⟨fuel - 1 - (W - (a + 1)) - 1, by omega⟩
          rw [e]
          unfold wY_audit_5
          exact br_t (Int32.le_refl _) J
end
end
section
/-! ===== audit, second half: the classes ===== -/
def sf_H (F : Nat → Int32 → Int32) : Nat → Nat → Int32 → Int32
  | 0, _, d => d
  | m + 1, k, d => sf_H F m (k + 1) (F k d)
def sf_G (K : Nat) (F : Nat → Int32 → Int32) : Nat → Nat → Int32 → Int32
  | 0, _, d => d
  | m + 1, i, d => sf_G K F m (i + 1) (if sf_fl K i = i then F (sf_q K i) d else d)
section
variable {W K : Nat} {c : sf_Ab} {F : Nat → Int32 → Int32}
theorem sf_H_gap (hF : ∀ k, ¬ sf_ne K c k → ∀ d, F k d = d) : ∀ n m k d, (∀ j, k ≤ j → j < k + n → ¬ sf_ne K c j) → sf_H F (n + m) k d = sf_H F m (k + n) d := by
  intro n
  induction n with
  | zero => intro m k d _; rw [Nat.zero_add, Nat.add_zero]
  | succ n ih =>
    intro m k d h
    rw [show n + 1 + m = (n + m) + 1 by omega]
    show sf_H F (n + m) (k + 1) (F k d) = _
    rw [hF k (h k (Nat.le_refl _) (by omega)), ih m (k + 1) d (fun j g1 g2 => h j (by omega) (by omega)), show k + 1 + n = k + (n + 1) by omega]
theorem sf_H_end (hF : ∀ k, ¬ sf_ne K c k → ∀ d, F k d = d) {m k : Nat} {d : Int32} (h : ∀ j, k ≤ j → ¬ sf_ne K c j) : sf_H F m k d = d := by
  have := sf_H_gap hF m 0 k d (fun j g1 g2 => h j g1)
  rw [Nat.add_zero] at this
  rw [this]; rfl
theorem sf_GH (hw : sf_WK W K) (hf : sf_WF W c) (hF : ∀ k, ¬ sf_ne K c k → ∀ d, F k d = d) : ∀ m i d n k, i + m = W → 1 ≤ i → k + n = 64 → (∀ b, sf_s c b = 4 → (k ≤ sf_q K (sf_c c b) ↔ i ≤ sf_fl K (sf_c c b))) → sf_G K F m i d = sf_H F n k d := by
  have hw2 := hw.2.1
  have hcap : ∀ b, sf_s c b = 4 → 1 ≤ sf_c c b ∧ sf_c c b < 256 ∧ sf_c c b < W ∧ sf_fl K (sf_c c b) ≤ sf_c c b ∧ sf_fl K (sf_fl K (sf_c c b)) = sf_fl K (sf_c c b) := fun b hb => by
    have x := hf.1 b (by omega)
    have y := sf_q2 K hw.2.2.2 hw.2.2.1 (sf_c c b) (by omega) (by omega)
    exact ⟨by omega, by omega, by omega, y.1, y.2.2⟩
  intro m
  induction m with
  | zero =>
    intro i d n k h1 h2 h3 h4
    rw [sf_H_end hF]
    · rfl
    · rintro j g1 ⟨b, hb1, hb2⟩
      have x := hcap b hb1
      have y := (h4 b hb1).mp (by omega)
      omega
  | succ m ih =>
    intro i d n k h1 h2 h3 h4
    have hi : i < 256 := by omega
    show sf_G K F m (i + 1) (if sf_fl K i = i then F (sf_q K i) d else d) = _
    by_cases e : sf_fl K i = i
    · rw [if_pos e]
      have hcls : ∀ b, sf_s c b = 4 → (sf_q K (sf_c c b) = sf_q K i ↔ sf_fl K (sf_c c b) = i) := fun b hb => by
        have := hcap b hb
        rw [sf_qfl (a := sf_c c b) (b := i) hw.2.2.2 hw.2.2.1 (by omega) (by omega) (by omega) (by omega), e]
      by_cases g : sf_ne K c (sf_q K i)
      · have hq64 := sf_q64 (n := i) hw h2 hi
        have hkq : k ≤ sf_q K i := by
          obtain ⟨b, hb1, hb2⟩ := g
          have := (h4 b hb1).mpr (Nat.le_of_eq ((hcls b hb1).mp hb2).symm)
          omega
        have key := sf_H_gap (m := n - (sf_q K i - k)) hF (sf_q K i - k) k d
        rw [show sf_q K i - k + (n - (sf_q K i - k)) = n by omega, show k + (sf_q K i - k) = sf_q K i by omega] at key
        rw [key]
        · obtain ⟨n', e2⟩ : ∃ n', n - (sf_q K i - k) = n' + 1 := ⟨n - (sf_q K i - k) - 1, by omega⟩
          rw [e2]
          show _ = sf_H F n' (sf_q K i + 1) (F (sf_q K i) d)
          refine ih (i + 1) _ n' (sf_q K i + 1) (by omega) (by omega) (by omega) (fun b hb => ?_)
          have x := hcap b hb
          constructor
          · intro g1
            have y := sf_qle hw.2.2.2 hw.2.2.1 (a := i) (b := sf_c c b) (by omega) (by omega) (by omega) (by omega) (by omega)
            rw [e] at y
            rcases Nat.lt_or_ge i (sf_fl K (sf_c c b)) with g2 | g2
            · exact g2
            · have := (hcls b hb).mpr (by omega); omega
          · intro g1
            have y := sf_qlt' hw.2.2.2 hw.2.2.1 (a := i) (b := sf_c c b) (by omega) (by omega) (by omega) (by omega) (by omega)
            exact y
        · rintro j g1 g2 ⟨b, hb1, hb2⟩
          have x := hcap b hb1
          have y := (h4 b hb1).mp (by omega)
          have z := sf_qle hw.2.2.2 hw.2.2.1 (a := sf_c c b) (b := i) (by omega) (by omega) (by omega) (by omega) (by omega)
          rw [e] at z
          have := (hcls b hb1).mpr (by omega)
          omega
      · rw [hF _ g]
        refine ih (i + 1) _ n k (by omega) (by omega) h3 (fun b hb => ?_)
        rw [h4 b hb]
        have : sf_fl K (sf_c c b) ≠ i := fun e2 => g ⟨b, hb, (hcls b hb).mpr e2⟩
        omega
    · rw [if_neg e]
      refine ih (i + 1) _ n k (by omega) (by omega) h3 (fun b hb => ?_)
      rw [h4 b hb]
      have x := hcap b hb
      have : sf_fl K (sf_c c b) ≠ i := fun e2 => e (by rw [← e2]; exact x.2.2.2.2)
      omega
end
section
variable {W K k : Nat} {c : sf_Ab} {P : Nat → Prop} {vl sv : Nat → Int32} {pk : Int32}
theorem sf_chn {lv dg lb fb ls p : Int32} {hp ss hs rs kd va al : Nat → Int32} {bo : Nat → Int64} (hw : sf_WK W K) (hf : sf_WF W c) (hv : sf_CV W c 0 0) (hclk : sf_k c < 2 ^ 31) (hL : sf_XL K c hp) (h : sf_YR W K c P vl pk sv (nI W, nI K, lN (sf_k c), pk, kd, va, al, bo, sv)) (hbo : sf_YB c bo) (hk : k < 64) : ∀ m lim r (d : Int32), lim ≤ sf_k c → sf_yg K c k lim r → sf_cl K c k lim = m → ∃ d' : Int32, (r = 0 → d' = d) ∧ (∀ (post : Int32 → Prop) (J : Int32 → Int32 → Prop) i fuel, i + m ≤ W → m < fuel → J d' (nI (k + 1)) → wX_audit_104 post J (nI k) lv (nI W) dg lb fb ls p hp ss hs rs fuel d (nI r) (nI i)) ∧ (∀ (post : Int32 → Prop) (J : Int32 → Int32 → Prop) n i fuel, 1 ≤ n → n < 256 → sf_q K n = k → sf_fl K n = n → i + m ≤ W → m < fuel → J d' (nI (n + 1)) → wY_audit_143 post J (nI n) (nI W) (nI K) (lN (sf_k c)) pk kd va al bo sv fuel d (nI r) (nI i)) := by
  have hw2 := hw.2.1
  intro m
  induction m with
  | zero =>
    intro lim r d hlim hy hm
    have hr : r = 0 := Classical.byContradiction fun z => by have := sf_cl1 hw hf hy z; omega
    subst hr
    refine ⟨d, fun _ => rfl, fun post J i fuel hi hfu hJ => ?_, fun post J n i fuel _ _ _ _ hi hfu hJ => ?_⟩
    · obtain ⟨f, rfl⟩ : ∃ f, fuel = f + 1 := ⟨fuel - 1, by omega⟩
      unfold wX_audit_104
      rw [nI_1]
      exact br_c (fun _ => nm_e hJ) (fun _ => br_t rfl (nm_e hJ))
    · obtain ⟨f, rfl⟩ : ∃ f, fuel = f + 1 := ⟨fuel - 1, by omega⟩
      unfold wY_audit_143
      rw [nI_1]
      exact br_c (fun _ => nm_e hJ) (fun _ => br_t rfl (nm_e hJ))
  | succ m ih =>
    intro lim r d hlim hy hm
    have hr : r ≠ 0 := fun z => by subst z; have := sf_cl0 hf hy; omega
    have hr2 := sf_yg_lt hw hf hy
    have hc := sf_cl1 hw hf hy hr
    have x := sf_yg1 hy hr
    have hbr := hf.2.2.1 r x.1
    have rin : vp_in (nI r) 256 := vp_in_nI (by omega) (by omega)
    obtain ⟨o, h3, h4⟩ := sf_xold hf hL hy hr
    obtain ⟨d', -, q2, q3⟩ := ih (sf_b c r) o (d * 31 + nI r) (by omega) h4 (by omega)
    refine ⟨d', fun e => absurd e hr, fun post J i fuel hi hfu hJ => ?_, fun post J n i fuel n1 n2 n3 n4 hi hfu hJ => ?_⟩
    · obtain ⟨f, rfl⟩ : ∃ f, fuel = f + 1 := ⟨fuel - 1, by omega⟩
      unfold wX_audit_104
      refine br_f (nI_ge (by omega) (by omega)) (br_f (nI_ne0 (by omega) (by omega)) (nm_e ⟨rin, ?_⟩))
      rw [nI_clamp (n := r) (by omega)]
      exact nm_r h3 (nm_r (nI_1 i) (q2 post J (i + 1) f (by omega) (by omega) hJ))
    · obtain ⟨f, rfl⟩ : ∃ f, fuel = f + 1 := ⟨fuel - 1, by omega⟩
      unfold wY_audit_143
      refine br_f (nI_ge (by omega) (by omega)) (br_f (nI_ne0 (by omega) (by omega)) (nm_e ⟨rin, ?_⟩))
      rw [nI_clamp (n := r) (by omega), hbo r x.1]
      have Q : ∀ post' : Int32 → Prop, post' (nI o) → wpY_youngest post' (nI W, nI K, lN (sf_k c), pk, kd, va, al, bo, sv) (nI n) (lN (sf_b c r)) := fun post' J' => by
        have := sf_yyg hw hf hv hclk h (n := n) n1 n2 (Nat.le_of_lt hbr) (by rw [n3]; exact h4) J'
        rw [n4] at this; exact this
      exact Q _ (nm_r (nI_1 i) (q3 post J n (i + 1) f n1 n2 n3 n4 (by omega) (by omega) hJ))
/-- what one class's chain makes of d: X and Y alike -/
def sf_Ph (W K : Nat) (c : sf_Ab) (lv dg lb fb ls p : Int32) (hp ss hs rs : Nat → Int32) (pk : Int32) (kd va al : Nat → Int32) (bo : Nat → Int64) (sv : Nat → Int32) (k : Nat) (d d' : Int32) : Prop :=
  (¬ sf_ne K c k → d' = d) ∧ (k < 64 → ∀ r, sf_yg K c k (sf_k c) r →
    (∀ (post : Int32 → Prop) (J : Int32 → Int32 → Prop), J d' (nI (k + 1)) → wX_audit_104 post J (nI k) lv (nI W) dg lb fb ls p hp ss hs rs (W + 1) d (nI r) 0) ∧
    (∀ (post : Int32 → Prop) (J : Int32 → Int32 → Prop) n, 1 ≤ n → n < 256 → sf_q K n = k → sf_fl K n = n → J d' (nI (n + 1)) → wY_audit_143 post J (nI n) (nI W) (nI K) (lN (sf_k c)) pk kd va al bo sv (W + 1) d (nI r) 0))
theorem sf_Ph_ex {lv dg lb fb ls p : Int32} {hp ss hs rs kd va al : Nat → Int32} {bo : Nat → Int64} (hw : sf_WK W K) (hf : sf_WF W c) (hv : sf_CV W c 0 0) (hclk : sf_k c < 2 ^ 31) (hL : sf_XL K c hp) (h : sf_YR W K c P vl pk sv (nI W, nI K, lN (sf_k c), pk, kd, va, al, bo, sv)) (hbo : sf_YB c bo) (k : Nat) (d : Int32) : ∃ d', sf_Ph W K c lv dg lb fb ls p hp ss hs rs pk kd va al bo sv k d d' := by
  by_cases hk : k < 64
  · obtain ⟨r, hr⟩ := sf_yg_ex hf K k (sf_k c)
    obtain ⟨d', q1, q2, q3⟩ := sf_chn (lv := lv) (dg := dg) (lb := lb) (fb := fb) (ls := ls) (p := p) (ss := ss) (hs := hs) (rs := rs) hw hf hv hclk hL h hbo hk _ (sf_k c) r d (Nat.le_refl _) hr rfl
    have hcl := sf_cl_le (k := k) (lim := sf_k c) hw hf
    refine ⟨d', fun g => q1 (Classical.byContradiction fun z => g ⟨r, (sf_yg1 hr z).1, (sf_yg1 hr z).2.1⟩), fun _ r' hr' => ?_⟩
    rw [sf_yg_uni hf hr' hr, ← nI_0]
    exact ⟨fun post J hJ => q2 post J 0 _ (by omega) (by omega) hJ, fun post J n n1 n2 n3 n4 hJ => q3 post J n 0 _ n1 n2 n3 n4 (by omega) (by omega) hJ⟩
  · exact ⟨d, fun _ => rfl, fun g => absurd g hk⟩
theorem sf_xau2 {lv dg lb fb ls p : Int32} {hp ss hs rs kd va al : Nat → Int32} {bo : Nat → Int64} {F : Nat → Int32 → Int32} (hD : sf_XD K c hs) (hF : ∀ k d, sf_Ph W K c lv dg lb fb ls p hp ss hs rs pk kd va al bo sv k d (F k d)) (post : Int32 → Prop) : ∀ m k d, k + m = 64 → post (sf_H F m k d) → wX_audit_87 post lv (nI W) dg lb fb ls p hp ss hs rs (m + 1) d (nI k) := by
  intro m
  induction m with
  | zero =>
    intro k d hk J
    unfold wX_audit_87
    exact br_t (nI_le (a := 64) (by omega) (by omega)) J
  | succ m ih =>
    intro k d hk J
    obtain ⟨o, ho1, ho2⟩ := hD k (by omega)
    have q := ((hF k d).2 (by omega) o ho2).1
    unfold wX_audit_87
    refine br_f (nI_ge (b := 64) (by omega) (by omega)) ⟨vp_in_nI (by omega) (by omega), ?_⟩
    rw [nI_clamp (n := k) (by omega)]
    refine nm_r ho1 ⟨W + 1, q post _ (ih (k + 1) _ (by omega) J)⟩
theorem sf_yau2 {lv dg lb fb ls p : Int32} {hp ss hs rs kd va al : Nat → Int32} {bo : Nat → Int64} {F : Nat → Int32 → Int32} (hw : sf_WK W K) (hf : sf_WF W c) (hv : sf_CV W c 0 0) (hclk : sf_k c < 2 ^ 31) (h : sf_YR W K c P vl pk sv (nI W, nI K, lN (sf_k c), pk, kd, va, al, bo, sv)) (hF : ∀ k d, sf_Ph W K c lv dg lb fb ls p hp ss hs rs pk kd va al bo sv k d (F k d)) (post : Int32 → Prop) : ∀ m i d, i + m = W → 1 ≤ i → post (sf_G K F m i d) → wY_audit_113 post (nI W) (nI K) (lN (sf_k c)) pk kd va al bo sv (m + 1) d (nI i) := by
  have hw2 := hw.2.1
  intro m
  induction m with
  | zero =>
    intro i d hi h1 J
    unfold wY_audit_113
    exact br_t (nI_le (by omega) (by omega)) J
  | succ m ih =>
    intro i d hi h1 J
    have f1 := sf_q2 K hw.2.2.2 hw.2.2.1 i (by omega) h1
    have J : post (sf_G K F m (i + 1) (if sf_fl K i = i then F (sf_q K i) d else d)) := J
    unfold wY_audit_113
    refine br_f (nI_ge (by omega) (by omega)) (sf_yfl hw h h1 (by omega) (sf_if (nI_eq (by omega) (by omega)) (fun e => ?_) (fun e => ?_)))
    · rw [if_pos e] at J
      obtain ⟨o, ho⟩ := sf_yg_ex hf K (sf_q K i) (sf_k c)
      have q := ((hF (sf_q K i) d).2 (sf_q64 hw h1 (by omega)) o ho).2
      have Q : ∀ post' : Int32 → Prop, post' (nI o) → wpY_youngest post' (nI W, nI K, lN (sf_k c), pk, kd, va, al, bo, sv) (nI i) (lN (sf_k c)) := fun post' J' => by
        have := sf_yyg hw hf hv hclk h (n := i) h1 (by omega) (Nat.le_refl _) ho J'
        rw [e] at this; exact this
      exact Q _ ⟨W + 1, q post _ i h1 (by omega) rfl e (ih (i + 1) _ (by omega) (by omega) J)⟩
    · rw [if_neg e] at J
      exact nm_r (nI_1 i) (ih (i + 1) _ (by omega) (by omega) J)
end
theorem i_vc_audit {k : Nat} {u : SX} {v : SY} (I : i_Rel k u v) (hk : k + 4 ≤ 2050) : wpX_audit (fun r => wpY_audit (fun r' => r' = r ∧ i_Rel (k + 4) u v) v) u := by
  have I' := i_up I
  obtain ⟨W, K, c, pk, sv, vl, hw, hf, hv, hk4, hX, hY⟩ := I
  have hX' := hX
  have hY' := hY
  obtain ⟨lv, hp, ss, hs, rs, rfl, hH, hN, hS, hL, hD, hB, hV⟩ := hX
  obtain ⟨kd, va, al, bo, rfl, hKd, hA, hBo, hVy⟩ := hY
  have hw1 := hw.1
  have hw2 := hw.2.1
  have hclk : sf_k c < 2 ^ 31 := by omega
  have hfirst := sf_first hf hv (by omega)
  obtain ⟨d, q1, q2⟩ := sf_au1 hw hf hv hX' hY' hKd hA hVy W 1 7 hfirst (by omega)
  obtain ⟨F, hF⟩ := Classical.axiomOfChoice (fun kd' : Nat × Int32 => sf_Ph_ex (lv := lv) (dg := nI K) (lb := nI (sf_nl c)) (fb := nI (sf_nf c)) (ls := nI (sf_ls c)) (p := pk) (ss := ss) (hs := hs) (rs := rs) hw hf hv hclk hL hY' hBo kd'.1 kd'.2)
  have hF' : ∀ k d, sf_Ph W K c lv (nI K) (nI (sf_nl c)) (nI (sf_nf c)) (nI (sf_ls c)) pk hp ss hs rs pk kd va al bo sv k d ((fun k d => F (k, d)) k d) := fun k d => hF (k, d)
  have eq := sf_GH (F := fun k d => F (k, d)) hw hf (fun k g d => (hF' k d).1 g) (W - 1) 1 d 64 0 (by omega) (by omega) (by omega) (fun b hb => by
    have x := hf.1 b (by omega)
    have y := sf_q2 K hw.2.2.2 hw.2.2.1 (sf_c c b) (by omega) (by omega)
    exact ⟨fun _ => y.2.1, fun _ => Nat.zero_le _⟩)
  unfold wpX_audit
  dsimp only
  refine ⟨W + 1, q1 _ 0 (W + 1) (by omega) (by omega) ⟨65, ?_⟩⟩
  rw [← nI_0]
  refine sf_xau2 hD hF' _ 64 0 d (by omega) ?_
  unfold wpY_audit
  dsimp only
  refine ⟨W, q2 _ W (by omega) ⟨W - 1 + 1, ?_⟩⟩
  exact sf_yau2 hw hf hv hclk hY' hF' _ (W - 1) 1 d (by omega) (by omega) ⟨eq, I'⟩
end
section
/-! ===== what cut leaves ===== -/
section
variable {W K a n l b cc : Nat} {c : sf_Ab}
theorem sf_cut_at : sf_s (sf_cut c b cc n l) (sf_plc b (2 ^ l)) = 2 ∧ sf_c (sf_cut c b cc n l) (sf_plc b (2 ^ l)) = sf_cc b cc n l ∧ sf_l (sf_cut c b cc n l) (sf_plc b (2 ^ l)) = l := by
  unfold sf_cut sf_cc
  by_cases g : b + cc - sf_plc b (2 ^ l) < n + 3
  · rw [if_pos g, if_pos g, sf_lvb_s, if_pos rfl, sf_lvb_c, if_pos rfl, sf_lvb_l, if_pos rfl]
    exact ⟨rfl, rfl, rfl⟩
  · rw [if_neg g, if_neg g, sf_fre_s, if_neg (by omega), sf_fre_c, if_neg (by omega), sf_fre_l, sf_lvb_s, if_pos rfl, sf_lvb_c, if_pos rfl, sf_lvb_l, if_pos rfl]
    exact ⟨rfl, rfl, rfl⟩
theorem sf_cut1_k : sf_k (sf_cut1 c b l) ≤ sf_k c + 1 := by
  unfold sf_cut1
  split
  · rw [sf_fre_k]; omega
  · omega
theorem sf_cut_k : sf_k (sf_cut c b cc n l) ≤ sf_k c + 2 := by
  have := sf_cut1_k (c := c) (b := b) (l := l)
  unfold sf_cut
  split
  · rw [sf_lvb_k]; omega
  · rw [sf_fre_k, sf_lvb_k]; omega
theorem sf_cut1_live {x : Nat} (h : sf_s (sf_cut1 c b l) x = 2) : sf_s c x = 2 ∧ sf_c (sf_cut1 c b l) x = sf_c c x := by
  unfold sf_cut1 at h ⊢
  split at h
  · rename_i g
    rw [if_pos g]
    rw [sf_fre_s] at h
    by_cases e : x = b
    · rw [if_pos e] at h; omega
    · rw [if_neg e] at h
      rw [sf_fre_c, if_neg e]; exact ⟨h, rfl⟩
  · rename_i g
    rw [if_neg g]; exact ⟨h, rfl⟩
theorem sf_cut_live {x : Nat} (h : sf_s (sf_cut c b cc n l) x = 2) (hx : x ≠ sf_plc b (2 ^ l)) : sf_s c x = 2 ∧ sf_c (sf_cut c b cc n l) x = sf_c c x := by
  unfold sf_cut at h ⊢
  split at h
  · rename_i g
    rw [if_pos g]
    rw [sf_lvb_s, if_neg hx] at h
    rw [sf_lvb_c, if_neg hx]
    exact sf_cut1_live h
  · rename_i g
    rw [if_neg g]
    rw [sf_fre_s] at h
    by_cases e : x = sf_plc b (2 ^ l) + n + 1
    · rw [if_pos e] at h; omega
    · rw [if_neg e, sf_lvb_s, if_neg hx] at h
      rw [sf_fre_c, if_neg e, sf_lvb_c, if_neg hx]
      exact sf_cut1_live h
/-- blocks outside the hole are kept -/
theorem sf_cut_keep {x : Nat} (hv : sf_hole W c (b - 1) (b + cc)) (h1 : 1 ≤ b) (hl : l ≤ 5) (hn : 2 ≤ n) (hfit : sf_plc b (2 ^ l) + n ≤ b + cc) (hx : sf_s c x ≠ 0) : sf_s (sf_cut c b cc n l) x = sf_s c x ∧ sf_c (sf_cut c b cc n l) x = sf_c c x ∧ sf_l (sf_cut c b cc n l) x = sf_l c x := by
  have h2 := sf_p2 hl
  have hp := sf_plc_lo (b := b) h2.1
  have ho := hv.1 x hx
  have key : sf_s (sf_cut1 c b l) x = sf_s c x ∧ sf_c (sf_cut1 c b l) x = sf_c c x ∧ sf_l (sf_cut1 c b l) x = sf_l c x := by
    unfold sf_cut1
    split
    · rw [sf_fre_s, if_neg (by omega), sf_fre_c, if_neg (by omega), sf_fre_l]; exact ⟨rfl, rfl, rfl⟩
    · exact ⟨rfl, rfl, rfl⟩
  unfold sf_cut
  generalize sf_plc b (2 ^ l) = A at *
  split
  · rw [sf_lvb_s, if_neg (by omega), sf_lvb_c, if_neg (by omega), sf_lvb_l, if_neg (by omega)]; exact key
  · rw [sf_fre_s, if_neg (by omega), sf_fre_c, if_neg (by omega), sf_fre_l, sf_lvb_s, if_neg (by omega), sf_lvb_c, if_neg (by omega), sf_lvb_l, if_neg (by omega)]; exact key
theorem sf_cc_ge (hfit : sf_plc b (2 ^ l) + n ≤ b + cc) : n ≤ sf_cc b cc n l ∧ sf_plc b (2 ^ l) + sf_cc b cc n l ≤ b + cc := by
  unfold sf_cc
  split <;> omega
end
/-! ===== requests ===== -/
def sf_pay (n : Nat) : Nat := if n = 1 then 2 else n
def sf_need (n l : Nat) : Nat := if l = 0 then n else n + 2 ^ l + 2
theorem sf_2l : ∀ l, l ≤ 5 → (nI (2 ^ l) = 1 ↔ l = 0) := by decide +kernel
theorem sf_al_ok : ∀ l, l ≤ 5 → ¬ nI (2 ^ l) < 1 ∧ ¬ 32 < nI (2 ^ l) ∧ (nI (2 ^ l) &&& (nI (2 ^ l) - 1)) = 0 := by decide +kernel
theorem sf_al_no : ∀ j, j ≤ 32 → 1 ≤ j → (nI j &&& (nI j - 1)) = 0 → ∃ l, l ≤ 5 ∧ j = 2 ^ l := by decide +kernel
theorem sf_al (x : Int32) : (∃ l, l ≤ 5 ∧ x = nI (2 ^ l)) ∨ ((x < 1 ∨ 32 < x ∨ ¬ (x &&& (x - 1)) = 0) ∧ x ≠ 1 ∧ x ≠ 2 ∧ x ≠ 4 ∧ x ≠ 8 ∧ x ≠ 16 ∧ x ≠ 32) := by
  by_cases g1 : x < 1
  · exact Or.inr ⟨Or.inl g1, fun e => by rw [e] at g1; exact absurd g1 (by decide), fun e => by rw [e] at g1; exact absurd g1 (by decide), fun e => by rw [e] at g1; exact absurd g1 (by decide), fun e => by rw [e] at g1; exact absurd g1 (by decide), fun e => by rw [e] at g1; exact absurd g1 (by decide), fun e => by rw [e] at g1; exact absurd g1 (by decide)⟩
  · by_cases g2 : 32 < x
    · exact Or.inr ⟨Or.inr (Or.inl g2), fun e => by rw [e] at g2; exact absurd g2 (by decide), fun e => by rw [e] at g2; exact absurd g2 (by decide), fun e => by rw [e] at g2; exact absurd g2 (by decide), fun e => by rw [e] at g2; exact absurd g2 (by decide), fun e => by rw [e] at g2; exact absurd g2 (by decide), fun e => by rw [e] at g2; exact absurd g2 (by decide)⟩
    · by_cases g3 : (x &&& (x - 1)) = 0
      · obtain ⟨j, hj, rfl⟩ := nI_of2 (x := x) (M := 32) (n := 32) (by decide) (fun z => g1 (Int32.lt_of_lt_of_le z (by decide))) (Int32.not_lt.mp g2)
        have h1 : 1 ≤ j := by
          rcases Nat.lt_or_ge j 1 with z | z
          · exact absurd (nI_lt (b := 1) z (by omega)) g1
          · exact z
        obtain ⟨l, l1, l2⟩ := sf_al_no j hj h1 g3
        exact Or.inl ⟨l, l1, by rw [l2]⟩
      · exact Or.inr ⟨Or.inr (Or.inr g3), fun e => by rw [e] at g3; exact g3 (by decide), fun e => by rw [e] at g3; exact g3 (by decide), fun e => by rw [e] at g3; exact g3 (by decide), fun e => by rw [e] at g3; exact g3 (by decide), fun e => by rw [e] at g3; exact g3 (by decide), fun e => by rw [e] at g3; exact g3 (by decide)⟩
section
variable {W K : Nat} {c : sf_Ab} {P Q : Nat → Prop} {vl vl' sv : Nat → Int32} {pk : Int32} {u : SX} {v : SY}
theorem sf_xpay {post : Int32 → Prop} {n : Nat} (hn : n < 2 ^ 31) (J : post (nI (sf_pay n))) : wpX_payloadFor post u (nI n) := by
  obtain ⟨lv, tot, dg, lb, fb, ls, p, hp, ss, hs, rs⟩ := u
  unfold wpX_payloadFor
  dsimp only
  unfold sf_pay at J
  refine pk_eq n 1 (fun e => ?_) (fun e => ?_)
  · rw [if_pos e] at J; exact J
  · rw [if_neg e] at J; exact J
theorem sf_xneed {post : Int32 → Prop} {n l : Nat} (hl : l ≤ 5) (J : post (nI (sf_need n l))) : wpX_needFor post u (nI n) (nI (2 ^ l)) := by
  obtain ⟨lv, tot, dg, lb, fb, ls, p, hp, ss, hs, rs⟩ := u
  unfold wpX_needFor
  dsimp only
  unfold sf_need at J
  refine sf_if (sf_2l l hl) (fun e => ?_) (fun e => ?_)
  · rw [if_pos e] at J; exact J
  · rw [if_neg e] at J; rw [nI_add]; exact (nI_add _ 2) ▸ J
theorem sf_yneed {post : Int32 → Prop} {n l : Nat} (hl : l ≤ 5) (J : post (nI (sf_need n l))) : wpY_need post v (nI n) (nI (2 ^ l)) := by
  obtain ⟨w0, k0, clk, p0, kd, va, al, bo, sv'⟩ := v
  unfold wpY_need
  dsimp only
  unfold sf_need at J
  refine sf_if (sf_2l l hl) (fun e => ?_) (fun e => ?_)
  · rw [if_pos e] at J; exact J
  · rw [if_neg e] at J; rw [nI_add]; exact (nI_add _ 2) ▸ J
theorem sf_pay_b {n W : Nat} (h1 : 1 ≤ n) (h2 : n ≤ W - 1) (hW : 32 ≤ W) : 2 ≤ sf_pay n ∧ sf_pay n < W := by
  unfold sf_pay; split <;> omega
theorem sf_need_b {n l : Nat} (hl : l ≤ 5) (h1 : 2 ≤ n) (h2 : n < 256) : 1 ≤ sf_need n l ∧ sf_need n l < 512 := by
  have := sf_p2 hl
  unfold sf_need; split <;> omega
/-- a found block has room -/
theorem sf_fd_room {n l r : Nat} (hw : sf_WK W K) (hf : sf_WF W c) (hl : l ≤ 5) (hr : sf_fd K c (sf_need n l) r) (r0 : r ≠ 0) : sf_s c r = 4 ∧ sf_plc r (2 ^ l) + n ≤ r + sf_c c r := by
  have hw2 := hw.2.1
  have h2 := sf_p2 hl
  rcases hr with ⟨e, _⟩ | ⟨h1, h3, _⟩
  · exact absurd e r0
  · have hx := hf.1 r (by omega)
    have hy := sf_q2 K hw.2.2.2 hw.2.2.1 (sf_c c r) (by omega) (by omega)
    refine ⟨h1, ?_⟩
    unfold sf_need at h3
    by_cases e : l = 0
    · rw [if_pos e] at h3
      subst e
      have : sf_plc r (2 ^ 0) = r := if_pos (by rw [Nat.pow_zero]; exact Nat.mod_one r)
      omega
    · rw [if_neg e] at h3
      rcases sf_plc_ge (b := r) (m := 2 ^ l) h2.1 with g | g <;> omega
/-- the checks of a request: one code on both sides, or a good request -/
theorem sf_req (hw : sf_WK W K) (hX : sf_XR W K c P vl pk u) (hY : sf_YR W K c Q vl' pk sv v) (x y : Int32) : (∃ r : Int32, r ≠ 0 ∧ ¬ 0 ≤ r ∧ (∀ post : Int32 → Prop, post r → wpX_checkRequest post u x y) ∧ (∀ post : Int32 → Prop, post r → wpY_preview post v x y)) ∨ (∃ n l, x = nI n ∧ 1 ≤ n ∧ n ≤ W - 1 ∧ l ≤ 5 ∧ y = nI (2 ^ l) ∧ (∀ post : Int32 → Prop, post 0 → wpX_checkRequest post u x y)) := by
  obtain ⟨lv, hp, ss, hs, rs, rfl, -⟩ := hX
  obtain ⟨kd, va, al, bo, rfl, -⟩ := hY
  have hw1 := hw.1
  have hw2 := hw.2.1
  unfold wpX_checkRequest wpY_preview
  dsimp only
  rw [sf_m1 (a := W) (by omega)]
  by_cases g : 1 ≤ x
  · rcases sf_al y with ⟨l, hl, e⟩ | ⟨h1, e1, e2, e4, e8, e16, e32⟩
    · by_cases g2 : x ≤ nI (W - 1)
      · obtain ⟨n, hn, rfl⟩ := nI_of (x := x) (Int32.not_lt.mpr (Int32.le_trans (by decide) g))
        refine Or.inr ⟨n, l, rfl, (nI_leI (a := 1) (by omega) hn).mp g, (nI_leI hn (by omega)).mp g2, hl, e, fun post J => ?_⟩
        subst e
        have q := sf_al_ok l hl
        exact br_t g (br_f q.1 (br_f q.2.1 (br_t q.2.2 (br_t g2 J))))
      · refine Or.inl ⟨-3, by decide, by decide, fun post J => ?_, fun post J => ?_⟩
        · subst e
          have q := sf_al_ok l hl
          exact br_t g (br_f q.1 (br_f q.2.1 (br_t q.2.2 (br_f g2 J))))
        · refine br_t g ?_
          have fin : wY_preview_43 post x y (nI W) (nI K) (lN (sf_k c)) pk kd va al bo sv := by
            unfold wY_preview_43
            rw [sf_m1 (a := W) (by omega)]
            exact br_f g2 J
          exact br_c (fun _ => fin) (fun _ => br_c (fun _ => fin) (fun _ => br_c (fun _ => fin) (fun _ => br_c (fun _ => fin) (fun _ => br_c (fun _ => fin) (fun _ => br_c (fun _ => fin) (fun z => by
            exfalso
            rename_i z1 z2 z4 z8 z16
            have : l = 0 ∨ l = 1 ∨ l = 2 ∨ l = 3 ∨ l = 4 ∨ l = 5 := by omega
            rcases this with rfl | rfl | rfl | rfl | rfl | rfl
            · exact z1 e
            · exact z2 e
            · exact z4 e
            · exact z8 e
            · exact z16 e
            · exact z e))))))
    · refine Or.inl ⟨-2, by decide, by decide, fun post J => br_t g (br_c (fun _ => J) (fun z1 => br_c (fun _ => J) (fun z2 => br_f ((h1.resolve_left z1).resolve_left z2) J))), fun post J => br_t g (br_f e1 (br_f e2 (br_f e4 (br_f e8 (br_f e16 (br_f e32 J))))))⟩
  · exact Or.inl ⟨-1, by decide, by decide, fun post J => br_f g J, fun post J => br_f g J⟩
/-- a good request, as the reference's preview answers it -/
theorem sf_ypv {post : Int32 → Prop} {n l r : Nat} (hw : sf_WK W K) (hf : sf_WF W c) (hv : sf_CV W c 0 0) (hclk : sf_k c < 2 ^ 31) (hY : sf_YR W K c Q vl' pk sv v) (h1 : 1 ≤ n) (h2 : n ≤ W - 1) (hl : l ≤ 5) (hr : sf_fd K c (sf_need (sf_pay n) l) r) (J : post (if r = 0 then -3 else nI (sf_plc r (2 ^ l)))) : wpY_preview post v (nI n) (nI (2 ^ l)) := by
  have hY' := hY
  obtain ⟨kd, va, al, bo, rfl, -⟩ := hY
  have hw1 := hw.1
  have hw2 := hw.2.1
  have hp := sf_pay_b h1 h2 hw1
  have hn := sf_need_b (l := l) hl hp.1 (by omega)
  have hr2 : r ≤ 256 := by
    by_cases e : r = 0
    · omega
    · have := hf.1 r (by have := (sf_fd_room hw hf hl hr e).1; omega); omega
  have f66 : ∀ x, x = nI (sf_pay n) → wY_preview_66 post (nI (2 ^ l)) x (nI W) (nI K) (lN (sf_k c)) pk kd va al bo sv := fun x e => by
    subst e
    unfold wY_preview_66
    refine sf_yneed hl (sf_yfd hw hf hv hclk hY' hn.1 hn.2 hr (sf_if (sf_nI0 (by omega)) (fun e => ?_) (fun e => ?_)))
    · rw [if_pos e] at J; exact J
    · rw [if_neg e] at J; exact sf_yplc hl hr2 J
  have f43 : wY_preview_43 post (nI n) (nI (2 ^ l)) (nI W) (nI K) (lN (sf_k c)) pk kd va al bo sv := by
    unfold wY_preview_43
    rw [sf_m1 (a := W) (by omega)]
    refine br_t (nI_le h2 (by omega)) (pk_eq n 1 (fun e => f66 _ ?_) (fun e => f66 _ ?_))
    · unfold sf_pay; rw [if_pos e]; rfl
    · unfold sf_pay; rw [if_neg e]
  unfold wpY_preview
  dsimp only
  refine br_t (nI_le (a := 1) h1 (by omega)) ?_
  exact br_c (fun _ => f43) (fun z1 => br_c (fun _ => f43) (fun z2 => br_c (fun _ => f43) (fun z4 => br_c (fun _ => f43) (fun z8 => br_c (fun _ => f43) (fun z16 => br_c (fun _ => f43) (fun z => by
    exfalso
    have : l = 0 ∨ l = 1 ∨ l = 2 ∨ l = 3 ∨ l = 4 ∨ l = 5 := by omega
    rcases this with rfl | rfl | rfl | rfl | rfl | rfl
    · exact z1 rfl
    · exact z2 rfl
    · exact z4 rfl
    · exact z8 rfl
    · exact z16 rfl
    · exact z rfl))))))
end
theorem i_vc_preview {k : Nat} {u : SX} {v : SY} (I : i_Rel k u v) (hk : k + 4 ≤ 2050) (v1 : Int32) (v2 : Int32) : wpX_preview (fun r => wpY_preview (fun r' => r' = r ∧ i_Rel (k + 4) u v) v v1 v2) u v1 v2 := by
  have I' := i_up I
  obtain ⟨W, K, c, pk, sv, vl, hw, hf, hv, hk4, hX, hY⟩ := I
  have hw1 := hw.1
  have hw2 := hw.2.1
  have hq := sf_req hw hX hY v1 v2
  have hX' := hX
  obtain ⟨lv, hp, ss, hs, rs, rfl, -⟩ := hX
  unfold wpX_preview
  dsimp only
  rcases hq with ⟨r, r1, r2, hx, hy⟩ | ⟨n, l, rfl, h1, h2, hl, rfl, hx⟩
  · exact hx _ (br_f r1 (hy _ ⟨rfl, I'⟩))
  · have hp := sf_pay_b h1 h2 hw1
    have hn := sf_need_b (l := l) hl hp.1 (by omega)
    obtain ⟨r, hr⟩ := sf_fd_ex hw hf hn.1
    have hr2 : r ≤ 256 := by
      by_cases e : r = 0
      · omega
      · have := hf.1 r (by have := (sf_fd_room hw hf hl hr e).1; omega); omega
    refine hx _ (br_t rfl (sf_xpay (by omega) (sf_xneed hl (sf_xfd hw hf hX' hn.1 hn.2 hr (sf_if (sf_nI0 (by omega)) (fun e => ?_) (fun e => ?_))))))
    · exact sf_ypv hw hf hv (by omega) hY h1 h2 hl hr ⟨by rw [if_pos e], I'⟩
    · exact sf_xplc hl hr2 (sf_ypv hw hf hv (by omega) hY h1 h2 hl hr ⟨by rw [if_neg e], I'⟩)
/-! ===== allocation ===== -/
/-- one answer and related end states, whatever is asked of them -/
def sf_out (k : Nat) (wx : (Int32 → SX → Prop) → Prop) (wy : (Int32 → SY → Prop) → Prop) : Prop :=
  ∃ (r : Int32) (R : SX → Prop) (S : SY → Prop), (∀ u v, R u → S v → i_Rel k u v) ∧ (∀ post, (∀ u, R u → post r u) → wx post) ∧ (∀ post, (∀ v, S v → post r v) → wy post)
theorem sf_out_same {k : Nat} {u : SX} {v : SY} {wx : (Int32 → SX → Prop) → Prop} {wy : (Int32 → SY → Prop) → Prop} (I : i_Rel k u v) (r : Int32) (hx : ∀ post : Int32 → SX → Prop, post r u → wx post) (hy : ∀ post : Int32 → SY → Prop, post r v → wy post) : sf_out k wx wy :=
  ⟨r, fun u' => u' = u, fun v' => v' = v, fun u' v' e1 e2 => by rw [e1, e2]; exact I, fun post h => hx post (h u rfl), fun post h => hy post (h v rfl)⟩
theorem sf_alloc {k : Nat} {u : SX} {v : SY} (I : i_Rel k u v) (hk : k + 4 ≤ 2050) (v1 : Int32) (v2 : Int32) : sf_out (k + 4) (fun post => wpX_allocateAligned post u v1 v2) (fun post => wpY_allocateAligned post v v1 v2) := by
  have I' := i_up I
  obtain ⟨W, K, c, pk, sv, vl, hw, hf, hv, hk4, hX, hY⟩ := I
  have hw1 := hw.1
  have hw2 := hw.2.1
  have hq := sf_req hw hX hY v1 v2
  have hX' := hX
  have hY' := hY
  obtain ⟨lv, hp, ss, hs, rs, rfl, -⟩ := hX
  obtain ⟨kd, va, al, bo, rfl, -⟩ := hY
  rcases hq with ⟨r, r1, r2, hx, hy⟩ | ⟨n, l, rfl, h1, h2, hl, rfl, hx⟩
  · refine sf_out_same I' r (fun post J => ?_) (fun post J => ?_)
    · unfold wpX_allocateAligned
      exact hx _ (br_f r1 J)
    · unfold wpY_allocateAligned
      exact hy _ (br_f r2 J)
  · have hp := sf_pay_b h1 h2 hw1
    have hn := sf_need_b (l := l) hl hp.1 (by omega)
    obtain ⟨r, hr⟩ := sf_fd_ex hw hf hn.1
    by_cases r0 : r = 0
    · refine sf_out_same I' (-3) (fun post J => ?_) (fun post J => ?_)
      · unfold wpX_allocateAligned
        refine hx _ (br_t rfl (sf_xpay (by omega) (sf_xneed hl (sf_xfd hw hf hX' hn.1 hn.2 hr (br_t (by rw [r0]; rfl) J)))))
      · unfold wpY_allocateAligned
        refine sf_ypv hw hf hv (by omega) hY' h1 h2 hl hr ?_
        rw [if_pos r0]
        exact br_f (by decide) J
    · obtain ⟨hr4, hfit⟩ := sf_fd_room hw hf hl hr r0
      have hrx := hf.1 r (by omega)
      have h2l := sf_p2 hl
      have hplo := sf_plc_lo (b := r) h2l.1
      have hcc := sf_cc_ge hfit
      have hole := sf_hole_rem hf hv (a := r) (by omega)
      have hf1 := sf_wf_rem (a := r) hf
      obtain ⟨hf2, hv2⟩ := sf_cut_ok (n := sf_pay n) hf1 hole (by omega) (by omega) hl hp.1 hfit
      have hat := sf_cut_at (c := sf_rem c r) (b := r) (cc := sf_c c r) (n := sf_pay n) (l := l)
      have hkk := sf_cut_k (c := sf_rem c r) (b := r) (cc := sf_c c r) (n := sf_pay n) (l := l)
      rw [sf_rem_k] at hkk
      have hlive := fun x => sf_cut_live (c := sf_rem c r) (b := r) (cc := sf_c c r) (n := sf_pay n) (l := l) (x := x)
      have hout : ∀ w, sf_lw c w → w + 1 < r ∨ r + sf_c c r < w := fun w ⟨x, x1, x2, x3⟩ => by
        have e : x ≠ r := fun e => by rw [e] at x1; omega
        rcases Nat.lt_or_ge x r with g | g
        · have := hf.2.1 x r (by omega) (by omega) g; omega
        · have := hf.2.1 r x (by omega) (by omega) (by omega); omega
      have hcl := hat.2.1
      generalize hc2 : sf_cut (sf_rem c r) r (sf_c c r) (sf_pay n) l = c2 at *
      generalize hA : sf_plc r (2 ^ l) = A at *
      generalize hcap : sf_cc r (sf_c c r) (sf_pay n) l = cap at *
      have hAx := hf2.1 A (by omega)
      have hlw : ∀ w, sf_lw c2 w → sf_lw c w ∨ (A ≤ w ∧ w < A + cap) := fun w ⟨x, x1, x2, x3⟩ => by
        by_cases e : x = A
        · rw [e] at x2 x3; exact Or.inr (by omega)
        · have y := hlive x x1 e
          have y1 : sf_s c x = 2 := by
            have := y.1
            rw [sf_rem_s] at this
            split at this
            · omega
            · exact this
          rw [y.2, sf_rem_c] at x3
          exact Or.inl ⟨x, y1, x2, x3⟩
      refine ⟨nI A, sf_XR W K c2 (sf_lw c2) (sf_z vl A cap) (sf_npk c2 pk), sf_YR W K c2 (sf_lw c2) (sf_z vl A cap) (sf_npk c2 pk) sv, fun u' v' x y => ⟨W, K, c2, _, sv, _, hw, hf2, hv2, by omega, x, y⟩, fun post J => ?_, fun post J => ?_⟩
      · unfold wpX_allocateAligned
        refine hx _ (br_t rfl (sf_xpay (by omega) (sf_xneed hl (sf_xfd hw hf hX' hn.1 hn.2 hr (br_f (nI_ne0 (by omega) (by omega)) (sf_xcap hw hf hX' (by omega) ?_))))))
        refine sf_xtb (Nat.pow_lt_pow_right (by decide) (by omega)) ?_
        rw [Nat.log2_two_pow]
        refine sf_xrf hw hf hX' hr4 (fun u1 x1 => ?_)
        obtain ⟨_, _, _, _, _, _, _, _, _, _, _⟩ := u1
        refine sf_xcut hw hf1 x1 hole (by omega) (by omega) hl hp.1 (by omega) (fun w g => by have := hout w g; omega) (fun u2 x2 => ?_)
        rw [hc2] at x2
        rw [hA]
        obtain ⟨_, _, _, _, _, _, _, _, _, _, _⟩ := u2
        refine sf_xcap hw hf2 x2 (by omega) ?_
        rw [hcl, nI_add]
        refine sf_xcl hf2 x2 (by omega) (by omega) (fun w g1 g2 => ⟨sf_qt_live hf2 hat.1 g1 (by omega), sf_npl_lw hf2 ⟨A, hat.1, g1, by omega⟩⟩) (fun u3 x3 => ?_)
        obtain ⟨_, _, _, _, _, _, _, _, _, _, _⟩ := u3
        refine sf_xnp x3 (fun u4 x4 => ?_)
        obtain ⟨_, _, _, _, _, _, _, _, _, _, _⟩ := u4
        exact J _ (sf_xweak x4 (fun w g => ⟨hlw w g, rfl⟩))
      · unfold wpY_allocateAligned
        refine sf_ypv hw hf hv (by omega) hY' h1 h2 hl hr ?_
        rw [if_neg r0, hA]
        refine br_t (nI_pos' (by omega)) ?_
        have f23 : ∀ x, x = nI (sf_pay n) → wY_allocateAligned_23 post (nI (2 ^ l)) (nI A) x (nI W) (nI K) (lN (sf_k c)) pk kd va al bo sv := fun x e => by
          subst e
          unfold wY_allocateAligned_23
          refine sf_yneed hl (sf_yfd hw hf hv (by omega) hY' hn.1 hn.2 hr (sf_ycap hw hf hv hY' (by omega) ?_))
          refine sf_ycut hw hf1 (sf_yrem (a := r) hY') hole (by omega) (by omega) hl hp.1 (by omega) (fun w g => by have := hout w g; omega) (fun v2 y2 => ?_)
          rw [hc2, hA, hcap] at y2
          obtain ⟨_, _, _, _, _, _, _, _, _⟩ := v2
          refine sf_ynp hw hf2 hv2 y2 (fun v3 y3 => ?_)
          obtain ⟨_, _, _, _, _, _, _, _, _⟩ := v3
          exact J _ (sf_yweak y3 (fun w g => ⟨hlw w g, rfl⟩))
        refine pk_eq n 1 (fun e => f23 _ ?_) (fun e => f23 _ ?_)
        · unfold sf_pay; rw [if_pos e]; rfl
        · unfold sf_pay; rw [if_neg e]
theorem i_vc_allocateAligned {k : Nat} {u : SX} {v : SY} (I : i_Rel k u v) (hk : k + 4 ≤ 2050) (v1 : Int32) (v2 : Int32) : wpX_allocateAligned (fun r u' => wpY_allocateAligned (fun r' v' => r' = r ∧ i_Rel (k + 4) u' v') v v1 v2) u v1 v2 := by
  obtain ⟨r, R, S, h1, h2, h3⟩ := sf_alloc I hk v1 v2
  exact h2 _ (fun u' hu => h3 _ (fun v' hv => ⟨rfl, h1 u' v' hu hv⟩))
theorem i_vc_allocate {k : Nat} {u : SX} {v : SY} (I : i_Rel k u v) (hk : k + 4 ≤ 2050) (v1 : Int32) : wpX_allocate (fun r u' => wpY_allocate (fun r' v' => r' = r ∧ i_Rel (k + 4) u' v') v v1) u v1 := by
  obtain ⟨r, R, S, h1, h2, h3⟩ := sf_alloc I hk v1 1
  obtain ⟨_, _, _, _, _, _, _, _, _, _, _⟩ := u
  obtain ⟨_, _, _, _, _, _, _, _, _⟩ := v
  unfold wpX_allocate wpY_allocate
  refine h2 _ (fun u' hu => ?_)
  obtain ⟨_, _, _, _, _, _, _, _, _, _, _⟩ := u'
  refine h3 _ (fun v' hv => ?_)
  obtain ⟨_, _, _, _, _, _, _, _, _⟩ := v'
  exact ⟨rfl, h1 _ _ hu hv⟩
end
section
/-! ===== drop ===== -/
def sf_d1 (W : Nat) (c : sf_Ab) (a : Nat) : sf_Ab := if sf_fa W c a = 0 then sf_rem c a else sf_rem (sf_rem c a) (sf_fa W c a)
def sf_d2 (W : Nat) (c : sf_Ab) (a p : Nat) : sf_Ab := if p = 0 then sf_d1 W c a else sf_rem (sf_d1 W c a) p
def sf_lo (a p : Nat) : Nat := if p = 0 then a else p
def sf_en (W : Nat) (c : sf_Ab) (a : Nat) : Nat := if sf_fa W c a = 0 then a + sf_c c a else sf_fa W c a + sf_c c (sf_fa W c a)
def sf_drp (W : Nat) (c : sf_Ab) (a p : Nat) : sf_Ab := sf_fre (sf_d2 W c a p) (sf_lo a p) (sf_en W c a - sf_lo a p)
section
variable {W K a p : Nat} {c : sf_Ab} {P : Nat → Prop} {vl sv : Nat → Int32} {pk : Int32} {u : SX} {v : SY}
theorem sf_fa_free (h : sf_fa W c a ≠ 0) : sf_s c (sf_fa W c a) = 4 ∧ sf_fa W c a = a + sf_c c a + 1 ∧ a + sf_c c a < W := by
  unfold sf_fa at h ⊢
  split at h
  · rename_i g
    rw [if_pos g]; exact ⟨g.2, rfl, g.1⟩
  · exact absurd rfl h
theorem sf_fbr_free (hf : sf_WF W c) (h : sf_fbr c a p) (h0 : p ≠ 0) : sf_s c p = 4 ∧ p + sf_c c p + 1 = a := by
  rcases h with h | h
  · exact absurd h.1 h0
  · exact h
theorem sf_rem_ne {x : Nat} (h : sf_s c x ≠ 0) (e : x ≠ a) : sf_s (sf_rem c a) x ≠ 0 := by rw [sf_rem_s, if_neg e]; exact h
theorem sf_d1_ok (hf : sf_WF W c) (hv : sf_CV W c 0 0) (ha : sf_s c a = 2) : sf_WF W (sf_d1 W c a) ∧ sf_hole W (sf_d1 W c a) (a - 1) (sf_en W c a) ∧ a + sf_c c a ≤ sf_en W c a ∧ sf_en W c a ≤ W ∧ (∀ x, sf_c (sf_d1 W c a) x = sf_c c x) ∧ (∀ x, sf_s (sf_d1 W c a) x = if x = a ∨ x = sf_fa W c a then 0 else sf_s c x) ∧ sf_k (sf_d1 W c a) = sf_k c := by
  have ha1 := hf.1 a (by omega)
  have h0 := sf_hole_rem hf hv (a := a) (by omega)
  have w0 := sf_wf_rem (a := a) hf
  unfold sf_d1 sf_en
  by_cases e : sf_fa W c a = 0
  · rw [if_pos e, if_pos e]
    refine ⟨w0, h0, by omega, by omega, fun x => rfl, fun x => ?_, rfl⟩
    rw [sf_rem_s, e]
    by_cases e2 : x = a
    · rw [if_pos e2, if_pos (Or.inl e2)]
    · rw [if_neg e2]
      by_cases e3 : x = 0
      · rw [if_pos (Or.inr e3), e3, sf_s0 hf]
      · rw [if_neg (by omega)]
  · rw [if_neg e, if_neg e]
    obtain ⟨f1, f2, f3⟩ := sf_fa_free e
    have fx := hf.1 _ (by omega : sf_s c (sf_fa W c a) ≠ 0)
    generalize sf_fa W c a = f at *
    have hu := sf_hole_up (a := f) w0 h0 (sf_rem_ne (by omega) (by omega)) f2 (by omega)
    rw [sf_rem_c] at hu
    refine ⟨sf_wf_rem w0, hu, by omega, by omega, fun x => rfl, fun x => ?_, rfl⟩
    rw [sf_rem_s, sf_rem_s]
    by_cases e2 : x = f
    · rw [if_pos e2, if_pos (Or.inr e2)]
    · rw [if_neg e2]
      by_cases e3 : x = a
      · rw [if_pos e3, if_pos (Or.inl e3)]
      · rw [if_neg e3, if_neg (by omega)]
theorem sf_d2_ok (hf : sf_WF W c) (hv : sf_CV W c 0 0) (ha : sf_s c a = 2) (hp : sf_fbr c a p) : sf_WF W (sf_d2 W c a p) ∧ sf_hole W (sf_d2 W c a p) (sf_lo a p - 1) (sf_en W c a) ∧ 1 ≤ sf_lo a p ∧ sf_lo a p + 2 ≤ sf_en W c a ∧ sf_en W c a ≤ W ∧ (∀ x, sf_c (sf_d2 W c a p) x = sf_c c x) ∧ (∀ x, sf_s (sf_d2 W c a p) x = if x = a ∨ x = sf_fa W c a ∨ x = p then 0 else sf_s c x) ∧ sf_k (sf_d2 W c a p) = sf_k c ∧ sf_lo a p ≤ a ∧ (p ≠ 0 → sf_s (sf_d1 W c a) p = 4) := by
  have ha1 := hf.1 a (by omega)
  obtain ⟨q1, q2, q3, q4, q5, q6, q7⟩ := sf_d1_ok hf hv ha
  unfold sf_d2 sf_lo
  by_cases e : p = 0
  · rw [if_pos e, if_pos e]
    refine ⟨q1, q2, by omega, by omega, q4, q5, fun x => ?_, q7, by omega, fun z => absurd e z⟩
    rw [q6 x]
    by_cases e3 : x = 0
    · rw [e3, sf_s0 hf]; split <;> split <;> rfl
    · by_cases e4 : x = a ∨ x = sf_fa W c a
      · rw [if_pos e4, if_pos (by omega)]
      · rw [if_neg e4, if_neg (by omega)]
  · rw [if_neg e, if_neg e]
    obtain ⟨f1, f2⟩ := sf_fbr_free hf hp e
    have fx := hf.1 p (by omega)
    have pf : ¬ (p = a ∨ p = sf_fa W c a) := by
      by_cases e2 : sf_fa W c a = 0
      · omega
      · have := sf_fa_free e2; omega
    have sp : sf_s (sf_d1 W c a) p = 4 := by rw [q6 p, if_neg pf]; exact f1
    have hd := sf_hole_dn (a := p) q1 q2 (by omega) (by rw [q5]; omega) (by omega)
    refine ⟨sf_wf_rem q1, hd, by omega, by omega, q4, q5, fun x => ?_, q7, by omega, fun _ => sp⟩
    rw [sf_rem_s, q6 x]
    by_cases e3 : x = p
    · rw [if_pos e3, if_pos (by omega)]
    · rw [if_neg e3]
      by_cases e4 : x = a ∨ x = sf_fa W c a
      · rw [if_pos e4, if_pos (by omega)]
      · rw [if_neg e4, if_neg (by omega)]
theorem sf_drp_ok (hf : sf_WF W c) (hv : sf_CV W c 0 0) (ha : sf_s c a = 2) (hp : sf_fbr c a p) : sf_WF W (sf_drp W c a p) ∧ sf_CV W (sf_drp W c a p) 0 0 ∧ sf_k (sf_drp W c a p) = sf_k c + 1 ∧ (∀ x, sf_s (sf_drp W c a p) x = 2 → x ≠ a ∧ sf_s c x = 2 ∧ sf_c (sf_drp W c a p) x = sf_c c x) ∧ (∀ w, sf_lw c w → ¬ (a ≤ w ∧ w < a + sf_c c a) → w + 1 < sf_lo a p ∨ sf_en W c a < w) ∧ sf_fit W (sf_d2 W c a p) (sf_lo a p) (sf_en W c a - sf_lo a p) := by
  obtain ⟨q1, q2, q3, q4, q5, q6, q7, q8, q9, q10⟩ := sf_d2_ok hf hv ha hp
  have t : sf_fit W (sf_d2 W c a p) (sf_lo a p) (sf_en W c a - sf_lo a p) := sf_hole_fit q2 (by omega) (by omega) (by omega) q5
  have ha1 := hf.1 a (by omega)
  unfold sf_drp
  refine ⟨sf_wf_fre q1 t, sf_hole_end (sf_hole_fre q2 (by omega) (by omega) (by omega)) (by omega), by rw [sf_fre_k, q8], fun x hx => ?_, fun w hw hn => ?_, t⟩
  · rw [sf_fre_s] at hx
    split at hx
    · omega
    · rename_i g
      rw [sf_fre_c, if_neg g, q6 x]
      rw [q7 x] at hx
      split at hx
      · omega
      · rename_i g2
        exact ⟨fun e => g2 (Or.inl e), hx, rfl⟩
  · obtain ⟨x, x1, x2, x3⟩ := hw
    have e : ¬ (x = a ∨ x = sf_fa W c a ∨ x = p) := by
      rintro (e | e | e)
      · rw [e] at x2 x3; exact hn ⟨x2, x3⟩
      · by_cases z : sf_fa W c a = 0
        · rw [e, z, sf_s0 hf] at x1; omega
        · have := (sf_fa_free z).1; rw [← e] at this; omega
      · by_cases z : p = 0
        · rw [e, z, sf_s0 hf] at x1; omega
        · have := (sf_fbr_free hf hp z).1; rw [← e] at this; omega
    have y := q2.1 x (by rw [q7 x, if_neg e]; omega)
    rw [q6 x] at y
    omega
theorem sf_xdrop {post : SX → Prop} (hw : sf_WK W K) (hf : sf_WF W c) (hv : sf_CV W c 0 0) (h : sf_XR W K c P vl pk u) (ha : sf_s c a = 2) (hp : sf_fbr c a p) (hP : ∀ w, P w → sf_lw c w ∧ ¬ (a ≤ w ∧ w < a + sf_c c a)) (J : ∀ u', sf_XR W K (sf_drp W c a p) P vl pk u' → post u') : wpX_drop post u (nI a) := by
  obtain ⟨q1, q2, q3, q4, q5, q6, q7, q8, q9, q10⟩ := sf_d2_ok hf hv ha hp
  obtain ⟨r1, r2, r3, r4, r5, r6⟩ := sf_drp_ok hf hv ha hp
  obtain ⟨s1, s2, s3, s4, s5, s6, s7⟩ := sf_d1_ok hf hv ha
  have hw2 := hw.2.1
  have ha1 := hf.1 a (by omega)
  have w0 := sf_wf_rem (a := a) hf
  have hp256 : p < 256 := by
    by_cases e : p = 0
    · omega
    · have := hf.1 p (by have := (sf_fbr_free hf hp e).1; omega); omega
  have hf256 : sf_fa W c a < 2 ^ 31 := by
    by_cases e : sf_fa W c a = 0
    · omega
    · have := hf.1 _ (by have := (sf_fa_free e).1; omega : sf_s c (sf_fa W c a) ≠ 0); omega
  have f59 : ∀ (x g1 g2 g3 g4 g5 g6 g7 : Int32) (h1 h2 h3 h4 : Nat → Int32), x = nI (sf_lo a p) → sf_XR W K (sf_d2 W c a p) P vl pk (g1, g2, g3, g4, g5, g6, g7, h1, h2, h3, h4) → wX_drop_59 post x (nI (sf_en W c a)) g1 g2 g3 g4 g5 g6 g7 h1 h2 h3 h4 := by
    intro x g1 g2 g3 g4 g5 g6 g7 h1 h2 h3 h4 e hh
    subst e
    unfold wX_drop_59
    rw [pk_sub (by omega)]
    refine sf_xef hw q1 hh r6 (fun w g => ?_) (fun u3 hh3 => ?_)
    · have g1 := hP w g
      have := r5 w g1.1 g1.2; omega
    · obtain ⟨_, _, _, _, _, _, _, _, _, _, _⟩ := u3
      exact J _ hh3
  have f47 : ∀ (g1 g2 g3 g4 g5 g6 g7 : Int32) (h1 h2 h3 h4 : Nat → Int32), sf_XR W K (sf_d1 W c a) P vl pk (g1, g2, g3, g4, g5, g6, g7, h1, h2, h3, h4) → wX_drop_47 post (nI p) (nI a) (nI (sf_en W c a)) g1 g2 g3 g4 g5 g6 g7 h1 h2 h3 h4 := by
    intro g1 g2 g3 g4 g5 g6 g7 h1 h2 h3 h4 hh
    unfold wX_drop_47
    refine sf_if (sf_nI0 (by omega)) (fun e => ?_) (fun e => ?_)
    · refine f59 _ _ _ _ _ _ _ _ _ _ _ _ ?_ ?_
      · unfold sf_lo; rw [if_pos e]
      · unfold sf_d2; rw [if_pos e]; exact hh
    · refine sf_xrf hw s1 hh (q10 e) (fun u2 hh2 => ?_)
      obtain ⟨_, _, _, _, _, _, _, _, _, _, _⟩ := u2
      refine f59 _ _ _ _ _ _ _ _ _ _ _ _ ?_ ?_
      · unfold sf_lo; rw [if_neg e]
      · unfold sf_d2; rw [if_neg e]; exact hh2
  have h' := h
  obtain ⟨lv, hp', ss, hs, rs, rfl, -⟩ := h
  unfold wpX_drop
  refine sf_xfb hw hf h' (by omega) hp (sf_xfa hw hf hv h' (by omega) (sf_xcap hw hf h' (by omega) (nm_r (nI_add a _) (sf_xrl hw hf h' ha (fun u0 h0 => ?_)))))
  obtain ⟨_, _, _, _, _, _, _, _, _, _, _⟩ := u0
  refine sf_if (sf_nI0 hf256) (fun e => ?_) (fun e => ?_)
  · have := f47 _ _ _ _ _ _ _ _ _ _ _ (by unfold sf_d1; rw [if_pos e]; exact h0)
    unfold sf_en at this
    rw [if_pos e] at this
    exact this
  · have ff := sf_fa_free e
    have fx := hf.1 _ (by omega : sf_s c (sf_fa W c a) ≠ 0)
    refine sf_xcap hw w0 h0 (sf_rem_ne (by omega) (by omega)) ?_
    rw [sf_rem_c, nI_add]
    refine nm_e (sf_xrf hw w0 h0 (by rw [sf_rem_s, if_neg (by omega)]; exact ff.1) (fun u1 h1 => ?_))
    obtain ⟨_, _, _, _, _, _, _, _, _, _, _⟩ := u1
    have := f47 _ _ _ _ _ _ _ _ _ _ _ (by unfold sf_d1; rw [if_neg e]; exact h1)
    unfold sf_en at this
    rw [if_neg e] at this
    exact this
theorem sf_ydrop {post : SY → Prop} (hw : sf_WK W K) (hf : sf_WF W c) (hv : sf_CV W c 0 0) (h : sf_YR W K c P vl pk sv v) (ha : sf_s c a = 2) (hp : sf_fbr c a p) (hP : ∀ w, P w → sf_lw c w ∧ ¬ (a ≤ w ∧ w < a + sf_c c a)) (J : ∀ v', sf_YR W K (sf_drp W c a p) P vl pk sv v' → post v') : wpY_drop post v (nI a) := by
  obtain ⟨q1, q2, q3, q4, q5, q6, q7, q8, q9, q10⟩ := sf_d2_ok hf hv ha hp
  obtain ⟨r1, r2, r3, r4, r5, r6⟩ := sf_drp_ok hf hv ha hp
  have hw2 := hw.2.1
  have ha1 := hf.1 a (by omega)
  have hp256 : p < 256 := by
    by_cases e : p = 0
    · omega
    · have := hf.1 p (by have := (sf_fbr_free hf hp e).1; omega); omega
  have hf256 : sf_fa W c a < 2 ^ 31 := by
    by_cases e : sf_fa W c a = 0
    · omega
    · have := hf.1 _ (by have := (sf_fa_free e).1; omega : sf_s c (sf_fa W c a) ≠ 0); omega
  have hd : sf_YR W K (sf_d2 W c a p) P vl pk sv v := by
    unfold sf_d2 sf_d1
    split <;> split
    · exact sf_yrem h
    · exact sf_yrem (sf_yrem h)
    · exact sf_yrem (sf_yrem h)
    · exact sf_yrem (sf_yrem (sf_yrem h))
  have h' := h
  obtain ⟨kd, va, al, bo, rfl, -⟩ := h
  have f47 : ∀ x y, x = nI (sf_lo a p) → y = nI (sf_en W c a) → wY_drop_47 post x y (nI W) (nI K) (lN (sf_k c)) pk kd va al bo sv := by
    intro x y e1 e2
    subst e1 e2
    unfold wY_drop_47
    rw [pk_sub (by omega)]
    refine sf_yef hw q1 hd r6 (fun w g => ?_) (fun v3 h3 => ?_)
    · have g1 := hP w g
      have := r5 w g1.1 g1.2; omega
    · obtain ⟨_, _, _, _, _, _, _, _, _⟩ := v3
      exact J _ h3
  have f32 : ∀ x, x = nI (sf_lo a p) → wY_drop_32 post x (nI (a + sf_c c a)) (nI (sf_fa W c a)) (nI W) (nI K) (lN (sf_k c)) pk kd va al bo sv := by
    intro x e1
    unfold wY_drop_32
    refine sf_if (sf_nI0 hf256) (fun e => f47 _ _ e1 ?_) (fun e => ?_)
    · unfold sf_en; rw [if_pos e]
    · have ff := sf_fa_free e
      refine sf_ycap hw hf hv h' (by omega) (nm_r (nI_add _ _) (f47 _ _ e1 ?_))
      unfold sf_en; rw [if_neg e]
  unfold wpY_drop
  refine sf_ycap hw hf hv h' (by omega) (nm_r (nI_add a _) (sf_yfb hw hf h' (by omega) hp (sf_yfa hw hf hv h' (by omega) ?_)))
  refine sf_if (sf_nI0 (by omega)) (fun e => f32 _ ?_) (fun e => f32 _ ?_)
  · unfold sf_lo; rw [if_pos e]
  · unfold sf_lo; rw [if_neg e]
end
theorem i_vc_release {k : Nat} {u : SX} {v : SY} (I : i_Rel k u v) (hk : k + 4 ≤ 2050) (v1 : Int32) : wpX_release (fun r u' => wpY_release (fun r' v' => r' = r ∧ i_Rel (k + 4) u' v') v v1) u v1 := by
  have I' := i_up I
  obtain ⟨W, K, c, pk, sv, vl, hw, hf, hv, hk4, hX, hY⟩ := I
  obtain ⟨r, h1, h2, h3⟩ := sf_check hw hf hv hX hY v1
  have hX' := hX
  have hY' := hY
  obtain ⟨lv, hp, ss, hs, rs, rfl, -⟩ := hX
  obtain ⟨kd, va, al, bo, rfl, -⟩ := hY
  unfold wpX_release wpY_release
  rcases h3 with ⟨e, a, rfl, ha⟩ | e
  · obtain ⟨p, hp⟩ := sf_fb_ex hf hv (a := a) (by omega)
    obtain ⟨r1, r2, r3, r4, r5, r6⟩ := sf_drp_ok hf hv ha hp
    have hlw : ∀ w, sf_lw (sf_drp W c a p) w → sf_lw c w ∧ ¬ (a ≤ w ∧ w < a + sf_c c a) := fun w ⟨x, x1, x2, x3⟩ => by
      have y := r4 x x1
      rw [y.2.2] at x3
      refine ⟨⟨x, y.2.1, x2, x3⟩, fun g => y.1 (sf_own (w := w) hf (by omega) (by omega) (by omega) x3 (by omega) g.2)⟩
    refine h1 _ (br_t e (sf_xdrop (P := fun w => sf_lw c w ∧ ¬ (a ≤ w ∧ w < a + sf_c c a)) hw hf hv (sf_xweak hX' (fun w g => ⟨g.1, rfl⟩)) ha hp (fun w g => g) (fun u' x => ?_)))
    obtain ⟨_, _, _, _, _, _, _, _, _, _, _⟩ := u'
    refine h2 _ (br_t e (sf_ydrop (P := fun w => sf_lw c w ∧ ¬ (a ≤ w ∧ w < a + sf_c c a)) hw hf hv (sf_yweak hY' (fun w g => ⟨g.1, rfl⟩)) ha hp (fun w g => g) (fun v' y => ?_)))
    obtain ⟨_, _, _, _, _, _, _, _, _⟩ := v'
    exact ⟨rfl, W, K, _, pk, sv, vl, hw, r1, r2, by omega, sf_xweak x (fun w g => ⟨hlw w g, rfl⟩), sf_yweak y (fun w g => ⟨hlw w g, rfl⟩)⟩
  · exact h1 _ (br_f e (h2 _ (br_f e ⟨rfl, I'⟩)))
end
section
/-! ===== contents that move ===== -/
def sf_mv (vl : Nat → Int32) (x y m n : Nat) : Nat → Int32 := fun w => if y ≤ w ∧ w < y + n then (if w - y < m then vl (x + (w - y)) else 0) else vl w
def sf_sv (sv va : Nat → Int32) (a i : Nat) : Nat → Int32 := fun j => if j < i then va (a + j) else sv j
theorem sf_rem_comm (c : sf_Ab) (x y : Nat) : sf_rem (sf_rem c x) y = sf_rem (sf_rem c y) x := by
  have e : sf_up (sf_up (sf_s c) x 0) y 0 = sf_up (sf_up (sf_s c) y 0) x 0 := funext fun j => by
    unfold sf_up
    by_cases h1 : j = x
    · by_cases h2 : j = y
      · rw [if_pos h2, if_pos h1]
      · rw [if_neg h2, if_pos h1, if_pos h1]
    · by_cases h2 : j = y
      · rw [if_pos h2, if_neg h1, if_pos h2]
      · rw [if_neg h2, if_neg h1, if_neg h1, if_neg h2]
  show (sf_up (sf_up (sf_s c) x 0) y 0, sf_c c, sf_l c, sf_b c, sf_k c) = (sf_up (sf_up (sf_s c) y 0) x 0, sf_c c, sf_l c, sf_b c, sf_k c)
  rw [e]
section
variable {W K a n A cap m : Nat} {c c' : sf_Ab} {P : Nat → Prop} {vl vlc sv : Nat → Int32} {pk : Int32} {u : SX} {v : SY}
theorem sf_npl_hole {w lo hi : Nat} (hv : sf_hole W c lo hi) (h1 : lo < w) (h2 : w < hi) : ¬ sf_pl c w := fun ⟨b, hb, g1, g2⟩ => by
  have := hv.1 b (by omega); omega
/-- the words of live blocks outside a -/
def sf_lwx (c : sf_Ab) (a w : Nat) : Prop := sf_lw c w ∧ ¬ (a ≤ w ∧ w < a + sf_c c a)
theorem sf_xfin (hlw : ∀ w, sf_lw c' w → ¬ (A ≤ w ∧ w < A + cap) → P w ∧ vlc w = vl w) (hin : ∀ w, A ≤ w → w < A + cap → w - A < m → P w ∧ vlc w = vl (a + (w - A))) (x : sf_XR W K c' (fun w => P w ∨ (A + m ≤ w ∧ w < A + cap)) (fun w => if A + m ≤ w ∧ w < A + cap then 0 else vlc w) pk u) : sf_XR W K c' (sf_lw c') (sf_mv vl a A m cap) pk u := by
  refine sf_xweak x (fun w g => ?_)
  unfold sf_mv
  by_cases e : A ≤ w ∧ w < A + cap
  · rw [if_pos e]
    by_cases e2 : w - A < m
    · rw [if_pos e2, if_neg (by omega)]
      exact ⟨Or.inl (hin w e.1 e.2 e2).1, (hin w e.1 e.2 e2).2.symm⟩
    · rw [if_neg e2, if_pos (by omega)]
      exact ⟨Or.inr (by omega), rfl⟩
  · rw [if_neg e, if_neg (by omega)]
    exact ⟨Or.inl (hlw w g e).1, (hlw w g e).2.symm⟩
theorem sf_yfin {m' : Nat} (hlw : ∀ w, sf_lw c' w → ¬ (A ≤ w ∧ w < A + cap) → P w) (hm1 : m' ≤ m) (hm2 : m' ≤ cap) (hm3 : m' = m ∨ m' = cap) (hsv : ∀ i, i < m → sv i = vl (a + i)) (y : sf_YR W K c' (fun w => (P w ∨ (A ≤ w ∧ w < A + cap)) ∨ (A ≤ w ∧ w < A + m')) (fun w => if A ≤ w ∧ w < A + m' then sv (w - A) else sf_z vl A cap w) pk sv v) : sf_YR W K c' (sf_lw c') (sf_mv vl a A m cap) pk sv v := by
  refine sf_yweak y (fun w g => ?_)
  unfold sf_mv sf_z
  by_cases e : A ≤ w ∧ w < A + cap
  · rw [if_pos e]
    refine ⟨Or.inl (Or.inr e), ?_⟩
    by_cases e2 : w - A < m
    · rw [if_pos e2, if_pos (by omega), hsv _ e2]
    · rw [if_neg e2, if_neg (by omega), if_pos e]
  · rw [if_neg e]
    refine ⟨Or.inl (Or.inl (hlw w g e)), ?_⟩
    rw [if_neg (by omega), if_neg e]
/-! ===== the three ways of resizing: the component ===== -/
theorem sf_lwx_d1 {e l : Nat} (hf : sf_WF W c) (hv : sf_CV W c 0 0) (ha : sf_s c a = 2) {w b : Nat} (g : sf_lw (sf_cut (sf_d1 W c a) b e n l) w) : sf_lwx c a w ∨ (sf_plc b (2 ^ l) ≤ w ∧ w < sf_plc b (2 ^ l) + sf_cc b e n l) := by
  obtain ⟨x, x1, x2, x3⟩ := g
  obtain ⟨s1, s2, s3, s4, s5, s6, s7⟩ := sf_d1_ok hf hv ha
  have hat := sf_cut_at (c := sf_d1 W c a) (b := b) (cc := e) (n := n) (l := l)
  by_cases e2 : x = sf_plc b (2 ^ l)
  · rw [e2, hat.2.1] at x3
    rw [e2] at x2
    exact Or.inr ⟨x2, x3⟩
  · have y := sf_cut_live x1 e2
    rw [y.2, s5] at x3
    have y1 := y.1
    rw [s6] at y1
    split at y1
    · omega
    · rename_i h
      exact Or.inl ⟨⟨x, y1, x2, x3⟩, fun g2 => h (Or.inl (sf_own (w := w) hf (by omega) (by omega) (by omega) x3 (by omega) g2.2))⟩
theorem sf_lwx_d2 {e l p : Nat} (hf : sf_WF W c) (hv : sf_CV W c 0 0) (ha : sf_s c a = 2) (hp : sf_fbr c a p) {w b : Nat} (g : sf_lw (sf_cut (sf_d2 W c a p) b e n l) w) : sf_lwx c a w ∨ (sf_plc b (2 ^ l) ≤ w ∧ w < sf_plc b (2 ^ l) + sf_cc b e n l) := by
  obtain ⟨x, x1, x2, x3⟩ := g
  obtain ⟨q1, q2, q3, q4, q5, q6, q7, q8, q9, q10⟩ := sf_d2_ok hf hv ha hp
  have hat := sf_cut_at (c := sf_d2 W c a p) (b := b) (cc := e) (n := n) (l := l)
  by_cases e2 : x = sf_plc b (2 ^ l)
  · rw [e2, hat.2.1] at x3
    rw [e2] at x2
    exact Or.inr ⟨x2, x3⟩
  · have y := sf_cut_live x1 e2
    rw [y.2, q6] at x3
    have y1 := y.1
    rw [q7] at y1
    split at y1
    · omega
    · rename_i h
      exact Or.inl ⟨⟨x, y1, x2, x3⟩, fun g2 => h (Or.inl (sf_own (w := w) hf (by omega) (by omega) (by omega) x3 (by omega) g2.2))⟩
/-- other live blocks lie outside the hole that a leaves with its free neighbour -/
theorem sf_lwx_out1 (hf : sf_WF W c) (hv : sf_CV W c 0 0) (ha : sf_s c a = 2) {w : Nat} (g : sf_lwx c a w) : w + 1 < a ∨ sf_en W c a < w := by
  obtain ⟨⟨x, x1, x2, x3⟩, h⟩ := g
  obtain ⟨s1, s2, s3, s4, s5, s6, s7⟩ := sf_d1_ok hf hv ha
  have e : ¬ (x = a ∨ x = sf_fa W c a) := by
    rintro (e | e)
    · rw [e] at x2 x3; exact h ⟨x2, x3⟩
    · by_cases z : sf_fa W c a = 0
      · rw [e, z, sf_s0 hf] at x1; omega
      · have := (sf_fa_free z).1; rw [← e] at this; omega
  have y := s2.1 x (by rw [s6 x, if_neg e]; omega)
  rw [s5 x] at y
  omega
theorem sf_plc_id {l : Nat} (h : a % 2 ^ l = 0) : sf_plc a (2 ^ l) = a := if_pos h
/-- recut -/
theorem sf_xrecut {post : SX → Prop} (hw : sf_WK W K) (hf : sf_WF W c) (hv : sf_CV W c 0 0) (h : sf_XR W K c (sf_lw c) vl pk u) (ha : sf_s c a = 2) (hn : 2 ≤ n) (hne : n ≤ sf_en W c a - a) (J : ∀ u', sf_XR W K (sf_cut (sf_d1 W c a) a (sf_en W c a - a) n (sf_l c a)) (sf_lw (sf_cut (sf_d1 W c a) a (sf_en W c a - a) n (sf_l c a))) (sf_mv vl a a (sf_c c a) (sf_cc a (sf_en W c a - a) n (sf_l c a))) pk u' → post u') : wpX_recut post u (nI a) (nI (sf_en W c a - a)) (nI n) (nI (sf_fa W c a)) := by
  have hw2 := hw.2.1
  have ha1 := hf.1 a (by omega)
  have hl := hf.2.2.2.2 a ha
  obtain ⟨s1, s2, s3, s4, s5, s6, s7⟩ := sf_d1_ok hf hv ha
  have hpl := sf_plc_id hl.2
  have hs2 : sf_hole W (sf_d1 W c a) (a - 1) (a + (sf_en W c a - a)) := by rw [show a + (sf_en W c a - a) = sf_en W c a by omega]; exact s2
  have hfit : sf_plc a (2 ^ sf_l c a) + n ≤ a + (sf_en W c a - a) := by rw [hpl]; omega
  obtain ⟨hf2, hv2⟩ := sf_cut_ok s1 hs2 (by omega) (by omega) hl.1 hn hfit
  have hat := sf_cut_at (c := sf_d1 W c a) (b := a) (cc := sf_en W c a - a) (n := n) (l := sf_l c a)
  have hcc := sf_cc_ge hfit
  have hlw := fun w => sf_lwx_d1 (e := sf_en W c a - a) (n := n) (l := sf_l c a) (b := a) (w := w) hf hv ha
  have hf256 : sf_fa W c a < 2 ^ 31 := by
    by_cases e : sf_fa W c a = 0
    · omega
    · have := hf.1 _ (by have := (sf_fa_free e).1; omega : sf_s c (sf_fa W c a) ≠ 0); omega
  have hAx := hf2.1 (sf_plc a (2 ^ sf_l c a)) (by omega)
  rw [hat.2.1] at hAx
  -- behind the removals
  have f25 : ∀ (g1 g2 g3 g4 g5 g6 g7 : Int32) (h1 h2 h3 h4 : Nat → Int32) (c1 : sf_Ab), sf_WF W c1 → sf_s c1 a = 2 → sf_rem c1 a = sf_d1 W c a → sf_XR W K c1 (sf_lw c) vl pk (g1, g2, g3, g4, g5, g6, g7, h1, h2, h3, h4) → wX_recut_25 post (nI a) (nI (sf_en W c a - a)) (nI n) (nI (sf_c c a)) (nI (sf_l c a)) g1 g2 g3 g4 g5 g6 g7 h1 h2 h3 h4 := by
    intro g1 g2 g3 g4 g5 g6 g7 h1 h2 h3 h4 c1 w1 a1 e1 x1
    unfold wX_recut_25
    refine sf_xrl hw w1 x1 a1 (fun u2 x2 => ?_)
    rw [e1] at x2
    have x2' : sf_XR W K (sf_d1 W c a) (fun w => sf_lwx c a w ∨ (a ≤ w ∧ w < a + sf_c c a ∧ w < a + sf_cc a (sf_en W c a - a) n (sf_l c a))) vl pk u2 := sf_xweak x2 (fun w g => ⟨g.elim (fun z => z.1) (fun z => ⟨a, ha, z.1, z.2.1⟩), rfl⟩)
    obtain ⟨_, _, _, _, _, _, _, _, _, _, _⟩ := u2
    refine sf_xcut hw s1 x2' hs2 (by omega) (by omega) hl.1 hn hfit (fun w g => ?_) (fun u3 x3 => ?_)
    · rcases g with g | g
      · have := sf_lwx_out1 hf hv ha g; omega
      · rw [hpl]; omega
    · rw [hpl] at hat hAx hcc ⊢
      obtain ⟨_, _, _, _, _, _, _, _, _, _, _⟩ := u3
      refine sf_xcap hw hf2 x3 (by omega) ?_
      rw [hat.2.1, nI_add, nI_add]
      refine sf_xcl hf2 x3 (by omega) (by omega) (fun w y1 y2 => ⟨sf_qt_live hf2 hat.1 (by omega) (by omega), sf_npl_lw hf2 ⟨a, hat.1, by omega, by omega⟩⟩) (fun u4 x4 => ?_)
      obtain ⟨_, _, _, _, _, _, _, _, _, _, _⟩ := u4
      refine J _ (sf_xfin (fun w y1 y2 => ?_) (fun w y1 y2 y3 => ?_) x4)
      · have := hlw w y1
        rw [hpl] at this
        exact ⟨Or.inl (this.resolve_right y2), rfl⟩
      · exact ⟨Or.inr ⟨y1, by omega, y2⟩, by rw [show a + (w - a) = w by omega]⟩
  have h' := h
  obtain ⟨lv, hp', ss, hs, rs, rfl, -⟩ := h
  unfold wpX_recut
  refine sf_xcap hw hf h' (by omega) (sf_xlog hw hf h' ha (sf_if (sf_nI0 hf256) (fun e => ?_) (fun e => ?_)))
  · exact f25 _ _ _ _ _ _ _ _ _ _ _ c hf ha (by unfold sf_d1; rw [if_pos e]) h'
  · have ff := sf_fa_free e
    refine sf_xrf hw hf h' ff.1 (fun u1 x1 => ?_)
    obtain ⟨_, _, _, _, _, _, _, _, _, _, _⟩ := u1
    refine f25 _ _ _ _ _ _ _ _ _ _ _ (sf_rem c (sf_fa W c a)) (sf_wf_rem hf) ?_ ?_ x1
    · rw [sf_rem_s, if_neg (by omega)]; exact ha
    · unfold sf_d1; rw [if_neg e]; exact sf_rem_comm _ _ _
/-- the place below a is not above a -/
theorem sf_plc_le {p m : Nat} (hm : 1 ≤ m) (h1 : p + 3 ≤ a) (h2 : a % m = 0) : sf_plc p m ≤ a := by
  rcases sf_plc_ge (b := p) (m := m) hm with g | g
  · omega
  · rcases Nat.lt_or_ge a (sf_plc p m) with z | z
    · have := sf_mulgap h2 g.2.2 z; omega
    · exact z
/-- slide, where it applies -/
theorem sf_xslide {post : Int32 → SX → Prop} {p : Nat} (hw : sf_WK W K) (hf : sf_WF W c) (hv : sf_CV W c 0 0) (h : sf_XR W K c (sf_lw c) vl pk u) (ha : sf_s c a = 2) (hp : sf_fbr c a p) (p0 : p ≠ 0) (hn : 2 ≤ n) (hne : sf_en W c a - a < n) (hfit : sf_plc p (2 ^ sf_l c a) + n ≤ sf_en W c a) (J : ∀ u', sf_XR W K (sf_cut (sf_d2 W c a p) p (sf_en W c a - p) n (sf_l c a)) (sf_lw (sf_cut (sf_d2 W c a p) p (sf_en W c a - p) n (sf_l c a))) (sf_mv vl a (sf_plc p (2 ^ sf_l c a)) (sf_c c a) (sf_cc p (sf_en W c a - p) n (sf_l c a))) pk u' → post (nI (sf_plc p (2 ^ sf_l c a))) u') : wpX_slide post u (nI a) (nI (sf_en W c a - a)) (nI n) (nI (sf_fa W c a)) := by
  have hw2 := hw.2.1
  have ha1 := hf.1 a (by omega)
  have hl := hf.2.2.2.2 a ha
  have h2l := sf_p2 hl.1
  obtain ⟨s1, s2, s3, s4, s5, s6, s7⟩ := sf_d1_ok hf hv ha
  obtain ⟨q1, q2, q3, q4, q5, q6, q7, q8, q9, q10⟩ := sf_d2_ok hf hv ha hp
  obtain ⟨pf1, pf2⟩ := sf_fbr_free hf hp p0
  have hpx := hf.1 p (by omega)
  have elo : sf_lo a p = p := by unfold sf_lo; rw [if_neg p0]
  rw [elo] at q2 q3 q4 q9
  have hs2 : sf_hole W (sf_d2 W c a p) (p - 1) (p + (sf_en W c a - p)) := by rw [show p + (sf_en W c a - p) = sf_en W c a by omega]; exact q2
  have hfit2 : sf_plc p (2 ^ sf_l c a) + n ≤ p + (sf_en W c a - p) := by omega
  obtain ⟨hf2, hv2⟩ := sf_cut_ok q1 hs2 (by omega) (by omega) hl.1 hn hfit2
  have hat := sf_cut_at (c := sf_d2 W c a p) (b := p) (cc := sf_en W c a - p) (n := n) (l := sf_l c a)
  have hcc := sf_cc_ge hfit2
  have hlw := fun w => sf_lwx_d2 (e := sf_en W c a - p) (n := n) (l := sf_l c a) (b := p) (w := w) hf hv ha hp
  have hple := sf_plc_le (a := a) (p := p) (m := 2 ^ sf_l c a) h2l.1 (by omega) hl.2
  have hplo := sf_plc_lo (b := p) h2l.1
  have r5 := (sf_drp_ok hf hv ha hp).2.2.2.2.1
  rw [elo] at r5
  have hf256 : sf_fa W c a < 2 ^ 31 := by
    by_cases e : sf_fa W c a = 0
    · omega
    · have := hf.1 _ (by have := (sf_fa_free e).1; omega : sf_s c (sf_fa W c a) ≠ 0); omega
  have hAx := hf2.1 (sf_plc p (2 ^ sf_l c a)) (by omega)
  rw [hat.2.1] at hAx
  have f83 : ∀ (g1 g2 g3 g4 g5 g6 g7 : Int32) (h1 h2 h3 h4 : Nat → Int32) (c1 : sf_Ab), sf_WF W c1 → sf_s c1 a = 2 → sf_rem c1 a = sf_d2 W c a p → sf_XR W K c1 (sf_lw c) vl pk (g1, g2, g3, g4, g5, g6, g7, h1, h2, h3, h4) → wX_slide_83 post (nI a) (nI n) (nI p) (nI (sf_c c a)) (nI (sf_l c a)) (nI (sf_en W c a - p)) (nI (sf_plc p (2 ^ sf_l c a))) g1 g2 g3 g4 g5 g6 g7 h1 h2 h3 h4 := by
    intro g1 g2 g3 g4 g5 g6 g7 h1 h2 h3 h4 c1 w1 a1 e1 x1
    unfold wX_slide_83
    refine sf_xrl hw w1 x1 a1 (fun u2 x2 => ?_)
    rw [e1] at x2
    obtain ⟨_, _, _, _, _, _, _, _, _, _, _⟩ := u2
    generalize hA : sf_plc p (2 ^ sf_l c a) = A at *
    refine sf_xcp q1 x2 (by omega) (by omega) (Or.inl hple) (fun i hi => ⟨a, ha, by omega, by omega⟩) (fun w y1 y2 => ⟨sf_qt_hole q2 (by omega) (by omega), sf_npl_hole q2 (by omega) (by omega)⟩) (fun u3 x3 => ?_)
    have x3' : sf_XR W K (sf_d2 W c a p) (fun w => sf_lwx c a w ∨ (A ≤ w ∧ w < A + sf_c c a)) (fun w => if A ≤ w ∧ w < A + sf_c c a then vl (a + (w - A)) else vl w) pk u3 := sf_xweak x3 (fun w g => ⟨g.elim (fun z => Or.inl z.1) (fun z => Or.inr z), rfl⟩)
    obtain ⟨_, _, _, _, _, _, _, _, _, _, _⟩ := u3
    refine sf_xcut hw q1 x3' hs2 (by omega) (by omega) hl.1 hn (by omega) (fun w g => ?_) (fun u4 x4 => ?_)
    · rcases g with g | g
      · have := r5 w g.1 g.2; omega
      · rw [hA]; omega
    · rw [hA]
      obtain ⟨_, _, _, _, _, _, _, _, _, _, _⟩ := u4
      refine sf_xcap hw hf2 x4 (by omega) ?_
      rw [hat.2.1, nI_add, nI_add]
      refine sf_xcl hf2 x4 (by omega) (by omega) (fun w y1 y2 => ⟨sf_qt_live hf2 hat.1 (by omega) (by omega), sf_npl_lw hf2 ⟨A, hat.1, by omega, by omega⟩⟩) (fun u5 x5 => ?_)
      obtain ⟨_, _, _, _, _, _, _, _, _, _, _⟩ := u5
      refine J _ (sf_xfin (fun w y1 y2 => ?_) (fun w y1 y2 y3 => ?_) x5)
      · have := hlw w y1
        exact ⟨Or.inl (this.resolve_right y2), if_neg (by omega)⟩
      · exact ⟨Or.inr ⟨y1, by omega⟩, if_pos (by omega)⟩
  have h' := h
  obtain ⟨lv, hp', ss, hs, rs, rfl, -⟩ := h
  unfold wpX_slide
  refine sf_xfb hw hf h' (by omega) hp (br_f (nI_ne0 (by omega) (by omega)) (sf_xcap hw hf h' (by omega) (sf_xlog hw hf h' ha (sf_xcap hw hf h' (by omega) ?_))))
  rw [nI_1, nI_add, show sf_c c p + 1 + (sf_en W c a - a) = sf_en W c a - p by omega]
  refine nm_e ?_
  rw [sf_1sh _ (by omega)]
  refine sf_xplc hl.1 (by omega) ?_
  rw [nI_add, nI_add]
  refine br_t (nI_le (by omega) (by omega)) (sf_xrf hw hf h' pf1 (fun u1 x1 => ?_))
  obtain ⟨_, _, _, _, _, _, _, _, _, _, _⟩ := u1
  have w1 := sf_wf_rem (a := p) hf
  refine sf_if (sf_nI0 hf256) (fun e => ?_) (fun e => ?_)
  · refine f83 _ _ _ _ _ _ _ _ _ _ _ (sf_rem c p) w1 ?_ ?_ x1
    · rw [sf_rem_s, if_neg (by omega)]; exact ha
    · unfold sf_d2 sf_d1; rw [if_neg p0, if_pos e]; exact sf_rem_comm _ _ _
  · have ff := sf_fa_free e
    refine sf_xrf hw w1 x1 ?_ (fun u2 x2 => ?_)
    · rw [sf_rem_s, if_neg (by omega)]; exact ff.1
    · obtain ⟨_, _, _, _, _, _, _, _, _, _, _⟩ := u2
      refine f83 _ _ _ _ _ _ _ _ _ _ _ (sf_rem (sf_rem c p) (sf_fa W c a)) (sf_wf_rem w1) ?_ ?_ x2
      · rw [sf_rem_s, if_neg (by omega), sf_rem_s, if_neg (by omega)]; exact ha
      · unfold sf_d2 sf_d1
        rw [if_neg p0, if_neg e, sf_rem_comm (sf_rem c p) (sf_fa W c a) a, sf_rem_comm c p a, sf_rem_comm (sf_rem c a) p (sf_fa W c a)]
/-- slide, where it does not apply -/
theorem sf_xslide0 {post : Int32 → SX → Prop} {p : Nat} (hw : sf_WK W K) (hf : sf_WF W c) (hv : sf_CV W c 0 0) (h : sf_XR W K c (sf_lw c) vl pk u) (ha : sf_s c a = 2) (hp : sf_fbr c a p) (hn : n < 256) (hno : p = 0 ∨ sf_en W c a < sf_plc p (2 ^ sf_l c a) + n) (J : post 0 u) : wpX_slide post u (nI a) (nI (sf_en W c a - a)) (nI n) (nI (sf_fa W c a)) := by
  have hw2 := hw.2.1
  have ha1 := hf.1 a (by omega)
  have hl := hf.2.2.2.2 a ha
  have h2l := sf_p2 hl.1
  obtain ⟨s1, s2, s3, s4, s5, s6, s7⟩ := sf_d1_ok hf hv ha
  have h' := h
  obtain ⟨lv, hp', ss, hs, rs, rfl, -⟩ := h
  unfold wpX_slide
  refine sf_xfb hw hf h' (by omega) hp ?_
  by_cases p0 : p = 0
  · exact br_t (by rw [p0]; rfl) J
  · obtain ⟨pf1, pf2⟩ := sf_fbr_free hf hp p0
    have hpx := hf.1 p (by omega)
    have hple := sf_plc_le (a := a) (p := p) (m := 2 ^ sf_l c a) h2l.1 (by omega) hl.2
    refine br_f (nI_ne0 (by omega) (by omega)) (sf_xcap hw hf h' (by omega) (sf_xlog hw hf h' ha (sf_xcap hw hf h' (by omega) ?_)))
    rw [nI_1, nI_add, show sf_c c p + 1 + (sf_en W c a - a) = sf_en W c a - p by omega]
    refine nm_e ?_
    rw [sf_1sh _ (by omega)]
    refine sf_xplc hl.1 (by omega) ?_
    rw [nI_add, nI_add]
    exact br_f (nI_ge (by have := hno.resolve_left p0; omega) (by omega)) J
end
end
section
/-! ===== relocation ===== -/
section
variable {W K a n : Nat} {c : sf_Ab} {vl sv : Nat → Int32} {pk : Int32} {u : SX} {v : SY}
/-- what a found block r means for a live block a -/
theorem sf_rel_ok {r l : Nat} (hw : sf_WK W K) (hf : sf_WF W c) (hv : sf_CV W c 0 0) (ha : sf_s c a = 2) (hl : l ≤ 5) (hn : 2 ≤ n) (hr4 : sf_s c r = 4) (hfit : sf_plc r (2 ^ l) + n ≤ r + sf_c c r) : sf_WF W (sf_rem c r) ∧ sf_hole W (sf_rem c r) (r - 1) (r + sf_c c r) ∧ sf_WF W (sf_cut (sf_rem c r) r (sf_c c r) n l) ∧ sf_CV W (sf_cut (sf_rem c r) r (sf_c c r) n l) 0 0 ∧ sf_s (sf_cut (sf_rem c r) r (sf_c c r) n l) a = 2 ∧ sf_c (sf_cut (sf_rem c r) r (sf_c c r) n l) a = sf_c c a ∧ (∀ w, sf_lw c w → w + 1 < r ∨ r + sf_c c r < w) ∧ (∀ w, sf_lw (sf_cut (sf_rem c r) r (sf_c c r) n l) w → ¬ (sf_plc r (2 ^ l) ≤ w ∧ w < sf_plc r (2 ^ l) + sf_cc r (sf_c c r) n l) → sf_lw c w) ∧ sf_plc r (2 ^ l) ≠ a := by
  have hw2 := hw.2.1
  have hrx := hf.1 r (by omega)
  have hax := hf.1 a (by omega)
  have h2l := sf_p2 hl
  have hplo := sf_plc_lo (b := r) h2l.1
  have hole := sf_hole_rem hf hv (a := r) (by omega)
  have hf1 := sf_wf_rem (a := r) hf
  have har : a ≠ r := fun e => by rw [e] at ha; omega
  obtain ⟨hf2, hv2⟩ := sf_cut_ok (n := n) hf1 hole (by omega) (by omega) hl hn hfit
  have ha' : sf_s (sf_rem c r) a = 2 := by rw [sf_rem_s, if_neg har]; exact ha
  have keep := sf_cut_keep (x := a) hole (by omega) hl hn hfit (by omega)
  have hat := sf_cut_at (c := sf_rem c r) (b := r) (cc := sf_c c r) (n := n) (l := l)
  have ho := hole.1 a (by omega)
  refine ⟨hf1, hole, hf2, hv2, by rw [keep.1]; exact ha', by rw [keep.2.1]; rfl, fun w ⟨x, x1, x2, x3⟩ => ?_, fun w ⟨x, x1, x2, x3⟩ hno => ?_, by omega⟩
  · have e : x ≠ r := fun e => by rw [e] at x1; omega
    rcases Nat.lt_or_ge x r with g | g
    · have := hf.2.1 x r (by omega) (by omega) g; omega
    · have := hf.2.1 r x (by omega) (by omega) (by omega); omega
  · by_cases e : x = sf_plc r (2 ^ l)
    · rw [e, hat.2.1] at x3
      rw [e] at x2
      exact absurd ⟨x2, x3⟩ hno
    · have y := sf_cut_live x1 e
      rw [y.2, sf_rem_c] at x3
      have y1 := y.1
      rw [sf_rem_s] at y1
      split at y1
      · omega
      · exact ⟨x, y1, x2, x3⟩
theorem sf_drp_lw {p : Nat} (hf : sf_WF W c) (hv : sf_CV W c 0 0) (ha : sf_s c a = 2) (hp : sf_fbr c a p) {w : Nat} (g : sf_lw (sf_drp W c a p) w) : sf_lw c w ∧ ¬ (a ≤ w ∧ w < a + sf_c c a) := by
  obtain ⟨x, x1, x2, x3⟩ := g
  have y := (sf_drp_ok hf hv ha hp).2.2.2.1 x x1
  rw [y.2.2] at x3
  refine ⟨⟨x, y.2.1, x2, x3⟩, fun g => y.1 (sf_own (w := w) hf (by omega) (by omega) (by omega) x3 (by omega) g.2)⟩
theorem sf_xreloc {post : Int32 → SX → Prop} {r p : Nat} (hw : sf_WK W K) (hf : sf_WF W c) (hv : sf_CV W c 0 0) (h : sf_XR W K c (sf_lw c) vl pk u) (ha : sf_s c a = 2) (hn : 2 ≤ n) (hn2 : n < 256) (hcn : sf_c c a < n) (hr : sf_fd K c (sf_need n (sf_l c a)) r) (r0 : r ≠ 0) (hp : sf_fbr (sf_cut (sf_rem c r) r (sf_c c r) n (sf_l c a)) a p) (J : ∀ u', sf_XR W K (sf_drp W (sf_cut (sf_rem c r) r (sf_c c r) n (sf_l c a)) a p) (sf_lw (sf_drp W (sf_cut (sf_rem c r) r (sf_c c r) n (sf_l c a)) a p)) (sf_mv vl a (sf_plc r (2 ^ sf_l c a)) (sf_c c a) (sf_cc r (sf_c c r) n (sf_l c a))) pk u' → post (nI (sf_plc r (2 ^ sf_l c a))) u') : wpX_relocate post u (nI a) (nI n) := by
  have hw2 := hw.2.1
  have hax := hf.1 a (by omega)
  have hl := hf.2.2.2.2 a ha
  have h2l := sf_p2 hl.1
  obtain ⟨hr4, hfit⟩ := sf_fd_room hw hf hl.1 hr r0
  have hrx := hf.1 r (by omega)
  have hnb := sf_need_b (l := sf_l c a) hl.1 hn hn2
  obtain ⟨hf1, hole, hf2, hv2, a2, ca2, hout, hlw, hAa⟩ := sf_rel_ok hw hf hv ha hl.1 hn hr4 hfit
  have hat := sf_cut_at (c := sf_rem c r) (b := r) (cc := sf_c c r) (n := n) (l := sf_l c a)
  have hcc := sf_cc_ge hfit
  have hplo := sf_plc_lo (b := r) h2l.1
  have h' := h
  obtain ⟨lv, hp', ss, hs, rs, rfl, -⟩ := h
  unfold wpX_relocate
  refine sf_xcap hw hf h' (by omega) (sf_xlog hw hf h' ha ?_)
  rw [sf_1sh _ (by omega)]
  refine sf_xneed hl.1 (sf_xfd hw hf h' hnb.1 hnb.2 hr (br_f (nI_ne0 (by omega) (by omega)) (sf_xcap hw hf h' (by omega) (sf_xrf hw hf h' hr4 (fun u1 x1 => ?_)))))
  obtain ⟨_, _, _, _, _, _, _, _, _, _, _⟩ := u1
  refine sf_xcut hw hf1 x1 hole (by omega) (by omega) hl.1 hn hfit (fun w g => by have := hout w g; omega) (fun u2 x2 => ?_)
  obtain ⟨_, _, _, _, _, _, _, _, _, _, _⟩ := u2
  generalize hc1 : sf_cut (sf_rem c r) r (sf_c c r) n (sf_l c a) = c1 at *
  generalize hA : sf_plc r (2 ^ sf_l c a) = A at *
  generalize hcap : sf_cc r (sf_c c r) n (sf_l c a) = cap at *
  have hAx := hf2.1 A (by omega)
  refine sf_xcap hw hf2 x2 (by omega) ?_
  have hxy : A ≤ a ∨ a + sf_c c a ≤ A := by
    rcases Nat.lt_trichotomy A a with g | g | g
    · omega
    · omega
    · have := hf2.2.1 a A (by omega) (by omega) g; omega
  refine sf_xcp hf2 x2 (by omega) (by omega) hxy (fun i hi => ⟨a, ha, by omega, by omega⟩) (fun w y1 y2 => ⟨sf_qt_live hf2 hat.1 (by omega) (by omega), sf_npl_lw hf2 ⟨A, hat.1, by omega, by omega⟩⟩) (fun u3 x3 => ?_)
  obtain ⟨_, _, _, _, _, _, _, _, _, _, _⟩ := u3
  dsimp only
  rw [hat.2.1, nI_add, nI_add]
  refine sf_xcl hf2 x3 (by omega) (by omega) (fun w y1 y2 => ⟨sf_qt_live hf2 hat.1 (by omega) (by omega), sf_npl_lw hf2 ⟨A, hat.1, by omega, by omega⟩⟩) (fun u4 x4 => ?_)
  have x5 : sf_XR W K c1 (sf_lw c1) (sf_mv vl a A (sf_c c a) cap) pk u4 := sf_xfin (fun w y1 y2 => ⟨Or.inl (hlw w y1 y2), if_neg (by omega)⟩) (fun w y1 y2 y3 => ⟨Or.inr (by omega), if_pos (by omega)⟩) x4
  obtain ⟨_, _, _, _, _, _, _, _, _, _, _⟩ := u4
  refine sf_xdrop (P := fun w => sf_lw c1 w ∧ ¬ (a ≤ w ∧ w < a + sf_c c1 a)) hw hf2 hv2 (sf_xweak x5 (fun w g => ⟨g.1, rfl⟩)) a2 hp (fun w g => g) (fun u6 x6 => ?_)
  obtain ⟨_, _, _, _, _, _, _, _, _, _, _⟩ := u6
  exact J _ (sf_xweak x6 (fun w g => ⟨sf_drp_lw hf2 hv2 a2 hp g, rfl⟩))
theorem sf_xreloc0 {post : Int32 → SX → Prop} (hw : sf_WK W K) (hf : sf_WF W c) (h : sf_XR W K c (sf_lw c) vl pk u) (ha : sf_s c a = 2) (hn : 2 ≤ n) (hn2 : n < 256) (hr : sf_fd K c (sf_need n (sf_l c a)) 0) (J : post 0 u) : wpX_relocate post u (nI a) (nI n) := by
  have hl := hf.2.2.2.2 a ha
  have hnb := sf_need_b (l := sf_l c a) hl.1 hn hn2
  have h' := h
  obtain ⟨lv, hp', ss, hs, rs, rfl, -⟩ := h
  unfold wpX_relocate
  refine sf_xcap hw hf h' (by omega) (sf_xlog hw hf h' ha ?_)
  rw [sf_1sh _ (by omega)]
  exact sf_xneed hl.1 (sf_xfd hw hf h' hnb.1 hnb.2 hr (br_t rfl J))
/-! ===== the reference's ways ===== -/
theorem sf_ysave {post : Int32 → SY → Prop} {x3 x7 : Int32} {kd va al : Nat → Int32} {bo : Nat → Int64} {P : Nat → Prop} (hw : sf_WK W K) (hf : sf_WF W c) (hv : sf_CV W c 0 0) (hK : sf_YK c kd) (hA : sf_YA c al) (hB : sf_YB c bo) (hV : ∀ w, P w → va w = vl w) (ha : sf_s c a = 2) (J : wY_change_132 post (nI a) x3 (nI n) (nI (sf_c c a)) x7 (nI (sf_en W c a - a)) (nI W) (nI K) (lN (sf_k c)) pk kd va al bo (sf_sv sv va a (sf_c c a))) : ∀ d i, i ≤ sf_c c a → sf_c c a - i < d → wY_change_74 post (nI a) x3 (nI n) (nI (sf_c c a)) x7 (nI W) (nI K) (lN (sf_k c)) pk d (nI i) kd va al bo (sf_sv sv va a i) := by
  have hw2 := hw.2.1
  have hax := hf.1 a (by omega)
  have hf256 : sf_fa W c a < 2 ^ 31 := by
    by_cases e : sf_fa W c a = 0
    · omega
    · have := hf.1 _ (by have := (sf_fa_free e).1; omega : sf_s c (sf_fa W c a) ≠ 0); omega
  intro d
  induction d with
  | zero => intro i _ h; omega
  | succ d ih =>
    intro i hi hd
    unfold wY_change_74
    refine pk_le (sf_c c a) i (fun g => ?_) (fun g => ?_)
    · have e : i = sf_c c a := by omega
      subst e
      have hY : sf_YR W K c P vl pk (sf_sv sv va a (sf_c c a)) (nI W, nI K, lN (sf_k c), pk, kd, va, al, bo, sf_sv sv va a (sf_c c a)) := ⟨kd, va, al, bo, rfl, hK, hA, hB, hV⟩
      refine sf_yfa hw hf hv hY (by omega) (sf_if (sf_nI0 hf256) (fun e => ?_) (fun e => ?_))
      · unfold sf_en at J
        rw [if_pos e, show a + sf_c c a - a = sf_c c a by omega] at J
        exact J
      · have ff := sf_fa_free e
        refine sf_ycap hw hf hv hY (by omega) ?_
        rw [nI_1, nI_add]
        refine nm_e ?_
        unfold sf_en at J
        rw [if_neg e, show sf_fa W c a + sf_c c (sf_fa W c a) - a = sf_c c a + 1 + sf_c c (sf_fa W c a) by omega] at J
        exact J
    · rw [nI_add, nI_clamp (n := i) (by omega), nI_clamp (n := a + i) (by omega)]
      refine ⟨vp_in_nI (by omega) (by omega), vp_in_nI (by omega) (by omega), nm_r (e' := sf_sv sv va a (i + 1)) ?_ (nm_r (nI_1 i) (ih (i + 1) (by omega) (by omega)))⟩
      refine funext fun x => ?_
      unfold sf_sv
      by_cases e : x = i
      · subst e; rw [pk_us, if_pos (by omega)]
      · rw [pk_un e]
        by_cases e2 : x < i
        · rw [if_pos e2, if_pos (by omega)]
        · rw [if_neg e2, if_neg (by omega)]
/-- in place -/
theorem sf_yb {post : Int32 → SY → Prop} {x3 : Int32} {w0 k0 : Int32} {clk : Int64} {p0 : Int32} {kd va al sv' : Nat → Int32} {bo : Nat → Int64} (hw : sf_WK W K) (hf : sf_WF W c) (hv : sf_CV W c 0 0) (h : sf_YR W K c (sf_lw c) vl pk sv (w0, k0, clk, p0, kd, va, al, bo, sv')) (ha : sf_s c a = 2) (hn : 2 ≤ n) (hne : n ≤ sf_en W c a - a) (hsv : ∀ i, i < sf_c c a → sv i = vl (a + i)) (J : ∀ v', sf_YR W K (sf_cut (sf_d1 W c a) a (sf_en W c a - a) n (sf_l c a)) (sf_lw (sf_cut (sf_d1 W c a) a (sf_en W c a - a) n (sf_l c a))) (sf_mv vl a a (sf_c c a) (sf_cc a (sf_en W c a - a) n (sf_l c a))) (sf_npk (sf_cut (sf_d1 W c a) a (sf_en W c a - a) n (sf_l c a)) pk) sv v' → post (nI a) v') : wY_change_132 post (nI a) x3 (nI n) (nI (sf_c c a)) (nI (2 ^ sf_l c a)) (nI (sf_en W c a - a)) w0 k0 clk p0 kd va al bo sv' := by
  have hw2 := hw.2.1
  have ha1 := hf.1 a (by omega)
  have hl := hf.2.2.2.2 a ha
  obtain ⟨s1, s2, s3, s4, s5, s6, s7⟩ := sf_d1_ok hf hv ha
  have hpl := sf_plc_id hl.2
  have hs2 : sf_hole W (sf_d1 W c a) (a - 1) (a + (sf_en W c a - a)) := by rw [show a + (sf_en W c a - a) = sf_en W c a by omega]; exact s2
  have hfit : sf_plc a (2 ^ sf_l c a) + n ≤ a + (sf_en W c a - a) := by rw [hpl]; omega
  obtain ⟨hf2, hv2⟩ := sf_cut_ok s1 hs2 (by omega) (by omega) hl.1 hn hfit
  have hat := sf_cut_at (c := sf_d1 W c a) (b := a) (cc := sf_en W c a - a) (n := n) (l := sf_l c a)
  have hlw := fun w => sf_lwx_d1 (e := sf_en W c a - a) (n := n) (l := sf_l c a) (b := a) (w := w) hf hv ha
  have hd : sf_YR W K (sf_d1 W c a) (sf_lwx c a) vl pk sv (w0, k0, clk, p0, kd, va, al, bo, sv') := by
    have h2 : sf_YR W K c (sf_lwx c a) vl pk sv (w0, k0, clk, p0, kd, va, al, bo, sv') := sf_yweak h (fun w g => ⟨g.1, rfl⟩)
    unfold sf_d1
    split
    · exact sf_yrem h2
    · exact sf_yrem (sf_yrem h2)
  unfold wY_change_132
  refine br_f (nI_nlt hne (by omega)) (sf_ycut hw s1 hd hs2 (by omega) (by omega) hl.1 hn hfit (fun w g => by have := sf_lwx_out1 hf hv ha g; omega) (fun v1 y1 => ?_))
  rw [hpl] at y1 hat hlw
  obtain ⟨_, _, _, _, _, _, _, _, _⟩ := v1
  have hm : ∃ m', m' ≤ sf_c c a ∧ m' ≤ sf_cc a (sf_en W c a - a) n (sf_l c a) ∧ (m' = sf_c c a ∨ m' = sf_cc a (sf_en W c a - a) n (sf_l c a)) := by
    rcases Nat.lt_or_ge (sf_c c a) (sf_cc a (sf_en W c a - a) n (sf_l c a)) with g | g
    · exact ⟨sf_c c a, by omega, by omega, Or.inl rfl⟩
    · exact ⟨sf_cc a (sf_en W c a - a) n (sf_l c a), by omega, by omega, Or.inr rfl⟩
  obtain ⟨m', m1, m2, m3⟩ := hm
  refine sf_yrs (m := m') hw hf2 hv2 y1 (by omega) (by omega) m1 (by omega) (by rw [hat.2.1]; exact m3) (fun v2 y2 => ?_)
  have y3 := sf_yfin (a := a) (m := sf_c c a) (fun w g1 g2 => (hlw w g1).resolve_right g2) m1 m2 m3 hsv y2
  obtain ⟨_, _, _, _, _, _, _, _, _⟩ := v2
  refine sf_ynp hw hf2 hv2 y3 (fun v4 y4 => ?_)
  obtain ⟨_, _, _, _, _, _, _, _, _⟩ := v4
  exact J _ y4
/-- by a slide -/
theorem sf_yc {post : Int32 → SY → Prop} {x3 : Int32} {w0 k0 : Int32} {clk : Int64} {p0 : Int32} {kd va al sv' : Nat → Int32} {bo : Nat → Int64} {p : Nat} (hw : sf_WK W K) (hf : sf_WF W c) (hv : sf_CV W c 0 0) (h : sf_YR W K c (sf_lw c) vl pk sv (w0, k0, clk, p0, kd, va, al, bo, sv')) (ha : sf_s c a = 2) (hx3 : x3 ≠ 0) (hp : sf_fbr c a p) (hp0 : p ≠ 0) (hn : 2 ≤ n) (hn2 : n < 256) (hne : sf_en W c a - a < n) (hfit : sf_plc p (2 ^ sf_l c a) + n ≤ sf_en W c a) (hsv : ∀ i, i < sf_c c a → sv i = vl (a + i)) (J : ∀ v', sf_YR W K (sf_cut (sf_d2 W c a p) p (sf_en W c a - p) n (sf_l c a)) (sf_lw (sf_cut (sf_d2 W c a p) p (sf_en W c a - p) n (sf_l c a))) (sf_mv vl a (sf_plc p (2 ^ sf_l c a)) (sf_c c a) (sf_cc p (sf_en W c a - p) n (sf_l c a))) (sf_npk (sf_cut (sf_d2 W c a p) p (sf_en W c a - p) n (sf_l c a)) pk) sv v' → post (nI (sf_plc p (2 ^ sf_l c a))) v') : wY_change_132 post (nI a) x3 (nI n) (nI (sf_c c a)) (nI (2 ^ sf_l c a)) (nI (sf_en W c a - a)) w0 k0 clk p0 kd va al bo sv' := by
  have hw2 := hw.2.1
  have ha1 := hf.1 a (by omega)
  have hl := hf.2.2.2.2 a ha
  have h2l := sf_p2 hl.1
  obtain ⟨s1, s2, s3, s4, s5, s6, s7⟩ := sf_d1_ok hf hv ha
  obtain ⟨q1, q2, q3, q4, q5, q6, q7, q8, q9, q10⟩ := sf_d2_ok hf hv ha hp
  obtain ⟨pf1, pf2⟩ := sf_fbr_free hf hp hp0
  have hpx := hf.1 p (by omega)
  have elo : sf_lo a p = p := by unfold sf_lo; rw [if_neg hp0]
  have r5 := (sf_drp_ok hf hv ha hp).2.2.2.2.1
  rw [elo] at q2 q3 q4 q9 r5
  have hs2 : sf_hole W (sf_d2 W c a p) (p - 1) (p + (sf_en W c a - p)) := by rw [show p + (sf_en W c a - p) = sf_en W c a by omega]; exact q2
  have hfit2 : sf_plc p (2 ^ sf_l c a) + n ≤ p + (sf_en W c a - p) := by omega
  obtain ⟨hf2, hv2⟩ := sf_cut_ok q1 hs2 (by omega) (by omega) hl.1 hn hfit2
  have hat := sf_cut_at (c := sf_d2 W c a p) (b := p) (cc := sf_en W c a - p) (n := n) (l := sf_l c a)
  have hcc := sf_cc_ge hfit2
  have hlw := fun w => sf_lwx_d2 (e := sf_en W c a - p) (n := n) (l := sf_l c a) (b := p) (w := w) hf hv ha hp
  have hd : sf_YR W K (sf_d2 W c a p) (sf_lwx c a) vl pk sv (w0, k0, clk, p0, kd, va, al, bo, sv') := by
    have h2 : sf_YR W K c (sf_lwx c a) vl pk sv (w0, k0, clk, p0, kd, va, al, bo, sv') := sf_yweak h (fun w g => ⟨g.1, rfl⟩)
    unfold sf_d2 sf_d1
    split <;> split
    · exact sf_yrem h2
    · exact sf_yrem (sf_yrem h2)
    · exact sf_yrem (sf_yrem h2)
    · exact sf_yrem (sf_yrem (sf_yrem h2))
  unfold wY_change_132
  refine br_t (nI_lt hne (by omega)) (br_f hx3 (sf_yfb hw hf h (by omega) hp (br_f (nI_ne0 (by omega) (by omega)) (sf_ycap hw hf hv h (by omega) ?_))))
  rw [nI_1, nI_add, show sf_c c p + 1 + (sf_en W c a - a) = sf_en W c a - p by omega]
  refine nm_e (sf_yplc hl.1 (by omega) ?_)
  rw [nI_add, nI_add]
  refine br_f (nI_nlt hfit2 (by omega)) (sf_ycut hw q1 hd hs2 (by omega) (by omega) hl.1 hn hfit2 (fun w g => by have := r5 w g.1 g.2; omega) (fun v1 y1 => ?_))
  obtain ⟨_, _, _, _, _, _, _, _, _⟩ := v1
  refine sf_yrs (m := sf_c c a) hw hf2 hv2 y1 (by omega) (by omega) (Nat.le_refl _) (by omega) (Or.inl rfl) (fun v2 y2 => ?_)
  have y3 := sf_yfin (a := a) (m := sf_c c a) (fun w g1 g2 => (hlw w g1).resolve_right g2) (Nat.le_refl _) (by omega) (Or.inl rfl) hsv y2
  obtain ⟨_, _, _, _, _, _, _, _, _⟩ := v2
  refine sf_ynp hw hf2 hv2 y3 (fun v4 y4 => ?_)
  obtain ⟨_, _, _, _, _, _, _, _, _⟩ := v4
  exact J _ y4
/-- on to the search -/
theorem sf_y245 {post : Int32 → SY → Prop} {x3 x6 : Int32} {w0 k0 : Int32} {clk : Int64} {p0 : Int32} {kd va al sv' : Nat → Int32} {bo : Nat → Int64} {p : Nat} (hw : sf_WK W K) (hf : sf_WF W c) (hv : sf_CV W c 0 0) (h : sf_YR W K c (sf_lw c) vl pk sv (w0, k0, clk, p0, kd, va, al, bo, sv')) (ha : sf_s c a = 2) (hx3 : x3 ≠ 0) (hp : sf_fbr c a p) (hn2 : n < 256) (hne : sf_en W c a - a < n) (hno : p = 0 ∨ sf_en W c a < sf_plc p (2 ^ sf_l c a) + n) (J : wY_change_245 post (nI a) (nI n) x6 (nI (2 ^ sf_l c a)) w0 k0 clk p0 kd va al bo sv') : wY_change_132 post (nI a) x3 (nI n) x6 (nI (2 ^ sf_l c a)) (nI (sf_en W c a - a)) w0 k0 clk p0 kd va al bo sv' := by
  have hw2 := hw.2.1
  have ha1 := hf.1 a (by omega)
  have hl := hf.2.2.2.2 a ha
  have h2l := sf_p2 hl.1
  obtain ⟨s1, s2, s3, s4, s5, s6, s7⟩ := sf_d1_ok hf hv ha
  unfold wY_change_132
  refine br_t (nI_lt hne (by omega)) (br_f hx3 (sf_yfb hw hf h (by omega) hp ?_))
  by_cases hp0 : p = 0
  · exact br_t (by rw [hp0]; rfl) J
  · obtain ⟨pf1, pf2⟩ := sf_fbr_free hf hp hp0
    have hpx := hf.1 p (by omega)
    have hple := sf_plc_le (a := a) (p := p) (m := 2 ^ sf_l c a) h2l.1 (by omega) hl.2
    refine br_f (nI_ne0 (by omega) (by omega)) (sf_ycap hw hf hv h (by omega) ?_)
    rw [nI_1, nI_add, show sf_c c p + 1 + (sf_en W c a - a) = sf_en W c a - p by omega]
    refine nm_e (sf_yplc hl.1 (by omega) ?_)
    rw [nI_add, nI_add]
    exact br_t (nI_lt (by have := hno.resolve_left hp0; omega) (by omega)) J
/-- by a move -/
theorem sf_yd {post : Int32 → SY → Prop} {w0 k0 : Int32} {clk : Int64} {p0 : Int32} {kd va al sv' : Nat → Int32} {bo : Nat → Int64} {r p : Nat} (hw : sf_WK W K) (hf : sf_WF W c) (hv : sf_CV W c 0 0) (hclk : sf_k c < 2 ^ 31) (h : sf_YR W K c (sf_lw c) vl pk sv (w0, k0, clk, p0, kd, va, al, bo, sv')) (ha : sf_s c a = 2) (hn : 2 ≤ n) (hn2 : n < 256) (hcn : sf_c c a < n) (hr : sf_fd K c (sf_need n (sf_l c a)) r) (r0 : r ≠ 0) (hp : sf_fbr (sf_cut (sf_rem c r) r (sf_c c r) n (sf_l c a)) a p) (hsv : ∀ i, i < sf_c c a → sv i = vl (a + i)) (J : ∀ v', sf_YR W K (sf_drp W (sf_cut (sf_rem c r) r (sf_c c r) n (sf_l c a)) a p) (sf_lw (sf_drp W (sf_cut (sf_rem c r) r (sf_c c r) n (sf_l c a)) a p)) (sf_mv vl a (sf_plc r (2 ^ sf_l c a)) (sf_c c a) (sf_cc r (sf_c c r) n (sf_l c a))) (sf_npk (sf_drp W (sf_cut (sf_rem c r) r (sf_c c r) n (sf_l c a)) a p) pk) sv v' → post (nI (sf_plc r (2 ^ sf_l c a))) v') : wY_change_245 post (nI a) (nI n) (nI (sf_c c a)) (nI (2 ^ sf_l c a)) w0 k0 clk p0 kd va al bo sv' := by
  have hw2 := hw.2.1
  have hax := hf.1 a (by omega)
  have hl := hf.2.2.2.2 a ha
  have h2l := sf_p2 hl.1
  obtain ⟨hr4, hfit⟩ := sf_fd_room hw hf hl.1 hr r0
  have hrx := hf.1 r (by omega)
  have hnb := sf_need_b (l := sf_l c a) hl.1 hn hn2
  obtain ⟨hf1, hole, hf2, hv2, a2, ca2, hout, hlw, hAa⟩ := sf_rel_ok hw hf hv ha hl.1 hn hr4 hfit
  have hat := sf_cut_at (c := sf_rem c r) (b := r) (cc := sf_c c r) (n := n) (l := sf_l c a)
  have hcc := sf_cc_ge hfit
  have hdr := sf_drp_ok hf2 hv2 a2 hp
  unfold wY_change_245
  refine sf_yneed hl.1 (sf_yfd hw hf hv hclk h hnb.1 hnb.2 hr (br_f (nI_ne0 (by omega) (by omega)) (sf_ycap hw hf hv h (by omega) (sf_yplc hl.1 (by omega) ?_))))
  refine sf_ycut hw hf1 (sf_yrem (a := r) h) hole (by omega) (by omega) hl.1 hn hfit (fun w g => by have := hout w g; omega) (fun v1 y1 => ?_)
  obtain ⟨_, _, _, _, _, _, _, _, _⟩ := v1
  refine sf_yrs (m := sf_c c a) hw hf2 hv2 y1 (by omega) (by omega) (Nat.le_refl _) (by omega) (Or.inl rfl) (fun v2 y2 => ?_)
  have y3 := sf_yfin (a := a) (m := sf_c c a) hlw (Nat.le_refl _) (by omega) (Or.inl rfl) hsv y2
  obtain ⟨_, _, _, _, _, _, _, _, _⟩ := v2
  refine sf_ydrop (P := fun w => sf_lw (sf_cut (sf_rem c r) r (sf_c c r) n (sf_l c a)) w ∧ ¬ (a ≤ w ∧ w < a + sf_c (sf_cut (sf_rem c r) r (sf_c c r) n (sf_l c a)) a)) hw hf2 hv2 (sf_yweak y3 (fun w g => ⟨g.1, rfl⟩)) a2 hp (fun w g => g) (fun v4 y4 => ?_)
  have y5 := sf_yweak y4 (P' := sf_lw (sf_drp W (sf_cut (sf_rem c r) r (sf_c c r) n (sf_l c a)) a p)) (fun w g => ⟨sf_drp_lw hf2 hv2 a2 hp g, rfl⟩)
  obtain ⟨_, _, _, _, _, _, _, _, _⟩ := v4
  refine sf_ynp hw hdr.1 hdr.2.1 y5 (fun v6 y6 => ?_)
  obtain ⟨_, _, _, _, _, _, _, _, _⟩ := v6
  exact J _ y6
end
end
section
/-! ===== resize ===== -/
theorem sf_resize {k : Nat} {u : SX} {v : SY} (I : i_Rel k u v) (hk : k + 4 ≤ 2050) (v1 : Int32) (v2 : Int32) (x3 : Int32) : sf_out (k + 4) (fun post => wpX_resizeBlock post u v1 v2 x3) (fun post => wpY_change post v v1 v2 x3) := by
  have I' := i_up I
  obtain ⟨W, K, c, pk, sv, vl, hw, hf, hv, hk4, hX, hY⟩ := I
  have hw1 := hw.1
  have hw2 := hw.2.1
  obtain ⟨r, h1, h2, h3⟩ := sf_check hw hf hv hX hY v1
  have hX' := hX
  have hY' := hY
  obtain ⟨lv, hp, ss, hs, rs, rfl, -⟩ := hX
  obtain ⟨kd, va, al, bo, rfl, hKd, hA, hBo, hVy⟩ := hY
  rcases h3 with ⟨e, a, rfl, ha⟩ | e
  · have hax := hf.1 a (by omega)
    have hl := hf.2.2.2.2 a ha
    by_cases g1 : 1 ≤ v2
    · by_cases g2 : v2 ≤ nI (W - 1)
      · obtain ⟨sz, hsz, rfl⟩ := nI_of (x := v2) (Int32.not_lt.mpr (Int32.le_trans (by decide) g1))
        have z1 : 1 ≤ sz := (nI_leI (a := 1) (by omega) hsz).mp g1
        have z2 : sz ≤ W - 1 := (nI_leI hsz (by omega)).mp g2
        have hn := sf_pay_b z1 z2 hw1
        -- the component up to its choice
        have X0 : ∀ post : Int32 → SX → Prop, (sf_pay sz = sf_c c a → post (nI a) (lv, nI W, nI K, nI (sf_nl c), nI (sf_nf c), nI (sf_ls c), pk, hp, ss, hs, rs)) → (sf_pay sz ≠ sf_c c a → wX_resizeBlock_87 post (nI a) x3 (nI (sf_pay sz)) (nI (sf_fa W c a)) (nI (sf_en W c a - a)) lv (nI W) (nI K) (nI (sf_nl c)) (nI (sf_nf c)) (nI (sf_ls c)) pk hp ss hs rs) → wpX_resizeBlock post (lv, nI W, nI K, nI (sf_nl c), nI (sf_nf c), nI (sf_ls c), pk, hp, ss, hs, rs) (nI a) (nI sz) x3 := by
          intro post J1 J2
          have hf256 : sf_fa W c a < 2 ^ 31 := by
            by_cases e : sf_fa W c a = 0
            · omega
            · have := hf.1 _ (by have := (sf_fa_free e).1; omega : sf_s c (sf_fa W c a) ≠ 0); omega
          unfold wpX_resizeBlock
          dsimp only
          rw [sf_m1 (a := W) (by omega)]
          refine h1 _ (br_t e (br_t g1 (br_t g2 (sf_xpay hsz (sf_xcap hw hf hX' (by omega) (pk_eq (sf_pay sz) (sf_c c a) (fun e1 => J1 e1) (fun e1 => sf_xfa hw hf hv hX' (by omega) ?_)))))))
          have J2 := J2 e1
          refine sf_if (sf_nI0 hf256) (fun e2 => ?_) (fun e2 => ?_)
          · unfold sf_en at J2
            rw [if_pos e2, show a + sf_c c a - a = sf_c c a by omega] at J2
            exact J2
          · have ff := sf_fa_free e2
            refine sf_xcap hw hf hX' (by omega) ?_
            rw [nI_1, nI_add]
            refine nm_e ?_
            unfold sf_en at J2
            rw [if_neg e2, show sf_fa W c a + sf_c c (sf_fa W c a) - a = sf_c c a + 1 + sf_c c (sf_fa W c a) by omega] at J2
            exact J2
        -- the reference up to its choice
        have Y0 : ∀ post : Int32 → SY → Prop, (sf_pay sz = sf_c c a → post (nI a) (nI W, nI K, lN (sf_k c), pk, kd, va, al, bo, sv)) → (sf_pay sz ≠ sf_c c a → wY_change_132 post (nI a) x3 (nI (sf_pay sz)) (nI (sf_c c a)) (nI (2 ^ sf_l c a)) (nI (sf_en W c a - a)) (nI W) (nI K) (lN (sf_k c)) pk kd va al bo (sf_sv sv va a (sf_c c a))) → wpY_change post (nI W, nI K, lN (sf_k c), pk, kd, va, al, bo, sv) (nI a) (nI sz) x3 := by
          intro post J1 J2
          have f45 : ∀ x, x = nI (sf_pay sz) → wY_change_45 post (nI a) x3 x (nI W) (nI K) (lN (sf_k c)) pk kd va al bo sv := fun x ex => by
            subst ex
            unfold wY_change_45
            refine sf_ycap hw hf hv hY' (by omega) ⟨vp_in_nI (by omega) (by omega), ?_⟩
            rw [nI_clamp (n := a) (by omega), hA a (by omega), if_pos ha]
            refine nm_e (pk_eq (sf_pay sz) (sf_c c a) (fun e1 => J1 e1) (fun e1 => ⟨sf_c c a + 1, ?_⟩))
            have q := sf_ysave (sv := sv) hw hf hv hKd hA hBo hVy ha (J2 e1) (sf_c c a + 1) 0 (by omega) (by omega)
            have e0 : sf_sv sv va a 0 = sv := funext fun j => if_neg (by omega)
            rw [e0] at q
            exact q
          unfold wpY_change
          dsimp only
          rw [sf_m1 (a := W) (by omega)]
          refine h2 _ (br_t e (br_t g1 (br_t g2 (pk_eq sz 1 (fun e1 => f45 _ ?_) (fun e1 => f45 _ ?_)))))
          · unfold sf_pay; rw [if_pos e1]; rfl
          · unfold sf_pay; rw [if_neg e1]
        have hYs : sf_YR W K c (sf_lw c) vl pk (sf_sv sv va a (sf_c c a)) (nI W, nI K, lN (sf_k c), pk, kd, va, al, bo, sf_sv sv va a (sf_c c a)) := ⟨kd, va, al, bo, rfl, hKd, hA, hBo, hVy⟩
        have hsv : ∀ i, i < sf_c c a → sf_sv sv va a (sf_c c a) i = vl (a + i) := fun i hi => by
          unfold sf_sv
          rw [if_pos hi, hVy (a + i) ⟨a, ha, by omega, by omega⟩]
        obtain ⟨s1, s2, s3, s4, s5, s6, s7⟩ := sf_d1_ok hf hv ha
        generalize hnn : sf_pay sz = n at *
        generalize hss : sf_sv sv va a (sf_c c a) = sv' at *
        by_cases ec : n = sf_c c a
        · exact sf_out_same I' (nI a) (fun post J => X0 post (fun _ => J) (fun z => absurd ec z)) (fun post J => Y0 post (fun _ => J) (fun z => absurd ec z))
        · rcases Nat.lt_or_ge (sf_en W c a - a) n with gn | gn
          · by_cases gx : x3 = 0
            · -- may not move
              refine ⟨-3, sf_XR W K c (sf_lw c) vl pk, sf_YR W K c (sf_lw c) vl pk sv', fun u' v' x y => ⟨W, K, c, pk, sv', vl, hw, hf, hv, by omega, x, y⟩, fun post J => ?_, fun post J => ?_⟩
              · refine X0 post (fun z => absurd z ec) (fun _ => ?_)
                unfold wX_resizeBlock_87
                exact br_t (nI_lt gn (by omega)) (br_t gx (J _ hX'))
              · refine Y0 post (fun z => absurd z ec) (fun _ => ?_)
                unfold wY_change_132
                exact br_t (nI_lt gn (by omega)) (br_t gx (J _ hYs))
            · obtain ⟨p, hpb⟩ := sf_fb_ex hf hv (a := a) (by omega)
              by_cases gs : p ≠ 0 ∧ sf_plc p (2 ^ sf_l c a) + n ≤ sf_en W c a
              · -- slide
                obtain ⟨q1, q2, q3, q4, q5, q6, q7, q8, q9, q10⟩ := sf_d2_ok hf hv ha hpb
                have elo : sf_lo a p = p := by unfold sf_lo; rw [if_neg gs.1]
                rw [elo] at q2 q3 q4 q9
                have hs2 : sf_hole W (sf_d2 W c a p) (p - 1) (p + (sf_en W c a - p)) := by rw [show p + (sf_en W c a - p) = sf_en W c a by omega]; exact q2
                obtain ⟨hf2, hv2⟩ := sf_cut_ok (n := n) q1 hs2 (by omega) (by omega) hl.1 hn.1 (by omega)
                have hkk := sf_cut_k (c := sf_d2 W c a p) (b := p) (cc := sf_en W c a - p) (n := n) (l := sf_l c a)
                have hplo := sf_plc_lo (b := p) (sf_p2 hl.1).1
                refine ⟨nI (sf_plc p (2 ^ sf_l c a)), sf_XR W K (sf_cut (sf_d2 W c a p) p (sf_en W c a - p) n (sf_l c a)) (sf_lw (sf_cut (sf_d2 W c a p) p (sf_en W c a - p) n (sf_l c a))) (sf_mv vl a (sf_plc p (2 ^ sf_l c a)) (sf_c c a) (sf_cc p (sf_en W c a - p) n (sf_l c a))) (sf_npk (sf_cut (sf_d2 W c a p) p (sf_en W c a - p) n (sf_l c a)) pk), sf_YR W K (sf_cut (sf_d2 W c a p) p (sf_en W c a - p) n (sf_l c a)) (sf_lw (sf_cut (sf_d2 W c a p) p (sf_en W c a - p) n (sf_l c a))) (sf_mv vl a (sf_plc p (2 ^ sf_l c a)) (sf_c c a) (sf_cc p (sf_en W c a - p) n (sf_l c a))) (sf_npk (sf_cut (sf_d2 W c a p) p (sf_en W c a - p) n (sf_l c a)) pk) sv', fun u' v' x y => ⟨W, K, _, _, sv', _, hw, hf2, hv2, by omega, x, y⟩, fun post J => ?_, fun post J => ?_⟩
                · refine X0 post (fun z => absurd z ec) (fun _ => ?_)
                  unfold wX_resizeBlock_87
                  refine br_t (nI_lt gn (by omega)) (br_f gx (sf_xslide hw hf hv hX' ha hpb gs.1 hn.1 gn gs.2 (fun u1 x1 => ?_)))
                  obtain ⟨_, _, _, _, _, _, _, _, _, _, _⟩ := u1
                  refine br_f (nI_ne0 (by omega) (by omega)) ?_
                  unfold wX_resizeBlock_145
                  refine br_f (nI_ne0 (by omega) (by omega)) (sf_xnp x1 (fun u2 x2 => ?_))
                  obtain ⟨_, _, _, _, _, _, _, _, _, _, _⟩ := u2
                  exact J _ x2
                · exact Y0 post (fun z => absurd z ec) (fun _ => sf_yc hw hf hv hYs ha gx hpb gs.1 hn.1 (by omega) gn gs.2 hsv J)
              · have hno : p = 0 ∨ sf_en W c a < sf_plc p (2 ^ sf_l c a) + n := by
                  by_cases z : p = 0
                  · exact Or.inl z
                  · refine Or.inr ?_
                    rcases Nat.lt_or_ge (sf_en W c a) (sf_plc p (2 ^ sf_l c a) + n) with z2 | z2
                    · exact z2
                    · exact absurd ⟨z, z2⟩ gs
                have hnb := sf_need_b (l := sf_l c a) hl.1 hn.1 (by omega)
                obtain ⟨f, hfd⟩ := sf_fd_ex (c := c) hw hf hnb.1
                by_cases f0 : f = 0
                · -- no room
                  subst f0
                  refine ⟨-3, sf_XR W K c (sf_lw c) vl pk, sf_YR W K c (sf_lw c) vl pk sv', fun u' v' x y => ⟨W, K, c, pk, sv', vl, hw, hf, hv, by omega, x, y⟩, fun post J => ?_, fun post J => ?_⟩
                  · refine X0 post (fun z => absurd z ec) (fun _ => ?_)
                    unfold wX_resizeBlock_87
                    refine br_t (nI_lt gn (by omega)) (br_f gx (sf_xslide0 hw hf hv hX' ha hpb (by omega) hno (br_t rfl (sf_xreloc0 hw hf hX' ha hn.1 (by omega) hfd ?_))))
                    unfold wX_resizeBlock_145
                    exact br_t rfl (J _ hX')
                  · refine Y0 post (fun z => absurd z ec) (fun _ => sf_y245 hw hf hv hYs ha gx hpb (by omega) gn hno ?_)
                    unfold wY_change_245
                    exact sf_yneed hl.1 (sf_yfd hw hf hv (by omega) hYs hnb.1 hnb.2 hfd (br_t rfl (J _ hYs)))
                · -- a move
                  obtain ⟨hr4, hfit⟩ := sf_fd_room hw hf hl.1 hfd f0
                  have hfx := hf.1 f (by omega)
                  obtain ⟨hf1, hole, hf2, hv2, a2, ca2, hout, hlw, hAa⟩ := sf_rel_ok hw hf hv ha hl.1 hn.1 hr4 hfit
                  obtain ⟨p', hp'⟩ := sf_fb_ex hf2 hv2 (a := a) (by omega)
                  have hdr := sf_drp_ok hf2 hv2 a2 hp'
                  have hkk := sf_cut_k (c := sf_rem c f) (b := f) (cc := sf_c c f) (n := n) (l := sf_l c a)
                  rw [sf_rem_k] at hkk
                  have hplo := sf_plc_lo (b := f) (sf_p2 hl.1).1
                  have hkd : sf_k (sf_drp W (sf_cut (sf_rem c f) f (sf_c c f) n (sf_l c a)) a p') ≤ k + 4 := by rw [hdr.2.2.1]; omega
                  refine ⟨nI (sf_plc f (2 ^ sf_l c a)), sf_XR W K (sf_drp W (sf_cut (sf_rem c f) f (sf_c c f) n (sf_l c a)) a p') (sf_lw (sf_drp W (sf_cut (sf_rem c f) f (sf_c c f) n (sf_l c a)) a p')) (sf_mv vl a (sf_plc f (2 ^ sf_l c a)) (sf_c c a) (sf_cc f (sf_c c f) n (sf_l c a))) (sf_npk (sf_drp W (sf_cut (sf_rem c f) f (sf_c c f) n (sf_l c a)) a p') pk), sf_YR W K (sf_drp W (sf_cut (sf_rem c f) f (sf_c c f) n (sf_l c a)) a p') (sf_lw (sf_drp W (sf_cut (sf_rem c f) f (sf_c c f) n (sf_l c a)) a p')) (sf_mv vl a (sf_plc f (2 ^ sf_l c a)) (sf_c c a) (sf_cc f (sf_c c f) n (sf_l c a))) (sf_npk (sf_drp W (sf_cut (sf_rem c f) f (sf_c c f) n (sf_l c a)) a p') pk) sv', fun u' v' x y => ⟨W, K, _, _, sv', _, hw, hdr.1, hdr.2.1, hkd, x, y⟩, fun post J => ?_, fun post J => ?_⟩
                  · refine X0 post (fun z => absurd z ec) (fun _ => ?_)
                    unfold wX_resizeBlock_87
                    refine br_t (nI_lt gn (by omega)) (br_f gx (sf_xslide0 hw hf hv hX' ha hpb (by omega) hno (br_t rfl (sf_xreloc hw hf hv hX' ha hn.1 (by omega) (by omega) hfd f0 hp' (fun u1 x1 => ?_)))))
                    obtain ⟨_, _, _, _, _, _, _, _, _, _, _⟩ := u1
                    unfold wX_resizeBlock_145
                    refine br_f (nI_ne0 (by omega) (by omega)) (sf_xnp x1 (fun u2 x2 => ?_))
                    obtain ⟨_, _, _, _, _, _, _, _, _, _, _⟩ := u2
                    exact J _ x2
                  · exact Y0 post (fun z => absurd z ec) (fun _ => sf_y245 hw hf hv hYs ha gx hpb (by omega) gn hno (sf_yd hw hf hv (by omega) hYs ha hn.1 (by omega) (by omega) hfd f0 hp' hsv J))
          · -- in place
            have hpl := sf_plc_id hl.2
            have hs2 : sf_hole W (sf_d1 W c a) (a - 1) (a + (sf_en W c a - a)) := by rw [show a + (sf_en W c a - a) = sf_en W c a by omega]; exact s2
            obtain ⟨hf2, hv2⟩ := sf_cut_ok (n := n) s1 hs2 (by omega) (by omega) hl.1 hn.1 (by rw [hpl]; omega)
            have hkk := sf_cut_k (c := sf_d1 W c a) (b := a) (cc := sf_en W c a - a) (n := n) (l := sf_l c a)
            refine ⟨nI a, sf_XR W K (sf_cut (sf_d1 W c a) a (sf_en W c a - a) n (sf_l c a)) (sf_lw (sf_cut (sf_d1 W c a) a (sf_en W c a - a) n (sf_l c a))) (sf_mv vl a a (sf_c c a) (sf_cc a (sf_en W c a - a) n (sf_l c a))) (sf_npk (sf_cut (sf_d1 W c a) a (sf_en W c a - a) n (sf_l c a)) pk), sf_YR W K (sf_cut (sf_d1 W c a) a (sf_en W c a - a) n (sf_l c a)) (sf_lw (sf_cut (sf_d1 W c a) a (sf_en W c a - a) n (sf_l c a))) (sf_mv vl a a (sf_c c a) (sf_cc a (sf_en W c a - a) n (sf_l c a))) (sf_npk (sf_cut (sf_d1 W c a) a (sf_en W c a - a) n (sf_l c a)) pk) sv', fun u' v' x y => ⟨W, K, _, _, sv', _, hw, hf2, hv2, by omega, x, y⟩, fun post J => ?_, fun post J => ?_⟩
            · refine X0 post (fun z => absurd z ec) (fun _ => ?_)
              unfold wX_resizeBlock_87
              refine br_f (nI_nlt gn (by omega)) (sf_xrecut hw hf hv hX' ha hn.1 gn (fun u1 x1 => ?_))
              obtain ⟨_, _, _, _, _, _, _, _, _, _, _⟩ := u1
              refine sf_xnp x1 (fun u2 x2 => ?_)
              obtain ⟨_, _, _, _, _, _, _, _, _, _, _⟩ := u2
              exact J _ x2
            · exact Y0 post (fun z => absurd z ec) (fun _ => sf_yb hw hf hv hYs ha hn.1 gn hsv J)
      · refine sf_out_same I' (-3) (fun post J => ?_) (fun post J => ?_)
        · unfold wpX_resizeBlock
          dsimp only
          rw [sf_m1 (a := W) (by omega)]
          exact h1 _ (br_t e (br_t g1 (br_f g2 J)))
        · unfold wpY_change
          dsimp only
          rw [sf_m1 (a := W) (by omega)]
          exact h2 _ (br_t e (br_t g1 (br_f g2 J)))
    · refine sf_out_same I' (-1) (fun post J => ?_) (fun post J => ?_)
      · unfold wpX_resizeBlock
        exact h1 _ (br_t e (br_f g1 J))
      · unfold wpY_change
        exact h2 _ (br_t e (br_f g1 J))
  · refine sf_out_same I' r (fun post J => ?_) (fun post J => ?_)
    · unfold wpX_resizeBlock
      exact h1 _ (br_f e J)
    · unfold wpY_change
      exact h2 _ (br_f e J)
theorem i_vc_resize {k : Nat} {u : SX} {v : SY} (I : i_Rel k u v) (hk : k + 4 ≤ 2050) (v1 : Int32) (v2 : Int32) : wpX_resize (fun r u' => wpY_resize (fun r' v' => r' = r ∧ i_Rel (k + 4) u' v') v v1 v2) u v1 v2 := by
  obtain ⟨r, R, S, h1, h2, h3⟩ := sf_resize I hk v1 v2 1
  obtain ⟨_, _, _, _, _, _, _, _, _, _, _⟩ := u
  obtain ⟨_, _, _, _, _, _, _, _, _⟩ := v
  unfold wpX_resize wpY_resize
  refine h2 _ (fun u' hu => ?_)
  obtain ⟨_, _, _, _, _, _, _, _, _, _, _⟩ := u'
  refine h3 _ (fun v' hv => ?_)
  obtain ⟨_, _, _, _, _, _, _, _, _⟩ := v'
  exact ⟨rfl, h1 _ _ hu hv⟩
theorem i_vc_resizeInPlace {k : Nat} {u : SX} {v : SY} (I : i_Rel k u v) (hk : k + 4 ≤ 2050) (v1 : Int32) (v2 : Int32) : wpX_resizeInPlace (fun r u' => wpY_resizeInPlace (fun r' v' => r' = r ∧ i_Rel (k + 4) u' v') v v1 v2) u v1 v2 := by
  obtain ⟨r, R, S, h1, h2, h3⟩ := sf_resize I hk v1 v2 0
  obtain ⟨_, _, _, _, _, _, _, _, _, _, _⟩ := u
  obtain ⟨_, _, _, _, _, _, _, _, _⟩ := v
  unfold wpX_resizeInPlace wpY_resizeInPlace
  refine h2 _ (fun u' hu => ?_)
  obtain ⟨_, _, _, _, _, _, _, _, _, _, _⟩ := u'
  refine h3 _ (fun v' hv => ?_)
  obtain ⟨_, _, _, _, _, _, _, _, _⟩ := v'
  exact ⟨rfl, h1 _ _ hu hv⟩
end
