section
theorem pk_us {f : Nat → Int32} {k : Nat} {x : Int32} : upd f k x k = x := if_pos rfl
theorem pk_un {f : Nat → Int32} {k j : Nat} {x : Int32} (h : j ≠ k) : upd f k x j = f j := if_neg h
theorem pk_uLs {f : Nat → Int64} {k : Nat} {x : Int64} : vp_updL f k x k = x := if_pos rfl
theorem pk_uLn {f : Nat → Int64} {k j : Nat} {x : Int64} (h : j ≠ k) : vp_updL f k x j = f j := if_neg h
theorem pk_sub {a b : Nat} (h : b ≤ a) : nI a - nI b = nI (a - b) := by
  obtain ⟨c, rfl⟩ : ∃ c, a = c + b := ⟨a - b, by omega⟩
  rw [← nI_add, Int32.add_sub_cancel, Nat.add_sub_cancel]
theorem pk_m1 (n : Nat) : nI (n + 1) + (-1) = nI n := by
  rw [← nI_1, Int32.add_assoc, show (1 : Int32) + (-1) = 0 from rfl, Int32.add_zero]
theorem pk_mul (a b : Nat) : nI a * nI b = nI (a * b) := (Int32.ofNat_mul a b).symm
theorem pk_div {a d : Nat} (ha : a < 2 ^ 31) (h0 : 0 < d) (hd : d < 2 ^ 31) : nI a / nI d = nI (a / d) := by
  apply Int32.toInt_inj.mp
  rw [lg_idiv_nonneg (by rw [nI_toInt ha]; omega) (by rw [nI_toInt hd]; omega), nI_toInt ha, nI_toInt hd, nI_toInt (Nat.lt_of_le_of_lt (Nat.div_le_self a d) ha)]
  first | rfl | exact (Int.natCast_ediv _ _).symm
theorem pk_rem {a d : Nat} (ha : a < 2 ^ 31) (h0 : 0 < d) (hd : d < 2 ^ 31) : nI a - nI a / nI d * nI d = nI (a % d) := by
  rw [pk_div ha h0 hd, pk_mul, pk_sub (Nat.div_mul_le_self a d)]
  exact congrArg nI (by have := Nat.div_add_mod' a d; omega)
theorem pk_sub_toInt {a b : Nat} (ha : a < 2 ^ 30) (hb : b < 2 ^ 30) : (nI a - nI b).toInt = (a : Int) - b := by
  rw [Int32.toInt_sub, nI_toInt (by omega), nI_toInt (by omega)]
  exact Int.bmod_eq_of_le (by omega) (by omega)
theorem pk_sneg {a b : Nat} (hb : b < 2 ^ 30) (h : a < b) : nI a - nI b < 0 := by
  rw [Int32.lt_iff_toInt_lt, pk_sub_toInt (by omega) hb, show (0 : Int32).toInt = 0 from by decide]
  omega
theorem pk_ix (x : Int32) {n : Nat} (hn : n < 2 ^ 31) : x < 0 ∨ nI n ≤ x ∨ ∃ j : Nat, j < n ∧ x = nI j := by
  by_cases h : x < 0
  · exact Or.inl h
  · obtain ⟨j, hj, rfl⟩ := nI_of h
    by_cases h2 : j < n
    · exact Or.inr (Or.inr ⟨j, h2, rfl⟩)
    · exact Or.inr (Or.inl (nI_le (by omega) hj))
theorem pk_le {x y : Int32} {A B : Prop} (a b : Nat) (f : a ≤ b → A) (g : b < a → B) (hx : x = nI a := by rfl) (hy : y = nI b := by rfl) (ha : a < 2 ^ 31 := by omega) (hb : b < 2 ^ 31 := by omega) : (x ≤ y → A) ∧ (¬ x ≤ y → B) := by
  subst hx hy
  rw [nI_leI ha hb]
  exact ⟨f, fun z => g (by omega)⟩
theorem pk_lt {x y : Int32} {A B : Prop} (a b : Nat) (f : a < b → A) (g : b ≤ a → B) (hx : x = nI a := by rfl) (hy : y = nI b := by rfl) (ha : a < 2 ^ 31 := by omega) (hb : b < 2 ^ 31 := by omega) : (x < y → A) ∧ (¬ x < y → B) := by
  subst hx hy
  rw [nI_ltI ha hb]
  exact ⟨f, fun z => g (by omega)⟩
theorem pk_eq {x y : Int32} {A B : Prop} (a b : Nat) (f : a = b → A) (g : a ≠ b → B) (hx : x = nI a := by rfl) (hy : y = nI b := by rfl) (ha : a < 2 ^ 31 := by omega) (hb : b < 2 ^ 31 := by omega) : (x = y → A) ∧ (¬ x = y → B) := by
  subst hx hy
  rw [nI_eq ha hb]
  exact ⟨f, g⟩
theorem pk_in {x : Int32} (n N : Nat) (h : n < N) (hx : x = nI n := by rfl) (hN : N < 2 ^ 31 := by omega) : vp_in x N := by
  subst hx
  exact vp_in_nI h hN
theorem pk_cl {x : Int32} (n : Nat) (hx : x = nI n := by rfl) (h : n < 2 ^ 31 := by omega) : x.toNatClampNeg = n := by
  subst hx
  exact nI_clamp h
theorem pk_tn {n : Nat} (h : n < 2 ^ 32) : (nI n).toBitVec.toNat = n := Nat.mod_eq_of_lt h
/-! ===== Int32 by its bits: bt x i ===== -/
def bt (x : Int32) (i : Nat) : Bool := x.toBitVec.getLsbD i
theorem b_ext {x y : Int32} (h : ∀ i, i < 32 → bt x i = bt y i) : x = y := Int32.toBitVec_inj.mp (BitVec.eq_of_getLsbD_eq (fun i hi => h i hi))
theorem b_or (x y : Int32) (i : Nat) : bt (x ||| y) i = (bt x i || bt y i) := by unfold bt; rw [Int32.toBitVec_or, BitVec.getLsbD_or]
theorem b_and (x y : Int32) (i : Nat) : bt (x &&& y) i = (bt x i && bt y i) := by unfold bt; rw [Int32.toBitVec_and, BitVec.getLsbD_and]
theorem b_xor (x y : Int32) (i : Nat) : bt (x ^^^ y) i = (bt x i ^^ bt y i) := by unfold bt; rw [Int32.toBitVec_xor, BitVec.getLsbD_xor]
theorem b_big {x : Int32} {i : Nat} (h : 32 ≤ i) : bt x i = false := BitVec.getLsbD_of_ge _ _ h
theorem b_255 (i : Nat) : bt 255 i = decide (i < 8) := by
  rcases Nat.lt_or_ge i 32 with h | h
  · exact (by decide +kernel : ∀ i, i < 32 → bt 255 i = decide (i < 8)) i h
  · rw [b_big h, decide_eq_false (by omega)]
theorem b_65535 (i : Nat) : bt 65535 i = decide (i < 16) := by
  rcases Nat.lt_or_ge i 32 with h | h
  · exact (by decide +kernel : ∀ i, i < 32 → bt 65535 i = decide (i < 16)) i h
  · rw [b_big h, decide_eq_false (by omega)]
theorem b_m1 : ∀ i, i < 32 → bt (-1) i = true := by decide +kernel
theorem b_0 (i : Nat) : bt 0 i = false := BitVec.getLsbD_zero
theorem s_l : ∀ n, n < 32 → ((nI n &&& 31).toBitVec.smod 32).toNat = n := by decide +kernel
theorem s_u : ∀ n, n < 32 → (((nI n).toUInt32 &&& Int32.toUInt32 31).toBitVec % 32).toNat = n := by decide +kernel
theorem b_shl (n : Nat) (hn : n < 32) (x : Int32) {i : Nat} (hi : i < 32) : bt (x <<< (nI n &&& 31)) i = (decide (n ≤ i) && bt x (i - n)) := by
  unfold bt
  rw [Int32.toBitVec_shiftLeft]
  show (x.toBitVec <<< ((nI n &&& 31).toBitVec.smod 32).toNat).getLsbD i = _
  rw [s_l n hn, BitVec.getLsbD_shiftLeft]
  rcases Nat.lt_or_ge i n with h | h
  · simp [h, Nat.not_le.mpr h]
  · simp [hi, h, Nat.not_lt.mpr h]
theorem b_ushr (n : Nat) (hn : n < 32) (x : Int32) (i : Nat) : bt ((x.toUInt32 >>> ((nI n).toUInt32 &&& Int32.toUInt32 31)).toInt32) i = bt x (n + i) := by
  show (x.toUInt32 >>> ((nI n).toUInt32 &&& Int32.toUInt32 31)).toBitVec.getLsbD i = x.toUInt32.toBitVec.getLsbD (n + i)
  rw [UInt32.toBitVec_shiftRight]
  show (x.toUInt32.toBitVec >>> (((nI n).toUInt32 &&& Int32.toUInt32 31).toBitVec % 32).toNat).getLsbD i = _
  rw [s_u n hn, BitVec.getLsbD_ushiftRight]
theorem b_sshr (n : Nat) (hn : n < 32) (x : Int32) {i : Nat} (hi : i < 32) : bt (x >>> (nI n &&& 31)) i = if n + i < 32 then bt x (n + i) else bt x 31 := by
  unfold bt
  rw [Int32.toBitVec_shiftRight]
  show (x.toBitVec.sshiftRight ((nI n &&& 31).toBitVec.smod 32).toNat).getLsbD i = _
  rw [s_l n hn, BitVec.getLsbD_sshiftRight, BitVec.msb_eq_getLsbD_last]
  simp [hi]
theorem nx_and (a b : Nat) : nI a &&& nI b = nI (a &&& b) := by
  apply Int32.toBitVec_inj.1
  show BitVec.ofNat 32 a &&& BitVec.ofNat 32 b = BitVec.ofNat 32 (a &&& b)
  apply BitVec.eq_of_getLsbD_eq
  intro i hi
  simp [hi]
theorem nf_sh : ∀ l, l < 32 → ((1 : Int32) <<< (nI l &&& 31)).toBitVec = BitVec.twoPow 32 l := by decide +kernel
end
section
section GP2
/-! A: a truth as an int; an array written in a row; counts; bits -/
def gp_b (b : Bool) : Int32 := if b = true then 1 else 0
theorem gp_b_t : gp_b true = 1 := rfl
theorem gp_b_f : gp_b false = 0 := rfl
theorem gp_b_0 {b : Bool} : gp_b b = 0 ↔ b = false := by cases b <;> decide
theorem gp_b_nar (b : Bool) : vp_nar .boolean (gp_b b) = gp_b b := by cases b <;> decide
theorem gp_v0 : vp_nar .boolean 0 = 0 := by decide
theorem gp_v1 : vp_nar .boolean 1 = 1 := by decide
theorem gp_z {x : Int32} : x + 0 = x := Int32.add_zero x
def gp_wr (f : Nat → Int32) (b : Nat) (s : Nat → Int32) (i : Nat) : Nat → Int32 := fun q => if b ≤ q ∧ q < b + i then s (q - b) else f q
theorem gp_wr0 {f s : Nat → Int32} {b : Nat} : gp_wr f b s 0 = f := funext (fun _ => if_neg (by omega))
theorem gp_wrS {f s : Nat → Int32} {b i : Nat} : upd (gp_wr f b s i) (b + i) (s i) = gp_wr f b s (i + 1) := by
  funext q
  unfold upd gp_wr
  by_cases h : q = b + i
  · subst h
    rw [if_pos rfl, if_pos (by omega), Nat.add_sub_cancel_left]
  · rw [if_neg h]
    by_cases h2 : b ≤ q ∧ q < b + i
    · rw [if_pos h2, if_pos (by omega)]
    · rw [if_neg h2, if_neg (by omega)]
theorem gp_wr_i {f s : Nat → Int32} {b n i : Nat} (h : i < n) : gp_wr f b s n (b + i) = s i := by
  unfold gp_wr
  rw [if_pos (by omega), Nat.add_sub_cancel_left]
theorem gp_wr_o {f s : Nat → Int32} {b n q : Nat} (h : q < b ∨ b + n ≤ q) : gp_wr f b s n q = f q := if_neg (by omega)
theorem gp_wr_z {f s : Nat → Int32} {n i : Nat} (h : i < n) : gp_wr f 0 s n i = s i := by
  have := gp_wr_i (f := f) (s := s) (b := 0) h
  rwa [Nat.zero_add] at this
def gp_cnt (f : Nat → Bool) : Nat → Nat
  | 0 => 0
  | n + 1 => gp_cnt f n + (if f n = true then 1 else 0)
theorem gp_cnt_s {f : Nat → Bool} {n : Nat} : gp_cnt f (n + 1) = gp_cnt f n + (if f n = true then 1 else 0) := rfl
theorem gp_cnt_add (f : Nat → Bool) (m : Nat) : ∀ n, gp_cnt f (m + n) = gp_cnt f m + gp_cnt (fun i => f (m + i)) n := by
  intro n
  induction n with
  | zero => rfl
  | succ n ih => rw [← Nat.add_assoc, gp_cnt_s, gp_cnt_s, ih, Nat.add_assoc]
theorem gp_cnt_le (f : Nat → Bool) : ∀ n, gp_cnt f n ≤ n := by
  intro n
  induction n with
  | zero => exact Nat.le_refl 0
  | succ n ih =>
    rw [gp_cnt_s]
    split <;> omega
theorem gp_cnt_c {f g : Nat → Bool} : ∀ n, (∀ i, i < n → f i = g i) → gp_cnt f n = gp_cnt g n := by
  intro n
  induction n with
  | zero => intro _; rfl
  | succ n ih =>
    intro h
    rw [gp_cnt_s, gp_cnt_s, ih (fun i hi => h i (by omega)), h n (by omega)]
theorem gp_cnt_0 : ∀ n, gp_cnt (fun i => Nat.testBit 0 i) n = 0 := by
  intro n
  induction n with
  | zero => rfl
  | succ n ih =>
    rw [gp_cnt_s, ih, Nat.zero_testBit, if_neg (by decide)]
theorem gp_cntL (m w : Nat) : gp_cnt (fun i => m.testBit i) (w + 1) = m % 2 + gp_cnt (fun i => (m / 2).testBit i) w := by
  rw [Nat.add_comm w 1, gp_cnt_add]
  have e : (fun i => m.testBit (1 + i)) = (fun i => (m / 2).testBit i) := by
    funext i
    rw [Nat.add_comm 1 i]
    exact Nat.testBit_succ m i
  have e1 : gp_cnt (fun i => m.testBit i) 1 = m % 2 := by
    rw [gp_cnt_s]
    show 0 + (if m.testBit 0 = true then 1 else 0) = m % 2
    rw [Nat.testBit_zero]
    by_cases h : m % 2 = 1
    · rw [if_pos (decide_eq_true h), h]
    · rw [if_neg (by rw [decide_eq_true_eq]; exact h)]
      omega
  rw [e1]
  exact congrArg (fun z => m % 2 + gp_cnt z w) e
theorem gp_pop : ∀ w m : Nat, 0 < m → m < 2 ^ w → gp_cnt (fun i => m.testBit i) w = gp_cnt (fun i => (m &&& (m - 1)).testBit i) w + 1 := by
  intro w
  induction w with
  | zero => intro m h0 h1; simp at h1; omega
  | succ w ih =>
    intro m h0 h1
    rw [gp_cntL, gp_cntL, Nat.and_div_two]
    have hp : 2 ^ (w + 1) = 2 * 2 ^ w := by rw [Nat.pow_succ, Nat.mul_comm]
    have hm : (m &&& (m - 1)) % 2 = 0 := by
      have t : (m &&& (m - 1)).testBit 0 = false := by
        rw [Nat.testBit_and, Nat.testBit_zero, Nat.testBit_zero]
        by_cases h : m % 2 = 1
        · rw [decide_eq_false (p := (m - 1) % 2 = 1) (by omega), Bool.and_false]
        · rw [decide_eq_false h, Bool.false_and]
      rw [Nat.testBit_zero, decide_eq_false_iff_not] at t
      omega
    rw [hm]
    by_cases h : m % 2 = 1
    · have e : (m - 1) / 2 = m / 2 := by omega
      rw [e, Nat.and_self, h]
      omega
    · have e : (m - 1) / 2 = m / 2 - 1 := by omega
      have e0 : m % 2 = 0 := by omega
      rw [e, e0, ih (m / 2) (by omega) (by omega)]
      omega
theorem gp_bt_n {m i : Nat} (h : m < 2 ^ 32) : bt (nI m) i = m.testBit i := by
  unfold bt BitVec.getLsbD
  rw [pk_tn h]
theorem gp_nI_bt (x : Int32) : x = nI x.toBitVec.toNat := by
  apply Int32.toBitVec_inj.1
  show x.toBitVec = BitVec.ofNat 32 x.toBitVec.toNat
  simp
theorem gp_lt16 {x : Int32} (h : ∀ i, 16 ≤ i → bt x i = false) : x.toBitVec.toNat < 65536 :=
  Nat.lt_pow_two_of_testBit (n := 16) _ (fun i hi => h i hi)
theorem gp_1 (i : Nat) : bt 1 i = decide (i = 0) := by
  rcases Nat.lt_or_ge i 32 with h | h
  · exact (by decide +kernel : ∀ i, i < 32 → bt 1 i = decide (i = 0)) i h
  · rw [b_big h, decide_eq_false (by omega)]
theorem gp_1shl {n : Nat} (hn : n < 32) (i : Nat) : bt ((1 : Int32) <<< (nI n &&& 31)) i = decide (i = n) := by
  unfold bt
  rw [nf_sh n hn, BitVec.getLsbD_twoPow, decide_eq_true hn, Bool.true_and]
  exact decide_eq_decide.mpr ⟨fun h => h.symm, fun h => h.symm⟩
theorem gp_mask {n : Nat} (hn : n ≤ 16) (i : Nat) : bt (((1 : Int32) <<< (nI n &&& 31)) - 1) i = decide (i < n) := by
  rcases Nat.lt_or_ge i 32 with h | h
  · exact (by decide +kernel : ∀ n, n < 17 → ∀ i, i < 32 → bt (((1 : Int32) <<< (nI n &&& 31)) - 1) i = decide (i < n)) n (by omega) i h
  · rw [b_big h, decide_eq_false (by omega)]
theorem gp_tst (x : Int32) {n : Nat} (hn : n < 32) : (x &&& ((1 : Int32) <<< (nI n &&& 31))) = 0 ↔ bt x n = false := by
  constructor
  · intro e
    have := congrArg (fun z => bt z n) e
    simp only [b_and, gp_1shl hn, b_0, decide_true, Bool.and_true] at this
    exact this
  · intro e
    apply b_ext
    intro i _
    rw [b_and, gp_1shl hn, b_0]
    by_cases h : i = n
    · rw [h, e, Bool.false_and]
    · rw [decide_eq_false h, Bool.and_false]
theorem gp_b_bt (b : Bool) (i : Nat) : bt (gp_b b) i = (decide (i = 0) && b) := by
  cases b
  · rw [gp_b_f, b_0, Bool.and_false]
  · rw [gp_b_t, gp_1, Bool.and_true]
theorem gp_shr (x : Int32) {n : Nat} (hn : n < 32) : (x >>> (nI n &&& 31)) &&& 1 = gp_b (bt x n) := by
  apply b_ext
  intro i hi
  rw [b_and, gp_1, gp_b_bt, b_sshr n hn x hi]
  by_cases h : i = 0
  · subst h
    rw [if_pos (by omega), Nat.add_zero, Bool.and_comm]
  · rw [decide_eq_false h, Bool.and_false, Bool.false_and]
end GP2
end
section
section GP3
/-! B: the path: subpath s has the points F s .. F (s + 1) - 1; point k lies in subpath T k -/
def gp_path (n ns : Nat) (F T : Nat → Nat) (fp sb : Nat → Int32) : Prop :=
  n ≤ 16 ∧ F 0 = 0 ∧ F ns = n ∧ (∀ s, s < ns → F s < F (s + 1)) ∧ (∀ s, s < ns → fp s = nI (F s)) ∧ (∀ k, k < n → T k < ns ∧ F (T k) ≤ k ∧ k < F (T k + 1) ∧ sb k = nI (T k))
theorem gp_mono {ns : Nat} {F : Nat → Nat} (h : ∀ s, s < ns → F s < F (s + 1)) (s : Nat) : ∀ d, s + d ≤ ns → F s + d ≤ F (s + d) := by
  intro d
  induction d with
  | zero => intro _; exact Nat.le_refl _
  | succ d ih =>
    intro hd
    have a := ih (by omega)
    have b := h (s + d) (by omega)
    show F s + (d + 1) ≤ F (s + d + 1)
    omega
theorem gp_mono2 {ns : Nat} {F : Nat → Nat} (h : ∀ s, s < ns → F s < F (s + 1)) {s t : Nat} (h1 : s ≤ t) (h2 : t ≤ ns) : F s ≤ F t := by
  have := gp_mono h s (t - s) (by omega)
  rw [show s + (t - s) = t by omega] at this
  omega
section
variable {n ns : Nat} {F T : Nat → Nat} {fp sb : Nat → Int32}
theorem gp_ns (p : gp_path n ns F T fp sb) : ns ≤ n := by
  obtain ⟨h1, h2, h3, h4, h5, h6⟩ := p
  have := gp_mono h4 0 ns (by omega)
  rw [Nat.zero_add] at this
  omega
theorem gp_Fle (p : gp_path n ns F T fp sb) {s : Nat} (hs : s ≤ ns) : F s ≤ n := by
  obtain ⟨h1, h2, h3, h4, h5, h6⟩ := p
  have := gp_mono2 h4 hs (Nat.le_refl ns)
  omega
theorem gp_uniq (p : gp_path n ns F T fp sb) {s k : Nat} (hs : s < ns) (h1 : F s ≤ k) (h2 : k < F (s + 1)) : k < n ∧ T k = s := by
  have hk : k < n := Nat.lt_of_lt_of_le h2 (gp_Fle p hs)
  obtain ⟨p1, p2, p3, p4, p5, p6⟩ := p
  refine ⟨hk, ?_⟩
  obtain ⟨a, b, c, _⟩ := p6 k hk
  rcases Nat.lt_trichotomy (T k) s with h | h | h
  · have := gp_mono2 p4 (s := T k + 1) (t := s) (by omega) (by omega)
    omega
  · exact h
  · have := gp_mono2 p4 (s := s + 1) (t := T k) (by omega) (by omega)
    omega
/-- the point behind point k in its subpath; behind the last one the first -/
def gp_nx (F T : Nat → Nat) (k : Nat) : Nat := if k + 1 < F (T k + 1) then k + 1 else F (T k)
theorem gp_nx_lt (p : gp_path n ns F T fp sb) {k : Nat} (hk : k < n) : gp_nx F T k < n := by
  have q := p
  obtain ⟨p1, p2, p3, p4, p5, p6⟩ := p
  obtain ⟨a, b, c, _⟩ := p6 k hk
  unfold gp_nx
  split
  · exact Nat.lt_of_lt_of_le ‹_› (gp_Fle q a)
  · omega
theorem gp_path_move (p : gp_path n ns F T fp sb) (hn : n < 16) : gp_path (n + 1) (ns + 1) (fun s => if s = ns + 1 then n + 1 else F s) (fun k => if k = n then ns else T k) (upd fp ns (nI n)) (upd sb n (nI ns)) := by
  obtain ⟨h1, h2, h3, h4, h5, h6⟩ := p
  refine ⟨by omega, ?_, if_pos rfl, ?_, ?_, ?_⟩
  · show (if 0 = ns + 1 then n + 1 else F 0) = 0
    rw [if_neg (by omega), h2]
  · intro s hs
    show (if s = ns + 1 then n + 1 else F s) < (if s + 1 = ns + 1 then n + 1 else F (s + 1))
    rw [if_neg (by omega)]
    by_cases e : s = ns
    · rw [if_pos (by omega), e, h3]
      omega
    · rw [if_neg (by omega)]
      exact h4 s (by omega)
  · intro s hs
    show upd fp ns (nI n) s = nI (if s = ns + 1 then n + 1 else F s)
    rw [if_neg (by omega)]
    by_cases e : s = ns
    · rw [e, pk_us, h3]
    · rw [pk_un e]
      exact h5 s (by omega)
  · intro k hk
    show (if k = n then ns else T k) < ns + 1 ∧ (if (if k = n then ns else T k) = ns + 1 then n + 1 else F (if k = n then ns else T k)) ≤ k ∧ k < (if (if k = n then ns else T k) + 1 = ns + 1 then n + 1 else F ((if k = n then ns else T k) + 1)) ∧ upd sb n (nI ns) k = nI (if k = n then ns else T k)
    by_cases e : k = n
    · rw [if_pos e, if_neg (by omega), if_pos rfl, e, pk_us, h3]
      exact ⟨by omega, by omega, by omega, rfl⟩
    · rw [if_neg e]
      obtain ⟨a, b, c, d⟩ := h6 k (by omega)
      rw [if_neg (by omega : ¬ T k = ns + 1), if_neg (by omega : ¬ T k + 1 = ns + 1), pk_un e]
      exact ⟨by omega, b, c, d⟩
theorem gp_path_line (p : gp_path n ns F T fp sb) (hn : n < 16) (h0 : 0 < ns) : gp_path (n + 1) ns (fun s => if s = ns then n + 1 else F s) (fun k => if k = n then ns - 1 else T k) fp (upd sb n (nI (ns - 1))) := by
  obtain ⟨h1, h2, h3, h4, h5, h6⟩ := p
  have h7 := gp_mono2 h4 (s := ns - 1) (t := ns) (by omega) (by omega)
  refine ⟨by omega, ?_, if_pos rfl, ?_, ?_, ?_⟩
  · show (if 0 = ns then n + 1 else F 0) = 0
    rw [if_neg (by omega), h2]
  · intro s hs
    show (if s = ns then n + 1 else F s) < (if s + 1 = ns then n + 1 else F (s + 1))
    rw [if_neg (by omega)]
    have := h4 s hs
    by_cases e : s + 1 = ns
    · rw [if_pos e]
      rw [e] at this
      omega
    · rw [if_neg e]
      exact this
  · intro s hs
    show fp s = nI (if s = ns then n + 1 else F s)
    rw [if_neg (by omega)]
    exact h5 s hs
  · intro k hk
    show (if k = n then ns - 1 else T k) < ns ∧ (if (if k = n then ns - 1 else T k) = ns then n + 1 else F (if k = n then ns - 1 else T k)) ≤ k ∧ k < (if (if k = n then ns - 1 else T k) + 1 = ns then n + 1 else F ((if k = n then ns - 1 else T k) + 1)) ∧ upd sb n (nI (ns - 1)) k = nI (if k = n then ns - 1 else T k)
    by_cases e : k = n
    · rw [if_pos e, if_neg (by omega), if_pos (by omega : ns - 1 + 1 = ns), e, pk_us]
      exact ⟨by omega, by omega, by omega, rfl⟩
    · rw [if_neg e]
      obtain ⟨a, b, c, d⟩ := h6 k (by omega)
      rw [if_neg (by omega : ¬ T k = ns), pk_un e]
      refine ⟨a, b, ?_, d⟩
      by_cases e2 : T k + 1 = ns
      · rw [if_pos e2]
        omega
      · rw [if_neg e2]
        exact c
theorem gp_path_0 : gp_path 0 0 (fun _ => 0) T fp sb :=
  ⟨by omega, rfl, rfl, fun s hs => absurd hs (by omega), fun s hs => absurd hs (by omega), fun s hs => absurd hs (by omega)⟩
end
/-! C: what a row of numbers sums to, how many are not 0 -/
def gp_W (g : Nat → Int32) : Nat → Int32
  | 0 => 0
  | k + 1 => gp_W g k + g k
def gp_P (g : Nat → Int32) : Nat → Bool
  | 0 => false
  | k + 1 => (gp_P g k ^^ decide (¬ g k = 0))
def gp_C (g : Nat → Int32) : Nat → Nat
  | 0 => 0
  | k + 1 => gp_C g k + (if g k = 0 then 0 else 1)
theorem gp_W_s {g : Nat → Int32} {k : Nat} : gp_W g (k + 1) = gp_W g k + g k := rfl
theorem gp_P_s {g : Nat → Int32} {k : Nat} : gp_P g (k + 1) = (gp_P g k ^^ decide (¬ g k = 0)) := rfl
theorem gp_C_s {g : Nat → Int32} {k : Nat} : gp_C g (k + 1) = gp_C g k + (if g k = 0 then 0 else 1) := rfl
theorem gp_C_le (g : Nat → Int32) : ∀ k, gp_C g k ≤ k := by
  intro k
  induction k with
  | zero => exact Nat.le_refl 0
  | succ k ih =>
    rw [gp_C_s]
    split <;> omega
theorem gp_PC (g : Nat → Int32) : ∀ k, gp_P g k = decide (gp_C g k % 2 = 1) := by
  intro k
  induction k with
  | zero => rfl
  | succ k ih =>
    rw [gp_P_s, gp_C_s, ih]
    by_cases h : g k = 0
    · rw [if_pos h, decide_eq_false (p := ¬ g k = 0) (fun z => z h), Bool.xor_false, Nat.add_zero]
    · rw [if_neg h, decide_eq_true (p := ¬ g k = 0) h, Bool.xor_true]
      by_cases e : gp_C g k % 2 = 1
      · rw [decide_eq_true e, decide_eq_false (by omega)]
        rfl
      · rw [decide_eq_false e, decide_eq_true (by omega)]
        rfl
/-- what the segment from point k to point l counts for the centre of pixel (i, j) -/
def gp_ct (px py : Nat → Int32) (k l i j : Nat) : Int32 :=
  if (py k).toInt ≤ 2 * (j : Int) + 1 ∧ 2 * (j : Int) + 1 < (py l).toInt then
    (if (2 * (i : Int) + 1 - (px k).toInt) * ((py l).toInt - (py k).toInt) < (2 * (j : Int) + 1 - (py k).toInt) * ((px l).toInt - (px k).toInt) then 1 else 0)
  else if (py l).toInt ≤ 2 * (j : Int) + 1 ∧ 2 * (j : Int) + 1 < (py k).toInt then
    (if (2 * (j : Int) + 1 - (py k).toInt) * ((px l).toInt - (px k).toInt) < (2 * (i : Int) + 1 - (px k).toInt) * ((py l).toInt - (py k).toInt) then -1 else 0)
  else 0
def gp_g (px py : Nat → Int32) (N : Nat → Nat) (i j : Nat) : Nat → Int32 := fun k => gp_ct px py k (N k) i j
/-- whether pixel (i, j) is inside by a rule -/
def gp_in (px py : Nat → Int32) (N : Nat → Nat) (n : Nat) (rl : Int32) (i j : Nat) : Bool :=
  if rl = 0 then decide (¬ gp_W (gp_g px py N i j) n = 0) else gp_P (gp_g px py N i j) n
def gp_bd (px : Nat → Int32) : Prop := ∀ k, -2000 ≤ (px k).toInt ∧ (px k).toInt ≤ 2000
end GP3
end
section
section GP4
/-! D: longs by their values, within bounds -/
theorem gp_mb {x y A B : Int} (h1 : -A ≤ x) (h2 : x ≤ A) (h3 : -B ≤ y) (h4 : y ≤ B) : -(A * B) ≤ x * y ∧ x * y ≤ A * B := by
  have a := Int.mul_nonneg (a := A - x) (b := B - y) (by omega) (by omega)
  have b := Int.mul_nonneg (a := A + x) (b := B + y) (by omega) (by omega)
  have c := Int.mul_nonneg (a := A - x) (b := B + y) (by omega) (by omega)
  have d := Int.mul_nonneg (a := A + x) (b := B - y) (by omega) (by omega)
  simp only [Int.sub_mul, Int.mul_sub, Int.add_mul, Int.mul_add] at a b c d
  omega
def gp_V (a : Int64) (z B : Int) : Prop := a.toInt = z ∧ -B ≤ z ∧ z ≤ B
theorem gp_V_mul {a b : Int64} {x y A B : Int} (ha : gp_V a x A) (hb : gp_V b y B) (h : A * B < 9223372036854775808) : gp_V (a * b) (x * y) (A * B) := by
  obtain ⟨h1, h2, h3⟩ := ha
  obtain ⟨h4, h5, h6⟩ := hb
  have hm := gp_mb h2 h3 h5 h6
  refine ⟨?_, hm.1, hm.2⟩
  rw [Int64.toInt_mul, h1, h4]
  exact Int.bmod_eq_of_le (by omega) (by omega)
theorem gp_V_add {a b : Int64} {x y A B : Int} (ha : gp_V a x A) (hb : gp_V b y B) (h : A + B < 9223372036854775808) : gp_V (a + b) (x + y) (A + B) := by
  obtain ⟨h1, h2, h3⟩ := ha
  obtain ⟨h4, h5, h6⟩ := hb
  refine ⟨?_, by omega, by omega⟩
  rw [Int64.toInt_add, h1, h4]
  exact Int.bmod_eq_of_le (by omega) (by omega)
theorem gp_V_sub {a b : Int64} {x y A B : Int} (ha : gp_V a x A) (hb : gp_V b y B) (h : A + B < 9223372036854775808) : gp_V (a - b) (x - y) (A + B) := by
  obtain ⟨h1, h2, h3⟩ := ha
  obtain ⟨h4, h5, h6⟩ := hb
  refine ⟨?_, by omega, by omega⟩
  rw [Int64.toInt_sub, h1, h4]
  exact Int.bmod_eq_of_le (by omega) (by omega)
theorem gp_V_neg {a : Int64} {x A : Int} (ha : gp_V a x A) (h : A < 9223372036854775808) : gp_V (-a) (-x) A := by
  obtain ⟨h1, h2, h3⟩ := ha
  refine ⟨?_, by omega, by omega⟩
  rw [Int64.toInt_neg, h1]
  exact Int.bmod_eq_of_le (by omega) (by omega)
theorem gp_V_32 {x : Int32} {z A : Int} (h : x.toInt = z) (h1 : -A ≤ z) (h2 : z ≤ A) : gp_V x.toInt64 z A := ⟨(Int32.toInt_toInt64 x).trans h, h1, h2⟩
theorem gp_sub32 {x y : Int32} (h1 : -100000 ≤ x.toInt ∧ x.toInt ≤ 100000) (h2 : -100000 ≤ y.toInt ∧ y.toInt ≤ 100000) : (x - y).toInt = x.toInt - y.toInt := by
  rw [Int32.toInt_sub]
  exact Int.bmod_eq_of_le (by omega) (by omega)
theorem gp_add32 {x y : Int32} (h1 : -100000 ≤ x.toInt ∧ x.toInt ≤ 100000) (h2 : -100000 ≤ y.toInt ∧ y.toInt ≤ 100000) : (x + y).toInt = x.toInt + y.toInt := by
  rw [Int32.toInt_add]
  exact Int.bmod_eq_of_le (by omega) (by omega)
theorem gp_V_s {x y : Int32} {a b A B : Int} (ea : x.toInt = a) (eb : y.toInt = b) (h1 : -A ≤ a ∧ a ≤ A) (h2 : -B ≤ b ∧ b ≤ B) (h : A ≤ 100000) (h' : B ≤ 100000) : gp_V (x - y).toInt64 (a - b) (A + B) :=
  gp_V_32 (by rw [gp_sub32 (by omega) (by omega), ea, eb]) (by omega) (by omega)
theorem gp_V_lt {a b : Int64} {x y A B : Int} (ha : gp_V a x A) (hb : gp_V b y B) : a < b ↔ x < y := by
  rw [Int64.lt_iff_toInt_lt, ha.1, hb.1]
theorem gp_V_le {a b : Int64} {x y A B : Int} (ha : gp_V a x A) (hb : gp_V b y B) : a ≤ b ↔ x ≤ y := by
  rw [Int64.le_iff_toInt_le, ha.1, hb.1]
theorem gp_V_0 : gp_V 0 0 0 := ⟨by decide, by decide, by decide⟩
theorem gp_V_2 : gp_V 2 2 2 := ⟨by decide, by decide, by decide⟩
theorem gp_V_16 : gp_V 16 16 16 := ⟨by decide, by decide, by decide⟩
theorem gp_V_w {a : Int64} {z B C : Int} (h : gp_V a z B) (hc : B ≤ C) : gp_V a z C := ⟨h.1, by have := h.2; omega, by have := h.2; omega⟩
/-! E: the quotient towards minus infinity -/
theorem gp_fl (a b : Int) (hb : 0 < b) : (0 ≤ a → a.tdiv b * b ≤ a ∧ a < (a.tdiv b + 1) * b ∧ 0 ≤ a.tdiv b ∧ a.tdiv b ≤ a) ∧ (a < 0 → a ≤ a.tdiv b * b ∧ (a.tdiv b - 1) * b < a ∧ a.tdiv b ≤ 0 ∧ a ≤ a.tdiv b) := by
  have key : ∀ c : Int, 0 ≤ c → c.tdiv b * b ≤ c ∧ c < (c.tdiv b + 1) * b ∧ 0 ≤ c.tdiv b ∧ c.tdiv b ≤ c := by
    intro c hc
    rw [Int.tdiv_eq_ediv_of_nonneg hc]
    exact ⟨Int.ediv_mul_le c (by omega), Int.lt_ediv_add_one_mul_self c hb, Int.ediv_nonneg hc (by omega), Int.ediv_le_self b hc⟩
  refine ⟨key a, fun h => ?_⟩
  obtain ⟨k1, k2, k3, k4⟩ := key (-a) (by omega)
  rw [Int.neg_tdiv] at k1 k2 k3 k4
  generalize a.tdiv b = t at k1 k2 k3 k4 ⊢
  simp only [Int.sub_mul, Int.add_mul, Int.neg_mul, Int.one_mul] at k1 k2 ⊢
  omega
theorem gp_lft {D top q : Int} (hD : 0 < D) (h1 : q * (2 * D) ≤ D - top) (h2 : D - top < (q + 1) * (2 * D)) (i : Int) : i < -q ↔ (2 * i + 1) * D < top := by
  have e1 : (2 * i + 1) * D = 2 * (i * D) + D := by grind
  have e2 : -i * (2 * D) = -(2 * (i * D)) := by grind
  rw [e1]
  constructor
  · intro h
    have := Int.mul_le_mul_of_nonneg_right (a := q + 1) (b := -i) (c := 2 * D) (by omega) (by omega)
    omega
  · intro h
    apply Int.not_le.mp
    intro h'
    have := Int.mul_le_mul_of_nonneg_right (a := -i) (b := q) (c := 2 * D) (by omega) (by omega)
    omega
/-! F: nearness to a segment -/
def gp_nr (dx dy px py w : Int) : Bool :=
  if 0 < dx * px + dy * py then
    (if dx * px + dy * py < dx * dx + dy * dy then decide (¬ w * w * (dx * dx + dy * dy) < (dx * py - dy * px) * (dx * py - dy * px))
    else decide (¬ w * w < (px - dx) * (px - dx) + (py - dy) * (py - dy)))
  else decide (¬ w * w < px * px + py * py)
theorem gp_sqn (x : Int) : 0 ≤ x * x := by
  rcases Int.le_total 0 x with h | h
  · exact Int.mul_nonneg h h
  · exact Int.mul_nonneg_of_nonpos_of_nonpos h h
theorem gp_sq {x w : Int} (hw : 0 ≤ w) (h : x * x ≤ w * w) : -w ≤ x ∧ x ≤ w := by
  constructor
  · apply Int.not_lt.mp
    intro z
    have := Int.mul_lt_mul' (a := w) (b := w) (c := -x) (d := -x) (by omega) (by omega) hw (by omega)
    rw [Int.neg_mul_neg] at this
    omega
  · apply Int.not_lt.mp
    intro z
    have := Int.mul_lt_mul' (a := w) (b := w) (c := x) (d := x) (by omega) (by omega) hw (by omega)
    omega
theorem gp_cancel {a b W : Int} (hW : 0 < W) (h : a * W ≤ b * W) : a ≤ b := Int.le_of_mul_le_mul_right h hW
/-- one coordinate, the foot of the perpendicular within the segment -/
theorem gp_side {d p A W w s : Int} (hw : 0 ≤ w) (hA : 0 < A) (hAW : A < W) (e : p * W = A * d - s) (hs : s * s ≤ (w * W) * (w * W)) : (-w ≤ p ∨ d - w ≤ p) ∧ (p ≤ w ∨ p ≤ d + w) := by
  have hwW : 0 ≤ w * W := Int.mul_nonneg hw (by omega)
  obtain ⟨s1, s2⟩ := gp_sq hwW hs
  rcases Int.le_total 0 d with hd | hd
  · have a1 : 0 ≤ A * d := Int.mul_nonneg (by omega) hd
    have a2 : A * d ≤ W * d := Int.mul_le_mul_of_nonneg_right (by omega) hd
    refine ⟨Or.inl (gp_cancel (W := W) (by omega) ?_), Or.inr (gp_cancel (W := W) (by omega) ?_)⟩
    · rw [Int.neg_mul]
      omega
    · rw [Int.add_mul, Int.mul_comm d W]
      omega
  · have a1 : A * d ≤ 0 := Int.mul_nonpos_of_nonneg_of_nonpos (by omega) hd
    have a2 : W * d ≤ A * d := Int.mul_le_mul_of_nonpos_right (by omega) hd
    refine ⟨Or.inr (gp_cancel (W := W) (by omega) ?_), Or.inl (gp_cancel (W := W) (by omega) ?_)⟩
    · rw [Int.sub_mul, Int.mul_comm d W]
      omega
    · omega
theorem gp_sqm {s d w W V : Int} (hV : 0 ≤ V) (hs : s * s ≤ w * w * W) (hd : d * d + V = W) : (s * d) * (s * d) ≤ (w * W) * (w * W) := by
  have hD := gp_sqn d
  have h1 : (s * s) * (d * d) ≤ (w * w * W) * (d * d) := Int.mul_le_mul_of_nonneg_right hs hD
  have h2 : (w * w * W) * (d * d) ≤ (w * w * W) * W := Int.mul_le_mul_of_nonneg_left (by omega) (Int.le_trans (gp_sqn s) hs)
  have e1 : (s * d) * (s * d) = (s * s) * (d * d) := by grind
  have e2 : (w * W) * (w * W) = (w * w * W) * W := by grind
  rw [e1, e2]
  exact Int.le_trans h1 h2
theorem gp_box {dx dy px py w : Int} (hw : 0 ≤ w) (h : gp_nr dx dy px py w = true) : ((-w ≤ px ∨ dx - w ≤ px) ∧ (px ≤ w ∨ px ≤ dx + w)) ∧ ((-w ≤ py ∨ dy - w ≤ py) ∧ (py ≤ w ∨ py ≤ dy + w)) := by
  unfold gp_nr at h
  by_cases h0 : 0 < dx * px + dy * py
  · rw [if_pos h0] at h
    by_cases h1 : dx * px + dy * py < dx * dx + dy * dy
    · rw [if_pos h1, decide_eq_true_eq] at h
      have hs := Int.not_lt.mp h
      have q1 := gp_sqn dx
      have q2 := gp_sqn dy
      have m1 := gp_sqm (s := dx * py - dy * px) (d := dy) (w := w) (W := dx * dx + dy * dy) (V := dx * dx) q1 hs (by omega)
      have m2 := gp_sqm (s := dx * py - dy * px) (d := -dx) (w := w) (W := dx * dx + dy * dy) (V := dy * dy) q2 hs (by rw [Int.neg_mul_neg])
      exact ⟨gp_side hw h0 h1 (by grind) m1, gp_side hw h0 h1 (by grind) m2⟩
    · rw [if_neg h1, decide_eq_true_eq] at h
      have hs := Int.not_lt.mp h
      have q1 := gp_sqn (px - dx)
      have q2 := gp_sqn (py - dy)
      have a := gp_sq (x := px - dx) hw (by omega)
      have b := gp_sq (x := py - dy) hw (by omega)
      omega
  · rw [if_neg h0, decide_eq_true_eq] at h
    have hs := Int.not_lt.mp h
    have q1 := gp_sqn px
    have q2 := gp_sqn py
    have a := gp_sq (x := px) hw (by omega)
    have b := gp_sq (x := py) hw (by omega)
    omega
def gp_near (px py : Nat → Int32) (k l i j w : Nat) : Bool :=
  gp_nr ((px l).toInt - (px k).toInt) ((py l).toInt - (py k).toInt) (2 * (i : Int) + 1 - (px k).toInt) (2 * (j : Int) + 1 - (py k).toInt) w
end GP4
end
section
section GP5
variable {pn co mo sv pt sp xr : Int32} {pg bf ma fr kr sm sc so sk px py fp cl wi fo kc kk sb ch : Nat → Int32}
/-! G: the relation -/
/-- rows of sixteen bits against cells -/
def gp_cb (ro ce : Nat → Int32) (M : Nat) : Prop := ∀ j, j < M → (∀ i, 16 ≤ i → bt (ro j) i = false) ∧ (∀ i, i < 16 → ce (16 * j + i) = gp_b (bt (ro j) i))
def gp_mo (x : Int32) : Prop := x = 0 ∨ x = 1 ∨ x = 2
def gp_R (mo sv pt sp : Int32) (kr so sk px py fp kc kk sb : Nat → Int32) : Prop :=
  gp_mo mo ∧ (∀ q, gp_mo (so q)) ∧ (∃ s : Nat, s ≤ 4 ∧ sv = nI s) ∧ gp_cb kr kc 16 ∧ gp_cb sk kk 64 ∧ gp_bd px ∧ gp_bd py ∧ ∃ (n ns : Nat) (F T : Nat → Nat), pt = nI n ∧ sp = nI ns ∧ gp_path n ns F T fp sb
def i_Rel (_ : Nat) (u : SX) (v : SY) : Prop := match u with
  | (pn, co, mo, sv, pt, sp, xr, pg, bf, ma, fr, kr, sm, sc, so, sk, px, py, fp, cl, wi, fo) => match v with
    | (co', mo', sv', pt', sp', pn', ma', kc, sm', sc', so', kk, px', py', sb, cl', pg', bf', _) =>
      (co' = co ∧ mo' = mo ∧ sv' = sv ∧ pt' = pt ∧ sp' = sp ∧ pn' = pn ∧ ma' = ma ∧ sm' = sm ∧ sc' = sc ∧ so' = so ∧ px' = px ∧ py' = py ∧ cl' = cl ∧ pg' = pg ∧ bf' = bf) ∧ gp_R mo sv pt sp kr so sk px py fp kc kk sb
theorem i_up {k : Nat} {u : SX} {v : SY} (h : i_Rel k u v) : i_Rel (k + 4) u v := h
theorem gp_mk {k : Nat} (h : gp_R mo sv pt sp kr so sk px py fp kc kk sb) : i_Rel k (pn, co, mo, sv, pt, sp, xr, pg, bf, ma, fr, kr, sm, sc, so, sk, px, py, fp, cl, wi, fo) (co, mo, sv, pt, sp, pn, ma, kc, sm, sc, so, kk, px, py, sb, cl, pg, bf, ch) :=
  And.intro ⟨rfl, rfl, rfl, rfl, rfl, rfl, rfl, rfl, rfl, rfl, rfl, rfl, rfl, rfl, rfl⟩ h
theorem gp_el {k : Nat} {u : SX} {v : SY} {P : SX → SY → Prop} (h : ∀ (pn co mo sv pt sp xr : Int32) (pg bf ma fr kr sm sc so sk px py fp cl wi fo kc kk sb ch : Nat → Int32), gp_R mo sv pt sp kr so sk px py fp kc kk sb → P (pn, co, mo, sv, pt, sp, xr, pg, bf, ma, fr, kr, sm, sc, so, sk, px, py, fp, cl, wi, fo) (co, mo, sv, pt, sp, pn, ma, kc, sm, sc, so, kk, px, py, sb, cl, pg, bf, ch)) (I : i_Rel k u v) : P u v := by
  obtain ⟨pn, co, mo, sv, pt, sp, xr, pg, bf, ma, fr, kr, sm, sc, so, sk, px, py, fp, cl, wi, fo⟩ := u
  obtain ⟨co', mo', sv', pt', sp', pn', ma', kc, sm', sc', so', kk, px', py', sb, cl', pg', bf', ch⟩ := v
  obtain ⟨⟨e1, e2, e3, e4, e5, e6, e7, e8, e9, e10, e11, e12, e13, e14, e15⟩, hR⟩ := I
  subst e1 e2 e3 e4 e5 e6 e7 e8 e9 e10 e11 e12 e13 e14 e15
  exact h _ _ _ _ _ _ _ _ _ _ _ _ _ _ _ _ _ _ _ _ _ _ _ _ _ ch hR
end GP5
end
section
section GP6
variable {pn co mo sv pt sp xr : Int32} {pg bf ma fr kr sm sc so sk px py fp cl wi fo kc kk sb ch : Nat → Int32}
variable {n ns : Nat} {F T : Nat → Nat}
/-! H: the component: where a segment crosses a row -/
theorem gp_floorOf {post : Int64 → Prop} {a b : Int64} (hb : 0 < b.toInt) (hb2 : b.toInt ≤ 1099511627776) (ha : -1099511627776 ≤ a.toInt) (ha2 : a.toInt ≤ 1099511627776)
    (K : ∀ q : Int64, q.toInt * b.toInt ≤ a.toInt → a.toInt < (q.toInt + 1) * b.toInt → -1099511627777 ≤ q.toInt → q.toInt ≤ 1099511627777 → post q) : wpX_floorOf post a b := by
  have hb0 : ¬ b = 0 := by
    intro e
    rw [e] at hb
    exact absurd hb (by decide)
  have hbm : b ≠ -1 := by
    intro e
    rw [e] at hb
    exact absurd hb (by decide)
  have ht : (a / b).toInt = a.toInt.tdiv b.toInt := Int64.toInt_div_of_ne_right a b hbm
  obtain ⟨f1, f2⟩ := gp_fl a.toInt b.toInt hb
  rw [← ht] at f1 f2
  have hm : (a / b * b).toInt = (a / b).toInt * b.toInt := by
    rw [Int64.toInt_mul]
    by_cases h0 : 0 ≤ a.toInt
    · obtain ⟨g1, g2, g3, g4⟩ := f1 h0
      have := Int.mul_nonneg g3 (Int.le_of_lt hb)
      exact Int.bmod_eq_of_le (by omega) (by omega)
    · obtain ⟨g1, g2, g3, g4⟩ := f2 (by omega)
      have := Int.mul_nonpos_of_nonpos_of_nonneg g3 (Int.le_of_lt hb)
      exact Int.bmod_eq_of_le (by omega) (by omega)
  have hr : (a - a / b * b).toInt = a.toInt - (a / b).toInt * b.toInt := by
    rw [Int64.toInt_sub, hm]
    by_cases h0 : 0 ≤ a.toInt
    · obtain ⟨g1, g2, g3, g4⟩ := f1 h0
      have := Int.mul_nonneg g3 (Int.le_of_lt hb)
      exact Int.bmod_eq_of_le (by omega) (by omega)
    · obtain ⟨g1, g2, g3, g4⟩ := f2 (by omega)
      have := Int.mul_nonpos_of_nonpos_of_nonneg g3 (Int.le_of_lt hb)
      exact Int.bmod_eq_of_le (by omega) (by omega)
  have h00 : (0 : Int64).toInt = 0 := by decide
  have ez : ∀ z : Int64, z = 0 ↔ z.toInt = 0 := fun z => by rw [← h00]; exact Int64.toInt_inj.symm
  refine And.intro hb0 (nm_e (And.intro hb0 ?_))
  by_cases h0 : 0 ≤ a.toInt
  · obtain ⟨g1, g2, g3, g4⟩ := f1 h0
    have c : post (a / b) := K _ g1 g2 (by omega) (by omega)
    exact br_c (fun _ => c) (fun _ => br_t (by rw [Int64.le_iff_toInt_le, h00]; exact h0) c)
  · obtain ⟨g1, g2, g3, g4⟩ := f2 (by omega)
    refine br_c (fun z => ?_) (fun z => br_f (by rw [Int64.le_iff_toInt_le, h00]; exact h0) ?_)
    · rw [ez, hr] at z
      refine K _ (by omega) ?_ (by omega) (by omega)
      rw [Int.add_mul]
      omega
    · rw [ez, hr] at z
      have e1 : (a / b - 1).toInt = (a / b).toInt - 1 := by
        rw [Int64.toInt_sub, show (1 : Int64).toInt = 1 by decide]
        exact Int.bmod_eq_of_le (by omega) (by omega)
      refine K _ ?_ ?_ (by omega) (by omega)
      · rw [e1]
        exact Int.le_of_lt g2
      · rw [e1, Int.sub_add_cancel]
        omega
theorem gp_x85 {post : Int32 → Prop} {D top : Int64} {d t : Int} (hD : gp_V D d 4000) (ht : gp_V top t 17000000) (h0 : 0 < d)
    (K : ∀ L : Nat, L ≤ 16 → (∀ i : Nat, i < 16 → (i < L ↔ (2 * (i : Int) + 1) * d < t)) → post (nI L)) : wX_leftOf_85 post D top pn co mo sv pt sp xr pg bf ma fr kr sm sc so sk px py fp cl wi fo := by
  have v1 := gp_V_sub hD ht (by decide)
  have v2 := gp_V_mul gp_V_2 hD (by decide)
  have h00 : (0 : Int64).toInt = 0 := by decide
  have hz : ¬ D = 0 := by
    intro e
    have := hD.1
    rw [e, h00] at this
    omega
  refine br_f hz (gp_floorOf (by rw [v2.1]; omega) (by rw [v2.1]; have := hD.2; omega) (by rw [v1.1]; have := v1.2; omega) (by rw [v1.1]; have := v1.2; omega) (fun q h1 h2 h3 h4 => nm_e ?_))
  rw [v1.1, v2.1] at h1 h2
  have hl := gp_lft h0 h1 h2
  have vn : (-q).toInt = -q.toInt := by
    rw [Int64.toInt_neg]
    exact Int.bmod_eq_of_le (by omega) (by omega)
  have h16 : (16 : Int64).toInt = 16 := by decide
  refine br_c (fun a => br_c (fun b => ?_) (fun b => ?_)) (fun a => ?_)
  · rw [Int64.le_iff_toInt_le, vn, h00] at a
    rw [Int64.le_iff_toInt_le, vn, h16] at b
    have e : (-q).toInt32 = nI (-q.toInt).toNat := by
      apply Int32.toInt_inj.mp
      rw [Int64.toInt_toInt32, vn, nI_toInt (by omega), Int.toNat_of_nonneg a]
      exact Int.bmod_eq_of_le (by omega) (by omega)
    rw [e]
    refine K _ (by omega) (fun i _ => ?_)
    rw [← hl]
    omega
  · rw [Int64.le_iff_toInt_le, vn, h16] at b
    refine K 16 (by omega) (fun i _ => ?_)
    rw [← hl]
    omega
  · rw [Int64.le_iff_toInt_le, vn, h00] at a
    refine K 0 (by omega) (fun i _ => ?_)
    rw [← hl]
    omega
theorem gp_2j (j : Nat) : 2 * nI j + 1 = nI (2 * j + 1) := by
  rw [show (2 : Int32) = nI 2 from rfl, pk_mul, nI_1]
theorem gp_leftOf {post : Int32 → Prop} {k l j : Nat} (hk : k < 16) (hl : l < 16) (hj : j < 16) (bX : gp_bd px) (bY : gp_bd py) (hne : (py k).toInt ≠ (py l).toInt)
    (K : ∀ L : Nat, L ≤ 16 → (∀ i : Nat, i < 16 → (i < L ↔ (if (py k).toInt < (py l).toInt then (2 * (i : Int) + 1 - (px k).toInt) * ((py l).toInt - (py k).toInt) < (2 * (j : Int) + 1 - (py k).toInt) * ((px l).toInt - (px k).toInt)
      else (2 * (j : Int) + 1 - (py k).toInt) * ((px l).toInt - (px k).toInt) < (2 * (i : Int) + 1 - (px k).toInt) * ((py l).toInt - (py k).toInt)))) → post (nI L)) :
    wpX_leftOf post (pn, co, mo, sv, pt, sp, xr, pg, bf, ma, fr, kr, sm, sc, so, sk, px, py, fp, cl, wi, fo) (nI k) (nI l) (nI (2 * j + 1)) := by
  have ik : vp_in (nI k) 16 := vp_in_nI hk (by omega)
  have il : vp_in (nI l) 16 := vp_in_nI hl (by omega)
  have ej : (nI (2 * j + 1)).toInt = 2 * (j : Int) + 1 := by rw [nI_toInt (by omega)]; omega
  unfold wpX_leftOf
  dsimp only
  rw [nI_clamp (n := k) (by omega), nI_clamp (n := l) (by omega)]
  have vH : gp_V (py l - py k).toInt64 ((py l).toInt - (py k).toInt) 4000 := gp_V_s rfl rfl (bY l) (bY k) (by decide) (by decide)
  have vXk : gp_V (px k).toInt64 (px k).toInt 2000 := gp_V_32 rfl (bX k).1 (bX k).2
  have vX : gp_V (px l - px k).toInt64 ((px l).toInt - (px k).toInt) 4000 := gp_V_s rfl rfl (bX l) (bX k) (by decide) (by decide)
  have vY : gp_V (nI (2 * j + 1) - py k).toInt64 (2 * (j : Int) + 1 - (py k).toInt) 2031 := gp_V_s (A := 31) ej rfl (by omega) (bY k) (by decide) (by decide)
  have vA := gp_V_w (C := 17000000) (gp_V_add (gp_V_mul vXk vH (by decide)) (gp_V_mul vX vY (by decide)) (by decide)) (by decide)
  generalize (py l - py k).toInt64 = H at *
  refine And.intro il (And.intro ik (nm_e (And.intro ik (And.intro il (And.intro ik (And.intro ik (nm_e ?_)))))))
  generalize (px k).toInt64 * H + (px l - px k).toInt64 * (nI (2 * j + 1) - py k).toInt64 = A at *
  have h0 : (0 : Int64) ≤ H ↔ 0 ≤ (py l).toInt - (py k).toInt := gp_V_le gp_V_0 vH
  generalize (px k).toInt = xk at *
  generalize (px l).toInt = xl at *
  generalize (py k).toInt = yk at *
  generalize (py l).toInt = yl at *
  by_cases hu : yk < yl
  · have c : (0 : Int64) ≤ H := h0.mpr (by omega)
    refine br_t c (br_t c (gp_x85 vH vA (by omega) (fun L hL hi => K L hL (fun i h => ?_))))
    rw [if_pos hu, hi i h]
    have e1 : (2 * (i : Int) + 1 - xk) * (yl - yk) = (2 * (i : Int) + 1) * (yl - yk) - xk * (yl - yk) := by grind
    have e2 : (xl - xk) * (2 * (j : Int) + 1 - yk) = (2 * (j : Int) + 1 - yk) * (xl - xk) := Int.mul_comm _ _
    rw [e1, e2]
    omega
  · have c : ¬ (0 : Int64) ≤ H := fun z => hu (by have := h0.mp z; omega)
    refine br_f c (br_f c (gp_x85 (gp_V_neg vH (by decide)) (gp_V_neg vA (by decide)) (by omega) (fun L hL hi => K L hL (fun i h => ?_))))
    rw [if_neg hu, hi i h]
    have e1 : (2 * (i : Int) + 1 - xk) * (yl - yk) = (2 * (i : Int) + 1) * (yl - yk) - xk * (yl - yk) := by grind
    have e2 : (xl - xk) * (2 * (j : Int) + 1 - yk) = (2 * (j : Int) + 1 - yk) * (xl - xk) := Int.mul_comm _ _
    have e3 : (2 * (i : Int) + 1) * -(yl - yk) = -((2 * (i : Int) + 1) * (yl - yk)) := by grind
    rw [e1, e2, e3]
    omega
theorem gp_x76 {post : SX → Prop} {x4 : Int32} {L : Nat} {w0 : Nat → Int32} (hL : L ≤ 16)
    (K : ∀ wi : Nat → Int32, (∀ q, wi q = if q < L then w0 q + (if x4 = 0 then -1 else 1) else w0 q) → post (pn, co, mo, sv, pt, sp, xr ^^^ (((1 : Int32) <<< (nI L &&& 31)) - 1), pg, bf, ma, fr, kr, sm, sc, so, sk, px, py, fp, cl, wi, fo)) :
    ∀ (d i : Nat) (wi : Nat → Int32), i + d = L → (∀ q, wi q = if q < i then w0 q + (if x4 = 0 then -1 else 1) else w0 q) → wX_cross_76 post x4 (nI L) pn co mo sv pt sp xr (d + 1) (nI i) pg bf ma fr kr sm sc so sk px py fp cl wi fo := by
  intro d
  induction d with
  | zero =>
    intro i wi hi hw
    have e : i = L := by omega
    subst e
    exact pk_le i i (fun _ => nm_e (K wi hw)) (fun h => absurd h (by omega))
  | succ d ih =>
    intro i wi hi hw
    have hin : vp_in (nI i) 16 := vp_in_nI (by omega) (by omega)
    have ec : (nI i).toNatClampNeg = i := nI_clamp (by omega)
    refine pk_le L i (fun h => absurd h (by omega)) (fun _ => And.intro hin (br_c (fun h0 => And.intro hin ?_) (fun h0 => And.intro hin ?_)))
    · refine nm_r (e' := upd wi i (wi i + (-1))) (by rw [ec]) (nm_r (nI_1 i) (ih (i + 1) _ (by omega) (fun q => ?_)))
      rw [if_pos h0]
      by_cases e : q = i
      · rw [e, pk_us, hw i, if_neg (by omega), if_pos (by omega)]
      · rw [pk_un e, hw q, if_pos h0]
        by_cases h : q < i
        · rw [if_pos h, if_pos (by omega)]
        · rw [if_neg h, if_neg (by omega)]
    · refine nm_r (e' := upd wi i (wi i + 1)) (by rw [ec]) (nm_r (nI_1 i) (ih (i + 1) _ (by omega) (fun q => ?_)))
      rw [if_neg h0]
      by_cases e : q = i
      · rw [e, pk_us, hw i, if_neg (by omega), if_pos (by omega)]
      · rw [pk_un e, hw q, if_neg h0]
        by_cases h : q < i
        · rw [if_pos h, if_pos (by omega)]
        · rw [if_neg h, if_neg (by omega)]
theorem gp_crossK {post : SX → Prop} {k l j L : Nat} {δ : Int32} {w' : Nat → Int32} (hδ : ¬ δ = 0) (hL : L ≤ 16) (hc : ∀ i, i < 16 → gp_ct px py k l i j = if i < L then δ else 0)
    (hw : ∀ q, w' q = if q < L then wi q + δ else wi q)
    (K : ∀ (x' : Int32) (w' : Nat → Int32), (∀ i, i < 16 → w' i = wi i + gp_ct px py k l i j) → (∀ i, bt x' i = (bt xr i ^^ (decide (i < 16) && decide (¬ gp_ct px py k l i j = 0)))) → post (pn, co, mo, sv, pt, sp, x', pg, bf, ma, fr, kr, sm, sc, so, sk, px, py, fp, cl, w', fo)) :
    post (pn, co, mo, sv, pt, sp, xr ^^^ (((1 : Int32) <<< (nI L &&& 31)) - 1), pg, bf, ma, fr, kr, sm, sc, so, sk, px, py, fp, cl, w', fo) := by
  refine K _ _ (fun i hi => ?_) (fun i => ?_)
  · rw [hw, hc i hi]
    by_cases h : i < L
    · rw [if_pos h, if_pos h]
    · rw [if_neg h, if_neg h, gp_z]
  · rw [b_xor, gp_mask hL]
    by_cases hi : i < 16
    · rw [hc i hi, decide_eq_true hi, Bool.true_and]
      by_cases h : i < L
      · rw [if_pos h, decide_eq_true h, decide_eq_true hδ]
      · rw [if_neg h, decide_eq_false h, decide_eq_false (fun z => z rfl)]
    · rw [decide_eq_false hi, decide_eq_false (by omega : ¬ i < L), Bool.false_and]
theorem gp_cross {post : SX → Prop} {k l j : Nat} (hk : k < 16) (hl : l < 16) (hj : j < 16) (bX : gp_bd px) (bY : gp_bd py)
    (K : ∀ (x' : Int32) (w' : Nat → Int32), (∀ i, i < 16 → w' i = wi i + gp_ct px py k l i j) → (∀ i, bt x' i = (bt xr i ^^ (decide (i < 16) && decide (¬ gp_ct px py k l i j = 0)))) → post (pn, co, mo, sv, pt, sp, x', pg, bf, ma, fr, kr, sm, sc, so, sk, px, py, fp, cl, w', fo)) :
    wpX_cross post (pn, co, mo, sv, pt, sp, xr, pg, bf, ma, fr, kr, sm, sc, so, sk, px, py, fp, cl, wi, fo) (nI k) (nI l) (nI (2 * j + 1)) := by
  have ik : vp_in (nI k) 16 := vp_in_nI hk (by omega)
  have il : vp_in (nI l) 16 := vp_in_nI hl (by omega)
  have ej : (nI (2 * j + 1)).toInt = 2 * (j : Int) + 1 := by rw [nI_toInt (by omega)]; omega
  have eck : (nI k).toNatClampNeg = k := nI_clamp (by omega)
  have ecl : (nI l).toNatClampNeg = l := nI_clamp (by omega)
  have a1 : nI (2 * j + 1) < py (nI k).toNatClampNeg ↔ 2 * (j : Int) + 1 < (py k).toInt := by rw [eck, Int32.lt_iff_toInt_lt, ej]
  have a2 : nI (2 * j + 1) < py (nI l).toNatClampNeg ↔ 2 * (j : Int) + 1 < (py l).toInt := by rw [ecl, Int32.lt_iff_toInt_lt, ej]
  have a3 : py (nI k).toNatClampNeg ≤ nI (2 * j + 1) ↔ (py k).toInt ≤ 2 * (j : Int) + 1 := by rw [eck, Int32.le_iff_toInt_le, ej]
  have a4 : py (nI l).toNatClampNeg ≤ nI (2 * j + 1) ↔ (py l).toInt ≤ 2 * (j : Int) + 1 := by rw [ecl, Int32.le_iff_toInt_le, ej]
  by_cases hu : (py k).toInt ≤ 2 * (j : Int) + 1 ∧ 2 * (j : Int) + 1 < (py l).toInt
  · refine And.intro ik (br_f (mt a1.mp (by omega)) (And.intro il (br_f (mt a4.mp (by omega)) (And.intro il (br_t (a2.mpr hu.2) (br_f (by decide) ?_))))))
    refine gp_leftOf hk hl hj bX bY (by omega) (fun L hL hi => ⟨L + 1, gp_x76 (w0 := wi) hL (fun w' hw => gp_crossK (δ := 1) (by decide) hL (fun i h => ?_) (fun q => ?_) K) L 0 wi (by omega) (fun q => (if_neg (by omega)).symm)⟩)
    · unfold gp_ct
      rw [if_pos hu]
      have := hi i h
      rw [if_pos (by omega)] at this
      by_cases e : i < L
      · rw [if_pos e, if_pos (this.mp e)]
      · rw [if_neg e, if_neg (fun z => e (this.mpr z))]
    · rw [hw q, if_neg (c := (1 : Int32) = 0) (by decide)]
  · by_cases hd : (py l).toInt ≤ 2 * (j : Int) + 1 ∧ 2 * (j : Int) + 1 < (py k).toInt
    · refine And.intro ik (br_t (a1.mpr hd.2) (And.intro il (br_f (mt a2.mp (by omega)) (And.intro ik (br_f (mt a3.mp (by omega)) (br_t rfl (br_f (by decide) ?_)))))))
      refine gp_leftOf hk hl hj bX bY (by omega) (fun L hL hi => ⟨L + 1, gp_x76 (w0 := wi) hL (fun w' hw => gp_crossK (δ := -1) (by decide) hL (fun i h => ?_) (fun q => ?_) K) L 0 wi (by omega) (fun q => (if_neg (by omega)).symm)⟩)
      · unfold gp_ct
        rw [if_neg hu, if_pos hd]
        have := hi i h
        rw [if_neg (by omega)] at this
        by_cases e : i < L
        · rw [if_pos e, if_pos (this.mp e)]
        · rw [if_neg e, if_neg (fun z => e (this.mpr z))]
      · rw [hw q, if_pos (c := (0 : Int32) = 0) rfl]
    · have hz : ∀ i, gp_ct px py k l i j = 0 := fun i => by
        unfold gp_ct
        rw [if_neg hu, if_neg hd]
      have c : post (pn, co, mo, sv, pt, sp, xr, pg, bf, ma, fr, kr, sm, sc, so, sk, px, py, fp, cl, wi, fo) := K xr wi (fun i _ => by rw [hz i, gp_z]) (fun i => by rw [hz i, decide_eq_false (p := ¬ (0 : Int32) = 0) (fun z => z rfl), Bool.and_false, Bool.xor_false])
      by_cases h1 : 2 * (j : Int) + 1 < (py k).toInt
      · exact And.intro ik (br_t (a1.mpr h1) (And.intro il (br_t (a2.mpr (by omega)) (br_t rfl (br_t rfl c)))))
      · exact And.intro ik (br_f (mt a1.mp h1) (And.intro il (br_t (a4.mpr (by omega)) (And.intro il (br_f (mt a2.mp (by omega)) (And.intro ik (br_t (a3.mpr (by omega)) (br_t rfl (br_t rfl c)))))))))
end GP6
end
section
section GP7
variable {pn co mo sv pt sp xr : Int32} {pg bf ma fr kr sm sc so sk px py fp cl wi fo kc kk sb ch : Nat → Int32}
variable {n ns : Nat} {F T : Nat → Nat}
/-! I: the component: one row -/
def gp_CI (px py : Nat → Int32) (N : Nat → Nat) (j k : Nat) (xr : Int32) (wi : Nat → Int32) : Prop :=
  (∀ i, i < 16 → wi i = gp_W (gp_g px py N i j) k) ∧ (∀ i, bt xr i = (decide (i < 16) && gp_P (gp_g px py N i j) k))
theorem gp_CI_s {N : Nat → Nat} {j k : Nat} {x' : Int32} {w' : Nat → Int32} (h : gp_CI px py N j k xr wi) (hw : ∀ i, i < 16 → w' i = wi i + gp_ct px py k (N k) i j)
    (hx : ∀ i, bt x' i = (bt xr i ^^ (decide (i < 16) && decide (¬ gp_ct px py k (N k) i j = 0)))) : gp_CI px py N j (k + 1) x' w' := by
  refine ⟨fun i hi => ?_, fun i => ?_⟩
  · rw [hw i hi, h.1 i hi]
    rfl
  · rw [hx i, h.2 i, gp_P_s, ← Bool.and_xor_distrib_left]
    rfl
theorem gp_x78 {post : SX → Prop} {J28 J50 : Int32 → Int32 → Int32 → Int32 → Int32 → Int32 → Int32 → Int32 → (Nat → Int32) → (Nat → Int32) → (Nat → Int32) → (Nat → Int32) → (Nat → Int32) → (Nat → Int32) → (Nat → Int32) → (Nat → Int32) → (Nat → Int32) → (Nat → Int32) → (Nat → Int32) → (Nat → Int32) → (Nat → Int32) → (Nat → Int32) → (Nat → Int32) → Prop} {x2 x3 : Int32} {k l j : Nat} (hk : k < 16) (hl : l < 16) (hj : j < 16) (bX : gp_bd px) (bY : gp_bd py)
    (K : ∀ (x' : Int32) (w' : Nat → Int32), (∀ i, i < 16 → w' i = wi i + gp_ct px py k l i j) → (∀ i, bt x' i = (bt xr i ^^ (decide (i < 16) && decide (¬ gp_ct px py k l i j = 0)))) → J50 (nI (k + 1)) pn co mo sv pt sp x' pg bf ma fr kr sm sc so sk px py fp cl w' fo) :
    wX_crossRow_78 post J28 J50 (nI j) x2 x3 (nI k) (nI l) (nI k) pn co mo sv pt sp xr pg bf ma fr kr sm sc so sk px py fp cl wi fo := by
  unfold wX_crossRow_78
  rw [gp_2j]
  exact gp_cross hk hl hj bX bY (fun x' w' hw hx => nm_r (nI_1 k) (K x' w' hw hx))
theorem gp_x50 {post : SX → Prop} {J28 : Int32 → Int32 → Int32 → Int32 → Int32 → Int32 → Int32 → Int32 → (Nat → Int32) → (Nat → Int32) → (Nat → Int32) → (Nat → Int32) → (Nat → Int32) → (Nat → Int32) → (Nat → Int32) → (Nat → Int32) → (Nat → Int32) → (Nat → Int32) → (Nat → Int32) → (Nat → Int32) → (Nat → Int32) → (Nat → Int32) → (Nat → Int32) → Prop} {j s : Nat} (P : gp_path n ns F T fp sb) (hs : s < ns) (hj : j < 16) (bX : gp_bd px) (bY : gp_bd py)
    (K : ∀ (xr : Int32) (wi : Nat → Int32), gp_CI px py (gp_nx F T) j (F (s + 1)) xr wi → J28 (nI (s + 1)) pn co mo sv pt sp xr pg bf ma fr kr sm sc so sk px py fp cl wi fo) :
    ∀ (d k : Nat) (xr : Int32) (wi : Nat → Int32), k + d = F (s + 1) → F s ≤ k → gp_CI px py (gp_nx F T) j k xr wi → wX_crossRow_50 post J28 (nI j) (nI s) (nI (F (s + 1) - 1)) (d + 1) (nI k) pn co mo sv pt sp xr pg bf ma fr kr sm sc so sk px py fp cl wi fo := by
  have hF1 : F (s + 1) ≤ n := gp_Fle P hs
  have hns := gp_ns P
  have hFs : F s < F (s + 1) := P.2.2.2.1 s hs
  have hn16 : n ≤ 16 := P.1
  have hfp : fp (nI s).toNatClampNeg = nI (F s) := by rw [nI_clamp (by omega)]; exact P.2.2.2.2.1 s hs
  intro d
  induction d with
  | zero =>
    intro k xr wi hd hk hc
    have e : k = F (s + 1) := by omega
    subst e
    exact pk_lt (F (s + 1) - 1) (F (s + 1)) (fun _ => nm_r (nI_1 s) (K xr wi hc)) (fun h => absurd h (by omega))
  | succ d ih =>
    intro k xr wi hd hk hc
    obtain ⟨hkn, hT⟩ := gp_uniq P hs hk (by omega)
    have hnx : gp_nx F T k = if k + 1 < F (s + 1) then k + 1 else F s := by unfold gp_nx; rw [hT]
    refine pk_lt (F (s + 1) - 1) k (fun h => absurd h (by omega)) (fun _ => pk_le (F (s + 1) - 1) k (fun h => And.intro (vp_in_nI (by omega) (by omega)) ?_) (fun h => ?_))
    · rw [if_neg (by omega)] at hnx
      rw [hfp, ← hnx]
      exact gp_x78 (by omega) (by omega) hj bX bY (fun x' w' hw hx => ih (k + 1) x' w' (by omega) (by omega) (gp_CI_s hc hw hx))
    · rw [if_pos (by omega)] at hnx
      rw [nI_1, ← hnx]
      exact gp_x78 (by omega) (by omega) hj bX bY (fun x' w' hw hx => ih (k + 1) x' w' (by omega) (by omega) (gp_CI_s hc hw hx))
theorem gp_last {post : Int32 → Prop} {s : Nat} (P : gp_path n ns F T fp sb) (hs : s < ns) (K : post (nI (F (s + 1) - 1))) : wpX_lastPoint post (pn, co, mo, sv, nI n, nI ns, xr, pg, bf, ma, fr, kr, sm, sc, so, sk, px, py, fp, cl, wi, fo) (nI s) := by
  have hns := gp_ns P
  have hn16 : n ≤ 16 := P.1
  have hFs : F s < F (s + 1) := P.2.2.2.1 s hs
  refine pk_le ns (s + 1) (fun h => ?_) (fun h => ?_) (hy := nI_1 s)
  · have e : s + 1 = ns := by omega
    have e2 : F (s + 1) = n := by rw [e]; exact P.2.2.1
    rw [e2] at K hFs
    rw [show nI n - 1 = nI (n - 1) from pk_sub (a := n) (b := 1) (by omega)]
    exact K
  · rw [nI_1]
    refine And.intro (vp_in_nI (by omega) (by omega)) ?_
    rw [nI_clamp (by omega), P.2.2.2.2.1 (s + 1) h, show nI (F (s + 1)) - 1 = nI (F (s + 1) - 1) from pk_sub (a := F (s + 1)) (b := 1) (by omega)]
    exact K
theorem gp_x28 {post : SX → Prop} {j : Nat} (P : gp_path n ns F T fp sb) (hj : j < 16) (bX : gp_bd px) (bY : gp_bd py)
    (K : ∀ (xr : Int32) (wi : Nat → Int32), gp_CI px py (gp_nx F T) j n xr wi → post (pn, co, mo, sv, nI n, nI ns, xr, pg, bf, ma, fr, kr, sm, sc, so, sk, px, py, fp, cl, wi, fo)) :
    ∀ (d s : Nat) (xr : Int32) (wi : Nat → Int32), s + d = ns → gp_CI px py (gp_nx F T) j (F s) xr wi → wX_crossRow_28 post (nI j) (d + 1) (nI s) pn co mo sv (nI n) (nI ns) xr pg bf ma fr kr sm sc so sk px py fp cl wi fo := by
  have hns := gp_ns P
  have hn16 : n ≤ 16 := P.1
  intro d
  induction d with
  | zero =>
    intro s xr wi hd hc
    have e : s = ns := by omega
    subst e
    rw [P.2.2.1] at hc
    exact pk_le s s (fun _ => K xr wi hc) (fun h => absurd h (by omega))
  | succ d ih =>
    intro s xr wi hd hc
    have hs : s < ns := by omega
    have hF1 : F s < F (s + 1) := P.2.2.2.1 s hs
    refine pk_le ns s (fun h => absurd h (by omega)) (fun _ => gp_last P hs (And.intro (vp_in_nI (by omega) (by omega)) ?_))
    refine nm_r (e' := nI (F s)) (by rw [nI_clamp (by omega)]; exact P.2.2.2.2.1 s hs) ⟨F (s + 1) - F s + 1, ?_⟩
    exact gp_x50 P hs hj bX bY (fun xr wi hc => ih (s + 1) xr wi (by omega) hc) (F (s + 1) - F s) (F s) xr wi (by omega) (by omega) hc
theorem gp_x7 {post : SX → Prop} {j : Nat} (P : gp_path n ns F T fp sb) (hj : j < 16) (bX : gp_bd px) (bY : gp_bd py)
    (K : ∀ (xr : Int32) (wi : Nat → Int32), gp_CI px py (gp_nx F T) j n xr wi → post (pn, co, mo, sv, nI n, nI ns, xr, pg, bf, ma, fr, kr, sm, sc, so, sk, px, py, fp, cl, wi, fo)) :
    ∀ (d i : Nat) (wi : Nat → Int32), i + d = 16 → (∀ q, q < i → wi q = 0) → wX_crossRow_7 post (nI j) pn co mo sv (nI n) (nI ns) 0 (d + 1) (nI i) pg bf ma fr kr sm sc so sk px py fp cl wi fo := by
  have hns := gp_ns P
  have hn16 : n ≤ 16 := P.1
  intro d
  induction d with
  | zero =>
    intro i wi hd hw
    have e : i = 16 := by omega
    subst e
    refine pk_le 16 16 (fun _ => ⟨ns + 1, gp_x28 P hj bX bY K ns 0 0 wi (by omega) ?_⟩) (fun h => absurd h (by omega))
    rw [P.2.1]
    exact ⟨fun i hi => hw i hi, fun i => by rw [b_0]; exact (Bool.and_false _).symm⟩
  | succ d ih =>
    intro i wi hd hw
    refine pk_le 16 i (fun h => absurd h (by omega)) (fun _ => And.intro (vp_in_nI (by omega) (by omega)) ?_)
    refine nm_r (e' := upd wi i 0) (by rw [nI_clamp (by omega)]) (nm_r (nI_1 i) (ih (i + 1) _ (by omega) (fun q hq => ?_)))
    by_cases e : q = i
    · rw [e, pk_us]
    · rw [pk_un e]
      exact hw q (by omega)
theorem gp_crossRow {post : SX → Prop} {j : Nat} (P : gp_path n ns F T fp sb) (hj : j < 16) (bX : gp_bd px) (bY : gp_bd py)
    (K : ∀ (xr : Int32) (wi : Nat → Int32), gp_CI px py (gp_nx F T) j n xr wi → post (pn, co, mo, sv, nI n, nI ns, xr, pg, bf, ma, fr, kr, sm, sc, so, sk, px, py, fp, cl, wi, fo)) : wpX_crossRow post (pn, co, mo, sv, nI n, nI ns, xr, pg, bf, ma, fr, kr, sm, sc, so, sk, px, py, fp, cl, wi, fo) (nI j) :=
  ⟨17, gp_x7 P hj bX bY K 16 0 wi rfl (fun q hq => absurd hq (by omega))⟩
theorem gp_x20 {post : Int32 → SX → Prop} {g : Nat → Bool} (hg : ∀ i, i < 16 → (wi i = 0 ↔ g i = false))
    (K : ∀ r : Int32, (∀ i, bt r i = (decide (i < 16) && g i)) → post r (pn, co, mo, sv, pt, sp, xr, pg, bf, ma, fr, kr, sm, sc, so, sk, px, py, fp, cl, wi, fo)) :
    ∀ (d i : Nat) (r : Int32), i + d = 16 → (∀ q, bt r q = (decide (q < i) && g q)) → wX_insideRow_20 post pn co mo sv pt sp xr pg bf ma fr kr sm sc so sk px py fp cl wi fo (d + 1) r (nI i) := by
  intro d
  induction d with
  | zero =>
    intro i r hd hr
    have e : i = 16 := by omega
    subst e
    exact pk_le 16 16 (fun _ => K r hr) (fun h => absurd h (by omega))
  | succ d ih =>
    intro i r hd hr
    refine pk_le 16 i (fun h => absurd h (by omega)) (fun _ => And.intro (vp_in_nI (by omega) (by omega)) ?_)
    rw [nI_clamp (by omega)]
    have hlt : ∀ q, ¬ q = i → decide (q < i + 1) = decide (q < i) := fun q hq => decide_eq_decide.mpr (by omega)
    refine br_c (fun h0 => nm_e (nm_r (nI_1 i) (ih (i + 1) _ (by omega) (fun q => ?_)))) (fun h0 => nm_e (nm_r (nI_1 i) (ih (i + 1) _ (by omega) (fun q => ?_))))
    · rw [b_or, b_0, Bool.or_false, hr q]
      by_cases e : q = i
      · rw [e, (hg i (by omega)).mp h0, Bool.and_false, Bool.and_false]
      · rw [hlt q e]
    · rw [b_or, gp_1shl (by omega), hr q]
      by_cases e : q = i
      · have hgi : g i = true := by
          cases hh : g i
          · exact absurd ((hg i (by omega)).mpr hh) h0
          · rfl
        rw [e, hgi, decide_eq_true (p := i = i) rfl, Bool.or_true, decide_eq_true (p := i < i + 1) (by omega), Bool.and_true]
      · rw [hlt q e, decide_eq_false e, Bool.or_false]
theorem gp_insideRow {post : Int32 → SX → Prop} {rl : Int32} {j : Nat} (hr : rl = 0 ∨ rl = 1) (P : gp_path n ns F T fp sb) (hj : j < 16) (bX : gp_bd px) (bY : gp_bd py)
    (K : ∀ (xr : Int32) (wi : Nat → Int32) (r : Int32), (∀ i, bt r i = (decide (i < 16) && gp_in px py (gp_nx F T) n rl i j)) → post r (pn, co, mo, sv, nI n, nI ns, xr, pg, bf, ma, fr, kr, sm, sc, so, sk, px, py, fp, cl, wi, fo)) : wpX_insideRow post (pn, co, mo, sv, nI n, nI ns, xr, pg, bf, ma, fr, kr, sm, sc, so, sk, px, py, fp, cl, wi, fo) (nI j) rl := by
  refine gp_crossRow (xr := xr) P hj bX bY (fun xr wi hc => ?_)
  rcases hr with e | e
  · subst e
    refine br_f (by decide) ⟨17, gp_x20 (g := fun i => gp_in px py (gp_nx F T) n 0 i j) (fun i hi => ?_) (K xr wi) 16 0 0 rfl (fun q => by rw [b_0]; exact (Bool.false_and _).symm)⟩
    rw [hc.1 i hi]
    show _ ↔ (if (0 : Int32) = 0 then decide (¬ gp_W (gp_g px py (gp_nx F T) i j) n = 0) else gp_P (gp_g px py (gp_nx F T) i j) n) = false
    rw [if_pos rfl, decide_eq_false_iff_not, Classical.not_not]
  · subst e
    refine br_t rfl (K xr wi xr (fun i => ?_))
    rw [hc.2 i]
    unfold gp_in
    rw [if_neg (by decide)]
end GP7
end
section
section GP8
variable {pn co mo sv pt sp xr : Int32} {pg bf ma fr kr sm sc so sk px py fp cl wi fo kc kk sb ch : Nat → Int32}
variable {n ns : Nat} {F T : Nat → Nat}
/-! J: the reference: the next point, what a segment counts, one pixel -/
theorem gp_y33 {post : Int32 → Prop} {k : Nat} (P : gp_path n ns F T fp sb) (hk : k < n) (K : post (nI (F (T k)))) :
    ∀ d q : Nat, q = F (T k) + d → q ≤ k → wY_next_33 post (nI k) co mo sv pt sp pn ma kc sm sc so kk px py sb cl pg bf ch (d + 1) (nI q) := by
  have hn16 : n ≤ 16 := P.1
  obtain ⟨t1, t2, t3, t4⟩ := P.2.2.2.2.2 k hk
  have hns := gp_ns P
  have ik : vp_in (nI k) 16 := vp_in_nI (by omega) (by omega)
  have ek : sb (nI k).toNatClampNeg = nI (T k) := by rw [nI_clamp (by omega)]; exact t4
  intro d
  induction d with
  | zero =>
    intro q hq hqk
    have e : q = F (T k) := by omega
    subst e
    refine pk_le (F (T k)) 0 (fun _ => K) (fun h => ?_)
    have e1 : nI (F (T k)) - 1 = nI (F (T k) - 1) := pk_sub (a := F (T k)) (b := 1) (by omega)
    obtain ⟨u1, u2, u3, u4⟩ := P.2.2.2.2.2 (F (T k) - 1) (by omega)
    rw [e1]
    refine And.intro (vp_in_nI (by omega) (by omega)) (And.intro ik (br_f ?_ K))
    rw [ek, nI_clamp (by omega), u4, nI_eq (by omega) (by omega)]
    intro z
    rw [z] at u2
    omega
  | succ d ih =>
    intro q hq hqk
    have e1 : nI q - 1 = nI (q - 1) := pk_sub (a := q) (b := 1) (by omega)
    obtain ⟨u0, u1⟩ := gp_uniq P (s := T k) (k := q - 1) t1 (by omega) (by omega)
    have u4 := (P.2.2.2.2.2 (q - 1) u0).2.2.2
    refine pk_le q 0 (fun h => absurd h (by omega)) (fun _ => ?_)
    rw [e1]
    refine And.intro (vp_in_nI (by omega) (by omega)) (And.intro ik (br_t ?_ (nm_r (e' := nI (q - 1)) ?_ (ih (q - 1) (by omega) (by omega)))))
    · rw [ek, nI_clamp (by omega), u4, u1]
    · have := pk_m1 (q - 1)
      rw [show q - 1 + 1 = q by omega] at this
      exact this
theorem gp_next {post : Int32 → Prop} {k : Nat} (P : gp_path n ns F T fp sb) (hk : k < n) (K : post (nI (gp_nx F T k))) : wpY_next post (co, mo, sv, nI n, nI ns, pn, ma, kc, sm, sc, so, kk, px, py, sb, cl, pg, bf, ch) (nI k) := by
  have hn16 : n ≤ 16 := P.1
  obtain ⟨t1, t2, t3, t4⟩ := P.2.2.2.2.2 k hk
  have hF := gp_Fle P (s := T k + 1) t1
  have ik : vp_in (nI k) 16 := vp_in_nI (by omega) (by omega)
  have hns := gp_ns P
  unfold gp_nx at K
  have L : (¬ k + 1 < F (T k + 1)) → ∃ n33 : Nat, wY_next_33 post (nI k) co mo sv (nI n) (nI ns) pn ma kc sm sc so kk px py sb cl pg bf ch n33 (nI k) := fun h => by
    rw [if_neg h] at K
    exact ⟨k - F (T k) + 1, gp_y33 P hk K (k - F (T k)) k (by omega) (Nat.le_refl k)⟩
  refine pk_le n (k + 1) (fun h => L (by omega)) (fun h => ?_) (hy := nI_1 k)
  rw [nI_1]
  refine And.intro (vp_in_nI (by omega) (by omega)) (And.intro ik ?_)
  obtain ⟨u1, u2, u3, u4⟩ := P.2.2.2.2.2 (k + 1) h
  rw [nI_clamp (n := k) (by omega), nI_clamp (n := k + 1) (by omega), t4, u4]
  by_cases h2 : k + 1 < F (T k + 1)
  · rw [if_pos h2] at K
    have := (gp_uniq P (s := T k) (k := k + 1) t1 (by omega) h2).2
    exact br_t (congrArg nI this) K
  · refine br_f ?_ (L h2)
    rw [nI_eq (by omega) (by omega)]
    intro z
    rw [z] at u3
    omega
theorem gp_y75 {post : Int32 → Prop} {x5 : Int32} {k l i j : Nat} (hk : k < 16) (hl : l < 16) (hi : i < 16) (hj : j < 16) (bX : gp_bd px) (bY : gp_bd py)
    (K : post (if x5 = 0 then (if (2 * (j : Int) + 1 - (py k).toInt) * ((px l).toInt - (px k).toInt) < (2 * (i : Int) + 1 - (px k).toInt) * ((py l).toInt - (py k).toInt) then -1 else 0)
      else (if (2 * (i : Int) + 1 - (px k).toInt) * ((py l).toInt - (py k).toInt) < (2 * (j : Int) + 1 - (py k).toInt) * ((px l).toInt - (px k).toInt) then 1 else 0))) :
    wY_counts_75 post (nI k) (nI (2 * i + 1)) (nI (2 * j + 1)) (nI l) x5 co mo sv pt sp pn ma kc sm sc so kk px py sb cl pg bf ch := by
  have ik : vp_in (nI k) 16 := vp_in_nI hk (by omega)
  have il : vp_in (nI l) 16 := vp_in_nI hl (by omega)
  have ei : (nI (2 * i + 1)).toInt = 2 * (i : Int) + 1 := by rw [nI_toInt (by omega)]; omega
  have ej : (nI (2 * j + 1)).toInt = 2 * (j : Int) + 1 := by rw [nI_toInt (by omega)]; omega
  have vH : gp_V (py l - py k).toInt64 ((py l).toInt - (py k).toInt) 4000 := gp_V_s rfl rfl (bY l) (bY k) (by decide) (by decide)
  have vX : gp_V (px l - px k).toInt64 ((px l).toInt - (px k).toInt) 4000 := gp_V_s rfl rfl (bX l) (bX k) (by decide) (by decide)
  have vY : gp_V (nI (2 * j + 1) - py k).toInt64 (2 * (j : Int) + 1 - (py k).toInt) 2031 := gp_V_s (A := 31) ej rfl (by omega) (bY k) (by decide) (by decide)
  have vU : gp_V (nI (2 * i + 1) - px k).toInt64 (2 * (i : Int) + 1 - (px k).toInt) 2031 := gp_V_s (A := 31) ei rfl (by omega) (bX k) (by decide) (by decide)
  have v1 := gp_V_mul vY vX (by decide)
  have v2 := gp_V_mul vU vH (by decide)
  unfold wY_counts_75
  rw [nI_clamp (n := k) (by omega), nI_clamp (n := l) (by omega)]
  refine And.intro ik (And.intro il (And.intro ik (nm_e (And.intro ik (And.intro il (And.intro ik (nm_e ?_)))))))
  refine br_c (fun h => ?_) (fun h => ?_)
  · rw [if_pos h] at K
    refine br_c (fun c => ?_) (fun c => ?_)
    · rw [gp_V_le v2 v1] at c
      rwa [if_neg (by omega)] at K
    · rw [gp_V_le v2 v1] at c
      rwa [if_pos (by omega)] at K
  · rw [if_neg h] at K
    refine br_c (fun c => ?_) (fun c => ?_)
    · rw [gp_V_le v1 v2] at c
      rwa [if_neg (by omega)] at K
    · rw [gp_V_le v1 v2] at c
      rwa [if_pos (by omega)] at K
theorem gp_counts {post : Int32 → Prop} {k i j : Nat} (P : gp_path n ns F T fp sb) (hk : k < n) (hi : i < 16) (hj : j < 16) (bX : gp_bd px) (bY : gp_bd py)
    (K : post (gp_ct px py k (gp_nx F T k) i j)) : wpY_counts post (co, mo, sv, nI n, nI ns, pn, ma, kc, sm, sc, so, kk, px, py, sb, cl, pg, bf, ch) (nI k) (2 * nI i + 1) (2 * nI j + 1) := by
  have hn16 : n ≤ 16 := P.1
  have hl := gp_nx_lt P hk
  rw [gp_2j, gp_2j]
  refine gp_next P hk ?_
  generalize gp_nx F T k = l at *
  have ik : vp_in (nI k) 16 := vp_in_nI (by omega) (by omega)
  have il : vp_in (nI l) 16 := vp_in_nI (by omega) (by omega)
  have ej : (nI (2 * j + 1)).toInt = 2 * (j : Int) + 1 := by rw [nI_toInt (by omega)]; omega
  have eck : (nI k).toNatClampNeg = k := nI_clamp (by omega)
  have ecl : (nI l).toNatClampNeg = l := nI_clamp (by omega)
  have a1 : nI (2 * j + 1) < py (nI k).toNatClampNeg ↔ 2 * (j : Int) + 1 < (py k).toInt := by rw [eck, Int32.lt_iff_toInt_lt, ej]
  have a2 : nI (2 * j + 1) < py (nI l).toNatClampNeg ↔ 2 * (j : Int) + 1 < (py l).toInt := by rw [ecl, Int32.lt_iff_toInt_lt, ej]
  have a3 : py (nI k).toNatClampNeg ≤ nI (2 * j + 1) ↔ (py k).toInt ≤ 2 * (j : Int) + 1 := by rw [eck, Int32.le_iff_toInt_le, ej]
  have a4 : py (nI l).toNatClampNeg ≤ nI (2 * j + 1) ↔ (py l).toInt ≤ 2 * (j : Int) + 1 := by rw [ecl, Int32.le_iff_toInt_le, ej]
  unfold gp_ct at K
  by_cases hu : (py k).toInt ≤ 2 * (j : Int) + 1 ∧ 2 * (j : Int) + 1 < (py l).toInt
  · rw [if_pos hu] at K
    refine And.intro ik (br_f (mt a1.mp (by omega)) (And.intro il (br_f (mt a4.mp (by omega)) (And.intro il (br_t (a2.mpr hu.2) (br_f (by decide) ?_))))))
    refine gp_y75 (by omega) (by omega) hi hj bX bY ?_
    rw [if_neg (by decide)]
    exact K
  · rw [if_neg hu] at K
    by_cases hd : (py l).toInt ≤ 2 * (j : Int) + 1 ∧ 2 * (j : Int) + 1 < (py k).toInt
    · rw [if_pos hd] at K
      refine And.intro ik (br_t (a1.mpr hd.2) (And.intro il (br_f (mt a2.mp (by omega)) (And.intro ik (br_f (mt a3.mp (by omega)) (br_t rfl (br_f (by decide) ?_)))))))
      refine gp_y75 (by omega) (by omega) hi hj bX bY ?_
      rw [if_pos rfl]
      exact K
    · rw [if_neg hd] at K
      by_cases h1 : 2 * (j : Int) + 1 < (py k).toInt
      · exact And.intro ik (br_t (a1.mpr h1) (And.intro il (br_t (a2.mpr (by omega)) (br_t rfl (br_t rfl K)))))
      · exact And.intro ik (br_f (mt a1.mp h1) (And.intro il (br_t (a4.mpr (by omega)) (And.intro il (br_f (mt a2.mp (by omega)) (And.intro ik (br_t (a3.mpr (by omega)) (br_t rfl (br_t rfl K)))))))))
theorem gp_y5w {post : Int32 → Prop} {i j : Nat} (P : gp_path n ns F T fp sb) (hi : i < 16) (hj : j < 16) (bX : gp_bd px) (bY : gp_bd py)
    (K : post (gp_W (gp_g px py (gp_nx F T) i j) n)) : ∀ d k : Nat, k + d = n → wY_windingOf_5 post (nI i) (nI j) co mo sv (nI n) (nI ns) pn ma kc sm sc so kk px py sb cl pg bf ch (d + 1) (gp_W (gp_g px py (gp_nx F T) i j) k) (nI k) := by
  have hn16 : n ≤ 16 := P.1
  intro d
  induction d with
  | zero =>
    intro k hk
    have e : k = n := by omega
    subst e
    exact pk_le k k (fun _ => K) (fun h => absurd h (by omega))
  | succ d ih =>
    intro k hk
    exact pk_le n k (fun h => absurd h (by omega)) (fun h => gp_counts P h hi hj bX bY (nm_e (nm_r (nI_1 k) (ih (k + 1) (by omega)))))
theorem gp_windingOf {post : Int32 → Prop} {i j : Nat} (P : gp_path n ns F T fp sb) (hi : i < 16) (hj : j < 16) (bX : gp_bd px) (bY : gp_bd py)
    (K : post (gp_W (gp_g px py (gp_nx F T) i j) n)) : wpY_windingOf post (co, mo, sv, nI n, nI ns, pn, ma, kc, sm, sc, so, kk, px, py, sb, cl, pg, bf, ch) (nI i) (nI j) :=
  ⟨n + 1, gp_y5w P hi hj bX bY K n 0 (by omega)⟩
theorem gp_y5c {post : Int32 → Prop} {i j : Nat} (P : gp_path n ns F T fp sb) (hi : i < 16) (hj : j < 16) (bX : gp_bd px) (bY : gp_bd py)
    (K : post (nI (gp_C (gp_g px py (gp_nx F T) i j) n))) : ∀ d k : Nat, k + d = n → wY_crossings_5 post (nI i) (nI j) co mo sv (nI n) (nI ns) pn ma kc sm sc so kk px py sb cl pg bf ch (d + 1) (nI (gp_C (gp_g px py (gp_nx F T) i j) k)) (nI k) := by
  have hn16 : n ≤ 16 := P.1
  intro d
  induction d with
  | zero =>
    intro k hk
    have e : k = n := by omega
    subst e
    exact pk_le k k (fun _ => K) (fun h => absurd h (by omega))
  | succ d ih =>
    intro k hk
    have S : gp_C (gp_g px py (gp_nx F T) i j) (k + 1) = gp_C (gp_g px py (gp_nx F T) i j) k + (if gp_ct px py k (gp_nx F T k) i j = 0 then 0 else 1) := rfl
    have I := ih (k + 1) (by omega)
    rw [S] at I
    refine pk_le n k (fun h => absurd h (by omega)) (fun h => gp_counts P h hi hj bX bY (br_c (fun c => nm_r (nI_1 k) ?_) (fun c => nm_e (nm_r (nI_1 k) ?_))))
    · rwa [if_pos c, Nat.add_zero] at I
    · rw [if_neg c] at I
      rw [nI_1]
      exact I
theorem gp_crossings {post : Int32 → Prop} {i j : Nat} (P : gp_path n ns F T fp sb) (hi : i < 16) (hj : j < 16) (bX : gp_bd px) (bY : gp_bd py)
    (K : post (nI (gp_C (gp_g px py (gp_nx F T) i j) n))) : wpY_crossings post (co, mo, sv, nI n, nI ns, pn, ma, kc, sm, sc, so, kk, px, py, sb, cl, pg, bf, ch) (nI i) (nI j) :=
  ⟨n + 1, gp_y5c P hi hj bX bY K n 0 (by omega)⟩
theorem gp_isInside {post : Int32 → Prop} {rl : Int32} {i j : Nat} (hr : rl = 0 ∨ rl = 1) (P : gp_path n ns F T fp sb) (hi : i < 16) (hj : j < 16) (bX : gp_bd px) (bY : gp_bd py)
    (K : post (gp_b (gp_in px py (gp_nx F T) n rl i j))) : wpY_isInside post (co, mo, sv, nI n, nI ns, pn, ma, kc, sm, sc, so, kk, px, py, sb, cl, pg, bf, ch) (nI i) (nI j) rl := by
  have hn16 : n ≤ 16 := P.1
  unfold gp_in at K
  rcases hr with e | e
  · rw [if_pos e] at K
    refine br_t e (gp_windingOf P hi hj bX bY (br_c (fun c => ?_) (fun c => ?_)))
    · rwa [decide_eq_false (fun z => z c)] at K
    · rwa [decide_eq_true (p := ¬ _) c] at K
  · have e0 : ¬ rl = 0 := by rw [e]; decide
    rw [if_neg e0, gp_PC] at K
    refine br_f e0 (gp_crossings P hi hj bX bY (And.intro (by decide) ?_))
    have hC := gp_C_le (gp_g px py (gp_nx F T) i j) n
    rw [show (2 : Int32) = nI 2 from rfl, pk_rem (by omega) (by omega) (by omega)]
    refine pk_eq (gp_C (gp_g px py (gp_nx F T) i j) n % 2) 1 (fun c => ?_) (fun c => ?_)
    · rwa [decide_eq_true c] at K
    · rwa [decide_eq_false c] at K
end GP8
end
section
section GP9
variable {pn co mo sv pt sp xr : Int32} {pg bf ma fr kr sm sc so sk px py fp cl wi fo kc kk sb ch : Nat → Int32}
variable {n ns : Nat} {F T : Nat → Nat}
/-! K: painting: both sides against one picture -/
def gp_mix (mo co old : Int32) : Int32 := if mo = 1 then old ^^^ co else if mo = 2 ∧ ¬ old = 0 then old else co
def gp_pg (sel : Nat → Bool) (mo co : Int32) (pg : Nat → Int32) (p : Nat) : Nat → Int32 := fun q => if q < p ∧ sel q = true then gp_mix mo co (pg q) else pg q
def gp_pn (sel : Nat → Bool) (mo co : Int32) (pg : Nat → Int32) (p : Nat) : Nat := gp_cnt (fun q => sel q && decide (¬ gp_mix mo co (pg q) = pg q)) p
theorem gp_pg_0 {sel : Nat → Bool} : gp_pg sel mo co pg 0 = pg := funext (fun _ => if_neg (by omega))
theorem gp_pg_at {sel : Nat → Bool} {p : Nat} : gp_pg sel mo co pg p p = pg p := if_neg (by omega)
theorem gp_pg_t {sel : Nat → Bool} {p : Nat} (h : sel p = true) : upd (gp_pg sel mo co pg p) p (gp_mix mo co (pg p)) = gp_pg sel mo co pg (p + 1) := by
  funext q
  unfold upd gp_pg
  by_cases e : q = p
  · rw [if_pos e, e, if_pos ⟨by omega, h⟩]
  · rw [if_neg e]
    by_cases h2 : q < p ∧ sel q = true
    · rw [if_pos h2, if_pos ⟨by omega, h2.2⟩]
    · rw [if_neg h2, if_neg (fun z => h2 ⟨by omega, z.2⟩)]
theorem gp_pg_f {sel : Nat → Bool} {p : Nat} (h : sel p = false) : gp_pg sel mo co pg (p + 1) = gp_pg sel mo co pg p := by
  funext q
  unfold gp_pg
  by_cases e : q = p
  · rw [e, h, if_neg (fun z => absurd z.2 (by decide)), if_neg (fun z => absurd z.2 (by decide))]
  · by_cases h2 : q < p ∧ sel q = true
    · rw [if_pos h2, if_pos ⟨by omega, h2.2⟩]
    · rw [if_neg h2, if_neg (fun z => h2 ⟨by omega, z.2⟩)]
theorem gp_pn_f {sel : Nat → Bool} {p : Nat} (h : sel p = false) : gp_pn sel mo co pg (p + 1) = gp_pn sel mo co pg p := by
  unfold gp_pn
  rw [gp_cnt_s, h, Bool.false_and, if_neg (by decide), Nat.add_zero]
theorem gp_pn_e {sel : Nat → Bool} {p : Nat} (e : gp_mix mo co (pg p) = pg p) : gp_pn sel mo co pg (p + 1) = gp_pn sel mo co pg p := by
  unfold gp_pn
  rw [gp_cnt_s, decide_eq_false (p := ¬ gp_mix mo co (pg p) = pg p) (fun z => z e), Bool.and_false, if_neg (by decide), Nat.add_zero]
theorem gp_pn_n {sel : Nat → Bool} {p : Nat} (h : sel p = true) (e : ¬ gp_mix mo co (pg p) = pg p) : gp_pn sel mo co pg (p + 1) = gp_pn sel mo co pg p + 1 := by
  unfold gp_pn
  rw [gp_cnt_s, decide_eq_true (p := ¬ gp_mix mo co (pg p) = pg p) e, h, Bool.and_true, if_pos rfl]
theorem gp_wrS0 {f s : Nat → Int32} {i : Nat} : upd (gp_wr f 0 s i) i (s i) = gp_wr f 0 s (i + 1) := by
  have := gp_wrS (f := f) (s := s) (b := 0) (i := i)
  rwa [Nat.zero_add] at this
theorem gp_mixed {post : Int32 → Prop} {o : Int32} (K : post (gp_mix mo co o)) : wpX_mixed post (pn, co, mo, sv, pt, sp, xr, pg, bf, ma, fr, kr, sm, sc, so, sk, px, py, fp, cl, wi, fo) o := by
  unfold gp_mix at K
  refine br_c (fun h => ?_) (fun h => br_c (fun h2 => br_c (fun h3 => ?_) (fun h3 => ?_)) (fun h2 => ?_))
  · rwa [if_pos h] at K
  · rwa [if_neg h, if_neg (fun z => z.2 h3)] at K
  · rwa [if_neg h, if_pos ⟨h2, h3⟩] at K
  · rwa [if_neg h, if_neg (fun z => h2 z.1)] at K
theorem gp_newC {post : Int32 → Prop} {o : Int32} (hm : gp_mo mo) (K : post (gp_mix mo co o)) : wpY_newColour post (co, mo, sv, pt, sp, pn, ma, kc, sm, sc, so, kk, px, py, sb, cl, pg, bf, ch) o := by
  unfold gp_mix at K
  refine br_c (fun h => ?_) (fun h => br_c (fun h2 => ?_) (fun h2 => ?_))
  · rw [h, if_neg (by decide), if_neg (fun z => absurd z.1 (by decide))] at K
    exact K
  · rwa [if_pos h2] at K
  · have h3 : mo = 2 := by
      rcases hm with e | e | e
      · exact absurd e h
      · exact absurd e h2
      · exact e
    rw [if_neg h2] at K
    refine br_c (fun h4 => ?_) (fun h4 => ?_)
    · rwa [if_neg (fun z => z.2 h4)] at K
    · rwa [if_pos ⟨h3, h4⟩] at K
theorem gp_x85p {post : Int32 → SX → Prop} {J : Int32 → Int32 → (Nat → Int32) → (Nat → Int32) → (Nat → Int32) → (Nat → Int32) → (Nat → Int32) → (Nat → Int32) → (Nat → Int32) → (Nat → Int32) → (Nat → Int32) → (Nat → Int32) → (Nat → Int32) → (Nat → Int32) → (Nat → Int32) → (Nat → Int32) → (Nat → Int32) → Prop} {p : Nat} {r z0 z1 : Int32} (hp : p < 256)
    (K : J (z1 + z0) (nI (p + 1)) (upd pg p r) bf ma fr kr sm sc so sk px py fp cl wi fo) : wX_paintFound_85 post J (nI p) r z0 z1 pn co mo sv pt sp xr pg bf ma fr kr sm sc so sk px py fp cl wi fo :=
  nm_e (And.intro (vp_in_nI hp (by omega)) (nm_r (e' := upd pg p r) (by rw [nI_clamp (by omega)]) (nm_r (nI_1 p) K)))
theorem gp_px {post : Int32 → SX → Prop} {a : Nat → Bool} {pg0 bf0 : Nat → Int32} (ha : ∀ p, p < 256 → bt (fo (p / 16)) (p % 16) = a p)
    (K : post (nI (gp_pn (fun p => a p && bt (kr (p / 16)) (p % 16)) mo co pg0 256)) (pn, co, mo, sv, pt, sp, xr, gp_pg (fun p => a p && bt (kr (p / 16)) (p % 16)) mo co pg0 256, gp_wr bf0 0 pg0 256, ma, fr, kr, sm, sc, so, sk, px, py, fp, cl, wi, fo)) :
    ∀ d p : Nat, p + d = 256 → wX_paintFound_9 post pn co mo sv pt sp xr (d + 1) (nI (gp_pn (fun p => a p && bt (kr (p / 16)) (p % 16)) mo co pg0 p)) (nI p) (gp_pg (fun p => a p && bt (kr (p / 16)) (p % 16)) mo co pg0 p) (gp_wr bf0 0 pg0 p) ma fr kr sm sc so sk px py fp cl wi fo := by
  generalize hS : (fun p => a p && bt (kr (p / 16)) (p % 16)) = sel at *
  intro d
  induction d with
  | zero =>
    intro p hp
    have e : p = 256 := by omega
    subst e
    exact pk_le 256 256 (fun _ => K) (fun h => absurd h (by omega))
  | succ d ih =>
    intro p hp
    have I := ih (p + 1) (by omega)
    have hin : vp_in (nI p) 256 := vp_in_nI (by omega) (by omega)
    have ec : (nI p).toNatClampNeg = p := nI_clamp (by omega)
    have hq : nI p / 16 = nI (p / 16) := pk_div (d := 16) (by omega) (by omega) (by omega)
    have hrem : nI p - nI p / 16 * 16 = nI (p % 16) := pk_rem (d := 16) (by omega) (by omega) (by omega)
    have hrow : vp_in (nI (p / 16)) 16 := vp_in_nI (by omega) (by omega)
    have hsp : sel p = (bt (fo (p / 16)) (p % 16) && bt (kr (p / 16)) (p % 16)) := by rw [← hS, ha p (by omega)]
    refine pk_le 256 p (fun h => absurd h (by omega)) (fun _ => ?_)
    rw [ec, gp_pg_at]
    refine And.intro hin (And.intro hin (nm_r (e' := gp_wr bf0 0 pg0 (p + 1)) gp_wrS0 (And.intro (by decide) (nm_r (e' := nI (p / 16)) hq (And.intro hrow (And.intro hrow (And.intro (by decide) ?_)))))))
    rw [hrem, nI_clamp (n := p / 16) (by omega)]
    cases hs : sel p
    · refine br_t ?_ (nm_r (nI_1 p) ?_)
      · rw [gp_tst _ (by omega), b_and, ← hsp, hs]
      · rw [gp_pg_f hs, gp_pn_f hs] at I
        exact I
    · refine br_f ?_ (And.intro hin (gp_mixed (And.intro hin (br_c (fun c => gp_x85p (by omega) ?_) (fun c => gp_x85p (by omega) ?_)))))
      · rw [gp_tst _ (by omega), b_and, ← hsp, hs]
        decide
      · rw [gp_pn_e c] at I
        rw [gp_pg_t hs, gp_z]
        exact I
      · rw [gp_pn_n hs c] at I
        rw [gp_pg_t hs, nI_1]
        exact I
theorem gp_paintX {post : Int32 → SX → Prop} {a : Nat → Bool} (ha : ∀ p, p < 256 → bt (fo (p / 16)) (p % 16) = a p)
    (K : post (nI (gp_pn (fun p => a p && bt (kr (p / 16)) (p % 16)) mo co pg 256)) (1, co, mo, sv, pt, sp, xr, gp_pg (fun p => a p && bt (kr (p / 16)) (p % 16)) mo co pg 256, gp_wr bf 0 pg 256, ma, fr, kr, sm, sc, so, sk, px, py, fp, cl, wi, fo)) : wpX_paintFound post (pn, co, mo, sv, pt, sp, xr, pg, bf, ma, fr, kr, sm, sc, so, sk, px, py, fp, cl, wi, fo) := by
  have := gp_px (pn := 1) ha K 256 0 rfl
  rw [gp_pg_0, gp_wr0] at this
  exact ⟨257, this⟩
theorem gp_y57 {post : Int32 → SY → Prop} {J : Int32 → Int32 → (Nat → Int32) → (Nat → Int32) → (Nat → Int32) → (Nat → Int32) → (Nat → Int32) → (Nat → Int32) → (Nat → Int32) → (Nat → Int32) → (Nat → Int32) → (Nat → Int32) → (Nat → Int32) → (Nat → Int32) → (Nat → Int32) → Prop} {c p : Nat} (hp : p < 256)
    (K1 : pg p = bf p → J (nI c) (nI (p + 1)) ma kc sm sc so kk px py sb cl pg bf ch) (K2 : ¬ pg p = bf p → J (nI (c + 1)) (nI (p + 1)) ma kc sm sc so kk px py sb cl pg bf ch) : wY_paintChosen_57 post J (nI c) (nI p) co mo sv pt sp pn ma kc sm sc so kk px py sb cl pg bf ch := by
  have hin : vp_in (nI p) 256 := vp_in_nI (by omega) (by omega)
  unfold wY_paintChosen_57
  rw [nI_clamp (by omega)]
  exact And.intro hin (And.intro hin (br_c (fun h => nm_r (nI_1 p) (K1 h)) (fun h => nm_r (nI_1 c) (nm_r (nI_1 p) (K2 h)))))
theorem gp_py {post : Int32 → SY → Prop} {a b : Nat → Bool} {pg0 bf0 : Nat → Int32} (hm : gp_mo mo) (ha : ∀ p, p < 256 → ch p = gp_b (a p)) (hb : ∀ p, p < 256 → kc p = gp_b (b p))
    (K : post (nI (gp_pn (fun p => a p && b p) mo co pg0 256)) (co, mo, sv, pt, sp, 1, ma, kc, sm, sc, so, kk, px, py, sb, cl, gp_pg (fun p => a p && b p) mo co pg0 256, gp_wr bf0 0 pg0 256, ch)) :
    ∀ d p : Nat, p + d = 256 → wY_paintChosen_4 post co mo sv pt sp pn (d + 1) (nI (gp_pn (fun p => a p && b p) mo co pg0 p)) (nI p) ma kc sm sc so kk px py sb cl (gp_pg (fun p => a p && b p) mo co pg0 p) (gp_wr bf0 0 pg0 p) ch := by
  generalize hS : (fun p => a p && b p) = sel at *
  intro d
  induction d with
  | zero =>
    intro p hp
    have e : p = 256 := by omega
    subst e
    exact pk_le 256 256 (fun _ => K) (fun h => absurd h (by omega))
  | succ d ih =>
    intro p hp
    have I := ih (p + 1) (by omega)
    have hin : vp_in (nI p) 256 := vp_in_nI (by omega) (by omega)
    have ec : (nI p).toNatClampNeg = p := nI_clamp (by omega)
    have hsp : sel p = (a p && b p) := by rw [← hS]
    have hbf : gp_wr bf0 0 pg0 (p + 1) p = pg0 p := gp_wr_z (by omega)
    have skip : sel p = false → wY_paintChosen_57 post (wY_paintChosen_4 post co mo sv pt sp pn (d + 1)) (nI (gp_pn sel mo co pg0 p)) (nI p) co mo sv pt sp pn ma kc sm sc so kk px py sb cl (gp_pg sel mo co pg0 p) (gp_wr bf0 0 pg0 (p + 1)) ch := fun hs => by
      rw [gp_pg_f hs, gp_pn_f hs] at I
      refine gp_y57 (by omega) (fun _ => I) (fun h => absurd ?_ h)
      rw [gp_pg_at, hbf]
    refine pk_le 256 p (fun h => absurd h (by omega)) (fun _ => ?_)
    rw [ec, gp_pg_at]
    refine And.intro hin (And.intro hin (nm_r (e' := gp_wr bf0 0 pg0 (p + 1)) gp_wrS0 (And.intro hin ?_)))
    rw [ha p (by omega), hb p (by omega)]
    cases h1 : a p
    · exact br_t rfl (skip (by rw [hsp, h1, Bool.false_and]))
    · refine br_f (by decide) (And.intro hin ?_)
      cases h2 : b p
      · exact br_t rfl (skip (by rw [hsp, h2, Bool.and_false]))
      · have hs : sel p = true := by rw [hsp, h1, h2]; rfl
        refine br_f (by decide) (And.intro hin (gp_newC hm (And.intro hin (nm_r (e' := gp_pg sel mo co pg0 (p + 1)) (gp_pg_t hs) (gp_y57 (by omega) (fun h => ?_) (fun h => ?_))))))
        · have e : gp_mix mo co (pg0 p) = pg0 p := by
            rw [hbf, ← gp_pg_t hs, pk_us] at h
            exact h
          rw [gp_pn_e e] at I
          exact I
        · have e : ¬ gp_mix mo co (pg0 p) = pg0 p := by
            rw [hbf, ← gp_pg_t hs, pk_us] at h
            exact h
          rw [gp_pn_n hs e] at I
          exact I
theorem gp_paintY {post : Int32 → SY → Prop} {a b : Nat → Bool} (hm : gp_mo mo) (ha : ∀ p, p < 256 → ch p = gp_b (a p)) (hb : ∀ p, p < 256 → kc p = gp_b (b p))
    (K : post (nI (gp_pn (fun p => a p && b p) mo co pg 256)) (co, mo, sv, pt, sp, 1, ma, kc, sm, sc, so, kk, px, py, sb, cl, gp_pg (fun p => a p && b p) mo co pg 256, gp_wr bf 0 pg 256, ch)) : wpY_paintChosen post (co, mo, sv, pt, sp, pn, ma, kc, sm, sc, so, kk, px, py, sb, cl, pg, bf, ch) := by
  have := gp_py (pn := pn) hm ha hb K 256 0 rfl
  rw [gp_pg_0, gp_wr0] at this
  exact ⟨257, this⟩
theorem gp_cb_at {M p : Nat} (h : gp_cb kr kc M) (hp : p < 16 * M) : kc p = gp_b (bt (kr (p / 16)) (p % 16)) := by
  have := (h (p / 16) (by omega)).2 (p % 16) (by omega)
  rwa [show 16 * (p / 16) + p % 16 = p by omega] at this
/-! L: fill -/
theorem gp_fX {post : Int32 → SX → Prop} {rl : Int32} (hr : rl = 0 ∨ rl = 1) (P : gp_path n ns F T fp sb) (bX : gp_bd px) (bY : gp_bd py)
    (K : ∀ (xr : Int32) (wi fo : Nat → Int32), post (nI (gp_pn (fun p => gp_in px py (gp_nx F T) n rl (p % 16) (p / 16) && bt (kr (p / 16)) (p % 16)) mo co pg 256))
      (1, co, mo, sv, nI n, nI ns, xr, gp_pg (fun p => gp_in px py (gp_nx F T) n rl (p % 16) (p / 16) && bt (kr (p / 16)) (p % 16)) mo co pg 256, gp_wr bf 0 pg 256, ma, fr, kr, sm, sc, so, sk, px, py, fp, cl, wi, fo)) :
    ∀ (d j : Nat) (xr : Int32) (wi fo : Nat → Int32), j + d = 16 → (∀ q, q < j → ∀ i, bt (fo q) i = (decide (i < 16) && gp_in px py (gp_nx F T) n rl i q)) → wX_fill_13 post rl (d + 1) (nI j) pn co mo sv (nI n) (nI ns) xr pg bf ma fr kr sm sc so sk px py fp cl wi fo := by
  intro d
  induction d with
  | zero =>
    intro j xr wi fo hj hf
    have e : j = 16 := by omega
    subst e
    refine pk_le 16 16 (fun _ => gp_paintX (a := fun p => gp_in px py (gp_nx F T) n rl (p % 16) (p / 16)) (fun p hp => ?_) (K xr wi fo)) (fun h => absurd h (by omega))
    rw [hf (p / 16) (by omega) (p % 16), decide_eq_true (by omega), Bool.true_and]
  | succ d ih =>
    intro j xr wi fo hj hf
    refine pk_le 16 j (fun h => absurd h (by omega)) (fun _ => gp_insideRow (xr := xr) (wi := wi) hr P (by omega) bX bY (fun xr wi r hb => And.intro (vp_in_nI (by omega) (by omega)) (nm_r (e' := upd fo j r) (by rw [nI_clamp (by omega)]) (nm_r (nI_1 j) (ih (j + 1) xr wi _ (by omega) (fun q hq i => ?_))))))
    by_cases e : q = j
    · rw [e, pk_us]
      exact hb i
    · rw [pk_un e]
      exact hf q (by omega) i
theorem gp_fY {post : Int32 → SY → Prop} {rl : Int32} (hr : rl = 0 ∨ rl = 1) (P : gp_path n ns F T fp sb) (bX : gp_bd px) (bY : gp_bd py) (hm : gp_mo mo) (hc : gp_cb kr kc 16)
    (K : ∀ (ch : Nat → Int32), post (nI (gp_pn (fun p => gp_in px py (gp_nx F T) n rl (p % 16) (p / 16) && bt (kr (p / 16)) (p % 16)) mo co pg 256))
      (co, mo, sv, nI n, nI ns, 1, ma, kc, sm, sc, so, kk, px, py, sb, cl, gp_pg (fun p => gp_in px py (gp_nx F T) n rl (p % 16) (p / 16) && bt (kr (p / 16)) (p % 16)) mo co pg 256, gp_wr bf 0 pg 256, ch)) :
    ∀ (d p : Nat) (ch : Nat → Int32), p + d = 256 → (∀ q, q < p → ch q = gp_b (gp_in px py (gp_nx F T) n rl (q % 16) (q / 16))) → wY_fill_13 post rl co mo sv (nI n) (nI ns) pn (d + 1) (nI p) ma kc sm sc so kk px py sb cl pg bf ch := by
  intro d
  induction d with
  | zero =>
    intro p ch hp hf
    have e : p = 256 := by omega
    subst e
    exact pk_le 256 256 (fun _ => gp_paintY (a := fun p => gp_in px py (gp_nx F T) n rl (p % 16) (p / 16)) (b := fun p => bt (kr (p / 16)) (p % 16)) hm hf (fun p hp => gp_cb_at hc (by omega)) (K ch)) (fun h => absurd h (by omega))
  | succ d ih =>
    intro p ch hp hf
    have hq : nI p / 16 = nI (p / 16) := pk_div (d := 16) (by omega) (by omega) (by omega)
    have hrem : nI p - nI p / 16 * 16 = nI (p % 16) := pk_rem (d := 16) (by omega) (by omega) (by omega)
    refine pk_le 256 p (fun h => absurd h (by omega)) (fun _ => And.intro (by decide) (And.intro (by decide) ?_))
    rw [hrem, hq]
    refine gp_isInside hr P (by omega) (by omega) bX bY (And.intro (vp_in_nI (by omega) (by omega)) ?_)
    refine nm_r (e' := upd ch p (gp_b (gp_in px py (gp_nx F T) n rl (p % 16) (p / 16)))) (by rw [nI_clamp (by omega), gp_b_nar]) (nm_r (nI_1 p) (ih (p + 1) _ (by omega) (fun q hq => ?_)))
    by_cases e : q = p
    · rw [e, pk_us]
    · rw [pk_un e]
      exact hf q (by omega)
end GP9
end
section
section GP10
variable {pn co mo sv pt sp xr : Int32} {pg bf ma fr kr sm sc so sk px py fp cl wi fo kc kk sb ch : Nat → Int32}
variable {n ns : Nat} {F T : Nat → Nat}
/-! M: nearness on both sides -/
def gp_any (d : Nat → Bool) : Nat → Bool
  | 0 => false
  | k + 1 => (gp_any d k || d k)
theorem gp_any_s {d : Nat → Bool} {k : Nat} : gp_any d (k + 1) = (gp_any d k || d k) := rfl
theorem gp_any_m {d : Nat → Bool} {k : Nat} (h : gp_any d k = true) : ∀ e, gp_any d (k + e) = true := by
  intro e
  induction e with
  | zero => exact h
  | succ e ih =>
    rw [← Nat.add_assoc, gp_any_s, ih, Bool.true_or]
def gp_dr (F T : Nat → Nat) (cl : Nat → Int32) (k : Nat) : Bool := decide (k < gp_nx F T k) || (decide (¬ cl (T k) = 0) || decide (gp_nx F T k = k))
/-- whether the segment from point k on is drawn and near the centre of (i, j) -/
def gp_sd (px py cl : Nat → Int32) (F T : Nat → Nat) (w i j : Nat) : Nat → Bool := fun k => gp_dr F T cl k && gp_near px py k (gp_nx F T k) i j w
theorem gp_isNearX {post : Int32 → Prop} {k l i j w : Nat} (hk : k < 16) (hl : l < 16) (hi : i < 16) (hj : j < 16) (hw : w ≤ 32) (bX : gp_bd px) (bY : gp_bd py)
    (K : post (gp_b (gp_near px py k l i j w))) : wpX_isNear post (pn, co, mo, sv, pt, sp, xr, pg, bf, ma, fr, kr, sm, sc, so, sk, px, py, fp, cl, wi, fo) (nI k) (nI l) (nI (2 * i + 1)) (nI (2 * j + 1)) (nI w) := by
  have ik : vp_in (nI k) 16 := vp_in_nI hk (by omega)
  have il : vp_in (nI l) 16 := vp_in_nI hl (by omega)
  have ei : (nI (2 * i + 1)).toInt = 2 * (i : Int) + 1 := by rw [nI_toInt (by omega)]; omega
  have ej : (nI (2 * j + 1)).toInt = 2 * (j : Int) + 1 := by rw [nI_toInt (by omega)]; omega
  have ew : (nI w).toInt = (w : Int) := nI_toInt (by omega)
  have vw : gp_V (nI w).toInt64 (w : Int) 32 := gp_V_32 ew (by omega) (by omega)
  have vdy : gp_V (py l - py k).toInt64 ((py l).toInt - (py k).toInt) 4000 := gp_V_s rfl rfl (bY l) (bY k) (by decide) (by decide)
  have vdx : gp_V (px l - px k).toInt64 ((px l).toInt - (px k).toInt) 4000 := gp_V_s rfl rfl (bX l) (bX k) (by decide) (by decide)
  have vpy : gp_V (nI (2 * j + 1) - py k).toInt64 (2 * (j : Int) + 1 - (py k).toInt) 2031 := gp_V_s (A := 31) ej rfl (by omega) (bY k) (by decide) (by decide)
  have vpx : gp_V (nI (2 * i + 1) - px k).toInt64 (2 * (i : Int) + 1 - (px k).toInt) 2031 := gp_V_s (A := 31) ei rfl (by omega) (bX k) (by decide) (by decide)
  have vqy : gp_V (nI (2 * j + 1) - py l).toInt64 (2 * (j : Int) + 1 - (py l).toInt) 2031 := gp_V_s (A := 31) ej rfl (by omega) (bY l) (by decide) (by decide)
  have vqx : gp_V (nI (2 * i + 1) - px l).toInt64 (2 * (i : Int) + 1 - (px l).toInt) 2031 := gp_V_s (A := 31) ei rfl (by omega) (bX l) (by decide) (by decide)
  have vsq := gp_V_mul vw vw (by decide)
  have val := gp_V_add (gp_V_mul vdx vpx (by decide)) (gp_V_mul vdy vpy (by decide)) (by decide)
  have vwh := gp_V_add (gp_V_mul vdx vdx (by decide)) (gp_V_mul vdy vdy (by decide)) (by decide)
  have vas := gp_V_sub (gp_V_mul vdx vpy (by decide)) (gp_V_mul vdy vpx (by decide)) (by decide)
  have vas2 := gp_V_mul vas vas (by decide)
  have vsw := gp_V_mul vsq vwh (by decide)
  have vp2 := gp_V_add (gp_V_mul vpx vpx (by decide)) (gp_V_mul vpy vpy (by decide)) (by decide)
  have vq2 := gp_V_add (gp_V_mul vqx vqx (by decide)) (gp_V_mul vqy vqy (by decide)) (by decide)
  unfold gp_near gp_nr at K
  rw [show 2 * (i : Int) + 1 - (px k).toInt - ((px l).toInt - (px k).toInt) = 2 * (i : Int) + 1 - (px l).toInt by omega, show 2 * (j : Int) + 1 - (py k).toInt - ((py l).toInt - (py k).toInt) = 2 * (j : Int) + 1 - (py l).toInt by omega] at K
  unfold wpX_isNear
  dsimp only
  rw [nI_clamp (n := k) (by omega), nI_clamp (n := l) (by omega)]
  refine And.intro il (And.intro ik (nm_e (And.intro il (And.intro ik (nm_e (And.intro ik (nm_e (And.intro ik (nm_e (nm_e (nm_e (nm_e ?_))))))))))))
  rw [gp_V_lt gp_V_0 val, gp_V_lt val vwh, gp_V_lt vsq vp2]
  refine br_c (fun h => br_c (fun h2 => nm_e ?_) (fun h2 => And.intro il (nm_e (And.intro il (nm_e ?_))))) (fun h => ?_)
  · rw [gp_V_lt vsw vas2]
    rw [if_pos h, if_pos h2] at K
    refine br_c (fun c => ?_) (fun c => ?_)
    · rwa [decide_eq_false (fun z => z c)] at K
    · rwa [decide_eq_true (p := ¬ _) c] at K
  · rw [gp_V_lt vsq vq2]
    rw [if_pos h, if_neg h2] at K
    refine br_c (fun c => ?_) (fun c => ?_)
    · rwa [decide_eq_false (fun z => z c)] at K
    · rwa [decide_eq_true (p := ¬ _) c] at K
  · rw [if_neg h] at K
    refine br_c (fun c => ?_) (fun c => ?_)
    · rwa [decide_eq_false (fun z => z c)] at K
    · rwa [decide_eq_true (p := ¬ _) c] at K
theorem gp_square {post : Int64 → Prop} {k : Nat} {u v : Int32} (hk : k < 16) (K : post ((px k - u).toInt64 * (px k - u).toInt64 + (py k - v).toInt64 * (py k - v).toInt64)) : wpY_square post (co, mo, sv, pt, sp, pn, ma, kc, sm, sc, so, kk, px, py, sb, cl, pg, bf, ch) (nI k) u v := by
  have ik : vp_in (nI k) 16 := vp_in_nI hk (by omega)
  unfold wpY_square
  dsimp only
  rw [nI_clamp (n := k) (by omega)]
  exact And.intro ik (nm_e (And.intro ik (nm_e K)))
theorem gp_isNearY {post : Int32 → Prop} {k l i j w : Nat} (hk : k < 16) (hl : l < 16) (hi : i < 16) (hj : j < 16) (hw : w ≤ 32) (bX : gp_bd px) (bY : gp_bd py)
    (K : post (gp_b (gp_near px py k l i j w))) : wpY_isNearTo post (co, mo, sv, pt, sp, pn, ma, kc, sm, sc, so, kk, px, py, sb, cl, pg, bf, ch) (nI k) (nI l) (nI (2 * i + 1)) (nI (2 * j + 1)) ((nI w).toInt64 * (nI w).toInt64) := by
  have ik : vp_in (nI k) 16 := vp_in_nI hk (by omega)
  have il : vp_in (nI l) 16 := vp_in_nI hl (by omega)
  have ei : (nI (2 * i + 1)).toInt = 2 * (i : Int) + 1 := by rw [nI_toInt (by omega)]; omega
  have ej : (nI (2 * j + 1)).toInt = 2 * (j : Int) + 1 := by rw [nI_toInt (by omega)]; omega
  have ew : (nI w).toInt = (w : Int) := nI_toInt (by omega)
  have vw : gp_V (nI w).toInt64 (w : Int) 32 := gp_V_32 ew (by omega) (by omega)
  have vdy : gp_V (py l - py k).toInt64 ((py l).toInt - (py k).toInt) 4000 := gp_V_s rfl rfl (bY l) (bY k) (by decide) (by decide)
  have vdx : gp_V (px l - px k).toInt64 ((px l).toInt - (px k).toInt) 4000 := gp_V_s rfl rfl (bX l) (bX k) (by decide) (by decide)
  have vpy : gp_V (nI (2 * j + 1) - py k).toInt64 (2 * (j : Int) + 1 - (py k).toInt) 2031 := gp_V_s (A := 31) ej rfl (by omega) (bY k) (by decide) (by decide)
  have vpx : gp_V (nI (2 * i + 1) - px k).toInt64 (2 * (i : Int) + 1 - (px k).toInt) 2031 := gp_V_s (A := 31) ei rfl (by omega) (bX k) (by decide) (by decide)
  have vby : gp_V (py k - nI (2 * j + 1)).toInt64 ((py k).toInt - (2 * (j : Int) + 1)) 2031 := gp_V_s (A := 2000) (B := 31) rfl ej (bY k) (by omega) (by decide) (by decide)
  have vbx : gp_V (px k - nI (2 * i + 1)).toInt64 ((px k).toInt - (2 * (i : Int) + 1)) 2031 := gp_V_s (A := 2000) (B := 31) rfl ei (bX k) (by omega) (by decide) (by decide)
  have vqy : gp_V (py l - nI (2 * j + 1)).toInt64 ((py l).toInt - (2 * (j : Int) + 1)) 2031 := gp_V_s (A := 2000) (B := 31) rfl ej (bY l) (by omega) (by decide) (by decide)
  have vqx : gp_V (px l - nI (2 * i + 1)).toInt64 ((px l).toInt - (2 * (i : Int) + 1)) 2031 := gp_V_s (A := 2000) (B := 31) rfl ei (bX l) (by omega) (by decide) (by decide)
  have vsq := gp_V_mul vw vw (by decide)
  have val := gp_V_add (gp_V_mul vpx vdx (by decide)) (gp_V_mul vpy vdy (by decide)) (by decide)
  have vwh := gp_V_add (gp_V_mul vdx vdx (by decide)) (gp_V_mul vdy vdy (by decide)) (by decide)
  have vas := gp_V_sub (gp_V_mul vpx vdy (by decide)) (gp_V_mul vpy vdx (by decide)) (by decide)
  have vas2 := gp_V_mul vas vas (by decide)
  have vsw := gp_V_mul vsq vwh (by decide)
  have vp2 := gp_V_add (gp_V_mul vbx vbx (by decide)) (gp_V_mul vby vby (by decide)) (by decide)
  have vq2 := gp_V_add (gp_V_mul vqx vqx (by decide)) (gp_V_mul vqy vqy (by decide)) (by decide)
  unfold wpY_isNearTo
  dsimp only
  rw [nI_clamp (n := k) (by omega), nI_clamp (n := l) (by omega)]
  refine And.intro il (And.intro ik (nm_e (And.intro il (And.intro ik (nm_e (And.intro ik (And.intro ik (nm_e (nm_e ?_)))))))))
  rw [gp_V_lt gp_V_0 val, gp_V_lt val vwh]
  unfold gp_near gp_nr at K
  generalize (px k).toInt = xk at *
  generalize (px l).toInt = xl at *
  generalize (py k).toInt = yk at *
  generalize (py l).toInt = yl at *
  have e1 : (2 * (i : Int) + 1 - xk) * (xl - xk) + (2 * (j : Int) + 1 - yk) * (yl - yk) = (xl - xk) * (2 * (i : Int) + 1 - xk) + (yl - yk) * (2 * (j : Int) + 1 - yk) := by rw [Int.mul_comm (xl - xk), Int.mul_comm (yl - yk)]
  rw [e1]
  have sq : ∀ a b : Int, (a - b) * (a - b) = (b - a) * (b - a) := by grind
  refine br_c (fun h => br_c (fun h2 => And.intro ik (And.intro ik (nm_e ?_))) (fun h2 => gp_square hl ?_)) (fun h => gp_square hk ?_)
  · rw [gp_V_lt vsw vas2]
    rw [if_pos h, if_pos h2] at K
    rw [Int.mul_comm (2 * (i : Int) + 1 - xk), Int.mul_comm (2 * (j : Int) + 1 - yk), sq ((yl - yk) * (2 * (i : Int) + 1 - xk))]
    refine br_c (fun c => ?_) (fun c => ?_)
    · rwa [decide_eq_false (fun z => z c)] at K
    · rwa [decide_eq_true (p := ¬ _) c] at K
  · rw [gp_V_lt vsq vq2]
    rw [if_pos h, if_neg h2, show 2 * (i : Int) + 1 - xk - (xl - xk) = 2 * (i : Int) + 1 - xl by omega, show 2 * (j : Int) + 1 - yk - (yl - yk) = 2 * (j : Int) + 1 - yl by omega] at K
    rw [sq xl, sq yl]
    refine br_c (fun c => ?_) (fun c => ?_)
    · rwa [decide_eq_false (fun z => z c)] at K
    · rwa [decide_eq_true (p := ¬ _) c] at K
  · rw [gp_V_lt vsq vp2]
    rw [if_neg h] at K
    rw [sq xk, sq yk]
    refine br_c (fun c => ?_) (fun c => ?_)
    · rwa [decide_eq_false (fun z => z c)] at K
    · rwa [decide_eq_true (p := ¬ _) c] at K
theorem gp_y66 {post : Int32 → Prop} {J : Int32 → Prop} {k l i j w : Nat} (hk : k < 16) (hl : l < 16) (hi : i < 16) (hj : j < 16) (hw : w ≤ 32) (bX : gp_bd px) (bY : gp_bd py)
    (K1 : gp_near px py k l i j w = true → post 1) (K0 : gp_near px py k l i j w = false → J (nI (k + 1))) : wY_isNear_61 post J (nI i) (nI j) (nI w) (nI k) (nI l) co mo sv pt sp pn ma kc sm sc so kk px py sb cl pg bf ch := by
  unfold wY_isNear_61 wY_isNear_66
  rw [gp_2j, gp_2j]
  refine br_f (by decide) (gp_isNearY hk hl hi hj hw bX bY ?_)
  cases h : gp_near px py k l i j w
  · exact br_t rfl (nm_r (nI_1 k) (K0 h))
  · exact br_f (by decide) (K1 h)
theorem gp_y3 {post : Int32 → Prop} {i j w : Nat} (P : gp_path n ns F T fp sb) (hi : i < 16) (hj : j < 16) (hw : w ≤ 32) (bX : gp_bd px) (bY : gp_bd py)
    (K : post (gp_b (gp_any (gp_sd px py cl F T w i j) n))) : ∀ d k : Nat, k + d = n → gp_any (gp_sd px py cl F T w i j) k = false → wY_isNear_3 post (nI i) (nI j) (nI w) co mo sv (nI n) (nI ns) pn ma kc sm sc so kk px py sb cl pg bf ch (d + 1) (nI k) := by
  have hn16 : n ≤ 16 := P.1
  have hns := gp_ns P
  intro d
  induction d with
  | zero =>
    intro k hk hf
    have e : k = n := by omega
    subst e
    rw [hf] at K
    exact pk_le k k (fun _ => K) (fun h => absurd h (by omega))
  | succ d ih =>
    intro k hk hf
    have hkn : k < n := by omega
    obtain ⟨t1, t2, t3, t4⟩ := P.2.2.2.2.2 k hkn
    have hl := gp_nx_lt P hkn
    have ik : vp_in (nI k) 16 := vp_in_nI (by omega) (by omega)
    have S : gp_any (gp_sd px py cl F T w i j) (k + 1) = (gp_dr F T cl k && gp_near px py k (gp_nx F T k) i j w) := by rw [gp_any_s, hf, Bool.false_or]; rfl
    have K1 : gp_dr F T cl k = true → gp_near px py k (gp_nx F T k) i j w = true → post 1 := fun a b => by
      rw [a, b] at S
      have := gp_any_m S d
      rw [show k + 1 + d = n by omega] at this
      rwa [this] at K
    have K0 : gp_near px py k (gp_nx F T k) i j w = false → wY_isNear_3 post (nI i) (nI j) (nI w) co mo sv (nI n) (nI ns) pn ma kc sm sc so kk px py sb cl pg bf ch (d + 1) (nI (k + 1)) := fun b => ih (k + 1) (by omega) (by rw [S, b, Bool.and_false])
    refine pk_le n k (fun h => absurd h (by omega)) (fun _ => gp_next P hkn (pk_lt k (gp_nx F T k) (fun h => ?_) (fun h => ?_)))
    · refine br_t rfl (gp_y66 (by omega) (by omega) hi hj hw bX bY (K1 ?_) K0)
      unfold gp_dr
      rw [decide_eq_true h, Bool.true_or]
    · refine br_f (by decide) (And.intro ik ?_)
      rw [nI_clamp (n := k) (by omega), t4, nI_clamp (n := T k) (by omega)]
      refine And.intro (vp_in_nI (by omega) (by omega)) (br_c (fun c => pk_eq (gp_nx F T k) k (fun e => ?_) (fun e => br_t rfl (nm_r (nI_1 k) ?_))) (fun c => ?_))
      · refine gp_y66 (by omega) (by omega) hi hj hw bX bY (K1 ?_) K0
        unfold gp_dr
        rw [decide_eq_true e, Bool.or_true, Bool.or_true]
      · refine ih (k + 1) (by omega) ?_
        rw [S]
        unfold gp_dr
        rw [decide_eq_false (by omega : ¬ k < gp_nx F T k), decide_eq_false e, decide_eq_false (fun z => z c)]
        rfl
      · refine gp_y66 (by omega) (by omega) hi hj hw bX bY (K1 ?_) K0
        unfold gp_dr
        rw [decide_eq_true (p := ¬ cl (T k) = 0) c, Bool.true_or, Bool.or_true]
theorem gp_isNear {post : Int32 → Prop} {i j w : Nat} (P : gp_path n ns F T fp sb) (hi : i < 16) (hj : j < 16) (hw : w ≤ 32) (bX : gp_bd px) (bY : gp_bd py)
    (K : post (gp_b (gp_any (gp_sd px py cl F T w i j) n))) : wpY_isNear post (co, mo, sv, nI n, nI ns, pn, ma, kc, sm, sc, so, kk, px, py, sb, cl, pg, bf, ch) (nI i) (nI j) (nI w) :=
  ⟨n + 1, gp_y3 P hi hj hw bX bY K n 0 (by omega) rfl⟩
theorem gp_sY {post : Int32 → SY → Prop} {w : Nat} (hw : w ≤ 32) (P : gp_path n ns F T fp sb) (bX : gp_bd px) (bY : gp_bd py) (hm : gp_mo mo) (hc : gp_cb kr kc 16)
    (K : ∀ (ch : Nat → Int32), post (nI (gp_pn (fun p => gp_any (gp_sd px py cl F T w (p % 16) (p / 16)) n && bt (kr (p / 16)) (p % 16)) mo co pg 256))
      (co, mo, sv, nI n, nI ns, 1, ma, kc, sm, sc, so, kk, px, py, sb, cl, gp_pg (fun p => gp_any (gp_sd px py cl F T w (p % 16) (p / 16)) n && bt (kr (p / 16)) (p % 16)) mo co pg 256, gp_wr bf 0 pg 256, ch)) :
    ∀ (d p : Nat) (ch : Nat → Int32), p + d = 256 → (∀ q, q < p → ch q = gp_b (gp_any (gp_sd px py cl F T w (q % 16) (q / 16)) n)) → wY_stroke_14 post (nI w) co mo sv (nI n) (nI ns) pn (d + 1) (nI p) ma kc sm sc so kk px py sb cl pg bf ch := by
  intro d
  induction d with
  | zero =>
    intro p ch hp hf
    have e : p = 256 := by omega
    subst e
    exact pk_le 256 256 (fun _ => gp_paintY (a := fun p => gp_any (gp_sd px py cl F T w (p % 16) (p / 16)) n) (b := fun p => bt (kr (p / 16)) (p % 16)) hm hf (fun p hp => gp_cb_at hc (by omega)) (K ch)) (fun h => absurd h (by omega))
  | succ d ih =>
    intro p ch hp hf
    have hq : nI p / 16 = nI (p / 16) := pk_div (d := 16) (by omega) (by omega) (by omega)
    have hrem : nI p - nI p / 16 * 16 = nI (p % 16) := pk_rem (d := 16) (by omega) (by omega) (by omega)
    refine pk_le 256 p (fun h => absurd h (by omega)) (fun _ => And.intro (by decide) (And.intro (by decide) ?_))
    rw [hrem, hq]
    refine gp_isNear P (by omega) (by omega) hw bX bY (And.intro (vp_in_nI (by omega) (by omega)) ?_)
    refine nm_r (e' := upd ch p (gp_b (gp_any (gp_sd px py cl F T w (p % 16) (p / 16)) n))) (by rw [nI_clamp (by omega), gp_b_nar]) (nm_r (nI_1 p) (ih (p + 1) _ (by omega) (fun q hq => ?_)))
    by_cases e : q = p
    · rw [e, pk_us]
    · rw [pk_un e]
      exact hf q (by omega)
end GP10
end
section
section GP11
variable {pn co mo sv pt sp xr : Int32} {pg bf ma fr kr sm sc so sk px py fp cl wi fo kc kk sb ch : Nat → Int32}
variable {n ns : Nat} {F T : Nat → Nat}
/-! N: the component: one segment stroked, all of them -/
theorem gp_lesser {post : Int32 → Prop} {a b : Int32} (K : ∀ r : Int32, (r = a ∨ r = b) → r.toInt ≤ a.toInt → r.toInt ≤ b.toInt → post r) : wpX_lesser post a b := by
  refine br_c (fun h => ?_) (fun h => ?_)
  · rw [Int32.le_iff_toInt_le] at h
    exact K b (Or.inr rfl) h (Int.le_refl _)
  · rw [Int32.le_iff_toInt_le] at h
    exact K a (Or.inl rfl) (Int.le_refl _) (by omega)
theorem gp_greater {post : Int32 → Prop} {a b : Int32} (K : ∀ r : Int32, (r = a ∨ r = b) → a.toInt ≤ r.toInt → b.toInt ≤ r.toInt → post r) : wpX_greater post a b := by
  refine br_c (fun h => ?_) (fun h => ?_)
  · rw [Int32.le_iff_toInt_le] at h
    exact K b (Or.inr rfl) h (Int.le_refl _)
  · rw [Int32.le_iff_toInt_le] at h
    exact K a (Or.inl rfl) (Int.le_refl _) (by omega)
theorem gp_x97 {post : SX → Prop} {J : Int32 → (Nat → Int32) → (Nat → Int32) → (Nat → Int32) → (Nat → Int32) → (Nat → Int32) → (Nat → Int32) → (Nat → Int32) → (Nat → Int32) → (Nat → Int32) → (Nat → Int32) → (Nat → Int32) → (Nat → Int32) → (Nat → Int32) → (Nat → Int32) → (Nat → Int32) → Prop} {k l j w : Nat} {x4 x5 x6 x7 : Int32} {f0 : Nat → Int32} (hk : k < 16) (hl : l < 16) (hj : j < 16) (hw : w ≤ 32) (bX : gp_bd px) (bY : gp_bd py)
    (hbox : ∀ i, i < 16 → gp_near px py k l i j w = true → (¬ nI (2 * i + 1) < x4 ∧ ¬ x5 < nI (2 * i + 1)) ∧ (¬ nI (2 * j + 1) < x6 ∧ ¬ x7 < nI (2 * j + 1)))
    (K : ∀ fo : Nat → Int32, (∀ q, ¬ q = j → fo q = f0 q) → (∀ t, bt (fo j) t = (bt (f0 j) t || (decide (t < 16) && gp_near px py k l t j w))) → J (nI (j + 1)) pg bf ma fr kr sm sc so sk px py fp cl wi fo) :
    ∀ (d i : Nat) (fo : Nat → Int32), i + d = 16 → (∀ q, ¬ q = j → fo q = f0 q) → (∀ t, bt (fo j) t = (bt (f0 j) t || (decide (t < i) && gp_near px py k l t j w))) →
      wX_strokeOne_97 post J (nI k) (nI l) (nI w) x4 x5 x6 x7 (nI j) (nI (2 * j + 1)) pn co mo sv pt sp xr (d + 1) (nI i) pg bf ma fr kr sm sc so sk px py fp cl wi fo := by
  have out : ∀ (i : Nat) (fo : Nat → Int32), i ≤ 16 → (nI (2 * j + 1) < x6 ∨ x7 < nI (2 * j + 1)) → (∀ q, ¬ q = j → fo q = f0 q) → (∀ t, bt (fo j) t = (bt (f0 j) t || (decide (t < i) && gp_near px py k l t j w))) → J (nI (j + 1)) pg bf ma fr kr sm sc so sk px py fp cl wi fo := by
    intro i fo hi ho h1 h2
    refine K fo h1 (fun t => ?_)
    rw [h2 t]
    by_cases ht : t < 16
    · have hn : gp_near px py k l t j w = false := by
        cases hh : gp_near px py k l t j w
        · rfl
        · have := (hbox t ht hh).2
          rcases ho with z | z
          · exact absurd z this.1
          · exact absurd z this.2
      rw [hn, Bool.and_false, Bool.and_false]
    · rw [decide_eq_false ht, decide_eq_false (by omega : ¬ t < i)]
  intro d
  induction d with
  | zero =>
    intro i fo hi h1 h2
    have e : i = 16 := by omega
    subst e
    exact pk_le 16 16 (fun _ => nm_r (nI_1 j) (K fo h1 h2)) (fun h => absurd h (by omega))
  | succ d ih =>
    intro i fo hi h1 h2
    have hlt : ∀ t, ¬ t = i → decide (t < i + 1) = decide (t < i) := fun t ht => decide_eq_decide.mpr (by omega)
    have skip : gp_near px py k l i j w = false → ∀ t, bt (fo j) t = (bt (f0 j) t || (decide (t < i + 1) && gp_near px py k l t j w)) := fun hn t => by
      rw [h2 t]
      by_cases e : t = i
      · rw [e, hn, Bool.and_false, Bool.and_false]
      · rw [hlt t e]
    have hin : vp_in (nI j) 16 := vp_in_nI (by omega) (by omega)
    refine pk_le 16 i (fun h => absurd h (by omega)) (fun _ => br_c (fun c => nm_r (nI_1 j) (out i fo (by omega) (Or.inl c) h1 h2)) (fun _ => br_c (fun c => nm_r (nI_1 j) (out i fo (by omega) (Or.inr c) h1 h2)) (fun _ => nm_r (gp_2j i) ?_)))
    refine br_c (fun c => nm_r (nI_1 i) (ih (i + 1) fo (by omega) h1 (skip ?_))) (fun _ => br_c (fun c => nm_r (nI_1 i) (ih (i + 1) fo (by omega) h1 (skip ?_))) (fun _ => ?_))
    · cases hh : gp_near px py k l i j w
      · rfl
      · exact absurd c (hbox i (by omega) hh).1.1
    · cases hh : gp_near px py k l i j w
      · rfl
      · exact absurd c (hbox i (by omega) hh).1.2
    · refine gp_isNearX hk hl (by omega) hj hw bX bY ?_
      cases hh : gp_near px py k l i j w
      · exact br_t rfl (nm_r (nI_1 i) (ih (i + 1) fo (by omega) h1 (skip hh)))
      · refine br_f (by decide) (And.intro hin (And.intro hin (nm_r (e' := upd fo j (fo j ||| ((1 : Int32) <<< (nI i &&& 31)))) (by rw [nI_clamp (by omega)]) (nm_r (nI_1 i) (ih (i + 1) _ (by omega) (fun q hq => ?_) (fun t => ?_))))))
        · rw [pk_un hq]
          exact h1 q hq
        · rw [pk_us, b_or, gp_1shl (by omega), h2 t]
          by_cases e : t = i
          · rw [e, hh, decide_eq_true (p := i = i) rfl, decide_eq_true (p := i < i + 1) (by omega), Bool.or_true, Bool.and_true, Bool.or_true]
          · rw [hlt t e, decide_eq_false e, Bool.or_false]
theorem gp_x79 {post : SX → Prop} {k l w : Nat} {x4 x5 x6 x7 : Int32} {f0 : Nat → Int32} (hk : k < 16) (hl : l < 16) (hw : w ≤ 32) (bX : gp_bd px) (bY : gp_bd py)
    (hbox : ∀ i j, i < 16 → j < 16 → gp_near px py k l i j w = true → (¬ nI (2 * i + 1) < x4 ∧ ¬ x5 < nI (2 * i + 1)) ∧ (¬ nI (2 * j + 1) < x6 ∧ ¬ x7 < nI (2 * j + 1)))
    (K : ∀ fo : Nat → Int32, (∀ q, q < 16 → ∀ t, bt (fo q) t = (bt (f0 q) t || (decide (t < 16) && gp_near px py k l t q w))) → post (pn, co, mo, sv, pt, sp, xr, pg, bf, ma, fr, kr, sm, sc, so, sk, px, py, fp, cl, wi, fo)) :
    ∀ (d j : Nat) (fo : Nat → Int32), j + d = 16 → (∀ q, q < j → ∀ t, bt (fo q) t = (bt (f0 q) t || (decide (t < 16) && gp_near px py k l t q w))) → (∀ q, j ≤ q → fo q = f0 q) →
      wX_strokeOne_79 post (nI k) (nI l) (nI w) x4 x5 x6 x7 pn co mo sv pt sp xr (d + 1) (nI j) pg bf ma fr kr sm sc so sk px py fp cl wi fo := by
  intro d
  induction d with
  | zero =>
    intro j fo hj h1 h2
    have e : j = 16 := by omega
    subst e
    exact pk_le 16 16 (fun _ => K fo h1) (fun h => absurd h (by omega))
  | succ d ih =>
    intro j fo hj h1 h2
    refine pk_le 16 j (fun h => absurd h (by omega)) (fun _ => nm_r (gp_2j j) ⟨17, gp_x97 (f0 := fo) hk hl (by omega) hw bX bY (fun i hi hn => hbox i j hi (by omega) hn) (fun fo' g1 g2 => ih (j + 1) fo' (by omega) (fun q hq t => ?_) (fun q hq => ?_)) 16 0 fo rfl (fun q _ => rfl) (fun t => ?_)⟩)
    · by_cases e : q = j
      · rw [e, g2 t, h2 j (Nat.le_refl j)]
      · rw [g1 q e]
        exact h1 q (by omega) t
    · rw [g1 q (by omega)]
      exact h2 q (by omega)
    · rw [decide_eq_false (by omega : ¬ t < 0), Bool.false_and, Bool.or_false]
theorem gp_strokeOne {post : SX → Prop} {k l w : Nat} (hk : k < 16) (hl : l < 16) (hw : w ≤ 32) (bX : gp_bd px) (bY : gp_bd py)
    (K : ∀ f' : Nat → Int32, (∀ q, q < 16 → ∀ t, bt (f' q) t = (bt (fo q) t || (decide (t < 16) && gp_near px py k l t q w))) → post (pn, co, mo, sv, pt, sp, xr, pg, bf, ma, fr, kr, sm, sc, so, sk, px, py, fp, cl, wi, f')) : wpX_strokeOne post (pn, co, mo, sv, pt, sp, xr, pg, bf, ma, fr, kr, sm, sc, so, sk, px, py, fp, cl, wi, fo) (nI k) (nI l) (nI w) := by
  have ik : vp_in (nI k) 16 := vp_in_nI hk (by omega)
  have il : vp_in (nI l) 16 := vp_in_nI hl (by omega)
  have ew : (nI w).toInt = (w : Int) := nI_toInt (by omega)
  have b1 := bX k
  have b2 := bX l
  have b3 := bY k
  have b4 := bY l
  unfold wpX_strokeOne
  dsimp only
  rw [nI_clamp (n := k) (by omega), nI_clamp (n := l) (by omega)]
  refine And.intro ik (And.intro il (gp_lesser (fun r1 e1 p1 q1 => nm_e (And.intro ik (And.intro il (gp_greater (fun r2 e2 p2 q2 => nm_e (And.intro ik (And.intro il (gp_lesser (fun r3 e3 p3 q3 => nm_e (And.intro ik (And.intro il (gp_greater (fun r4 e4 p4 q4 => nm_e ?_)))))))))))))))
  have c1 : -2000 ≤ r1.toInt ∧ r1.toInt ≤ 2000 := by rcases e1 with e | e <;> rw [e] <;> assumption
  have c2 : -2000 ≤ r2.toInt ∧ r2.toInt ≤ 2000 := by rcases e2 with e | e <;> rw [e] <;> assumption
  have c3 : -2000 ≤ r3.toInt ∧ r3.toInt ≤ 2000 := by rcases e3 with e | e <;> rw [e] <;> assumption
  have c4 : -2000 ≤ r4.toInt ∧ r4.toInt ≤ 2000 := by rcases e4 with e | e <;> rw [e] <;> assumption
  have s1 : (r1 - nI w).toInt = r1.toInt - w := by rw [gp_sub32 (by omega) (by omega), ew]
  have s2 : (r2 + nI w).toInt = r2.toInt + w := by rw [gp_add32 (by omega) (by omega), ew]
  have s3 : (r3 - nI w).toInt = r3.toInt - w := by rw [gp_sub32 (by omega) (by omega), ew]
  have s4 : (r4 + nI w).toInt = r4.toInt + w := by rw [gp_add32 (by omega) (by omega), ew]
  refine ⟨17, gp_x79 (f0 := fo) hk hl hw bX bY (fun i j hi hj hn => ?_) K 16 0 fo rfl (fun q hq => absurd hq (by omega)) (fun q _ => rfl)⟩
  have ei : (nI (2 * i + 1)).toInt = 2 * (i : Int) + 1 := by rw [nI_toInt (by omega)]; omega
  have ej : (nI (2 * j + 1)).toInt = 2 * (j : Int) + 1 := by rw [nI_toInt (by omega)]; omega
  have hb := gp_box (w := (w : Int)) (by omega) hn
  rw [Int32.lt_iff_toInt_lt, Int32.lt_iff_toInt_lt, Int32.lt_iff_toInt_lt, Int32.lt_iff_toInt_lt, ei, ej, s1, s2, s3, s4]
  clear K e1 e2 e3 e4 hn s1 s2 s3 s4 ei ej ew
  omega
def gp_SI (px py cl : Nat → Int32) (F T : Nat → Nat) (w k : Nat) (fo : Nat → Int32) : Prop := ∀ q, q < 16 → ∀ t, bt (fo q) t = (decide (t < 16) && gp_any (gp_sd px py cl F T w t q) k)
theorem gp_SI_t {w k : Nat} {f' : Nat → Int32} (h : gp_SI px py cl F T w k fo) (hd : gp_dr F T cl k = true) (hf : ∀ q, q < 16 → ∀ t, bt (f' q) t = (bt (fo q) t || (decide (t < 16) && gp_near px py k (gp_nx F T k) t q w))) : gp_SI px py cl F T w (k + 1) f' := by
  intro q hq t
  rw [hf q hq t, h q hq t, gp_any_s, ← Bool.and_or_distrib_left]
  show _ = (decide (t < 16) && (_ || (gp_dr F T cl k && gp_near px py k (gp_nx F T k) t q w)))
  rw [hd, Bool.true_and]
theorem gp_SI_f {w k : Nat} (h : gp_SI px py cl F T w k fo) (hd : gp_dr F T cl k = false) : gp_SI px py cl F T w (k + 1) fo := by
  intro q hq t
  rw [h q hq t, gp_any_s]
  show _ = (decide (t < 16) && (_ || (gp_dr F T cl k && gp_near px py k (gp_nx F T k) t q w)))
  rw [hd, Bool.false_and, Bool.or_false]
theorem gp_x60 {post : Int32 → SX → Prop} {J : Int32 → Int32 → Int32 → Int32 → Int32 → Int32 → Int32 → Int32 → (Nat → Int32) → (Nat → Int32) → (Nat → Int32) → (Nat → Int32) → (Nat → Int32) → (Nat → Int32) → (Nat → Int32) → (Nat → Int32) → (Nat → Int32) → (Nat → Int32) → (Nat → Int32) → (Nat → Int32) → (Nat → Int32) → (Nat → Int32) → (Nat → Int32) → Prop} {s w : Nat} (P : gp_path n ns F T fp sb) (hs : s < ns) (hw : w ≤ 32) (bX : gp_bd px) (bY : gp_bd py)
    (K : ∀ fo : Nat → Int32, gp_SI px py cl F T w (F (s + 1)) fo → J (nI (s + 1)) pn co mo sv pt sp xr pg bf ma fr kr sm sc so sk px py fp cl wi fo) :
    ∀ (d k : Nat) (fo : Nat → Int32), k + d + 1 = F (s + 1) → F s ≤ k → gp_SI px py cl F T w k fo → wX_stroke_60 post J (nI w) (nI s) (nI (F s)) (nI (F (s + 1) - 1)) (d + 1) (nI k) pn co mo sv pt sp xr pg bf ma fr kr sm sc so sk px py fp cl wi fo := by
  have hF1 : F (s + 1) ≤ n := gp_Fle P hs
  have hns := gp_ns P
  have hFs : F s < F (s + 1) := P.2.2.2.1 s hs
  have hn16 : n ≤ 16 := P.1
  intro d
  induction d with
  | zero =>
    intro k fo hd hk hc
    obtain ⟨hkn, hT⟩ := gp_uniq P hs hk (by omega)
    have hnx : gp_nx F T k = F s := by unfold gp_nx; rw [hT, if_neg (by omega)]
    have hdr : gp_dr F T cl k = (decide (k < F s) || (decide (¬ cl s = 0) || decide (F s = k))) := by unfold gp_dr; rw [hnx, hT]
    have e : F (s + 1) - 1 = k := by omega
    have e2 : F (s + 1) = k + 1 := by omega
    rw [e]
    rw [e2] at K
    have G : gp_dr F T cl k = true → wX_stroke_99 post J (nI w) (nI s) (nI (F s)) (nI k) pn co mo sv pt sp xr pg bf ma fr kr sm sc so sk px py fp cl wi fo := fun hd => by
      refine gp_strokeOne (by omega) (by omega) hw bX bY (fun f' hf => nm_r (nI_1 s) (K f' (gp_SI_t hc hd ?_)))
      rw [hnx]
      exact hf
    refine pk_le k k (fun _ => And.intro (vp_in_nI (by omega) (by omega)) ?_) (fun h => absurd h (by omega))
    rw [nI_clamp (n := s) (by omega)]
    refine br_c (fun c => pk_eq (F s) k (fun e => G ?_) (fun e => nm_r (nI_1 s) (K fo (gp_SI_f hc ?_)))) (fun c => G ?_)
    · rw [hdr, decide_eq_true e, Bool.or_true, Bool.or_true]
    · rw [hdr, decide_eq_false e, decide_eq_false (p := ¬ cl s = 0) (fun z => z c), decide_eq_false (by omega : ¬ k < F s)]
      rfl
    · rw [hdr, decide_eq_true (p := ¬ cl s = 0) c, Bool.true_or, Bool.or_true]
  | succ d ih =>
    intro k fo hd hk hc
    obtain ⟨hkn, hT⟩ := gp_uniq P hs hk (by omega)
    have hnx : gp_nx F T k = k + 1 := by unfold gp_nx; rw [hT, if_pos (by omega)]
    have hdr : gp_dr F T cl k = true := by unfold gp_dr; rw [hnx, decide_eq_true (by omega), Bool.true_or]
    refine pk_le (F (s + 1) - 1) k (fun h => absurd h (by omega)) (fun _ => ?_)
    rw [nI_1]
    refine gp_strokeOne (by omega) (by omega) hw bX bY (fun f' hf => nm_e (ih (k + 1) f' (by omega) (by omega) (gp_SI_t hc hdr ?_)))
    rw [hnx]
    exact hf
theorem gp_x35 {post : Int32 → SX → Prop} {w : Nat} (P : gp_path n ns F T fp sb) (hw : w ≤ 32) (bX : gp_bd px) (bY : gp_bd py)
    (K : ∀ (fo : Nat → Int32), post (nI (gp_pn (fun p => gp_any (gp_sd px py cl F T w (p % 16) (p / 16)) n && bt (kr (p / 16)) (p % 16)) mo co pg 256))
      (1, co, mo, sv, nI n, nI ns, xr, gp_pg (fun p => gp_any (gp_sd px py cl F T w (p % 16) (p / 16)) n && bt (kr (p / 16)) (p % 16)) mo co pg 256, gp_wr bf 0 pg 256, ma, fr, kr, sm, sc, so, sk, px, py, fp, cl, wi, fo)) :
    ∀ (d s : Nat) (fo : Nat → Int32), s + d = ns → gp_SI px py cl F T w (F s) fo → wX_stroke_35 post (nI w) (d + 1) (nI s) pn co mo sv (nI n) (nI ns) xr pg bf ma fr kr sm sc so sk px py fp cl wi fo := by
  have hns := gp_ns P
  have hn16 : n ≤ 16 := P.1
  intro d
  induction d with
  | zero =>
    intro s fo hd hc
    have e : s = ns := by omega
    subst e
    rw [P.2.2.1] at hc
    refine pk_le s s (fun _ => gp_paintX (a := fun p => gp_any (gp_sd px py cl F T w (p % 16) (p / 16)) n) (fun p hp => ?_) (K fo)) (fun h => absurd h (by omega))
    rw [hc (p / 16) (by omega) (p % 16), decide_eq_true (by omega), Bool.true_and]
  | succ d ih =>
    intro s fo hd hc
    have hs : s < ns := by omega
    have hF1 : F s < F (s + 1) := P.2.2.2.1 s hs
    refine pk_le ns s (fun h => absurd h (by omega)) (fun _ => And.intro (vp_in_nI (by omega) (by omega)) ?_)
    refine nm_r (e' := nI (F s)) (by rw [nI_clamp (by omega)]; exact P.2.2.2.2.1 s hs) (gp_last P hs ⟨F (s + 1) - F s - 1 + 1, ?_⟩)
    exact gp_x60 P hs hw bX bY (fun fo hc => ih (s + 1) fo (by omega) hc) (F (s + 1) - F s - 1) (F s) fo (by omega) (by omega) hc
theorem gp_sX {post : Int32 → SX → Prop} {w : Nat} (P : gp_path n ns F T fp sb) (hw : w ≤ 32) (bX : gp_bd px) (bY : gp_bd py)
    (K : ∀ (fo : Nat → Int32), post (nI (gp_pn (fun p => gp_any (gp_sd px py cl F T w (p % 16) (p / 16)) n && bt (kr (p / 16)) (p % 16)) mo co pg 256))
      (1, co, mo, sv, nI n, nI ns, xr, gp_pg (fun p => gp_any (gp_sd px py cl F T w (p % 16) (p / 16)) n && bt (kr (p / 16)) (p % 16)) mo co pg 256, gp_wr bf 0 pg 256, ma, fr, kr, sm, sc, so, sk, px, py, fp, cl, wi, fo)) :
    ∀ (d j : Nat) (fo : Nat → Int32), j + d = 16 → (∀ q, q < j → fo q = 0) → wX_stroke_14 post (nI w) pn co mo sv (nI n) (nI ns) xr (d + 1) (nI j) pg bf ma fr kr sm sc so sk px py fp cl wi fo := by
  intro d
  induction d with
  | zero =>
    intro j fo hj hf
    have e : j = 16 := by omega
    subst e
    refine pk_le 16 16 (fun _ => ⟨ns + 1, gp_x35 P hw bX bY K ns 0 fo (by omega) ?_⟩) (fun h => absurd h (by omega))
    rw [P.2.1]
    intro q hq t
    rw [hf q hq, b_0]
    exact (Bool.and_false _).symm
  | succ d ih =>
    intro j fo hj hf
    refine pk_le 16 j (fun h => absurd h (by omega)) (fun _ => And.intro (vp_in_nI (by omega) (by omega)) (nm_r (e' := upd fo j 0) (by rw [nI_clamp (by omega)]) (nm_r (nI_1 j) (ih (j + 1) _ (by omega) (fun q hq => ?_)))))
    by_cases e : q = j
    · rw [e, pk_us]
    · rw [pk_un e]
      exact hf q (by omega)
end GP11
end
section
section GP12
variable {pn co mo sv pt sp xr : Int32} {pg bf ma fr kr sm sc so sk px py fp cl wi fo kc kk sb ch : Nat → Int32}
variable {n ns : Nat} {F T : Nat → Nat}
/-! O: clip -/
theorem gp_o6 {post : Int32 → Prop} {t : Nat} (ht : t ≤ 16) (K : post (nI t)) : ∀ d c m : Nat, c + d = 17 → m < 65536 → c + gp_cnt (fun i => m.testBit i) 16 = t → wX_ones_6 post d (nI c) (nI m) (nI c) := by
  intro d
  induction d with
  | zero => intro c m h1 h2 h3; exact absurd h1 (by omega)
  | succ d ih =>
    intro c m h1 h2 h3
    refine pk_le 16 c (fun h => ?_) (fun h => pk_eq m 0 (fun e => ?_) (fun e => ?_))
    · rwa [show t = c by omega] at K
    · rw [e, gp_cnt_0] at h3
      rwa [show t = c by omega] at K
    · have hp := gp_pop 16 m (by omega) h2
      refine nm_r (e' := nI (m &&& (m - 1))) ?_ (nm_r (nI_1 c) (nm_r (nI_1 c) (ih (c + 1) _ (by omega) (Nat.lt_of_le_of_lt Nat.and_le_left h2) (by omega))))
      rw [show nI m - 1 = nI (m - 1) from pk_sub (a := m) (b := 1) (by omega), nx_and]
theorem gp_ones {post : Int32 → Prop} {x : Int32} (h : ∀ i, 16 ≤ i → bt x i = false) (K : post (nI (gp_cnt (bt x) 16))) : wpX_ones post x := by
  obtain ⟨m, hm, e⟩ : ∃ m, m < 65536 ∧ x = nI m := ⟨_, gp_lt16 h, gp_nI_bt x⟩
  subst e
  rw [gp_cnt_c (g := fun i => m.testBit i) 16 (fun i _ => gp_bt_n (by omega))] at K
  exact ⟨17, gp_o6 (gp_cnt_le _ 16) K 17 0 m rfl hm (by omega)⟩
def gp_cs (px py kr : Nat → Int32) (N : Nat → Nat) (n : Nat) (rl : Int32) : Nat → Bool := fun p => bt (kr (p / 16)) (p % 16) && gp_in px py N n rl (p % 16) (p / 16)
theorem gp_cX {post : Int32 → SX → Prop} {rl : Int32} {k0 : Nat → Int32} (hr : rl = 0 ∨ rl = 1) (P : gp_path n ns F T fp sb) (bX : gp_bd px) (bY : gp_bd py)
    (K : ∀ (xr : Int32) (wi kr : Nat → Int32), (∀ q, q < 16 → ∀ i, bt (kr q) i = (bt (k0 q) i && (decide (i < 16) && gp_in px py (gp_nx F T) n rl i q))) → post (nI (gp_cnt (gp_cs px py k0 (gp_nx F T) n rl) 256)) (pn, co, mo, sv, nI n, nI ns, xr, pg, bf, ma, fr, kr, sm, sc, so, sk, px, py, fp, cl, wi, fo)) :
    ∀ (d j : Nat) (xr : Int32) (wi kr : Nat → Int32), j + d = 16 → (∀ q, q < j → ∀ i, bt (kr q) i = (bt (k0 q) i && (decide (i < 16) && gp_in px py (gp_nx F T) n rl i q))) → (∀ q, j ≤ q → kr q = k0 q) →
      wX_clip_15 post rl (d + 1) (nI (gp_cnt (gp_cs px py k0 (gp_nx F T) n rl) (16 * j))) (nI j) pn co mo sv (nI n) (nI ns) xr pg bf ma fr kr sm sc so sk px py fp cl wi fo := by
  intro d
  induction d with
  | zero =>
    intro j xr wi kr hj h1 h2
    have e : j = 16 := by omega
    subst e
    exact pk_le 16 16 (fun _ => K xr wi kr h1) (fun h => absurd h (by omega))
  | succ d ih =>
    intro j xr wi kr hj h1 h2
    have hin : vp_in (nI j) 16 := vp_in_nI (by omega) (by omega)
    have ec : (nI j).toNatClampNeg = j := nI_clamp (by omega)
    refine pk_le 16 j (fun h => absurd h (by omega)) (fun _ => And.intro hin (gp_insideRow (xr := xr) (wi := wi) hr P (by omega) bX bY (fun xr wi r hb => And.intro hin (nm_r (e' := upd kr j (kr j &&& r)) (by rw [ec]) (And.intro hin ?_)))))
    rw [ec, pk_us]
    have hbit : ∀ i, bt (kr j &&& r) i = (bt (k0 j) i && (decide (i < 16) && gp_in px py (gp_nx F T) n rl i j)) := fun i => by rw [b_and, hb i, h2 j (Nat.le_refl j)]
    refine gp_ones (fun i hi => ?_) (nm_r (e' := nI (gp_cnt (gp_cs px py k0 (gp_nx F T) n rl) (16 * (j + 1)))) ?_ (nm_r (nI_1 j) (ih (j + 1) xr wi _ (by omega) (fun q hq i => ?_) (fun q hq => ?_))))
    · rw [hbit, decide_eq_false (by omega), Bool.false_and, Bool.and_false]
    · rw [nI_add, show 16 * (j + 1) = 16 * j + 16 by omega, gp_cnt_add]
      refine congrArg (fun z => nI (gp_cnt (gp_cs px py k0 (gp_nx F T) n rl) (16 * j) + z)) (gp_cnt_c 16 (fun i hi => ?_))
      rw [hbit i, decide_eq_true hi, Bool.true_and]
      show _ = (bt (k0 ((16 * j + i) / 16)) ((16 * j + i) % 16) && gp_in px py (gp_nx F T) n rl ((16 * j + i) % 16) ((16 * j + i) / 16))
      rw [show (16 * j + i) / 16 = j by omega, show (16 * j + i) % 16 = i by omega]
    · by_cases e : q = j
      · rw [e, pk_us]
        exact hbit i
      · rw [pk_un e]
        exact h1 q (by omega) i
    · rw [pk_un (by omega)]
      exact h2 q (by omega)
theorem gp_y57c {post : Int32 → SY → Prop} {J : Int32 → Int32 → (Nat → Int32) → (Nat → Int32) → (Nat → Int32) → (Nat → Int32) → (Nat → Int32) → (Nat → Int32) → (Nat → Int32) → (Nat → Int32) → (Nat → Int32) → (Nat → Int32) → (Nat → Int32) → (Nat → Int32) → (Nat → Int32) → Prop} {x1 : Int32} {b : Bool} {c p : Nat} (hp : p < 256)
    (K : J (nI (c + (if b = true then 1 else 0))) (nI (p + 1)) ma (upd kc p (gp_b b)) sm sc so kk px py sb cl pg bf ch) : wY_clip_57 post J x1 (nI c) (nI p) (gp_b b) (nI p) co mo sv pt sp pn ma kc sm sc so kk px py sb cl pg bf ch := by
  have hin : vp_in (nI p) 256 := vp_in_nI (by omega) (by omega)
  refine And.intro hin (nm_r (e' := upd kc p (gp_b b)) (by rw [nI_clamp (by omega), gp_b_nar]) (And.intro hin ?_))
  rw [nI_clamp (by omega), pk_us]
  cases b
  · exact br_t rfl (nm_r (nI_1 p) K)
  · exact br_f (by decide) (nm_r (nI_1 c) (nm_r (nI_1 p) K))
theorem gp_cY {post : Int32 → SY → Prop} {rl : Int32} {k0 : Nat → Int32} (hr : rl = 0 ∨ rl = 1) (P : gp_path n ns F T fp sb) (bX : gp_bd px) (bY : gp_bd py) (hc : gp_cb kr k0 16)
    (K : ∀ kc : Nat → Int32, (∀ q, q < 256 → kc q = gp_b (gp_cs px py kr (gp_nx F T) n rl q)) → post (nI (gp_cnt (gp_cs px py kr (gp_nx F T) n rl) 256)) (co, mo, sv, nI n, nI ns, pn, ma, kc, sm, sc, so, kk, px, py, sb, cl, pg, bf, ch)) :
    ∀ (d p : Nat) (kc : Nat → Int32), p + d = 256 → (∀ q, q < p → kc q = gp_b (gp_cs px py kr (gp_nx F T) n rl q)) → (∀ q, p ≤ q → kc q = k0 q) →
      wY_clip_15 post rl co mo sv (nI n) (nI ns) pn (d + 1) (nI (gp_cnt (gp_cs px py kr (gp_nx F T) n rl) p)) (nI p) ma kc sm sc so kk px py sb cl pg bf ch := by
  intro d
  induction d with
  | zero =>
    intro p kc hp h1 h2
    have e : p = 256 := by omega
    subst e
    exact pk_le 256 256 (fun _ => K kc h1) (fun h => absurd h (by omega))
  | succ d ih =>
    intro p kc hp h1 h2
    have hq : nI p / 16 = nI (p / 16) := pk_div (d := 16) (by omega) (by omega) (by omega)
    have hrem : nI p - nI p / 16 * 16 = nI (p % 16) := pk_rem (d := 16) (by omega) (by omega) (by omega)
    have hkp : kc p = gp_b (bt (kr (p / 16)) (p % 16)) := by rw [h2 p (Nat.le_refl p)]; exact gp_cb_at hc (by omega)
    have G : ∀ b : Bool, b = gp_cs px py kr (gp_nx F T) n rl p → wY_clip_57 post (wY_clip_15 post rl co mo sv (nI n) (nI ns) pn (d + 1)) rl (nI (gp_cnt (gp_cs px py kr (gp_nx F T) n rl) p)) (nI p) (gp_b b) (nI p) co mo sv (nI n) (nI ns) pn ma kc sm sc so kk px py sb cl pg bf ch := fun b e => by
      refine gp_y57c (by omega) ?_
      have I := ih (p + 1) (upd kc p (gp_b b)) (by omega) (fun q hq => ?_) (fun q hq => ?_)
      · rw [gp_cnt_s, ← e] at I
        exact I
      · by_cases e2 : q = p
        · rw [e2, pk_us, e]
        · rw [pk_un e2]
          exact h1 q (by omega)
      · rw [pk_un (by omega)]
        exact h2 q (by omega)
    refine pk_le 256 p (fun h => absurd h (by omega)) (fun _ => And.intro (vp_in_nI (by omega) (by omega)) ?_)
    rw [nI_clamp (by omega), hkp]
    have hcs : gp_cs px py kr (gp_nx F T) n rl p = (bt (kr (p / 16)) (p % 16) && gp_in px py (gp_nx F T) n rl (p % 16) (p / 16)) := rfl
    cases hb : bt (kr (p / 16)) (p % 16)
    · exact br_t rfl (G false (by rw [hcs, hb, Bool.false_and]))
    · refine br_f (by decide) (And.intro (by decide) (And.intro (by decide) ?_))
      rw [hrem, hq]
      refine gp_isInside hr P (by omega) (by omega) bX bY ?_
      cases hi : gp_in px py (gp_nx F T) n rl (p % 16) (p / 16)
      · exact br_t rfl (G false (by rw [hcs, hi, Bool.and_false]))
      · exact br_f (by decide) (G true (by rw [hcs, hi, hb]; rfl))
theorem gp_cb_clip {rl : Int32} {N : Nat → Nat} {k' c' : Nat → Int32} (h1 : ∀ q, q < 16 → ∀ i, bt (k' q) i = (bt (kr q) i && (decide (i < 16) && gp_in px py N n rl i q))) (h2 : ∀ q, q < 256 → c' q = gp_b (gp_cs px py kr N n rl q)) : gp_cb k' c' 16 := by
  intro j hj
  refine ⟨fun i hi => ?_, fun i hi => ?_⟩
  · rw [h1 j hj i, decide_eq_false (by omega), Bool.false_and, Bool.and_false]
  · rw [h2 _ (by omega), h1 j hj i, decide_eq_true hi, Bool.true_and]
    unfold gp_cs
    rw [show (16 * j + i) / 16 = j by omega, show (16 * j + i) % 16 = i by omega]
end GP12
end
section
section GP13
variable {pn co mo sv pt sp xr : Int32} {pg bf ma fr kr sm sc so sk px py fp cl wi fo kc kk sb ch : Nat → Int32}
/-! P: save and restore -/
theorem gp_6 (s i : Nat) : 6 * nI s + nI i = nI (6 * s + i) := by rw [show (6 : Int32) = nI 6 from rfl, pk_mul, nI_add]
theorem gp_16 (s i : Nat) : 16 * nI s + nI i = nI (16 * s + i) := by rw [show (16 : Int32) = nI 16 from rfl, pk_mul, nI_add]
theorem gp_256 (s i : Nat) : 256 * nI s + nI i = nI (256 * s + i) := by rw [show (256 : Int32) = nI 256 from rfl, pk_mul, nI_add]
theorem gp_xs46 {post : Int32 → SX → Prop} {s : Nat} {k0 : Nat → Int32} (hs : s < 4) (K : post (nI (s + 1)) (pn, co, mo, nI (s + 1), pt, sp, xr, pg, bf, ma, fr, kr, sm, upd sc s co, upd so s mo, gp_wr k0 (16 * s) kr 16, px, py, fp, cl, wi, fo)) :
    ∀ d i : Nat, i + d = 16 → wX_save_46 post pn co mo (nI s) pt sp xr (d + 1) (nI i) pg bf ma fr kr sm sc so (gp_wr k0 (16 * s) kr i) px py fp cl wi fo := by
  intro d
  induction d with
  | zero =>
    intro i hi
    have e : i = 16 := by omega
    subst e
    have hin : vp_in (nI s) 4 := vp_in_nI hs (by omega)
    exact pk_le 16 16 (fun _ => And.intro hin (nm_r (e' := upd sc s co) (by rw [nI_clamp (by omega)]) (And.intro hin (nm_r (e' := upd so s mo) (by rw [nI_clamp (by omega)]) (nm_r (nI_1 s) K))))) (fun h => absurd h (by omega))
  | succ d ih =>
    intro i hi
    refine pk_le 16 i (fun h => absurd h (by omega)) (fun _ => And.intro (vp_in_nI (by omega) (by omega)) ?_)
    rw [gp_16, nI_clamp (by omega), nI_clamp (by omega)]
    exact And.intro (vp_in_nI (by omega) (by omega)) (nm_r gp_wrS (nm_r (nI_1 i) (ih (i + 1) (by omega))))
theorem gp_xs12 {post : Int32 → SX → Prop} {s : Nat} {m0 : Nat → Int32} (hs : s < 4) (K : post (nI (s + 1)) (pn, co, mo, nI (s + 1), pt, sp, xr, pg, bf, ma, fr, kr, gp_wr m0 (6 * s) ma 6, upd sc s co, upd so s mo, gp_wr sk (16 * s) kr 16, px, py, fp, cl, wi, fo)) :
    ∀ d i : Nat, i + d = 6 → wX_save_12 post pn co mo (nI s) pt sp xr (d + 1) (nI i) pg bf ma fr kr (gp_wr m0 (6 * s) ma i) sc so sk px py fp cl wi fo := by
  intro d
  induction d with
  | zero =>
    intro i hi
    have e : i = 6 := by omega
    subst e
    refine pk_le 6 6 (fun _ => ⟨17, ?_⟩) (fun h => absurd h (by omega))
    have := gp_xs46 (sm := gp_wr m0 (6 * s) ma 6) (k0 := sk) hs K 16 0 rfl
    rw [gp_wr0] at this
    exact this
  | succ d ih =>
    intro i hi
    refine pk_le 6 i (fun h => absurd h (by omega)) (fun _ => And.intro (vp_in_nI (by omega) (by omega)) ?_)
    rw [gp_6, nI_clamp (by omega), nI_clamp (by omega)]
    exact And.intro (vp_in_nI (by omega) (by omega)) (nm_r gp_wrS (nm_r (nI_1 i) (ih (i + 1) (by omega))))
theorem gp_saveX {post : Int32 → SX → Prop} {s : Nat} (hs : s < 4) (K : post (nI (s + 1)) (pn, co, mo, nI (s + 1), pt, sp, xr, pg, bf, ma, fr, kr, gp_wr sm (6 * s) ma 6, upd sc s co, upd so s mo, gp_wr sk (16 * s) kr 16, px, py, fp, cl, wi, fo)) : wpX_save post (pn, co, mo, nI s, pt, sp, xr, pg, bf, ma, fr, kr, sm, sc, so, sk, px, py, fp, cl, wi, fo) := by
  have := gp_xs12 (m0 := sm) hs K 6 0 rfl
  rw [gp_wr0] at this
  exact pk_lt s 4 (fun _ => ⟨7, this⟩) (fun h => absurd h (by omega))
theorem gp_ys46 {post : Int32 → SY → Prop} {s : Nat} {k0 : Nat → Int32} (hs : s < 4) (K : post (nI (s + 1)) (co, mo, nI (s + 1), pt, sp, pn, ma, kc, sm, upd sc s co, upd so s mo, gp_wr k0 (256 * s) (fun p => vp_nar .boolean (kc p)) 256, px, py, sb, cl, pg, bf, ch)) :
    ∀ d i : Nat, i + d = 256 → wY_save_46 post co mo (nI s) pt sp pn (d + 1) (nI i) ma kc sm sc so (gp_wr k0 (256 * s) (fun p => vp_nar .boolean (kc p)) i) px py sb cl pg bf ch := by
  intro d
  induction d with
  | zero =>
    intro i hi
    have e : i = 256 := by omega
    subst e
    have hin : vp_in (nI s) 4 := vp_in_nI hs (by omega)
    exact pk_le 256 256 (fun _ => And.intro hin (nm_r (e' := upd sc s co) (by rw [nI_clamp (by omega)]) (And.intro hin (nm_r (e' := upd so s mo) (by rw [nI_clamp (by omega)]) (nm_r (nI_1 s) K))))) (fun h => absurd h (by omega))
  | succ d ih =>
    intro i hi
    refine pk_le 256 i (fun h => absurd h (by omega)) (fun _ => And.intro (vp_in_nI (by omega) (by omega)) ?_)
    rw [gp_256, nI_clamp (by omega), nI_clamp (by omega)]
    exact And.intro (vp_in_nI (by omega) (by omega)) (nm_r (gp_wrS (s := fun p => vp_nar .boolean (kc p))) (nm_r (nI_1 i) (ih (i + 1) (by omega))))
theorem gp_ys12 {post : Int32 → SY → Prop} {s : Nat} {m0 : Nat → Int32} (hs : s < 4) (K : post (nI (s + 1)) (co, mo, nI (s + 1), pt, sp, pn, ma, kc, gp_wr m0 (6 * s) ma 6, upd sc s co, upd so s mo, gp_wr kk (256 * s) (fun p => vp_nar .boolean (kc p)) 256, px, py, sb, cl, pg, bf, ch)) :
    ∀ d i : Nat, i + d = 6 → wY_save_12 post co mo (nI s) pt sp pn (d + 1) (nI i) ma kc (gp_wr m0 (6 * s) ma i) sc so kk px py sb cl pg bf ch := by
  intro d
  induction d with
  | zero =>
    intro i hi
    have e : i = 6 := by omega
    subst e
    refine pk_le 6 6 (fun _ => ⟨257, ?_⟩) (fun h => absurd h (by omega))
    have := gp_ys46 (sm := gp_wr m0 (6 * s) ma 6) (k0 := kk) hs K 256 0 rfl
    rw [gp_wr0] at this
    exact this
  | succ d ih =>
    intro i hi
    refine pk_le 6 i (fun h => absurd h (by omega)) (fun _ => And.intro (vp_in_nI (by omega) (by omega)) ?_)
    rw [gp_6, nI_clamp (by omega), nI_clamp (by omega)]
    exact And.intro (vp_in_nI (by omega) (by omega)) (nm_r gp_wrS (nm_r (nI_1 i) (ih (i + 1) (by omega))))
theorem gp_saveY {post : Int32 → SY → Prop} {s : Nat} (hs : s < 4) (K : post (nI (s + 1)) (co, mo, nI (s + 1), pt, sp, pn, ma, kc, gp_wr sm (6 * s) ma 6, upd sc s co, upd so s mo, gp_wr kk (256 * s) (fun p => vp_nar .boolean (kc p)) 256, px, py, sb, cl, pg, bf, ch)) : wpY_save post (co, mo, nI s, pt, sp, pn, ma, kc, sm, sc, so, kk, px, py, sb, cl, pg, bf, ch) := by
  have := gp_ys12 (m0 := sm) hs K 6 0 rfl
  rw [gp_wr0] at this
  exact pk_eq s 4 (fun h => absurd h (by omega)) (fun _ => ⟨7, this⟩)
theorem gp_cb_save {s : Nat} (hs : s < 4) (h1 : gp_cb kr kc 16) (h2 : gp_cb sk kk 64) : gp_cb (gp_wr sk (16 * s) kr 16) (gp_wr kk (256 * s) (fun p => vp_nar .boolean (kc p)) 256) 64 := by
  intro j hj
  by_cases h : 16 * s ≤ j ∧ j < 16 * s + 16
  · obtain ⟨t, rfl⟩ : ∃ t, j = 16 * s + t := ⟨j - 16 * s, by omega⟩
    obtain ⟨a, b⟩ := h1 t (by omega)
    rw [gp_wr_i (by omega)]
    refine ⟨a, fun i hi => ?_⟩
    rw [show 16 * (16 * s + t) + i = 256 * s + (16 * t + i) by omega, gp_wr_i (by omega), b i hi, gp_b_nar]
  · obtain ⟨a, b⟩ := h2 j hj
    rw [gp_wr_o (by omega)]
    refine ⟨a, fun i hi => ?_⟩
    rw [gp_wr_o (by omega)]
    exact b i hi
theorem gp_xr55 {post : Int32 → SX → Prop} {s : Nat} {k0 : Nat → Int32} (hs : s < 4) (K : post (nI s) (pn, sc s, so s, nI s, pt, sp, xr, pg, bf, ma, fr, gp_wr k0 0 (fun j => sk (16 * s + j)) 16, sm, sc, so, sk, px, py, fp, cl, wi, fo)) :
    ∀ d i : Nat, i + d = 16 → wX_restore_55 post pn co mo (nI s) pt sp xr (d + 1) (nI i) pg bf ma fr (gp_wr k0 0 (fun j => sk (16 * s + j)) i) sm sc so sk px py fp cl wi fo := by
  intro d
  induction d with
  | zero =>
    intro i hi
    have e : i = 16 := by omega
    subst e
    have hin : vp_in (nI s) 4 := vp_in_nI hs (by omega)
    exact pk_le 16 16 (fun _ => And.intro hin (nm_r (e' := sc s) (by rw [nI_clamp (by omega)]) (And.intro hin (nm_r (e' := so s) (by rw [nI_clamp (by omega)]) K)))) (fun h => absurd h (by omega))
  | succ d ih =>
    intro i hi
    refine pk_le 16 i (fun h => absurd h (by omega)) (fun _ => ?_)
    rw [gp_16, nI_clamp (by omega), nI_clamp (by omega)]
    exact And.intro (vp_in_nI (by omega) (by omega)) (And.intro (vp_in_nI (by omega) (by omega)) (nm_r (gp_wrS0 (s := fun j => sk (16 * s + j))) (nm_r (nI_1 i) (ih (i + 1) (by omega)))))
theorem gp_xr21 {post : Int32 → SX → Prop} {s : Nat} {m0 : Nat → Int32} (hs : s < 4) (K : post (nI s) (pn, sc s, so s, nI s, pt, sp, xr, pg, bf, gp_wr m0 0 (fun j => sm (6 * s + j)) 6, fr, gp_wr kr 0 (fun j => sk (16 * s + j)) 16, sm, sc, so, sk, px, py, fp, cl, wi, fo)) :
    ∀ d i : Nat, i + d = 6 → wX_restore_21 post pn co mo (nI s) pt sp xr (d + 1) (nI i) pg bf (gp_wr m0 0 (fun j => sm (6 * s + j)) i) fr kr sm sc so sk px py fp cl wi fo := by
  intro d
  induction d with
  | zero =>
    intro i hi
    have e : i = 6 := by omega
    subst e
    refine pk_le 6 6 (fun _ => ⟨17, ?_⟩) (fun h => absurd h (by omega))
    have := gp_xr55 (co := co) (mo := mo) (ma := gp_wr m0 0 (fun j => sm (6 * s + j)) 6) (k0 := kr) hs K 16 0 rfl
    rw [gp_wr0] at this
    exact this
  | succ d ih =>
    intro i hi
    refine pk_le 6 i (fun h => absurd h (by omega)) (fun _ => ?_)
    rw [gp_6, nI_clamp (by omega), nI_clamp (by omega)]
    exact And.intro (vp_in_nI (by omega) (by omega)) (And.intro (vp_in_nI (by omega) (by omega)) (nm_r (gp_wrS0 (s := fun j => sm (6 * s + j))) (nm_r (nI_1 i) (ih (i + 1) (by omega)))))
theorem gp_restoreX {post : Int32 → SX → Prop} {s : Nat} (hs : s < 4) (K : post (nI s) (pn, sc s, so s, nI s, pt, sp, xr, pg, bf, gp_wr ma 0 (fun j => sm (6 * s + j)) 6, fr, gp_wr kr 0 (fun j => sk (16 * s + j)) 16, sm, sc, so, sk, px, py, fp, cl, wi, fo)) : wpX_restore post (pn, co, mo, nI (s + 1), pt, sp, xr, pg, bf, ma, fr, kr, sm, sc, so, sk, px, py, fp, cl, wi, fo) := by
  have := gp_xr21 (co := co) (mo := mo) (m0 := ma) hs K 6 0 rfl
  rw [gp_wr0] at this
  exact pk_eq (s + 1) 0 (fun h => absurd h (by omega)) (fun _ => nm_r (nI_pred s) ⟨7, this⟩)
theorem gp_yr55 {post : Int32 → SY → Prop} {s : Nat} {k0 : Nat → Int32} (hs : s < 4) (K : post (nI s) (sc s, so s, nI s, pt, sp, pn, ma, gp_wr k0 0 (fun j => vp_nar .boolean (kk (256 * s + j))) 256, sm, sc, so, kk, px, py, sb, cl, pg, bf, ch)) :
    ∀ d i : Nat, i + d = 256 → wY_restore_55 post co mo (nI s) pt sp pn (d + 1) (nI i) ma (gp_wr k0 0 (fun j => vp_nar .boolean (kk (256 * s + j))) i) sm sc so kk px py sb cl pg bf ch := by
  intro d
  induction d with
  | zero =>
    intro i hi
    have e : i = 256 := by omega
    subst e
    have hin : vp_in (nI s) 4 := vp_in_nI hs (by omega)
    exact pk_le 256 256 (fun _ => And.intro hin (nm_r (e' := sc s) (by rw [nI_clamp (by omega)]) (And.intro hin (nm_r (e' := so s) (by rw [nI_clamp (by omega)]) K)))) (fun h => absurd h (by omega))
  | succ d ih =>
    intro i hi
    refine pk_le 256 i (fun h => absurd h (by omega)) (fun _ => ?_)
    rw [gp_256, nI_clamp (by omega), nI_clamp (by omega)]
    exact And.intro (vp_in_nI (by omega) (by omega)) (And.intro (vp_in_nI (by omega) (by omega)) (nm_r (gp_wrS0 (s := fun j => vp_nar .boolean (kk (256 * s + j)))) (nm_r (nI_1 i) (ih (i + 1) (by omega)))))
theorem gp_yr21 {post : Int32 → SY → Prop} {s : Nat} {m0 : Nat → Int32} (hs : s < 4) (K : post (nI s) (sc s, so s, nI s, pt, sp, pn, gp_wr m0 0 (fun j => sm (6 * s + j)) 6, gp_wr kc 0 (fun j => vp_nar .boolean (kk (256 * s + j))) 256, sm, sc, so, kk, px, py, sb, cl, pg, bf, ch)) :
    ∀ d i : Nat, i + d = 6 → wY_restore_21 post co mo (nI s) pt sp pn (d + 1) (nI i) (gp_wr m0 0 (fun j => sm (6 * s + j)) i) kc sm sc so kk px py sb cl pg bf ch := by
  intro d
  induction d with
  | zero =>
    intro i hi
    have e : i = 6 := by omega
    subst e
    refine pk_le 6 6 (fun _ => ⟨257, ?_⟩) (fun h => absurd h (by omega))
    have := gp_yr55 (co := co) (mo := mo) (ma := gp_wr m0 0 (fun j => sm (6 * s + j)) 6) (k0 := kc) hs K 256 0 rfl
    rw [gp_wr0] at this
    exact this
  | succ d ih =>
    intro i hi
    refine pk_le 6 i (fun h => absurd h (by omega)) (fun _ => ?_)
    rw [gp_6, nI_clamp (by omega), nI_clamp (by omega)]
    exact And.intro (vp_in_nI (by omega) (by omega)) (And.intro (vp_in_nI (by omega) (by omega)) (nm_r (gp_wrS0 (s := fun j => sm (6 * s + j))) (nm_r (nI_1 i) (ih (i + 1) (by omega)))))
theorem gp_restoreY {post : Int32 → SY → Prop} {s : Nat} (hs : s < 4) (K : post (nI s) (sc s, so s, nI s, pt, sp, pn, gp_wr ma 0 (fun j => sm (6 * s + j)) 6, gp_wr kc 0 (fun j => vp_nar .boolean (kk (256 * s + j))) 256, sm, sc, so, kk, px, py, sb, cl, pg, bf, ch)) : wpY_restore post (co, mo, nI (s + 1), pt, sp, pn, ma, kc, sm, sc, so, kk, px, py, sb, cl, pg, bf, ch) := by
  have := gp_yr21 (co := co) (mo := mo) (m0 := ma) hs K 6 0 rfl
  rw [gp_wr0] at this
  exact pk_eq (s + 1) 0 (fun h => absurd h (by omega)) (fun _ => nm_r (nI_pred s) ⟨7, this⟩)
theorem gp_cb_restore {s : Nat} (hs : s < 4) (h2 : gp_cb sk kk 64) : gp_cb (gp_wr kr 0 (fun j => sk (16 * s + j)) 16) (gp_wr kc 0 (fun j => vp_nar .boolean (kk (256 * s + j))) 256) 16 := by
  intro j hj
  obtain ⟨a, b⟩ := h2 (16 * s + j) (by omega)
  rw [gp_wr_z hj]
  refine ⟨a, fun i hi => ?_⟩
  rw [gp_wr_z (by omega)]
  have := b i hi
  rw [show 16 * (16 * s + j) + i = 256 * s + (16 * j + i) by omega] at this
  rw [this, gp_b_nar]
end GP13
end
section
section GP14
variable {pn co mo sv pt sp xr : Int32} {pg bf ma fr kr sm sc so sk px py fp cl wi fo kc kk sb ch : Nat → Int32}
variable {n ns : Nat} {F T : Nat → Nat}
/-! Q: numbers within a bound; the matrix; points -/
def gp_ok (a m : Int32) : Prop := ¬ a < -m ∧ a ≤ m
theorem gp_far_t {post : Int32 → Prop} {a m : Int32} (h : gp_ok a m) (K : post 0) : wpY_isFar post (co, mo, sv, pt, sp, pn, ma, kc, sm, sc, so, kk, px, py, sb, cl, pg, bf, ch) a m := br_f h.1 (br_t h.2 K)
theorem gp_far_f {post : Int32 → Prop} {a m : Int32} (h : ¬ gp_ok a m) (K : post 1) : wpY_isFar post (co, mo, sv, pt, sp, pn, ma, kc, sm, sc, so, kk, px, py, sb, cl, pg, bf, ch) a m :=
  br_c (fun _ => K) (fun c => br_c (fun d => absurd ⟨c, d⟩ h) (fun _ => K))
theorem gp_within_t {post : Int32 → Prop} {a b m : Int32} (h1 : gp_ok a m) (h2 : gp_ok b m) (K : post 1) : wpX_within post a b m :=
  br_f h1.1 (br_f (Int32.not_lt.mpr h1.2) (br_f h2.1 (br_f (Int32.not_lt.mpr h2.2) K)))
theorem gp_within_f {post : Int32 → Prop} {a b m : Int32} (h : ¬ (gp_ok a m ∧ gp_ok b m)) (K : post 0) : wpX_within post a b m :=
  br_c (fun _ => K) (fun c1 => br_c (fun _ => K) (fun c2 => br_c (fun _ => K) (fun c3 => br_c (fun _ => K) (fun c4 => absurd ⟨⟨c1, Int32.not_lt.mp c2⟩, ⟨c3, Int32.not_lt.mp c4⟩⟩ h))))
theorem gp_x43 {post : Int32 → SX → Prop} {m0 : Nat → Int32} (K : post 1 (pn, co, mo, sv, pt, sp, xr, pg, bf, gp_wr m0 0 fr 6, fr, kr, sm, sc, so, sk, px, py, fp, cl, wi, fo)) : ∀ d i : Nat, i + d = 6 → wX_takeFresh_43 post pn co mo sv pt sp xr (d + 1) (nI i) pg bf (gp_wr m0 0 fr i) fr kr sm sc so sk px py fp cl wi fo := by
  intro d
  induction d with
  | zero =>
    intro i hi
    have e : i = 6 := by omega
    subst e
    exact pk_le 6 6 (fun _ => K) (fun h => absurd h (by omega))
  | succ d ih =>
    intro i hi
    refine pk_le 6 i (fun h => absurd h (by omega)) (fun _ => ?_)
    rw [nI_clamp (by omega)]
    exact And.intro (vp_in_nI (by omega) (by omega)) (And.intro (vp_in_nI (by omega) (by omega)) (nm_r gp_wrS0 (nm_r (nI_1 i) (ih (i + 1) (by omega)))))
theorem gp_x2 {post : Int32 → SX → Prop} (K1 : (∀ q, q < 6 → gp_ok (fr q) 999) → post 1 (pn, co, mo, sv, pt, sp, xr, pg, bf, gp_wr ma 0 fr 6, fr, kr, sm, sc, so, sk, px, py, fp, cl, wi, fo)) (K0 : (¬ ∀ q, q < 6 → gp_ok (fr q) 999) → post (-2) (pn, co, mo, sv, pt, sp, xr, pg, bf, ma, fr, kr, sm, sc, so, sk, px, py, fp, cl, wi, fo)) :
    ∀ d i : Nat, i + d = 6 → (∀ q, q < i → gp_ok (fr q) 999) → wX_takeFresh_2 post pn co mo sv pt sp xr pg bf ma fr kr sm sc so sk px py fp cl wi fo (d + 1) (nI i) := by
  intro d
  induction d with
  | zero =>
    intro i hi hq
    have e : i = 6 := by omega
    subst e
    refine pk_le 6 6 (fun _ => ⟨7, ?_⟩) (fun h => absurd h (by omega))
    have := gp_x43 (m0 := ma) (K1 hq) 6 0 rfl
    rw [gp_wr0] at this
    exact this
  | succ d ih =>
    intro i hi hq
    have hin : vp_in (nI i) 6 := vp_in_nI (by omega) (by omega)
    refine pk_le 6 i (fun h => absurd h (by omega)) (fun _ => ?_)
    rw [nI_clamp (by omega)]
    refine And.intro hin (br_c (fun c => K0 (fun z => (z i (by omega)).1 c)) (fun c => And.intro hin (br_c (fun c2 => nm_r (nI_1 i) (ih (i + 1) (by omega) (fun q h => ?_))) (fun c2 => K0 (fun z => c2 (z i (by omega)).2)))))
    by_cases e : q = i
    · rw [e]
      exact ⟨c, c2⟩
    · exact hq q (by omega)
theorem gp_take {post : Int32 → SX → Prop} (K1 : (∀ q, q < 6 → gp_ok (fr q) 999) → post 1 (pn, co, mo, sv, pt, sp, xr, pg, bf, gp_wr ma 0 fr 6, fr, kr, sm, sc, so, sk, px, py, fp, cl, wi, fo)) (K0 : (¬ ∀ q, q < 6 → gp_ok (fr q) 999) → post (-2) (pn, co, mo, sv, pt, sp, xr, pg, bf, ma, fr, kr, sm, sc, so, sk, px, py, fp, cl, wi, fo)) : wpX_takeFresh post (pn, co, mo, sv, pt, sp, xr, pg, bf, ma, fr, kr, sm, sc, so, sk, px, py, fp, cl, wi, fo) :=
  ⟨7, gp_x2 K1 K0 6 0 rfl (fun q hq => absurd hq (by omega))⟩
theorem gp_wr6 {f g : Nat → Int32} : upd (upd (upd (upd (upd (upd f 0 (g 0)) 1 (g 1)) 2 (g 2)) 3 (g 3)) 4 (g 4)) 5 (g 5) = gp_wr f 0 g 6 := by
  have := gp_wr0 (f := f) (s := g) (b := 0)
  rw [← this, gp_wrS0, gp_wrS0, gp_wrS0, gp_wrS0, gp_wrS0, gp_wrS0, this]
theorem gp_six {f : Nat → Int32} {m : Int32} (h0 : gp_ok (f 0) m) (h1 : gp_ok (f 1) m) (h2 : gp_ok (f 2) m) (h3 : gp_ok (f 3) m) (h4 : gp_ok (f 4) m) (h5 : gp_ok (f 5) m) : ∀ q, q < 6 → gp_ok (f q) m := by
  intro q hq
  match q, hq with
  | 0, _ => exact h0
  | 1, _ => exact h1
  | 2, _ => exact h2
  | 3, _ => exact h3
  | 4, _ => exact h4
  | 5, _ => exact h5
theorem gp_before {post : Int32 → SY → Prop} {f : Nat → Int32} {a b c d e g : Int32} (e0 : ma 0 * a + ma 2 * b = f 0) (e1 : ma 1 * a + ma 3 * b = f 1) (e2 : ma 0 * c + ma 2 * d = f 2) (e3 : ma 1 * c + ma 3 * d = f 3) (e4 : ma 0 * e + ma 2 * g + ma 4 = f 4) (e5 : ma 1 * e + ma 3 * g + ma 5 = f 5)
    (K1 : (∀ q, q < 6 → gp_ok (f q) 999) → post 1 (co, mo, sv, pt, sp, pn, gp_wr ma 0 f 6, kc, sm, sc, so, kk, px, py, sb, cl, pg, bf, ch)) (K0 : (¬ ∀ q, q < 6 → gp_ok (f q) 999) → post (-2) (co, mo, sv, pt, sp, pn, ma, kc, sm, sc, so, kk, px, py, sb, cl, pg, bf, ch)) : wpY_before post (co, mo, sv, pt, sp, pn, ma, kc, sm, sc, so, kk, px, py, sb, cl, pg, bf, ch) a b c d e g := by
  refine nm_r e0 (nm_r e1 (nm_r e2 (nm_r e3 (nm_r e4 (nm_r e5 ?_)))))
  by_cases h0 : gp_ok (f 0) 999
  · refine gp_far_t h0 (br_t rfl ?_)
    by_cases h1 : gp_ok (f 1) 999
    · refine gp_far_t h1 (br_t rfl ?_)
      by_cases h2 : gp_ok (f 2) 999
      · refine gp_far_t h2 (br_t rfl ?_)
        by_cases h3 : gp_ok (f 3) 999
        · refine gp_far_t h3 (br_t rfl ?_)
          by_cases h4 : gp_ok (f 4) 999
          · refine gp_far_t h4 (br_t rfl ?_)
            by_cases h5 : gp_ok (f 5) 999
            · refine gp_far_t h5 (br_t rfl (nm_e (nm_e (nm_e (nm_e (nm_e (nm_e ?_)))))))
              rw [gp_wr6]
              exact K1 (gp_six h0 h1 h2 h3 h4 h5)
            · exact gp_far_f h5 (br_f (by decide) (K0 (fun z => h5 (z 5 (by omega)))))
          · exact gp_far_f h4 (br_f (by decide) (K0 (fun z => h4 (z 4 (by omega)))))
        · exact gp_far_f h3 (br_f (by decide) (K0 (fun z => h3 (z 3 (by omega)))))
      · exact gp_far_f h2 (br_f (by decide) (K0 (fun z => h2 (z 2 (by omega)))))
    · exact gp_far_f h1 (br_f (by decide) (K0 (fun z => h1 (z 1 (by omega)))))
  · exact gp_far_f h0 (br_f (by decide) (K0 (fun z => h0 (z 0 (by omega)))))
theorem gp_addX {post : Int32 → SX → Prop} {x y u v : Int32} (hn : n < 16) (eu : ma 0 * x + ma 2 * y + ma 4 = u) (ev : ma 1 * x + ma 3 * y + ma 5 = v)
    (K1 : gp_ok u 2000 ∧ gp_ok v 2000 → post 1 (pn, co, mo, sv, nI (n + 1), sp, xr, pg, bf, ma, fr, kr, sm, sc, so, sk, upd px n u, upd py n v, fp, cl, wi, fo)) (K0 : ¬ (gp_ok u 2000 ∧ gp_ok v 2000) → post 0 (pn, co, mo, sv, nI n, sp, xr, pg, bf, ma, fr, kr, sm, sc, so, sk, px, py, fp, cl, wi, fo)) : wpX_addPoint post (pn, co, mo, sv, nI n, sp, xr, pg, bf, ma, fr, kr, sm, sc, so, sk, px, py, fp, cl, wi, fo) x y := by
  have hin : vp_in (nI n) 16 := vp_in_nI hn (by omega)
  unfold wpX_addPoint wpX_turnedX wpX_turnedY
  dsimp only
  rw [eu, ev, nI_clamp (by omega)]
  by_cases h : gp_ok u 2000 ∧ gp_ok v 2000
  · exact gp_within_t h.1 h.2 (br_f (by decide) (And.intro hin (nm_e (And.intro hin (nm_e (nm_r (nI_1 n) (K1 h)))))))
  · exact gp_within_f h (br_t rfl (K0 h))
theorem gp_addY {post : Int32 → SY → Prop} {x y u v s : Int32} (hn : n < 16) (eu : ma 0 * x + ma 2 * y + ma 4 = u) (ev : ma 1 * x + ma 3 * y + ma 5 = v)
    (K1 : gp_ok u 2000 ∧ gp_ok v 2000 → post (nI (n + 1)) (co, mo, sv, nI (n + 1), sp, pn, ma, kc, sm, sc, so, kk, upd px n u, upd py n v, upd sb n s, cl, pg, bf, ch)) (K0 : ¬ (gp_ok u 2000 ∧ gp_ok v 2000) → post (-4) (co, mo, sv, nI n, sp, pn, ma, kc, sm, sc, so, kk, px, py, sb, cl, pg, bf, ch)) : wpY_add post (co, mo, sv, nI n, sp, pn, ma, kc, sm, sc, so, kk, px, py, sb, cl, pg, bf, ch) x y s := by
  have hin : vp_in (nI n) 16 := vp_in_nI hn (by omega)
  unfold wpY_add
  dsimp only
  rw [eu, ev, nI_clamp (by omega)]
  refine nm_e (nm_e ?_)
  by_cases h : gp_ok u 2000
  · refine gp_far_t h (br_t rfl ?_)
    by_cases h2 : gp_ok v 2000
    · exact gp_far_t h2 (br_t rfl (And.intro hin (nm_e (And.intro hin (nm_e (And.intro hin (nm_e (nm_r (nI_1 n) (K1 ⟨h, h2⟩)))))))))
    · exact gp_far_f h2 (br_f (by decide) (K0 (fun z => h2 z.2)))
  · exact gp_far_f h (br_f (by decide) (K0 (fun z => h z.1)))
theorem gp_ok_bd {u : Int32} {k : Nat} (h : gp_ok u 2000) (b : gp_bd px) : gp_bd (upd px k u) := by
  intro q
  by_cases e : q = k
  · rw [e, pk_us]
    obtain ⟨h1, h2⟩ := h
    rw [Int32.lt_iff_toInt_lt, show (-2000 : Int32).toInt = -2000 by decide] at h1
    rw [Int32.le_iff_toInt_le, show (2000 : Int32).toInt = 2000 by decide] at h2
    omega
  · rw [pk_un e]
    exact b q
/-! R: pixels asked for, counts, rows, undo -/
def gp_pix (a b : Int32) : Prop := ∃ i j : Nat, i < 16 ∧ j < 16 ∧ a = nI i ∧ b = nI j
theorem gp_pixX_t {post : Int32 → Prop} {i j : Nat} (hi : i < 16) (hj : j < 16) (K : post 1) : wpX_isPixel post (nI i) (nI j) :=
  br_f (nI_pos (by omega)) (br_f (nI_ge (b := 16) hi (by omega)) (br_f (nI_pos (by omega)) (br_f (nI_ge (b := 16) hj (by omega)) K)))
theorem gp_pixY_t {post : Int32 → Prop} {i j : Nat} (hi : i < 16) (hj : j < 16) (K : post 1) : wpY_isPixel post (co, mo, sv, pt, sp, pn, ma, kc, sm, sc, so, kk, px, py, sb, cl, pg, bf, ch) (nI i) (nI j) :=
  br_f (nI_pos (by omega)) (br_f (nI_nlt (a := 15) (b := i) (by omega) (by omega)) (br_f (nI_pos (by omega)) (br_f (nI_nlt (a := 15) (b := j) (by omega) (by omega)) K)))
theorem gp_ix {a : Int32} (h1 : ¬ a < 0) (h2 : ¬ (16 : Int32) ≤ a) : ∃ i : Nat, i < 16 ∧ a = nI i := by
  rcases pk_ix a (n := 16) (by omega) with h | h | h
  · exact absurd h h1
  · exact absurd h h2
  · exact h
theorem gp_ix5 {a : Int32} (h1 : ¬ a < 0) (h2 : ¬ (15 : Int32) < a) : ∃ i : Nat, i < 16 ∧ a = nI i := by
  refine gp_ix h1 ?_
  rw [Int32.le_iff_toInt_le, show (16 : Int32).toInt = 16 by decide]
  rw [Int32.lt_iff_toInt_lt, show (15 : Int32).toInt = 15 by decide] at h2
  omega
theorem gp_pixX_f {post : Int32 → Prop} {a b : Int32} (h : ¬ gp_pix a b) (K : post 0) : wpX_isPixel post a b :=
  br_c (fun _ => K) (fun c1 => br_c (fun _ => K) (fun c2 => br_c (fun _ => K) (fun c3 => br_c (fun _ => K) (fun c4 => by
    obtain ⟨i, hi, e⟩ := gp_ix c1 c2
    obtain ⟨j, hj, e'⟩ := gp_ix c3 c4
    exact absurd ⟨i, j, hi, hj, e, e'⟩ h))))
theorem gp_pixY_f {post : Int32 → Prop} {a b : Int32} (h : ¬ gp_pix a b) (K : post 0) : wpY_isPixel post (co, mo, sv, pt, sp, pn, ma, kc, sm, sc, so, kk, px, py, sb, cl, pg, bf, ch) a b :=
  br_c (fun _ => K) (fun c1 => br_c (fun _ => K) (fun c2 => br_c (fun _ => K) (fun c3 => br_c (fun _ => K) (fun c4 => by
    obtain ⟨i, hi, e⟩ := gp_ix5 c1 c2
    obtain ⟨j, hj, e'⟩ := gp_ix5 c3 c4
    exact absurd ⟨i, j, hi, hj, e, e'⟩ h))))
theorem gp_cnX {post : Int32 → Prop} {v : Int32} (K : post (nI (gp_cnt (fun q => decide (pg q = v)) 256))) : ∀ d p : Nat, p + d = 256 → wX_count_4 post v pn co mo sv pt sp xr pg bf ma fr kr sm sc so sk px py fp cl wi fo (d + 1) (nI (gp_cnt (fun q => decide (pg q = v)) p)) (nI p) := by
  intro d
  induction d with
  | zero =>
    intro p hp
    have e : p = 256 := by omega
    subst e
    exact pk_le 256 256 (fun _ => K) (fun h => absurd h (by omega))
  | succ d ih =>
    intro p hp
    have I := ih (p + 1) (by omega)
    rw [gp_cnt_s] at I
    refine pk_le 256 p (fun h => absurd h (by omega)) (fun _ => And.intro (vp_in_nI (by omega) (by omega)) ?_)
    rw [nI_clamp (by omega)]
    refine br_c (fun c => nm_r (nI_1 _) (nm_r (nI_1 p) ?_)) (fun c => nm_r gp_z (nm_r (nI_1 p) ?_))
    · rwa [if_pos (decide_eq_true c)] at I
    · rwa [if_neg (by rw [decide_eq_true_eq]; exact c), Nat.add_zero] at I
theorem gp_cnY {post : Int32 → Prop} {v : Int32} (K : post (nI (gp_cnt (fun q => decide (pg q = v)) 256))) : ∀ d p : Nat, p + d = 256 → wY_count_4 post v co mo sv pt sp pn ma kc sm sc so kk px py sb cl pg bf ch (d + 1) (nI (gp_cnt (fun q => decide (pg q = v)) p)) (nI p) := by
  intro d
  induction d with
  | zero =>
    intro p hp
    have e : p = 256 := by omega
    subst e
    exact pk_le 256 256 (fun _ => K) (fun h => absurd h (by omega))
  | succ d ih =>
    intro p hp
    have I := ih (p + 1) (by omega)
    rw [gp_cnt_s] at I
    refine pk_le 256 p (fun h => absurd h (by omega)) (fun _ => And.intro (vp_in_nI (by omega) (by omega)) ?_)
    rw [nI_clamp (by omega)]
    refine br_c (fun c => nm_r (nI_1 _) (nm_r (nI_1 p) ?_)) (fun c => nm_r (nI_1 p) ?_)
    · rwa [if_pos (decide_eq_true c)] at I
    · rwa [if_neg (by rw [decide_eq_true_eq]; exact c), Nat.add_zero] at I
def gp_rw (f : Nat → Int32) : Nat → Int64 → Int64
  | 0, a => a
  | d + 1, a => gp_rw f d (8 * a + (f d).toInt64)
theorem gp_rX {post : Int64 → Prop} {j : Nat} (hj : j < 16) : ∀ (d : Nat) (a : Int64), d ≤ 16 → post (gp_rw (fun i => pg (16 * j + i)) d a) → wX_row_20 post (nI j) pn co mo sv pt sp xr pg bf ma fr kr sm sc so sk px py fp cl wi fo (d + 1) a (nI d + (-1)) := by
  intro d
  induction d with
  | zero => intro a _ K; exact br_t (by decide) K
  | succ d ih =>
    intro a hd K
    rw [pk_m1]
    refine br_f (nI_pos (by omega)) ?_
    rw [gp_16, nI_clamp (by omega)]
    exact And.intro (vp_in_nI (by omega) (by omega)) (nm_e (nm_e (ih _ (by omega) K)))
theorem gp_rY {post : Int64 → Prop} {j : Nat} (hj : j < 16) : ∀ (d : Nat) (a : Int64), d ≤ 16 → post (gp_rw (fun i => pg (16 * j + i)) d a) → wY_row_20 post (nI j) co mo sv pt sp pn ma kc sm sc so kk px py sb cl pg bf ch (d + 1) a (nI d + (-1)) := by
  intro d
  induction d with
  | zero => intro a _ K; exact br_t (by decide) K
  | succ d ih =>
    intro a hd K
    rw [pk_m1]
    refine br_f (nI_pos (by omega)) ?_
    rw [gp_16, nI_clamp (by omega)]
    exact And.intro (vp_in_nI (by omega) (by omega)) (nm_e (nm_e (ih _ (by omega) K)))
theorem gp_uX {post : Int32 → SX → Prop} {p0 b0 : Nat → Int32} (K : post (nI (gp_cnt (fun q => decide (¬ p0 q = b0 q)) 256)) (pn, co, mo, sv, pt, sp, xr, gp_wr p0 0 b0 256, gp_wr b0 0 p0 256, ma, fr, kr, sm, sc, so, sk, px, py, fp, cl, wi, fo)) :
    ∀ d p : Nat, p + d = 256 → wX_undo_13 post pn co mo sv pt sp xr (d + 1) (nI (gp_cnt (fun q => decide (¬ p0 q = b0 q)) p)) (nI p) (gp_wr p0 0 b0 p) (gp_wr b0 0 p0 p) ma fr kr sm sc so sk px py fp cl wi fo := by
  intro d
  induction d with
  | zero =>
    intro p hp
    have e : p = 256 := by omega
    subst e
    exact pk_le 256 256 (fun _ => K) (fun h => absurd h (by omega))
  | succ d ih =>
    intro p hp
    have I := ih (p + 1) (by omega)
    rw [gp_cnt_s] at I
    have hin : vp_in (nI p) 256 := vp_in_nI (by omega) (by omega)
    refine pk_le 256 p (fun h => absurd h (by omega)) (fun _ => ?_)
    rw [nI_clamp (by omega), gp_wr_o (f := p0) (by omega), gp_wr_o (f := b0) (by omega)]
    refine And.intro hin (nm_e (And.intro hin (And.intro hin (nm_r (e' := gp_wr p0 0 b0 (p + 1)) gp_wrS0 (And.intro hin (nm_r (e' := gp_wr b0 0 p0 (p + 1)) gp_wrS0 (And.intro hin ?_)))))))
    rw [gp_wr_z (f := p0) (by omega)]
    refine br_c (fun c => nm_r gp_z (nm_r (nI_1 p) ?_)) (fun c => nm_r (nI_1 _) (nm_r (nI_1 p) ?_))
    · rwa [if_neg (by rw [decide_eq_true_eq]; exact fun z => z c), Nat.add_zero] at I
    · rwa [if_pos (decide_eq_true (p := ¬ _) c)] at I
theorem gp_uY {post : Int32 → SY → Prop} {p0 b0 : Nat → Int32} (K : post (nI (gp_cnt (fun q => decide (¬ p0 q = b0 q)) 256)) (co, mo, sv, pt, sp, pn, ma, kc, sm, sc, so, kk, px, py, sb, cl, gp_wr p0 0 b0 256, gp_wr b0 0 p0 256, ch)) :
    ∀ d p : Nat, p + d = 256 → wY_undo_13 post co mo sv pt sp pn (d + 1) (nI (gp_cnt (fun q => decide (¬ p0 q = b0 q)) p)) (nI p) ma kc sm sc so kk px py sb cl (gp_wr p0 0 b0 p) (gp_wr b0 0 p0 p) ch := by
  intro d
  induction d with
  | zero =>
    intro p hp
    have e : p = 256 := by omega
    subst e
    exact pk_le 256 256 (fun _ => K) (fun h => absurd h (by omega))
  | succ d ih =>
    intro p hp
    have I := ih (p + 1) (by omega)
    rw [gp_cnt_s] at I
    have hin : vp_in (nI p) 256 := vp_in_nI (by omega) (by omega)
    refine pk_le 256 p (fun h => absurd h (by omega)) (fun _ => ?_)
    rw [nI_clamp (by omega), gp_wr_o (f := p0) (by omega), gp_wr_o (f := b0) (by omega)]
    refine And.intro hin (nm_e (And.intro hin (And.intro hin (nm_r (e' := gp_wr p0 0 b0 (p + 1)) gp_wrS0 (And.intro hin (nm_r (e' := gp_wr b0 0 p0 (p + 1)) gp_wrS0 (And.intro hin ?_)))))))
    rw [gp_wr_z (f := p0) (by omega)]
    refine br_c (fun c => nm_r (nI_1 p) ?_) (fun c => nm_r (nI_1 _) (nm_r (nI_1 p) ?_))
    · rwa [if_neg (by rw [decide_eq_true_eq]; exact fun z => z c.symm), Nat.add_zero] at I
    · rwa [if_pos (decide_eq_true (p := ¬ _) (fun z => c z.symm))] at I
end GP14
end
section
section GP15
variable {pn co mo sv pt sp xr : Int32} {pg bf ma fr kr sm sc so sk px py fp cl wi fo kc kk sb ch : Nat → Int32}
variable {n ns : Nat} {F T : Nat → Nat}
/-! S: what is owed: state and path -/
theorem gp_far2_t {A B : Prop} {a b m m' : Int32} (h1 : gp_ok a m) (h2 : gp_ok b m') (K : A) : wpY_isFar (fun r => (r = 0 → wpY_isFar (fun r => (r = 0 → A) ∧ (¬ r = 0 → B)) (co, mo, sv, pt, sp, pn, ma, kc, sm, sc, so, kk, px, py, sb, cl, pg, bf, ch) b m') ∧ (¬ r = 0 → B)) (co, mo, sv, pt, sp, pn, ma, kc, sm, sc, so, kk, px, py, sb, cl, pg, bf, ch) a m :=
  gp_far_t h1 (br_t rfl (gp_far_t h2 (br_t rfl K)))
theorem gp_far2_f {A B : Prop} {a b m m' : Int32} (h : ¬ (gp_ok a m ∧ gp_ok b m')) (K : B) : wpY_isFar (fun r => (r = 0 → wpY_isFar (fun r => (r = 0 → A) ∧ (¬ r = 0 → B)) (co, mo, sv, pt, sp, pn, ma, kc, sm, sc, so, kk, px, py, sb, cl, pg, bf, ch) b m') ∧ (¬ r = 0 → B)) (co, mo, sv, pt, sp, pn, ma, kc, sm, sc, so, kk, px, py, sb, cl, pg, bf, ch) a m := by
  by_cases h1 : gp_ok a m
  · exact gp_far_t h1 (br_t rfl (gp_far_f (fun z => h ⟨h1, z⟩) (br_f (by decide) K)))
  · exact gp_far_f h1 (br_f (by decide) K)
theorem gp_RR {s : Nat} (hm : gp_mo mo) (hso : ∀ q, gp_mo (so q)) (hs : s ≤ 4) (hc : gp_cb kr kc 16) (hk : gp_cb sk kk 64) (bX : gp_bd px) (bY : gp_bd py) (P : gp_path n ns F T fp sb) : gp_R mo (nI s) (nI n) (nI ns) kr so sk px py fp kc kk sb :=
  ⟨hm, hso, ⟨s, hs, rfl⟩, hc, hk, bX, bY, n, ns, F, T, rfl, rfl, P⟩
theorem gp_xi {post : SX → Prop} {k0 : Nat → Int32} (K : post (pn, co, mo, sv, pt, sp, xr, pg, bf, ma, fr, gp_wr k0 0 (fun _ => 65535) 16, sm, sc, so, sk, px, py, fp, cl, wi, fo)) : ∀ d i : Nat, i + d = 16 → wX_init_145 post pn co mo sv pt sp xr (d + 1) (nI i) pg bf ma fr (gp_wr k0 0 (fun _ => 65535) i) sm sc so sk px py fp cl wi fo := by
  intro d
  induction d with
  | zero =>
    intro i hi
    have e : i = 16 := by omega
    subst e
    exact pk_le 16 16 (fun _ => K) (fun h => absurd h (by omega))
  | succ d ih =>
    intro i hi
    refine pk_le 16 i (fun h => absurd h (by omega)) (fun _ => And.intro (vp_in_nI (by omega) (by omega)) ?_)
    rw [nI_clamp (by omega)]
    exact nm_r (gp_wrS0 (s := fun _ => 65535)) (nm_r (nI_1 i) (ih (i + 1) (by omega)))
theorem gp_yi {post : SY → Prop} {k0 : Nat → Int32} (K : post (co, mo, sv, pt, sp, pn, ma, gp_wr k0 0 (fun _ => vp_nar .boolean 1) 256, sm, sc, so, kk, px, py, sb, cl, pg, bf, ch)) : ∀ d i : Nat, i + d = 256 → wY_init_132 post co mo sv pt sp pn (d + 1) (nI i) ma (gp_wr k0 0 (fun _ => vp_nar .boolean 1) i) sm sc so kk px py sb cl pg bf ch := by
  intro d
  induction d with
  | zero =>
    intro i hi
    have e : i = 256 := by omega
    subst e
    exact pk_le 256 256 (fun _ => K) (fun h => absurd h (by omega))
  | succ d ih =>
    intro i hi
    refine pk_le 256 i (fun h => absurd h (by omega)) (fun _ => And.intro (vp_in_nI (by omega) (by omega)) ?_)
    rw [nI_clamp (by omega)]
    exact nm_r (gp_wrS0 (s := fun _ => vp_nar .boolean 1)) (nm_r (nI_1 i) (ih (i + 1) (by omega)))
theorem gp_R0 : gp_R 0 (nI 0) (nI 0) (nI 0) (gp_wr (fun _ => 0) 0 (fun _ => 65535) 16) (fun _ => 0) (fun _ => 0) (fun _ => 0) (fun _ => 0) (fun _ => 0) (gp_wr (fun _ => 0) 0 (fun _ => vp_nar .boolean 1) 256) (fun _ => 0) (fun _ => 0) := by
  refine gp_RR (T := fun _ => 0) (Or.inl rfl) (fun q => Or.inl rfl) (by omega) (fun j hj => ⟨fun i hi => ?_, fun i hi => ?_⟩) (fun j hj => ⟨fun i hi => b_0 i, fun i hi => ?_⟩) (fun k => ⟨by decide, by decide⟩) (fun k => ⟨by decide, by decide⟩) gp_path_0
  · rw [gp_wr_z hj, b_65535, decide_eq_false (by omega)]
  · rw [gp_wr_z (by omega), gp_wr_z hj, b_65535, decide_eq_true hi]
    exact gp_v1
  · rw [b_0]
    rfl
theorem i_vc0 : wpX_init (fun u => wpY_init (fun v => i_Rel 0 u v)) := by
  refine nm_e (nm_e ⟨17, ?_⟩)
  have Y : wpY_init (fun v => i_Rel 0 (0, 1, 0, 0, 0, 0, 0, fun _ => 0, fun _ => 0, upd (upd (fun _ => 0) 0 1) 3 1, fun _ => 0, gp_wr (fun _ => 0) 0 (fun _ => 65535) 16, fun _ => 0, fun _ => 0, fun _ => 0, fun _ => 0, fun _ => 0, fun _ => 0, fun _ => 0, fun _ => 0, fun _ => 0, fun _ => 0) v) := by
    refine nm_e (nm_e ⟨257, ?_⟩)
    have := gp_yi (post := fun v => i_Rel 0 (0, 1, 0, 0, 0, 0, 0, fun _ => 0, fun _ => 0, upd (upd (fun _ => 0) 0 1) 3 1, fun _ => 0, gp_wr (fun _ => 0) 0 (fun _ => 65535) 16, fun _ => 0, fun _ => 0, fun _ => 0, fun _ => 0, fun _ => 0, fun _ => 0, fun _ => 0, fun _ => 0, fun _ => 0, fun _ => 0) v) (k0 := fun _ => 0) (co := 1) (mo := 0) (sv := 0) (pt := 0) (sp := 0) (pn := 0) (ma := upd (upd (fun _ => 0) 0 1) 3 1) (sm := fun _ => 0) (sc := fun _ => 0) (so := fun _ => 0) (kk := fun _ => 0) (px := fun _ => 0) (py := fun _ => 0) (sb := fun _ => 0) (cl := fun _ => 0) (pg := fun _ => 0) (bf := fun _ => 0) (ch := fun _ => 0) (gp_mk gp_R0) 256 0 rfl
    rw [gp_wr0] at this
    exact this
  have := gp_xi (post := fun u => wpY_init (fun v => i_Rel 0 u v)) (k0 := fun _ => 0) Y 16 0 rfl
  rw [gp_wr0] at this
  exact this
theorem i_vc_paint {k : Nat} {u : SX} {v : SY} (I : i_Rel k u v) (hk : k + 4 ≤ 2048) (v1 : Int32) (v2 : Int32) : wpX_paint (fun r u' => wpY_paint (fun r' v' => r' = r ∧ i_Rel (k + 4) u' v') v v1 v2) u v1 v2 := by
  refine gp_el (P := fun u v => wpX_paint (fun r u' => wpY_paint (fun r' v' => r' = r ∧ i_Rel (k + 4) u' v') v v1 v2) u v1 v2) ?_ I
  intro pn co mo sv pt sp xr pg bf ma fr kr sm sc so sk px py fp cl wi fo kc kk sb ch hR
  by_cases h1 : v1 < 0
  · exact br_t h1 (br_t h1 (And.intro rfl (gp_mk hR)))
  · by_cases h2 : 7 < v1
    · exact br_f h1 (br_t h2 (br_f h1 (br_t h2 (And.intro rfl (gp_mk hR)))))
    · by_cases h3 : v2 < 0
      · exact br_f h1 (br_f h2 (br_t h3 (br_f h1 (br_f h2 (br_t h3 (And.intro rfl (gp_mk hR)))))))
      · by_cases h4 : v2 ≤ 2
        · refine br_f h1 (br_f h2 (br_f h3 (br_t h4 (br_f h1 (br_f h2 (br_f h3 (br_t h4 (And.intro rfl (gp_mk ⟨?_, hR.2⟩)))))))))
          obtain ⟨j, hj, rfl⟩ := nI_of2 (n := 2) (by decide) h3 h4
          match j, hj with
          | 0, _ => exact Or.inl rfl
          | 1, _ => exact Or.inr (Or.inl rfl)
          | 2, _ => exact Or.inr (Or.inr rfl)
        · exact br_f h1 (br_f h2 (br_f h3 (br_f h4 (br_f h1 (br_f h2 (br_f h3 (br_f h4 (And.intro rfl (gp_mk hR)))))))))
theorem i_vc_shift {k : Nat} {u : SX} {v : SY} (I : i_Rel k u v) (hk : k + 4 ≤ 2048) (v1 : Int32) (v2 : Int32) : wpX_shift (fun r u' => wpY_shift (fun r' v' => r' = r ∧ i_Rel (k + 4) u' v') v v1 v2) u v1 v2 := by
  refine gp_el (P := fun u v => wpX_shift (fun r u' => wpY_shift (fun r' v' => r' = r ∧ i_Rel (k + 4) u' v') v v1 v2) u v1 v2) ?_ I
  intro pn co mo sv pt sp xr pg bf ma fr kr sm sc so sk px py fp cl wi fo kc kk sb ch hR
  unfold wpX_shift wpY_shift
  dsimp only
  by_cases h : gp_ok v1 64 ∧ gp_ok v2 64
  · refine gp_within_t h.1 h.2 ?_
    refine br_f (by decide) ?_
    unfold wpX_setFresh
    dsimp only
    intro f1 e1 f2 e2 f3 e3 f4 e4 f5 e5 f6 e6 f7 e7 f8 e8
    refine gp_take (fun hf => ?_) (fun hf => ?_)
    · refine gp_far2_t h.1 h.2 ?_
      refine gp_before (f := f8) ?_ ?_ ?_ ?_ ?_ ?_ (fun _ => And.intro rfl (gp_mk hR)) (fun z => absurd hf z)
      all_goals
        subst e1 e2 e3 e4 e5 e6 e7 e8
        simp [upd]
    · refine gp_far2_t h.1 h.2 ?_
      refine gp_before (f := f8) ?_ ?_ ?_ ?_ ?_ ?_ (fun z => absurd z hf) (fun _ => And.intro rfl (gp_mk hR))
      all_goals
        subst e1 e2 e3 e4 e5 e6 e7 e8
        simp [upd]
  · refine gp_within_f h ?_
    refine br_t rfl ?_
    refine gp_far2_f h ?_
    exact And.intro rfl (gp_mk hR)
theorem i_vc_scale {k : Nat} {u : SX} {v : SY} (I : i_Rel k u v) (hk : k + 4 ≤ 2048) (v1 : Int32) (v2 : Int32) : wpX_scale (fun r u' => wpY_scale (fun r' v' => r' = r ∧ i_Rel (k + 4) u' v') v v1 v2) u v1 v2 := by
  refine gp_el (P := fun u v => wpX_scale (fun r u' => wpY_scale (fun r' v' => r' = r ∧ i_Rel (k + 4) u' v') v v1 v2) u v1 v2) ?_ I
  intro pn co mo sv pt sp xr pg bf ma fr kr sm sc so sk px py fp cl wi fo kc kk sb ch hR
  unfold wpX_scale wpY_scale
  dsimp only
  by_cases h : gp_ok v1 8 ∧ gp_ok v2 8
  · refine gp_within_t h.1 h.2 ?_
    refine br_f (by decide) ?_
    unfold wpX_setFresh
    dsimp only
    intro f1 e1 f2 e2 f3 e3 f4 e4 f5 e5 f6 e6
    refine gp_take (fun hf => ?_) (fun hf => ?_)
    · refine gp_far2_t h.1 h.2 ?_
      refine gp_before (f := f6) ?_ ?_ ?_ ?_ ?_ ?_ (fun _ => And.intro rfl (gp_mk hR)) (fun z => absurd hf z)
      all_goals
        subst e1 e2 e3 e4 e5 e6
        simp [upd]
    · refine gp_far2_t h.1 h.2 ?_
      refine gp_before (f := f6) ?_ ?_ ?_ ?_ ?_ ?_ (fun z => absurd z hf) (fun _ => And.intro rfl (gp_mk hR))
      all_goals
        subst e1 e2 e3 e4 e5 e6
        simp [upd]
  · refine gp_within_f h ?_
    refine br_t rfl ?_
    refine gp_far2_f h ?_
    exact And.intro rfl (gp_mk hR)
theorem i_vc_shear {k : Nat} {u : SX} {v : SY} (I : i_Rel k u v) (hk : k + 4 ≤ 2048) (v1 : Int32) (v2 : Int32) : wpX_shear (fun r u' => wpY_shear (fun r' v' => r' = r ∧ i_Rel (k + 4) u' v') v v1 v2) u v1 v2 := by
  refine gp_el (P := fun u v => wpX_shear (fun r u' => wpY_shear (fun r' v' => r' = r ∧ i_Rel (k + 4) u' v') v v1 v2) u v1 v2) ?_ I
  intro pn co mo sv pt sp xr pg bf ma fr kr sm sc so sk px py fp cl wi fo kc kk sb ch hR
  unfold wpX_shear wpY_shear
  dsimp only
  by_cases h : gp_ok v1 8 ∧ gp_ok v2 8
  · refine gp_within_t h.1 h.2 ?_
    refine br_f (by decide) ?_
    unfold wpX_setFresh
    dsimp only
    intro f1 e1 f2 e2 f3 e3 f4 e4 f5 e5 f6 e6
    refine gp_take (fun hf => ?_) (fun hf => ?_)
    · refine gp_far2_t h.1 h.2 ?_
      refine gp_before (f := f6) ?_ ?_ ?_ ?_ ?_ ?_ (fun _ => And.intro rfl (gp_mk hR)) (fun z => absurd hf z)
      all_goals
        subst e1 e2 e3 e4 e5 e6
        simp [upd]
        try grind
    · refine gp_far2_t h.1 h.2 ?_
      refine gp_before (f := f6) ?_ ?_ ?_ ?_ ?_ ?_ (fun z => absurd z hf) (fun _ => And.intro rfl (gp_mk hR))
      all_goals
        subst e1 e2 e3 e4 e5 e6
        simp [upd]
        try grind
  · refine gp_within_f h ?_
    refine br_t rfl ?_
    refine gp_far2_f h ?_
    exact And.intro rfl (gp_mk hR)
theorem i_vc_quarter {k : Nat} {u : SX} {v : SY} (I : i_Rel k u v) (hk : k + 4 ≤ 2048) : wpX_quarter (fun r u' => wpY_quarter (fun r' v' => r' = r ∧ i_Rel (k + 4) u' v') v) u := by
  refine gp_el (P := fun u v => wpX_quarter (fun r u' => wpY_quarter (fun r' v' => r' = r ∧ i_Rel (k + 4) u' v') v) u) ?_ I
  intro pn co mo sv pt sp xr pg bf ma fr kr sm sc so sk px py fp cl wi fo kc kk sb ch hR
  unfold wpX_quarter wpY_quarter
  dsimp only
  unfold wpX_setFresh
  dsimp only
  intro f1 e1 f2 e2 f3 e3 f4 e4 f5 e5 f6 e6
  refine gp_take (fun hf => ?_) (fun hf => ?_)
  · refine gp_before (f := f6) ?_ ?_ ?_ ?_ ?_ ?_ (fun _ => And.intro rfl (gp_mk hR)) (fun z => absurd hf z)
    all_goals
      subst e1 e2 e3 e4 e5 e6
      simp [upd]
      try grind
  · refine gp_before (f := f6) ?_ ?_ ?_ ?_ ?_ ?_ (fun z => absurd z hf) (fun _ => And.intro rfl (gp_mk hR))
    all_goals
      subst e1 e2 e3 e4 e5 e6
      simp [upd]
      try grind
end GP15
end
section
section GP16
/-! T: what is owed: save, restore, the path -/
theorem i_vc_save {k : Nat} {u : SX} {v : SY} (I : i_Rel k u v) (hk : k + 4 ≤ 2048) : wpX_save (fun r u' => wpY_save (fun r' v' => r' = r ∧ i_Rel (k + 4) u' v') v) u := by
  refine gp_el (P := fun u v => wpX_save (fun r u' => wpY_save (fun r' v' => r' = r ∧ i_Rel (k + 4) u' v') v) u) ?_ I
  intro pn co mo sv pt sp xr pg bf ma fr kr sm sc so sk px py fp cl wi fo kc kk sb ch hR
  obtain ⟨hm, hso, ⟨s, hs, rfl⟩, hc, hq, bX, bY, n, ns, F, T, rfl, rfl, P⟩ := hR
  by_cases h4 : s < 4
  · refine gp_saveX h4 (gp_saveY h4 (And.intro rfl (gp_mk (gp_RR hm (fun q => ?_) (by omega) hc (gp_cb_save h4 hc hq) bX bY P))))
    by_cases e : q = s
    · rw [e, pk_us]
      exact hm
    · rw [pk_un e]
      exact hso q
  · exact pk_lt s 4 (fun h => absurd h h4) (fun _ => pk_eq s 4 (fun _ => And.intro rfl (gp_mk (gp_RR hm hso hs hc hq bX bY P))) (fun h => absurd h (by omega)))
theorem i_vc_restore {k : Nat} {u : SX} {v : SY} (I : i_Rel k u v) (hk : k + 4 ≤ 2048) : wpX_restore (fun r u' => wpY_restore (fun r' v' => r' = r ∧ i_Rel (k + 4) u' v') v) u := by
  refine gp_el (P := fun u v => wpX_restore (fun r u' => wpY_restore (fun r' v' => r' = r ∧ i_Rel (k + 4) u' v') v) u) ?_ I
  intro pn co mo sv pt sp xr pg bf ma fr kr sm sc so sk px py fp cl wi fo kc kk sb ch hR
  obtain ⟨hm, hso, ⟨s, hs, rfl⟩, hc, hq, bX, bY, n, ns, F, T, rfl, rfl, P⟩ := hR
  by_cases h0 : s = 0
  · exact pk_eq s 0 (fun _ => pk_eq s 0 (fun _ => And.intro rfl (gp_mk (gp_RR hm hso hs hc hq bX bY P))) (fun h => absurd h0 h)) (fun h => absurd h0 h)
  · obtain ⟨t, rfl⟩ : ∃ t, s = t + 1 := ⟨s - 1, by omega⟩
    exact gp_restoreX (by omega) (gp_restoreY (by omega) (And.intro rfl (gp_mk (gp_RR (hso t) hso (by omega) (gp_cb_restore (by omega) hq) hq bX bY P))))
theorem i_vc_move {k : Nat} {u : SX} {v : SY} (I : i_Rel k u v) (hk : k + 4 ≤ 2048) (v1 : Int32) (v2 : Int32) : wpX_move (fun r u' => wpY_move (fun r' v' => r' = r ∧ i_Rel (k + 4) u' v') v v1 v2) u v1 v2 := by
  refine gp_el (P := fun u v => wpX_move (fun r u' => wpY_move (fun r' v' => r' = r ∧ i_Rel (k + 4) u' v') v v1 v2) u v1 v2) ?_ I
  intro pn co mo sv pt sp xr pg bf ma fr kr sm sc so sk px py fp cl wi fo kc kk sb ch hR
  obtain ⟨hm, hso, ⟨s, hs, rfl⟩, hc, hq, bX, bY, n, ns, F, T, rfl, rfl, P⟩ := hR
  have hns := gp_ns P
  have hn16 : n ≤ 16 := P.1
  unfold wpX_move wpY_move
  dsimp only
  by_cases h : gp_ok v1 99 ∧ gp_ok v2 99
  · refine gp_within_t h.1 h.2 ?_
    refine br_f (by decide) ?_
    by_cases hn : n < 16
    · have hin : vp_in (nI ns) 16 := vp_in_nI (by omega) (by omega)
      refine pk_lt n 16 (fun _ => ?_) (fun c => absurd hn (by omega))
      refine gp_addX hn rfl rfl (fun ho => ?_) (fun ho => ?_)
      · refine br_f (by decide) (And.intro hin (nm_r (e' := upd fp ns (nI n)) (by rw [nI_clamp (by omega)]) (And.intro hin (nm_r (e' := upd cl ns (vp_nar .boolean 0)) (by rw [nI_clamp (by omega)]) (nm_r (nI_1 ns) ?_)))))
        refine gp_far2_t h.1 h.2 ?_
        refine pk_eq n 16 (fun c => absurd hn (by omega)) (fun _ => ?_)
        refine gp_addY hn rfl rfl (fun _ => ?_) (fun z => absurd ho z)
        refine br_f (nI_nle (by omega) (by omega)) (And.intro hin (nm_r (e' := upd cl ns (vp_nar .boolean 0)) (by rw [nI_clamp (by omega)]) (nm_r (nI_1 ns) ?_)))
        exact And.intro rfl (gp_mk (gp_RR hm hso hs hc hq (gp_ok_bd ho.1 bX) (gp_ok_bd ho.2 bY) (gp_path_move P hn)))
      · refine br_t rfl ?_
        refine gp_far2_t h.1 h.2 ?_
        refine pk_eq n 16 (fun c => absurd hn (by omega)) (fun _ => ?_)
        refine gp_addY hn rfl rfl (fun z => absurd z ho) (fun _ => ?_)
        exact br_t (by decide) (And.intro rfl (gp_mk (gp_RR hm hso hs hc hq bX bY P)))
    · refine pk_lt n 16 (fun c => absurd c hn) (fun _ => ?_)
      refine gp_far2_t h.1 h.2 ?_
      exact pk_eq n 16 (fun _ => And.intro rfl (gp_mk (gp_RR hm hso hs hc hq bX bY P))) (fun c => absurd hn (by omega))
  · refine gp_within_f h ?_
    refine br_t rfl ?_
    refine gp_far2_f h ?_
    exact And.intro rfl (gp_mk (gp_RR hm hso hs hc hq bX bY P))
theorem i_vc_line {k : Nat} {u : SX} {v : SY} (I : i_Rel k u v) (hk : k + 4 ≤ 2048) (v1 : Int32) (v2 : Int32) : wpX_line (fun r u' => wpY_line (fun r' v' => r' = r ∧ i_Rel (k + 4) u' v') v v1 v2) u v1 v2 := by
  refine gp_el (P := fun u v => wpX_line (fun r u' => wpY_line (fun r' v' => r' = r ∧ i_Rel (k + 4) u' v') v v1 v2) u v1 v2) ?_ I
  intro pn co mo sv pt sp xr pg bf ma fr kr sm sc so sk px py fp cl wi fo kc kk sb ch hR
  obtain ⟨hm, hso, ⟨s, hs, rfl⟩, hc, hq, bX, bY, n, ns, F, T, rfl, rfl, P⟩ := hR
  have hns := gp_ns P
  have hn16 : n ≤ 16 := P.1
  unfold wpX_line wpY_line
  dsimp only
  by_cases h : gp_ok v1 99 ∧ gp_ok v2 99
  · refine gp_within_t h.1 h.2 ?_
    refine br_f (by decide) ?_
    by_cases h0 : ns = 0
    · refine pk_eq ns 0 (fun _ => ?_) (fun c => absurd h0 c)
      refine gp_far2_t h.1 h.2 ?_
      exact pk_eq ns 0 (fun _ => And.intro rfl (gp_mk (gp_RR hm hso hs hc hq bX bY P))) (fun c => absurd h0 c)
    · have e1 : nI ns - 1 = nI (ns - 1) := pk_sub (a := ns) (b := 1) (by omega)
      have hin : vp_in (nI (ns - 1)) 16 := vp_in_nI (by omega) (by omega)
      rw [e1, nI_clamp (by omega)]
      refine pk_eq ns 0 (fun c => absurd c h0) (fun _ => And.intro hin ?_)
      by_cases hcl : cl (ns - 1) = 0
      · refine br_t hcl ?_
        by_cases hn : n < 16
        · refine pk_lt n 16 (fun _ => ?_) (fun c => absurd hn (by omega))
          refine gp_addX hn rfl rfl (fun ho => ?_) (fun ho => ?_)
          · refine br_f (by decide) ?_
            refine gp_far2_t h.1 h.2 ?_
            refine pk_eq ns 0 (fun c => absurd c h0) (fun _ => And.intro hin (br_t hcl ?_))
            refine pk_eq n 16 (fun c => absurd hn (by omega)) (fun _ => ?_)
            refine gp_addY hn rfl rfl (fun _ => ?_) (fun z => absurd ho z)
            exact And.intro rfl (gp_mk (gp_RR hm hso hs hc hq (gp_ok_bd ho.1 bX) (gp_ok_bd ho.2 bY) (gp_path_line P hn (by omega))))
          · refine br_t rfl ?_
            refine gp_far2_t h.1 h.2 ?_
            refine pk_eq ns 0 (fun c => absurd c h0) (fun _ => And.intro hin (br_t hcl ?_))
            refine pk_eq n 16 (fun c => absurd hn (by omega)) (fun _ => ?_)
            refine gp_addY hn rfl rfl (fun z => absurd z ho) (fun _ => ?_)
            exact And.intro rfl (gp_mk (gp_RR hm hso hs hc hq bX bY P))
        · refine pk_lt n 16 (fun c => absurd c hn) (fun _ => ?_)
          refine gp_far2_t h.1 h.2 ?_
          refine pk_eq ns 0 (fun c => absurd c h0) (fun _ => And.intro hin (br_t hcl ?_))
          exact pk_eq n 16 (fun _ => And.intro rfl (gp_mk (gp_RR hm hso hs hc hq bX bY P))) (fun c => absurd hn (by omega))
      · refine br_f hcl ?_
        refine gp_far2_t h.1 h.2 ?_
        exact pk_eq ns 0 (fun c => absurd c h0) (fun _ => And.intro hin (br_f hcl (And.intro rfl (gp_mk (gp_RR hm hso hs hc hq bX bY P)))))
  · refine gp_within_f h ?_
    refine br_t rfl ?_
    refine gp_far2_f h ?_
    exact And.intro rfl (gp_mk (gp_RR hm hso hs hc hq bX bY P))
theorem i_vc_close {k : Nat} {u : SX} {v : SY} (I : i_Rel k u v) (hk : k + 4 ≤ 2048) : wpX_close (fun r u' => wpY_close (fun r' v' => r' = r ∧ i_Rel (k + 4) u' v') v) u := by
  refine gp_el (P := fun u v => wpX_close (fun r u' => wpY_close (fun r' v' => r' = r ∧ i_Rel (k + 4) u' v') v) u) ?_ I
  intro pn co mo sv pt sp xr pg bf ma fr kr sm sc so sk px py fp cl wi fo kc kk sb ch hR
  have R0 := hR
  obtain ⟨hm, hso, ⟨s, hs, rfl⟩, hc, hq, bX, bY, n, ns, F, T, rfl, rfl, P⟩ := hR
  have hns := gp_ns P
  have hn16 : n ≤ 16 := P.1
  by_cases h0 : nI ns = 0
  · exact br_t h0 (br_t h0 (And.intro rfl (gp_mk R0)))
  · have hn0 : ns ≠ 0 := fun z => h0 (by rw [z]; rfl)
    have hin : vp_in (nI ns - 1) 16 := by
      rw [show nI ns - 1 = nI (ns - 1) from pk_sub (a := ns) (b := 1) (by omega)]
      exact vp_in_nI (by omega) (by omega)
    by_cases hcl : cl (nI ns - 1).toNatClampNeg = 0
    · exact br_f h0 (And.intro hin (br_t hcl (And.intro hin (nm_e (br_f h0 (And.intro hin (br_t hcl (And.intro hin (nm_e (And.intro rfl (gp_mk R0))))))))))) 
    · exact br_f h0 (And.intro hin (br_f hcl (br_f h0 (And.intro hin (br_f hcl (And.intro rfl (gp_mk R0)))))))
theorem i_vc_drop {k : Nat} {u : SX} {v : SY} (I : i_Rel k u v) (hk : k + 4 ≤ 2048) : wpX_drop (fun r u' => wpY_drop (fun r' v' => r' = r ∧ i_Rel (k + 4) u' v') v) u := by
  refine gp_el (P := fun u v => wpX_drop (fun r u' => wpY_drop (fun r' v' => r' = r ∧ i_Rel (k + 4) u' v') v) u) ?_ I
  intro pn co mo sv pt sp xr pg bf ma fr kr sm sc so sk px py fp cl wi fo kc kk sb ch hR
  obtain ⟨hm, hso, ⟨s, hs, rfl⟩, hc, hq, bX, bY, n, ns, F, T, rfl, rfl, P⟩ := hR
  exact And.intro rfl (gp_mk (gp_RR (T := T) hm hso hs hc hq bX bY gp_path_0))
end GP16
end
section
section GP17
/-! U: what is owed: painting, clip, undo -/
theorem gp_01 {v : Int32} (h1 : ¬ v < 0) (h2 : v ≤ 1) : v = 0 ∨ v = 1 := by
  obtain ⟨j, hj, rfl⟩ := nI_of2 (n := 1) (by decide) h1 h2
  match j, hj with
  | 0, _ => exact Or.inl rfl
  | 1, _ => exact Or.inr rfl
theorem i_vc_fill {k : Nat} {u : SX} {v : SY} (I : i_Rel k u v) (hk : k + 4 ≤ 2048) (v1 : Int32) : wpX_fill (fun r u' => wpY_fill (fun r' v' => r' = r ∧ i_Rel (k + 4) u' v') v v1) u v1 := by
  refine gp_el (P := fun u v => wpX_fill (fun r u' => wpY_fill (fun r' v' => r' = r ∧ i_Rel (k + 4) u' v') v v1) u v1) ?_ I
  intro pn co mo sv pt sp xr pg bf ma fr kr sm sc so sk px py fp cl wi fo kc kk sb ch hR
  have R0 := hR
  obtain ⟨hm, hso, ⟨s, hs, rfl⟩, hc, hq, bX, bY, n, ns, F, T, rfl, rfl, P⟩ := hR
  by_cases hr : v1 = 0 ∨ v1 = 1
  · have a1 : ¬ v1 < 0 := by rcases hr with e | e <;> rw [e] <;> decide
    have a2 : v1 ≤ 1 := by rcases hr with e | e <;> rw [e] <;> decide
    refine br_f a1 (br_t a2 ⟨17, gp_fX hr P bX bY (fun xr wi fo => ?_) 16 0 xr wi fo rfl (fun q hq => absurd hq (by omega))⟩)
    have Y : ∃ n13 : Nat, wY_fill_13 (fun r' v' => r' = nI (gp_pn (fun p => gp_in px py (gp_nx F T) n v1 (p % 16) (p / 16) && bt (kr (p / 16)) (p % 16)) mo co pg 256) ∧ i_Rel (k + 4) (1, co, mo, nI s, nI n, nI ns, xr, gp_pg (fun p => gp_in px py (gp_nx F T) n v1 (p % 16) (p / 16) && bt (kr (p / 16)) (p % 16)) mo co pg 256, gp_wr bf 0 pg 256, ma, fr, kr, sm, sc, so, sk, px, py, fp, cl, wi, fo) v') v1 co mo (nI s) (nI n) (nI ns) pn n13 0 ma kc sm sc so kk px py sb cl pg bf ch :=
      ⟨257, gp_fY hr P bX bY hm hc (fun ch => And.intro rfl (gp_mk (gp_RR hm hso hs hc hq bX bY P))) 256 0 ch rfl (fun q hq => absurd hq (by omega))⟩
    by_cases e : v1 = 0
    · exact br_t e Y
    · exact br_f e (br_t (hr.resolve_left e) Y)
  · have Y : ∀ r : Int32, r = -1 → wpY_fill (fun r' v' => r' = r ∧ i_Rel (k + 4) (pn, co, mo, nI s, nI n, nI ns, xr, pg, bf, ma, fr, kr, sm, sc, so, sk, px, py, fp, cl, wi, fo) v') (co, mo, nI s, nI n, nI ns, pn, ma, kc, sm, sc, so, kk, px, py, sb, cl, pg, bf, ch) v1 := fun r e => br_f (fun z => hr (Or.inl z)) (br_f (fun z => hr (Or.inr z)) (And.intro e.symm (gp_mk R0)))
    exact br_c (fun _ => Y _ rfl) (fun c => br_c (fun c2 => absurd (gp_01 c c2) hr) (fun _ => Y _ rfl))
theorem i_vc_stroke {k : Nat} {u : SX} {v : SY} (I : i_Rel k u v) (hk : k + 4 ≤ 2048) (v1 : Int32) : wpX_stroke (fun r u' => wpY_stroke (fun r' v' => r' = r ∧ i_Rel (k + 4) u' v') v v1) u v1 := by
  refine gp_el (P := fun u v => wpX_stroke (fun r u' => wpY_stroke (fun r' v' => r' = r ∧ i_Rel (k + 4) u' v') v v1) u v1) ?_ I
  intro pn co mo sv pt sp xr pg bf ma fr kr sm sc so sk px py fp cl wi fo kc kk sb ch hR
  have R0 := hR
  obtain ⟨hm, hso, ⟨s, hs, rfl⟩, hc, hq, bX, bY, n, ns, F, T, rfl, rfl, P⟩ := hR
  by_cases h1 : v1 < 0
  · exact br_t h1 (br_t h1 (And.intro rfl (gp_mk R0)))
  · by_cases h2 : v1 ≤ 32
    · obtain ⟨w, hw, rfl⟩ := nI_of2 (n := 32) (by decide) h1 h2
      refine br_f h1 (br_t h2 ⟨17, gp_sX P hw bX bY (fun fo => ?_) 16 0 fo rfl (fun q hq => absurd hq (by omega))⟩)
      exact br_f h1 (br_t h2 ⟨257, gp_sY hw P bX bY hm hc (fun ch => And.intro rfl (gp_mk (gp_RR hm hso hs hc hq bX bY P))) 256 0 ch rfl (fun q hq => absurd hq (by omega))⟩)
    · exact br_f h1 (br_f h2 (br_f h1 (br_f h2 (And.intro rfl (gp_mk R0)))))
theorem i_vc_clip {k : Nat} {u : SX} {v : SY} (I : i_Rel k u v) (hk : k + 4 ≤ 2048) (v1 : Int32) : wpX_clip (fun r u' => wpY_clip (fun r' v' => r' = r ∧ i_Rel (k + 4) u' v') v v1) u v1 := by
  refine gp_el (P := fun u v => wpX_clip (fun r u' => wpY_clip (fun r' v' => r' = r ∧ i_Rel (k + 4) u' v') v v1) u v1) ?_ I
  intro pn co mo sv pt sp xr pg bf ma fr kr sm sc so sk px py fp cl wi fo kc kk sb ch hR
  have R0 := hR
  obtain ⟨hm, hso, ⟨s, hs, rfl⟩, hc, hq, bX, bY, n, ns, F, T, rfl, rfl, P⟩ := hR
  by_cases hr : v1 = 0 ∨ v1 = 1
  · have a1 : ¬ v1 < 0 := by rcases hr with e | e <;> rw [e] <;> decide
    have a2 : v1 ≤ 1 := by rcases hr with e | e <;> rw [e] <;> decide
    refine br_f a1 (br_t a2 ⟨17, gp_cX (k0 := kr) hr P bX bY (fun xr wi k' hk' => ?_) 16 0 xr wi kr rfl (fun q hq => absurd hq (by omega)) (fun q _ => rfl)⟩)
    have Y : ∃ n15 : Nat, wY_clip_15 (fun r' v' => r' = nI (gp_cnt (gp_cs px py kr (gp_nx F T) n v1) 256) ∧ i_Rel (k + 4) (pn, co, mo, nI s, nI n, nI ns, xr, pg, bf, ma, fr, k', sm, sc, so, sk, px, py, fp, cl, wi, fo) v') v1 co mo (nI s) (nI n) (nI ns) pn n15 0 0 ma kc sm sc so kk px py sb cl pg bf ch :=
      ⟨257, gp_cY (k0 := kc) (kr := kr) hr P bX bY hc (fun kc hkc => And.intro rfl (gp_mk (gp_RR hm hso hs (gp_cb_clip hk' hkc) hq bX bY P))) 256 0 kc rfl (fun q hq => absurd hq (by omega)) (fun q _ => rfl)⟩
    by_cases e : v1 = 0
    · exact br_t e Y
    · exact br_f e (br_t (hr.resolve_left e) Y)
  · have Y : ∀ r : Int32, r = -1 → wpY_clip (fun r' v' => r' = r ∧ i_Rel (k + 4) (pn, co, mo, nI s, nI n, nI ns, xr, pg, bf, ma, fr, kr, sm, sc, so, sk, px, py, fp, cl, wi, fo) v') (co, mo, nI s, nI n, nI ns, pn, ma, kc, sm, sc, so, kk, px, py, sb, cl, pg, bf, ch) v1 := fun r e => br_f (fun z => hr (Or.inl z)) (br_f (fun z => hr (Or.inr z)) (And.intro e.symm (gp_mk R0)))
    exact br_c (fun _ => Y _ rfl) (fun c => br_c (fun c2 => absurd (gp_01 c c2) hr) (fun _ => Y _ rfl))
theorem i_vc_undo {k : Nat} {u : SX} {v : SY} (I : i_Rel k u v) (hk : k + 4 ≤ 2048) : wpX_undo (fun r u' => wpY_undo (fun r' v' => r' = r ∧ i_Rel (k + 4) u' v') v) u := by
  refine gp_el (P := fun u v => wpX_undo (fun r u' => wpY_undo (fun r' v' => r' = r ∧ i_Rel (k + 4) u' v') v) u) ?_ I
  intro pn co mo sv pt sp xr pg bf ma fr kr sm sc so sk px py fp cl wi fo kc kk sb ch hR
  by_cases h : pn = 0
  · exact br_t h (br_t h (And.intro rfl (gp_mk hR)))
  · have Y : ∃ n13 : Nat, wY_undo_13 (fun r' v' => r' = nI (gp_cnt (fun q => decide (¬ pg q = bf q)) 256) ∧ i_Rel (k + 4) (pn, co, mo, sv, pt, sp, xr, gp_wr pg 0 bf 256, gp_wr bf 0 pg 256, ma, fr, kr, sm, sc, so, sk, px, py, fp, cl, wi, fo) v') co mo sv pt sp pn n13 0 0 ma kc sm sc so kk px py sb cl pg bf ch := by
      have := gp_uY (post := fun r' v' => r' = nI (gp_cnt (fun q => decide (¬ pg q = bf q)) 256) ∧ i_Rel (k + 4) (pn, co, mo, sv, pt, sp, xr, gp_wr pg 0 bf 256, gp_wr bf 0 pg 256, ma, fr, kr, sm, sc, so, sk, px, py, fp, cl, wi, fo) v') (p0 := pg) (b0 := bf) (ch := ch) (And.intro rfl (gp_mk hR)) 256 0 rfl
      rw [gp_wr0, gp_wr0] at this
      exact ⟨257, this⟩
    have X := gp_uX (post := fun r u' => wpY_undo (fun r' v' => r' = r ∧ i_Rel (k + 4) u' v') (co, mo, sv, pt, sp, pn, ma, kc, sm, sc, so, kk, px, py, sb, cl, pg, bf, ch)) (xr := xr) (fr := fr) (wi := wi) (fo := fo) (p0 := pg) (b0 := bf) (br_f h Y) 256 0 rfl
    rw [gp_wr0, gp_wr0] at X
    exact br_f h ⟨257, X⟩
end GP17
end
section
section GP18
/-! V: what is owed: questions -/
theorem i_vc_pixel {k : Nat} {u : SX} {v : SY} (I : i_Rel k u v) (hk : k + 4 ≤ 2048) (v1 : Int32) (v2 : Int32) : wpX_pixel (fun r => wpY_pixel (fun r' => r' = r ∧ i_Rel (k + 4) u v) v v1 v2) u v1 v2 := by
  refine gp_el (P := fun u v => wpX_pixel (fun r => wpY_pixel (fun r' => r' = r ∧ i_Rel (k + 4) u v) v v1 v2) u v1 v2) ?_ I
  intro pn co mo sv pt sp xr pg bf ma fr kr sm sc so sk px py fp cl wi fo kc kk sb ch hR
  unfold wpX_pixel wpY_pixel
  dsimp only
  by_cases h : gp_pix v1 v2
  · obtain ⟨i, j, hi, hj, rfl, rfl⟩ := h
    have hin : vp_in (16 * nI j + nI i) 256 := by
      rw [gp_16]
      exact vp_in_nI (by omega) (by omega)
    refine gp_pixX_t hi hj ?_
    refine br_f (by decide) (And.intro hin ?_)
    refine gp_pixY_t hi hj ?_
    exact br_f (by decide) (And.intro hin (And.intro rfl (gp_mk hR)))
  · refine gp_pixX_f h ?_
    refine br_t rfl ?_
    refine gp_pixY_f h ?_
    exact br_t rfl (And.intro rfl (gp_mk hR))
theorem i_vc_count {k : Nat} {u : SX} {v : SY} (I : i_Rel k u v) (hk : k + 4 ≤ 2048) (v1 : Int32) : wpX_count (fun r => wpY_count (fun r' => r' = r ∧ i_Rel (k + 4) u v) v v1) u v1 := by
  refine gp_el (P := fun u v => wpX_count (fun r => wpY_count (fun r' => r' = r ∧ i_Rel (k + 4) u v) v v1) u v1) ?_ I
  intro pn co mo sv pt sp xr pg bf ma fr kr sm sc so sk px py fp cl wi fo kc kk sb ch hR
  refine ⟨257, gp_cnX ?_ 256 0 rfl⟩
  exact ⟨257, gp_cnY (And.intro rfl (gp_mk hR)) 256 0 rfl⟩
theorem i_vc_row {k : Nat} {u : SX} {v : SY} (I : i_Rel k u v) (hk : k + 4 ≤ 2048) (v1 : Int32) : wpX_row (fun r => wpY_row (fun r' => r' = r ∧ i_Rel (k + 4) u v) v v1) u v1 := by
  refine gp_el (P := fun u v => wpX_row (fun r => wpY_row (fun r' => r' = r ∧ i_Rel (k + 4) u v) v v1) u v1) ?_ I
  intro pn co mo sv pt sp xr pg bf ma fr kr sm sc so sk px py fp cl wi fo kc kk sb ch hR
  by_cases h0 : v1 < 0
  · exact br_t h0 (br_t h0 (And.intro rfl (gp_mk hR)))
  · by_cases h1 : v1 < 16
    · obtain ⟨j, hj, rfl⟩ := gp_ix h0 (Int32.not_le.mpr h1)
      have h2 : nI j ≤ 15 := nI_le (b := 15) (by omega) (by omega)
      have Y : ∃ n20 : Nat, wY_row_20 (fun r' => r' = gp_rw (fun i => pg (16 * j + i)) 16 0 ∧ i_Rel (k + 4) (pn, co, mo, sv, pt, sp, xr, pg, bf, ma, fr, kr, sm, sc, so, sk, px, py, fp, cl, wi, fo) (co, mo, sv, pt, sp, pn, ma, kc, sm, sc, so, kk, px, py, sb, cl, pg, bf, ch)) (nI j) co mo sv pt sp pn ma kc sm sc so kk px py sb cl pg bf ch n20 0 15 := ⟨17, gp_rY hj 16 0 (by omega) (And.intro rfl (gp_mk hR))⟩
      refine br_f h0 (br_t h1 ⟨17, gp_rX (post := fun r => wpY_row (fun r' => r' = r ∧ i_Rel (k + 4) (pn, co, mo, sv, pt, sp, xr, pg, bf, ma, fr, kr, sm, sc, so, sk, px, py, fp, cl, wi, fo) (co, mo, sv, pt, sp, pn, ma, kc, sm, sc, so, kk, px, py, sb, cl, pg, bf, ch)) (co, mo, sv, pt, sp, pn, ma, kc, sm, sc, so, kk, px, py, sb, cl, pg, bf, ch) (nI j)) hj 16 0 (by omega) ?_⟩)
      exact br_f h0 (br_t h2 Y)
    · have h2 : ¬ v1 ≤ 15 := by
        rw [Int32.le_iff_toInt_le, show (15 : Int32).toInt = 15 by decide]
        rw [Int32.lt_iff_toInt_lt, show (16 : Int32).toInt = 16 by decide] at h1
        omega
      exact br_f h0 (br_f h1 (br_f h0 (br_f h2 (And.intro rfl (gp_mk hR)))))
theorem gp_in_r {px py : Nat → Int32} {N : Nat → Nat} {n i j : Nat} {rl r : Int32} (hi : i < 16) (hb : ∀ i, bt r i = (decide (i < 16) && gp_in px py N n rl i j)) : (r >>> (nI i &&& 31)) &&& 1 = gp_b (gp_in px py N n rl i j) := by
  rw [gp_shr r (by omega), hb i, decide_eq_true hi, Bool.true_and]
theorem i_vc_inside {k : Nat} {u : SX} {v : SY} (I : i_Rel k u v) (hk : k + 4 ≤ 2048) (v1 : Int32) (v2 : Int32) (v3 : Int32) : wpX_inside (fun r u' => wpY_inside (fun r' => r' = r ∧ i_Rel (k + 4) u' v) v v1 v2 v3) u v1 v2 v3 := by
  refine gp_el (P := fun u v => wpX_inside (fun r u' => wpY_inside (fun r' => r' = r ∧ i_Rel (k + 4) u' v) v v1 v2 v3) u v1 v2 v3) ?_ I
  intro pn co mo sv pt sp xr pg bf ma fr kr sm sc so sk px py fp cl wi fo kc kk sb ch hR
  have R0 := hR
  obtain ⟨hm, hso, ⟨s, hs, rfl⟩, hc, hq, bX, bY, n, ns, F, T, rfl, rfl, P⟩ := hR
  unfold wpX_inside wpY_inside
  dsimp only
  by_cases h : gp_pix v1 v2
  · obtain ⟨i, j, hi, hj, rfl, rfl⟩ := h
    refine gp_pixX_t hi hj ?_
    refine br_f (by decide) ?_
    by_cases hr : v3 = 0 ∨ v3 = 1
    · have a1 : ¬ v3 < 0 := by rcases hr with e | e <;> rw [e] <;> decide
      have a2 : v3 ≤ 1 := by rcases hr with e | e <;> rw [e] <;> decide
      refine br_f a1 (br_t a2 ?_)
      refine gp_insideRow (xr := xr) (wi := wi) hr P hj bX bY (fun xr wi r hb => ?_)
      dsimp only
      rw [gp_in_r hi hb]
      refine gp_pixY_t hi hj ?_
      refine br_f (by decide) ?_
      have Y : wY_inside_20 (fun r' => r' = gp_b (gp_in px py (gp_nx F T) n v3 i j) ∧ i_Rel (k + 4) (pn, co, mo, nI s, nI n, nI ns, xr, pg, bf, ma, fr, kr, sm, sc, so, sk, px, py, fp, cl, wi, fo) (co, mo, nI s, nI n, nI ns, pn, ma, kc, sm, sc, so, kk, px, py, sb, cl, pg, bf, ch)) (nI i) (nI j) v3 co mo (nI s) (nI n) (nI ns) pn ma kc sm sc so kk px py sb cl pg bf ch := by
        unfold wY_inside_20
        refine gp_isInside hr P hi hj bX bY ?_
        have M := gp_mk (k := k + 4) (pn := pn) (co := co) (xr := xr) (pg := pg) (bf := bf) (ma := ma) (fr := fr) (sm := sm) (sc := sc) (cl := cl) (wi := wi) (fo := fo) (ch := ch) R0
        cases gp_in px py (gp_nx F T) n v3 i j
        · exact br_t rfl (And.intro rfl M)
        · exact br_f (by decide) (And.intro rfl M)
      by_cases e : v3 = 0
      · exact br_t e Y
      · exact br_f e (br_t (hr.resolve_left e) Y)
    · refine br_c (fun _ => ?_) (fun c => br_c (fun c2 => absurd (gp_01 c c2) hr) (fun _ => ?_))
      · refine gp_pixY_t hi hj ?_
        exact br_f (by decide) (br_f (fun z => hr (Or.inl z)) (br_f (fun z => hr (Or.inr z)) (And.intro rfl (gp_mk R0))))
      · refine gp_pixY_t hi hj ?_
        exact br_f (by decide) (br_f (fun z => hr (Or.inl z)) (br_f (fun z => hr (Or.inr z)) (And.intro rfl (gp_mk R0))))
  · refine gp_pixX_f h ?_
    refine br_t rfl ?_
    refine gp_pixY_f h ?_
    exact br_t rfl (And.intro rfl (gp_mk R0))
theorem i_vc_winding {k : Nat} {u : SX} {v : SY} (I : i_Rel k u v) (hk : k + 4 ≤ 2048) (v1 : Int32) (v2 : Int32) : wpX_winding (fun r u' => wpY_winding (fun r' => r' = r ∧ i_Rel (k + 4) u' v) v v1 v2) u v1 v2 := by
  refine gp_el (P := fun u v => wpX_winding (fun r u' => wpY_winding (fun r' => r' = r ∧ i_Rel (k + 4) u' v) v v1 v2) u v1 v2) ?_ I
  intro pn co mo sv pt sp xr pg bf ma fr kr sm sc so sk px py fp cl wi fo kc kk sb ch hR
  have R0 := hR
  obtain ⟨hm, hso, ⟨s, hs, rfl⟩, hc, hq, bX, bY, n, ns, F, T, rfl, rfl, P⟩ := hR
  unfold wpX_winding wpY_winding
  dsimp only
  by_cases h : gp_pix v1 v2
  · obtain ⟨i, j, hi, hj, rfl, rfl⟩ := h
    refine gp_pixX_t hi hj ?_
    refine br_f (by decide) ?_
    refine gp_crossRow (xr := xr) (wi := wi) P hj bX bY (fun xr wi hb => And.intro (vp_in_nI hi (by omega)) ?_)
    dsimp only
    rw [nI_clamp (by omega), hb.1 i hi]
    refine gp_pixY_t hi hj ?_
    refine br_f (by decide) ?_
    exact gp_windingOf P hi hj bX bY (And.intro rfl (gp_mk R0))
  · refine gp_pixX_f h ?_
    refine br_t rfl ?_
    refine gp_pixY_f h ?_
    exact br_t rfl (And.intro rfl (gp_mk R0))
theorem i_vc_clipped {k : Nat} {u : SX} {v : SY} (I : i_Rel k u v) (hk : k + 4 ≤ 2048) (v1 : Int32) (v2 : Int32) : wpX_clipped (fun r => wpY_clipped (fun r' => r' = r ∧ i_Rel (k + 4) u v) v v1 v2) u v1 v2 := by
  refine gp_el (P := fun u v => wpX_clipped (fun r => wpY_clipped (fun r' => r' = r ∧ i_Rel (k + 4) u v) v v1 v2) u v1 v2) ?_ I
  intro pn co mo sv pt sp xr pg bf ma fr kr sm sc so sk px py fp cl wi fo kc kk sb ch hR
  have hc : gp_cb kr kc 16 := hR.2.2.2.1
  unfold wpX_clipped wpY_clipped
  dsimp only
  by_cases h : gp_pix v1 v2
  · obtain ⟨i, j, hi, hj, rfl, rfl⟩ := h
    rw [gp_16, nI_clamp (n := j) (by omega), nI_clamp (n := 16 * j + i) (by omega), gp_shr _ (by omega), (hc j hj).2 i hi]
    refine gp_pixX_t hi hj ?_
    refine br_f (by decide) (And.intro (vp_in_nI hj (by omega)) ?_)
    refine gp_pixY_t hi hj ?_
    refine br_f (by decide) (And.intro (vp_in_nI (by omega) (by omega)) ?_)
    have M := gp_mk (k := k + 4) (pn := pn) (co := co) (xr := xr) (pg := pg) (bf := bf) (ma := ma) (fr := fr) (sm := sm) (sc := sc) (cl := cl) (wi := wi) (fo := fo) (ch := ch) hR
    cases bt (kr j) i
    · exact br_t rfl (And.intro rfl M)
    · exact br_f (by decide) (And.intro rfl M)
  · refine gp_pixX_f h ?_
    refine br_t rfl ?_
    refine gp_pixY_f h ?_
    exact br_t rfl (And.intro rfl (gp_mk hR))
theorem i_vc_matrix {k : Nat} {u : SX} {v : SY} (I : i_Rel k u v) (hk : k + 4 ≤ 2048) (v1 : Int32) : wpX_matrix (fun r => wpY_matrix (fun r' => r' = r ∧ i_Rel (k + 4) u v) v v1) u v1 := by
  refine gp_el (P := fun u v => wpX_matrix (fun r => wpY_matrix (fun r' => r' = r ∧ i_Rel (k + 4) u v) v v1) u v1) ?_ I
  intro pn co mo sv pt sp xr pg bf ma fr kr sm sc so sk px py fp cl wi fo kc kk sb ch hR
  by_cases h0 : v1 < 0
  · exact br_t h0 (br_t h0 (And.intro rfl (gp_mk hR)))
  · by_cases h1 : v1 ≤ 5
    · obtain ⟨j, hj, rfl⟩ := nI_of2 (n := 5) (by decide) h0 h1
      have hin : vp_in (nI j) 6 := vp_in_nI (by omega) (by omega)
      exact br_f h0 (br_t h1 (And.intro hin (br_f h0 (br_f (Int32.not_lt.mpr h1) (And.intro hin (And.intro rfl (gp_mk hR)))))))
    · exact br_f h0 (br_f h1 (br_f h0 (br_t (Int32.not_le.mp h1) (And.intro rfl (gp_mk hR)))))
theorem i_vc_pathPoint {k : Nat} {u : SX} {v : SY} (I : i_Rel k u v) (hk : k + 4 ≤ 2048) (v1 : Int32) : wpX_pathPoint (fun r => wpY_pathPoint (fun r' => r' = r ∧ i_Rel (k + 4) u v) v v1) u v1 := by
  refine gp_el (P := fun u v => wpX_pathPoint (fun r => wpY_pathPoint (fun r' => r' = r ∧ i_Rel (k + 4) u v) v v1) u v1) ?_ I
  intro pn co mo sv pt sp xr pg bf ma fr kr sm sc so sk px py fp cl wi fo kc kk sb ch hR
  have R0 := hR
  obtain ⟨hm, hso, ⟨s, hs, rfl⟩, hc, hq, bX, bY, n, ns, F, T, rfl, rfl, P⟩ := hR
  have hn16 : n ≤ 16 := P.1
  by_cases h0 : v1 < 0
  · exact br_t h0 (br_t h0 (And.intro rfl (gp_mk R0)))
  · by_cases h1 : v1 < nI n
    · obtain ⟨j, hj, rfl⟩ := nI_of h0
      have hjn : j < n := (nI_ltI hj (by omega)).mp h1
      have hin : vp_in (nI j) 16 := vp_in_nI (by omega) (by omega)
      exact br_f h0 (br_t h1 (And.intro hin (And.intro hin (br_f h0 (br_f (Int32.not_le.mpr h1) (And.intro hin (And.intro hin (And.intro rfl (gp_mk R0)))))))))
    · exact br_f h0 (br_f h1 (br_f h0 (br_t (Int32.not_lt.mp h1) (And.intro rfl (gp_mk R0)))))
end GP18
end
