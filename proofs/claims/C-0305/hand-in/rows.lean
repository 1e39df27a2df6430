section
/-! rows of kit/rows (pasted): pk_*, bt and b_* -/
theorem pk_us {f : Nat → Int32} {k : Nat} {x : Int32} : upd f k x k = x := if_pos rfl
theorem pk_un {f : Nat → Int32} {k j : Nat} {x : Int32} (h : j ≠ k) : upd f k x j = f j := if_neg h
theorem pk_sub {a b : Nat} (h : b ≤ a) : nI a - nI b = nI (a - b) := by
  obtain ⟨c, rfl⟩ : ∃ c, a = c + b := ⟨a - b, by omega⟩
  rw [← nI_add, Int32.add_sub_cancel, Nat.add_sub_cancel]
theorem pk_m1 (n : Nat) : nI (n + 1) + (-1) = nI n := by
  rw [← nI_1, Int32.add_assoc, show (1 : Int32) + (-1) = 0 from rfl, Int32.add_zero]
theorem pk_sub_toInt {a b : Nat} (ha : a < 2 ^ 30) (hb : b < 2 ^ 30) : (nI a - nI b).toInt = (a : Int) - b := by
  rw [Int32.toInt_sub, nI_toInt (by omega), nI_toInt (by omega)]
  exact Int.bmod_eq_of_le (by omega) (by omega)
theorem pk_sneg {a b : Nat} (hb : b < 2 ^ 30) (h : a < b) : nI a - nI b < 0 := by
  rw [Int32.lt_iff_toInt_lt, pk_sub_toInt (by omega) hb, show (0 : Int32).toInt = 0 from by decide]
  omega
theorem pk_ix (x : Int32) {n : Nat} (hn : n < 2 ^ 31) : x < 0 ∨ nI n ≤ x ∨ ∃ j : Nat, j < n ∧ x = nI j := by
  by_cases h : x < 0
  · exact Or.inl h
  · obtain ⟨j, hj, rfl⟩ := nI_of h
    by_cases h2 : j < n
    · exact Or.inr (Or.inr ⟨j, h2, rfl⟩)
    · exact Or.inr (Or.inl (nI_le (by omega) hj))
theorem pk_le {x y : Int32} {A B : Prop} (a b : Nat) (f : a ≤ b → A) (g : b < a → B) (hx : x = nI a := by rfl) (hy : y = nI b := by rfl) (ha : a < 2 ^ 31 := by omega) (hb : b < 2 ^ 31 := by omega) : (x ≤ y → A) ∧ (¬ x ≤ y → B) := by
  subst hx hy
  rw [nI_leI ha hb]
  exact ⟨f, fun z => g (by omega)⟩
theorem pk_lt {x y : Int32} {A B : Prop} (a b : Nat) (f : a < b → A) (g : b ≤ a → B) (hx : x = nI a := by rfl) (hy : y = nI b := by rfl) (ha : a < 2 ^ 31 := by omega) (hb : b < 2 ^ 31 := by omega) : (x < y → A) ∧ (¬ x < y → B) := by
  subst hx hy
  rw [nI_ltI ha hb]
  exact ⟨f, fun z => g (by omega)⟩
theorem pk_eq {x y : Int32} {A B : Prop} (a b : Nat) (f : a = b → A) (g : a ≠ b → B) (hx : x = nI a := by rfl) (hy : y = nI b := by rfl) (ha : a < 2 ^ 31 := by omega) (hb : b < 2 ^ 31 := by omega) : (x = y → A) ∧ (¬ x = y → B) := by
  subst hx hy
  rw [nI_eq ha hb]
  exact ⟨f, g⟩
theorem pk_in {x : Int32} (n N : Nat) (h : n < N) (hx : x = nI n := by rfl) (hN : N < 2 ^ 31 := by omega) : vp_in x N := by
  subst hx
  exact vp_in_nI h hN
theorem pk_cl {x : Int32} (n : Nat) (hx : x = nI n := by rfl) (h : n < 2 ^ 31 := by omega) : x.toNatClampNeg = n := by
  subst hx
  exact nI_clamp h
theorem pk_tn {n : Nat} (h : n < 2 ^ 32) : (nI n).toBitVec.toNat = n := Nat.mod_eq_of_lt h
theorem pk_and (x : Int32) {m : Int32} (k : Nat) (hm : m.toBitVec.toNat = 2 ^ k - 1) : x &&& m = nI (x.toBitVec.toNat % 2 ^ k) := by
  apply Int32.toBitVec_inj.mp
  apply BitVec.eq_of_toNat_eq
  rw [Int32.toBitVec_and, BitVec.toNat_and, hm, Nat.and_two_pow_sub_one_eq_mod]
  show _ = (BitVec.ofNat 32 _).toNat
  rw [BitVec.toNat_ofNat]
  exact (Nat.mod_eq_of_lt (Nat.lt_of_le_of_lt (Nat.mod_le _ _) x.toBitVec.isLt)).symm
theorem pk_andN {n : Nat} (h : n < 2 ^ 32) {m : Int32} (k : Nat) (hm : m.toBitVec.toNat = 2 ^ k - 1) : nI n &&& m = nI (n % 2 ^ k) := by
  rw [pk_and _ k hm, pk_tn h]
theorem pk_andE (x : Int32) {m : Int32} (k : Nat) (hm : m.toBitVec.toNat = 2 ^ k - 1) : ∃ j : Nat, j < 2 ^ k ∧ x &&& m = nI j := ⟨_, Nat.mod_lt _ (Nat.two_pow_pos k), pk_and x k hm⟩
theorem pk_andIn (x : Int32) {m : Int32} (k : Nat) (hm : m.toBitVec.toNat = 2 ^ k - 1) (hk : k ≤ 30) : vp_in (x &&& m) (2 ^ k) := by
  obtain ⟨j, hj, e⟩ := pk_andE x k hm
  rw [e]
  exact vp_in_nI hj (Nat.lt_of_le_of_lt (Nat.pow_le_pow_right (by decide) hk) (by decide))
theorem pk_vb (z : Int32) : vp_nar .byte z.toInt8.toInt32 = z.toInt8.toInt32 := by rw [vp_nar_byte]; simp
def bt (x : Int32) (i : Nat) : Bool := x.toBitVec.getLsbD i
theorem b_ext {x y : Int32} (h : ∀ i, i < 32 → bt x i = bt y i) : x = y := Int32.toBitVec_inj.mp (BitVec.eq_of_getLsbD_eq (fun i hi => h i hi))
theorem b_or (x y : Int32) (i : Nat) : bt (x ||| y) i = (bt x i || bt y i) := by unfold bt; rw [Int32.toBitVec_or, BitVec.getLsbD_or]
theorem b_and (x y : Int32) (i : Nat) : bt (x &&& y) i = (bt x i && bt y i) := by unfold bt; rw [Int32.toBitVec_and, BitVec.getLsbD_and]
theorem b_xor (x y : Int32) (i : Nat) : bt (x ^^^ y) i = (bt x i ^^ bt y i) := by unfold bt; rw [Int32.toBitVec_xor, BitVec.getLsbD_xor]
theorem b_big {x : Int32} {i : Nat} (h : 32 ≤ i) : bt x i = false := BitVec.getLsbD_of_ge _ _ h
theorem b_255 (i : Nat) : bt 255 i = decide (i < 8) := by
  rcases Nat.lt_or_ge i 32 with h | h
  · exact (by decide +kernel : ∀ i, i < 32 → bt 255 i = decide (i < 8)) i h
  · rw [b_big h, decide_eq_false (by omega)]
theorem b_65535 (i : Nat) : bt 65535 i = decide (i < 16) := by
  rcases Nat.lt_or_ge i 32 with h | h
  · exact (by decide +kernel : ∀ i, i < 32 → bt 65535 i = decide (i < 16)) i h
  · rw [b_big h, decide_eq_false (by omega)]
theorem b_m1 : ∀ i, i < 32 → bt (-1) i = true := by decide +kernel
theorem b_0 (i : Nat) : bt 0 i = false := BitVec.getLsbD_zero
theorem s_l : ∀ n, n < 32 → ((nI n &&& 31).toBitVec.smod 32).toNat = n := by decide +kernel
theorem s_u : ∀ n, n < 32 → (((nI n).toUInt32 &&& Int32.toUInt32 31).toBitVec % 32).toNat = n := by decide +kernel
theorem b_shl (n : Nat) (hn : n < 32) (x : Int32) {i : Nat} (hi : i < 32) : bt (x <<< (nI n &&& 31)) i = (decide (n ≤ i) && bt x (i - n)) := by
  unfold bt
  rw [Int32.toBitVec_shiftLeft]
  show (x.toBitVec <<< ((nI n &&& 31).toBitVec.smod 32).toNat).getLsbD i = _
  rw [s_l n hn, BitVec.getLsbD_shiftLeft]
  rcases Nat.lt_or_ge i n with h | h
  · simp [h, Nat.not_le.mpr h]
  · simp [hi, h, Nat.not_lt.mpr h]
theorem b_ushr (n : Nat) (hn : n < 32) (x : Int32) (i : Nat) : bt ((x.toUInt32 >>> ((nI n).toUInt32 &&& Int32.toUInt32 31)).toInt32) i = bt x (n + i) := by
  show (x.toUInt32 >>> ((nI n).toUInt32 &&& Int32.toUInt32 31)).toBitVec.getLsbD i = x.toUInt32.toBitVec.getLsbD (n + i)
  rw [UInt32.toBitVec_shiftRight]
  show (x.toUInt32.toBitVec >>> (((nI n).toUInt32 &&& Int32.toUInt32 31).toBitVec % 32).toNat).getLsbD i = _
  rw [s_u n hn, BitVec.getLsbD_ushiftRight]
theorem b_sshr (n : Nat) (hn : n < 32) (x : Int32) {i : Nat} (hi : i < 32) : bt (x >>> (nI n &&& 31)) i = if n + i < 32 then bt x (n + i) else bt x 31 := by
  unfold bt
  rw [Int32.toBitVec_shiftRight]
  show (x.toBitVec.sshiftRight ((nI n &&& 31).toBitVec.smod 32).toNat).getLsbD i = _
  rw [s_l n hn, BitVec.getLsbD_sshiftRight, BitVec.msb_eq_getLsbD_last]
  simp [hi]
theorem b_shl8 (x : Int32) {i : Nat} (hi : i < 32) : bt (x <<< ((8 : Int32) &&& 31)) i = (decide (8 ≤ i) && bt x (i - 8)) := b_shl 8 (by omega) x hi
theorem b_shl16 (x : Int32) {i : Nat} (hi : i < 32) : bt (x <<< ((16 : Int32) &&& 31)) i = (decide (16 ≤ i) && bt x (i - 16)) := b_shl 16 (by omega) x hi
theorem b_shl24 (x : Int32) {i : Nat} (hi : i < 32) : bt (x <<< ((24 : Int32) &&& 31)) i = (decide (24 ≤ i) && bt x (i - 24)) := b_shl 24 (by omega) x hi
theorem b_sshr8 (x : Int32) {i : Nat} (hi : i < 32) : bt (x >>> ((8 : Int32) &&& 31)) i = if 8 + i < 32 then bt x (8 + i) else bt x 31 := b_sshr 8 (by omega) x hi
end
section
/-! the loops of a program: those begun and not ended, by a forward scan; their ends, by a backward scan; balance -/
def dq_enc (oc : Nat → Int32) : Nat → List Nat
  | 0 => []
  | i + 1 => if oc i = 9 then i :: dq_enc oc i else if oc i = 10 then (dq_enc oc i).tail else dq_enc oc i
theorem dq_n9 {x : Int32} (h : x = 10) : ¬ x = 9 := by rw [h]; decide
theorem dq_n10 {x : Int32} (h : x = 9) : ¬ x = 10 := by rw [h]; decide
theorem dq_enc9 {oc : Nat → Int32} {i : Nat} (h : oc i = 9) : dq_enc oc (i + 1) = i :: dq_enc oc i := by
  rw [dq_enc, if_pos h]
theorem dq_enc10 {oc : Nat → Int32} {i : Nat} (h : oc i = 10) : dq_enc oc (i + 1) = (dq_enc oc i).tail := by
  rw [dq_enc, if_neg (dq_n9 h), if_pos h]
theorem dq_encN {oc : Nat → Int32} {i : Nat} (h9 : ¬ oc i = 9) (h10 : ¬ oc i = 10) : dq_enc oc (i + 1) = dq_enc oc i := by
  rw [dq_enc, if_neg h9, if_neg h10]
theorem dq_enc_co (oc : Nat → Int32) : ∀ p b t, dq_enc oc p = b :: t → b < p ∧ oc b = 9 ∧ dq_enc oc b = t := by
  intro p
  induction p using Nat.strongRecOn with
  | ind p ih =>
    intro b t h
    cases p with
    | zero => simp [dq_enc] at h
    | succ i =>
      by_cases h9 : oc i = 9
      · rw [dq_enc9 h9] at h
        injection h with h1 h2
        subst h1
        exact ⟨Nat.lt_succ_self _, h9, h2⟩
      · by_cases h10 : oc i = 10
        · rw [dq_enc10 h10] at h
          cases he : dq_enc oc i with
          | nil => rw [he] at h; simp at h
          | cons c s =>
            rw [he] at h
            have hs : s = b :: t := h
            obtain ⟨hc, _, hce⟩ := ih i (Nat.lt_succ_self _) c s he
            obtain ⟨h1, h2, h3⟩ := ih c (by omega) b t (hce.trans hs)
            exact ⟨by omega, h2, h3⟩
        · rw [dq_encN h9 h10] at h
          obtain ⟨h1, h2, h3⟩ := ih i (Nat.lt_succ_self _) b t h
          exact ⟨by omega, h2, h3⟩
theorem dq_enc_lt (oc : Nat → Int32) : ∀ p s, s ∈ dq_enc oc p → s < p := by
  intro p
  induction p with
  | zero => intro s h; simp [dq_enc] at h
  | succ i ih =>
    intro s h
    by_cases h9 : oc i = 9
    · rw [dq_enc9 h9] at h
      rcases List.mem_cons.mp h with h | h
      · omega
      · have := ih s h; omega
    · by_cases h10 : oc i = 10
      · rw [dq_enc10 h10] at h
        have := ih s (List.mem_of_mem_tail h); omega
      · rw [dq_encN h9 h10] at h
        have := ih s h; omega

/-- the ends, k counted back from n -/
def dq_clk (oc : Nat → Int32) (n : Nat) : Nat → List Nat
  | 0 => []
  | k + 1 => if oc (n - (k + 1)) = 10 then (n - (k + 1)) :: dq_clk oc n k else if oc (n - (k + 1)) = 9 then (dq_clk oc n k).tail else dq_clk oc n k
def dq_cl (oc : Nat → Int32) (n p : Nat) : List Nat := dq_clk oc n (n - p)
theorem dq_cl_n (oc : Nat → Int32) (n : Nat) : dq_cl oc n n = [] := by
  rw [dq_cl, Nat.sub_self, dq_clk]
theorem dq_cl_eq {oc : Nat → Int32} {n p : Nat} (h : p < n) : dq_cl oc n p = if oc p = 10 then p :: dq_cl oc n (p + 1) else if oc p = 9 then (dq_cl oc n (p + 1)).tail else dq_cl oc n (p + 1) := by
  have e : n - p = (n - (p + 1)) + 1 := by omega
  have e2 : n - ((n - (p + 1)) + 1) = p := by omega
  unfold dq_cl
  rw [e, dq_clk, e2]
theorem dq_cl9 {oc : Nat → Int32} {n p : Nat} (h : p < n) (h9 : oc p = 9) : dq_cl oc n p = (dq_cl oc n (p + 1)).tail := by
  rw [dq_cl_eq h, if_neg (dq_n10 h9), if_pos h9]
theorem dq_cl10 {oc : Nat → Int32} {n p : Nat} (h : p < n) (h10 : oc p = 10) : dq_cl oc n p = p :: dq_cl oc n (p + 1) := by
  rw [dq_cl_eq h, if_pos h10]
theorem dq_clN {oc : Nat → Int32} {n p : Nat} (h : p < n) (h9 : ¬ oc p = 9) (h10 : ¬ oc p = 10) : dq_cl oc n p = dq_cl oc n (p + 1) := by
  rw [dq_cl_eq h, if_neg h10, if_neg h9]
theorem dq_cl_same (oc : Nat → Int32) (n : Nat) : ∀ p b t, p ≤ n → dq_enc oc p = b :: t → dq_cl oc n (b + 1) = dq_cl oc n p := by
  intro p
  induction p using Nat.strongRecOn with
  | ind p ih =>
    intro b t hp h
    cases p with
    | zero => simp [dq_enc] at h
    | succ i =>
      by_cases h9 : oc i = 9
      · rw [dq_enc9 h9] at h
        injection h with h1 h2
        subst h1
        rfl
      · by_cases h10 : oc i = 10
        · rw [dq_enc10 h10] at h
          cases he : dq_enc oc i with
          | nil => rw [he] at h; simp at h
          | cons c s =>
            rw [he] at h
            have hs : s = b :: t := h
            obtain ⟨hc, hc9, hce⟩ := dq_enc_co oc i c s he
            have e1 := ih i (Nat.lt_succ_self _) c s (by omega) he
            rw [dq_cl10 (by omega) h10] at e1
            have e2 := ih c (by omega) b t (by omega) (hce.trans hs)
            rw [e2, dq_cl9 (by omega) hc9, e1]
            rfl
        · rw [dq_encN h9 h10] at h
          rw [ih i (Nat.lt_succ_self _) b t (by omega) h, dq_clN (by omega) h9 h10]
theorem dq_cl_co (oc : Nat → Int32) (n : Nat) : ∀ m p e t, n - p = m → p ≤ n → dq_cl oc n p = e :: t → p ≤ e ∧ e < n ∧ oc e = 10 ∧ dq_cl oc n (e + 1) = t := by
  intro m
  induction m using Nat.strongRecOn with
  | ind m ih =>
    intro p e t hm hp h
    rcases Nat.lt_or_ge p n with hl | hl
    · by_cases h10 : oc p = 10
      · rw [dq_cl10 hl h10] at h
        injection h with h1 h2
        subst h1
        exact ⟨Nat.le_refl _, hl, h10, h2⟩
      · by_cases h9 : oc p = 9
        · rw [dq_cl9 hl h9] at h
          cases he : dq_cl oc n (p + 1) with
          | nil => rw [he] at h; simp at h
          | cons f s =>
            rw [he] at h
            have hs : s = e :: t := h
            obtain ⟨h1, h2, _, h4⟩ := ih (n - (p + 1)) (by omega) (p + 1) f s rfl (by omega) he
            obtain ⟨g1, g2, g3, g4⟩ := ih (n - (f + 1)) (by omega) (f + 1) e t rfl (by omega) (h4.trans hs)
            exact ⟨by omega, g2, g3, g4⟩
        · rw [dq_clN hl h9 h10] at h
          obtain ⟨h1, h2, h3, h4⟩ := ih (n - (p + 1)) (by omega) (p + 1) e t rfl (by omega) h
          exact ⟨by omega, h2, h3, h4⟩
    · have : p = n := by omega
      subst this
      rw [dq_cl_n] at h
      simp at h
theorem dq_cl_c {oc : Nat → Int32} {n p e : Nat} {t : List Nat} (hp : p ≤ n) (h : dq_cl oc n p = e :: t) : p ≤ e ∧ e < n ∧ oc e = 10 ∧ dq_cl oc n (e + 1) = t := dq_cl_co oc n _ p e t rfl hp h

/-- what a well formed program gives -/
def dq_WD (oc : Nat → Int32) (n : Nat) : Prop := (∀ p, p < n → oc p = 10 → dq_enc oc p ≠ []) ∧ (∀ p, p ≤ n → (dq_enc oc p).length ≤ 2) ∧ dq_enc oc n = []
theorem dq_len {oc : Nat → Int32} {n : Nat} (W : dq_WD oc n) : ∀ k p, p + k = n → (dq_cl oc n p).length = (dq_enc oc p).length := by
  obtain ⟨w1, w2, w3⟩ := W
  intro k
  induction k with
  | zero =>
    intro p hp
    have : p = n := by omega
    subst this
    rw [dq_cl_n, w3]
  | succ k ih =>
    intro p hp
    have e := ih (p + 1) (by omega)
    by_cases h10 : oc p = 10
    · rw [dq_cl10 (by omega) h10]
      rw [dq_enc10 h10] at e
      have hn := w1 p (by omega) h10
      cases he : dq_enc oc p with
      | nil => exact absurd he hn
      | cons b t =>
        rw [he] at e
        simp only [List.tail_cons] at e
        simp only [List.length_cons, e]
    · by_cases h9 : oc p = 9
      · rw [dq_cl9 (by omega) h9]
        rw [dq_enc9 h9] at e
        rw [List.length_tail, e, List.length_cons]
        omega
      · rw [dq_clN (by omega) h9 h10]
        rw [dq_encN h9 h10] at e
        exact e

/-- beginOf, purely: place i, k loops to close -/
def dq_bg (oc : Nat → Int32) : Nat → Nat → Nat
  | 0, _ => 0
  | i + 1, k => if oc i = 10 then dq_bg oc i (k + 1) else if oc i = 9 then (if k = 1 then i else dq_bg oc i (k - 1)) else dq_bg oc i k
theorem dq_bg_enc (oc : Nat → Int32) : ∀ i k, k < (dq_enc oc i).length → dq_bg oc i (k + 1) = (dq_enc oc i).getD k 0 := by
  intro i
  induction i with
  | zero => intro k h; simp [dq_enc] at h
  | succ i ih =>
    intro k h
    rw [dq_bg]
    by_cases h10 : oc i = 10
    · rw [if_pos h10]
      rw [dq_enc10 h10] at h ⊢
      cases he : dq_enc oc i with
      | nil => rw [he] at h; simp at h
      | cons b t =>
        rw [he] at h
        rw [ih (k + 1) (by rw [he]; simp at h ⊢; omega), he]
        simp
    · rw [if_neg h10]
      by_cases h9 : oc i = 9
      · rw [if_pos h9]
        rw [dq_enc9 h9] at h ⊢
        cases k with
        | zero => simp
        | succ k =>
          rw [if_neg (by omega), Nat.add_sub_cancel, ih k (by simpa using h)]
          simp
      · rw [if_neg h9]
        rw [dq_encN h9 h10] at h ⊢
        exact ih k h
theorem dq_bg_head {oc : Nat → Int32} {i b : Nat} {t : List Nat} (h : dq_enc oc i = b :: t) : dq_bg oc i 1 = b := by
  rw [dq_bg_enc oc i 0 (by rw [h]; simp), h]
  simp

/-- balanced, purely: k instructions from i on, o loops begun, at most m at a time -/
def dq_bal (oc : Nat → Int32) (m : Nat) : Nat → Nat → Nat → Bool
  | 0, _, o => decide (o = 0)
  | k + 1, i, o => if oc i = 9 then (if o + 1 ≤ m then dq_bal oc m k (i + 1) (o + 1) else false) else if oc i = 10 then (if o = 0 then false else if o - 1 ≤ m then dq_bal oc m k (i + 1) (o - 1) else false) else if o ≤ m then dq_bal oc m k (i + 1) o else false
theorem dq_bal_9 {oc : Nat → Int32} {m k i o : Nat} (h9 : oc i = 9) : dq_bal oc m (k + 1) i o = true ↔ o + 1 ≤ m ∧ dq_bal oc m k (i + 1) (o + 1) = true := by
  rw [dq_bal, if_pos h9]
  by_cases h : o + 1 ≤ m
  · rw [if_pos h]; simp [h]
  · rw [if_neg h]; simp [h]
theorem dq_bal_10 {oc : Nat → Int32} {m k i o : Nat} (h10 : oc i = 10) : dq_bal oc m (k + 1) i o = true ↔ 0 < o ∧ o - 1 ≤ m ∧ dq_bal oc m k (i + 1) (o - 1) = true := by
  rw [dq_bal, if_neg (dq_n9 h10), if_pos h10]
  by_cases h0 : o = 0
  · rw [if_pos h0]; simp [h0]
  · rw [if_neg h0]
    have h0' : 0 < o := by omega
    by_cases h : o - 1 ≤ m
    · rw [if_pos h]; simp [h, h0']
    · rw [if_neg h]; simp [h]
theorem dq_bal_N {oc : Nat → Int32} {m k i o : Nat} (h9 : ¬ oc i = 9) (h10 : ¬ oc i = 10) : dq_bal oc m (k + 1) i o = true ↔ o ≤ m ∧ dq_bal oc m k (i + 1) o = true := by
  rw [dq_bal, if_neg h9, if_neg h10]
  by_cases h : o ≤ m
  · rw [if_pos h]; simp [h]
  · rw [if_neg h]; simp [h]
theorem dq_bal_WD {oc : Nat → Int32} {m : Nat} : ∀ k i o, dq_bal oc m k i o = true → (dq_enc oc i).length = o → o ≤ m →
    (∀ p, i ≤ p → p < i + k → oc p = 10 → dq_enc oc p ≠ []) ∧ (∀ p, i ≤ p → p ≤ i + k → (dq_enc oc p).length ≤ m) ∧ dq_enc oc (i + k) = [] := by
  intro k
  induction k with
  | zero =>
    intro i o h e hm
    have h0 : o = 0 := by simpa [dq_bal] using h
    refine ⟨fun p h1 h2 => by omega, fun p h1 h2 => ?_, ?_⟩
    · have : p = i := by omega
      subst this; omega
    · show dq_enc oc i = []
      exact List.eq_nil_of_length_eq_zero (by omega)
  | succ k ih =>
    intro i o h e hm
    have key : ∀ o', dq_bal oc m k (i + 1) o' = true → (dq_enc oc (i + 1)).length = o' → o' ≤ m → (oc i = 10 → dq_enc oc i ≠ []) →
        (∀ p, i ≤ p → p < i + (k + 1) → oc p = 10 → dq_enc oc p ≠ []) ∧ (∀ p, i ≤ p → p ≤ i + (k + 1) → (dq_enc oc p).length ≤ m) ∧ dq_enc oc (i + (k + 1)) = [] := by
      intro o' hb e' hm' h10
      obtain ⟨a, b, c⟩ := ih (i + 1) o' hb e' hm'
      refine ⟨fun p h1 h2 hp => ?_, fun p h1 h2 => ?_, ?_⟩
      · rcases Nat.lt_or_ge i p with hl | hl
        · exact a p hl (by omega) hp
        · have : p = i := by omega
          subst this; exact h10 hp
      · rcases Nat.lt_or_ge i p with hl | hl
        · exact b p hl (by omega)
        · have : p = i := by omega
          subst this; omega
      · rw [show i + (k + 1) = i + 1 + k from by omega]; exact c
    by_cases h9 : oc i = 9
    · obtain ⟨h1, h2⟩ := (dq_bal_9 h9).mp h
      exact key (o + 1) h2 (by rw [dq_enc9 h9, List.length_cons, e]) h1 (fun z => absurd h9 (dq_n9 z))
    · by_cases h10 : oc i = 10
      · obtain ⟨h1, h2, h3⟩ := (dq_bal_10 h10).mp h
        refine key (o - 1) h3 (by rw [dq_enc10 h10, List.length_tail, e]) h2 (fun _ z => ?_)
        rw [z] at e; simp at e; omega
      · obtain ⟨h1, h2⟩ := (dq_bal_N h9 h10).mp h
        exact key o h2 (by rw [dq_encN h9 h10, e]) h1 (fun z => absurd z h10)
theorem dq_WD_of {oc : Nat → Int32} {n : Nat} (h : dq_bal oc 2 n 0 0 = true) : dq_WD oc n := by
  obtain ⟨a, b, c⟩ := dq_bal_WD n 0 0 h (by simp [dq_enc]) (by omega)
  exact ⟨fun p hp => a p (by omega) (by omega), fun p hp => b p (by omega) (by omega), by rw [Nat.zero_add] at c; exact c⟩
theorem dq_bal_enc {oc : Nat → Int32} {m : Nat} {base : List Nat} : ∀ k i o (pre : List Nat), dq_bal oc m k i o = true → dq_enc oc i = pre ++ base → pre.length = o → dq_enc oc (i + k) = base := by
  intro k
  induction k with
  | zero =>
    intro i o pre h e hl
    have h0 : o = 0 := by simpa [dq_bal] using h
    have hp : pre = [] := List.eq_nil_of_length_eq_zero (by omega)
    rw [hp] at e
    exact e
  | succ k ih =>
    intro i o pre h e hl
    rw [show i + (k + 1) = i + 1 + k from by omega]
    by_cases h9 : oc i = 9
    · obtain ⟨h1, h2⟩ := (dq_bal_9 h9).mp h
      exact ih (i + 1) (o + 1) (i :: pre) h2 (by rw [dq_enc9 h9, e]; rfl) (by simp [hl])
    · by_cases h10 : oc i = 10
      · obtain ⟨h1, h2, h3⟩ := (dq_bal_10 h10).mp h
        cases pre with
        | nil => simp at hl; omega
        | cons x pre =>
          exact ih (i + 1) (o - 1) pre h3 (by rw [dq_enc10 h10, e]; rfl) (by simp at hl; omega)
      · obtain ⟨h1, h2⟩ := (dq_bal_N h9 h10).mp h
        exact ih (i + 1) o pre h2 (by rw [dq_encN h9 h10, e]) hl
end
section
/-! the sequential machine, purely; its measure -/
theorem dq_e1 {o : Nat} (h : o ≤ 10) : nI o = 1 ↔ o = 1 := nI_eq (b := 1) (by omega) (by omega)
theorem dq_e2 {o : Nat} (h : o ≤ 10) : nI o = 2 ↔ o = 2 := nI_eq (b := 2) (by omega) (by omega)
theorem dq_e3 {o : Nat} (h : o ≤ 10) : nI o = 3 ↔ o = 3 := nI_eq (b := 3) (by omega) (by omega)
theorem dq_e4 {o : Nat} (h : o ≤ 10) : nI o = 4 ↔ o = 4 := nI_eq (b := 4) (by omega) (by omega)
theorem dq_e5 {o : Nat} (h : o ≤ 10) : nI o = 5 ↔ o = 5 := nI_eq (b := 5) (by omega) (by omega)
theorem dq_e6 {o : Nat} (h : o ≤ 10) : nI o = 6 ↔ o = 6 := nI_eq (b := 6) (by omega) (by omega)
theorem dq_e7 {o : Nat} (h : o ≤ 10) : nI o = 7 ↔ o = 7 := nI_eq (b := 7) (by omega) (by omega)
theorem dq_e8 {o : Nat} (h : o ≤ 10) : nI o = 8 ↔ o = 8 := nI_eq (b := 8) (by omega) (by omega)
theorem dq_e9 {o : Nat} (h : o ≤ 10) : nI o = 9 ↔ o = 9 := nI_eq (b := 9) (by omega) (by omega)
theorem dq_e10 {o : Nat} (h : o ≤ 10) : nI o = 10 ↔ o = 10 := nI_eq (b := 10) (by omega) (by omega)
theorem dq_l4 {o : Nat} (h : o ≤ 10) : 4 < nI o ↔ 4 < o := nI_ltI (a := 4) (by omega) (by omega)
theorem dq_l6 {o : Nat} (h : o ≤ 10) : 6 < nI o ↔ 6 < o := nI_ltI (a := 6) (by omega) (by omega)
theorem dq_g6 {o : Nat} (h : o ≤ 10) : nI o < 6 ↔ o < 6 := nI_ltI (b := 6) (by omega) (by omega)
theorem dq_g8 {o : Nat} (h : o ≤ 10) : nI o < 8 ↔ o < 8 := nI_ltI (b := 8) (by omega) (by omega)

abbrev dq_CS : Type := Nat × (Nat → Int32) × (Nat → Int32) × (Nat → Int32)
def dq_cmp (o p q : Int32) : Int32 := if o = 1 then p - q else if o = 2 then p * q else if o = 3 then p ^^^ q else if o = 4 then (if q ≤ p then 0 else 1) else p + q
def dq_adr (R : Nat → Int32) (y z : Int32) : Nat := ((R y.toNatClampNeg + z) &&& 15).toNatClampNeg
theorem dq_adr_e (x : Int32) : ∃ j, j < 16 ∧ x &&& 15 = nI j := pk_andE x 4 (by decide)
theorem dq_adr_lt (R : Nat → Int32) (y z : Int32) : dq_adr R y z < 16 := by
  obtain ⟨j, hj, e⟩ := dq_adr_e (R y.toNatClampNeg + z)
  rw [dq_adr, e, nI_clamp (by omega)]
  exact hj
theorem dq_adr_n (R : Nat → Int32) (y z : Int32) : (R y.toNatClampNeg + z) &&& 15 = nI (dq_adr R y z) := by
  obtain ⟨j, hj, e⟩ := dq_adr_e (R y.toNatClampNeg + z)
  rw [dq_adr, e, nI_clamp (by omega)]
def dq_st (oc fx fy fz : Nat → Int32) (i : Nat) (R M L : Nat → Int32) : dq_CS :=
  if oc i < 6 then (i + 1, upd R (fx i).toNatClampNeg (dq_cmp (oc i) (R (fy i).toNatClampNeg) (if oc i = 5 then fz i else R (fz i).toNatClampNeg)), M, L)
  else if oc i = 6 then (i + 1, upd R (fx i).toNatClampNeg (M (dq_adr R (fy i) (fz i))), M, L)
  else if oc i = 7 then (i + 1, R, upd M (dq_adr R (fy i) (fz i)) (R (fx i).toNatClampNeg), L)
  else if oc i = 8 then ((if R (fx i).toNatClampNeg = 0 then i + 1 + (fy i).toNatClampNeg else i + 1), R, M, L)
  else if oc i = 9 then (i + 1, R, M, upd L i (fx i))
  else ((if L (dq_bg oc i 1) - 1 ≤ 0 then i + 1 else dq_bg oc i 1 + 1), R, M, upd L (dq_bg oc i 1) (L (dq_bg oc i 1) - 1))
def dq_stp (oc fx fy fz : Nat → Int32) (c : dq_CS) : dq_CS := dq_st oc fx fy fz c.1 c.2.1 c.2.2.1 c.2.2.2
def dq_run (oc fx fy fz : Nat → Int32) (c : dq_CS) : Nat → dq_CS
  | 0 => c
  | k + 1 => dq_stp oc fx fy fz (dq_run oc fx fy fz c k)
section
variable {oc fx fy fz : Nat → Int32} {i o : Nat} {R M L : Nat → Int32}
theorem dq_st5 (e : oc i = nI o) (h : o ≤ 5) : dq_st oc fx fy fz i R M L = (i + 1, upd R (fx i).toNatClampNeg (dq_cmp (oc i) (R (fy i).toNatClampNeg) (if oc i = 5 then fz i else R (fz i).toNatClampNeg)), M, L) := by
  have h1 : oc i < 6 := by rw [e]; exact (dq_g6 (by omega)).mpr (by omega)
  rw [dq_st, if_pos h1]
theorem dq_st6 (e : oc i = 6) : dq_st oc fx fy fz i R M L = (i + 1, upd R (fx i).toNatClampNeg (M (dq_adr R (fy i) (fz i))), M, L) := by
  have h1 : ¬ oc i < 6 := by rw [e]; decide
  rw [dq_st, if_neg h1, if_pos e]
theorem dq_st7 (e : oc i = 7) : dq_st oc fx fy fz i R M L = (i + 1, R, upd M (dq_adr R (fy i) (fz i)) (R (fx i).toNatClampNeg), L) := by
  have h1 : ¬ oc i < 6 := by rw [e]; decide
  have h2 : ¬ oc i = 6 := by rw [e]; decide
  rw [dq_st, if_neg h1, if_neg h2, if_pos e]
theorem dq_st8 (e : oc i = 8) : dq_st oc fx fy fz i R M L = ((if R (fx i).toNatClampNeg = 0 then i + 1 + (fy i).toNatClampNeg else i + 1), R, M, L) := by
  have h1 : ¬ oc i < 6 := by rw [e]; decide
  have h2 : ¬ oc i = 6 := by rw [e]; decide
  have h3 : ¬ oc i = 7 := by rw [e]; decide
  rw [dq_st, if_neg h1, if_neg h2, if_neg h3, if_pos e]
theorem dq_st9 (e : oc i = 9) : dq_st oc fx fy fz i R M L = (i + 1, R, M, upd L i (fx i)) := by
  have h1 : ¬ oc i < 6 := by rw [e]; decide
  have h2 : ¬ oc i = 6 := by rw [e]; decide
  have h3 : ¬ oc i = 7 := by rw [e]; decide
  have h4 : ¬ oc i = 8 := by rw [e]; decide
  rw [dq_st, if_neg h1, if_neg h2, if_neg h3, if_neg h4, if_pos e]
theorem dq_st10 (e : oc i = 10) : dq_st oc fx fy fz i R M L = ((if L (dq_bg oc i 1) - 1 ≤ 0 then i + 1 else dq_bg oc i 1 + 1), R, M, upd L (dq_bg oc i 1) (L (dq_bg oc i 1) - 1)) := by
  have h1 : ¬ oc i < 6 := by rw [e]; decide
  have h2 : ¬ oc i = 6 := by rw [e]; decide
  have h3 : ¬ oc i = 7 := by rw [e]; decide
  have h4 : ¬ oc i = 8 := by rw [e]; decide
  have h5 : ¬ oc i = 9 := by rw [e]; decide
  rw [dq_st, if_neg h1, if_neg h2, if_neg h3, if_neg h4, if_neg h5]
end
/-- a valid instruction -/
def dq_VI (oc fx fy fz : Int32) : Prop := ∃ o : Nat, o ≤ 10 ∧ oc = nI o ∧ (o ≤ 8 → ∃ x, x < 8 ∧ fx = nI x) ∧ (o ≤ 7 → ∃ y, y < 8 ∧ fy = nI y) ∧ (o ≤ 4 → ∃ z, z < 8 ∧ fz = nI z) ∧ (o = 8 → ∃ y, 1 ≤ y ∧ y ≤ 8 ∧ fy = nI y) ∧ (o = 9 → ∃ x, 1 ≤ x ∧ x ≤ 6 ∧ fx = nI x)
def dq_V (n : Nat) (oc fx fy fz : Nat → Int32) : Prop := ∀ i, i < n → dq_VI (oc i) (fx i) (fy i) (fz i)
/-- the two programs agree where it matters -/
def dq_EQ (n : Nat) (oc fx fy ax ay : Nat → Int32) : Prop := ∀ i, i < n → (¬ oc i = 10 → fx i = ax i) ∧ (¬ oc i = 10 → ¬ oc i = 9 → fy i = ay i)
def dq_SK (oc fy : Nat → Int32) (n : Nat) : Prop := ∀ i, i < n → oc i = 8 → i + (fy i).toNatClampNeg < n ∧ dq_bal oc 24 (fy i).toNatClampNeg (i + 1) 0 = true
theorem dq_V_eq {n : Nat} {oc fx fy fz ax ay : Nat → Int32} (V : dq_V n oc fx fy fz) (E : dq_EQ n oc fx fy ax ay) : dq_V n oc ax ay fz := by
  intro i hi
  obtain ⟨o, ho, e, v1, v2, v3, v4, v5⟩ := V i hi
  obtain ⟨e1, e2⟩ := E i hi
  rw [e, dq_e10 ho] at e1 e2
  rw [dq_e9 ho] at e2
  refine ⟨o, ho, e, fun h => ?_, fun h => ?_, v3, fun h => ?_, fun h => ?_⟩
  · rw [← e1 (by omega)]; exact v1 h
  · rw [← e2 (by omega) (by omega)]; exact v2 h
  · rw [← e2 (by omega) (by omega)]; exact v4 h
  · rw [← e1 (by omega)]; exact v5 h
theorem dq_st_eq {n : Nat} {oc fx fy fz ax ay : Nat → Int32} (V : dq_V n oc fx fy fz) (E : dq_EQ n oc fx fy ax ay) {i : Nat} (hi : i < n) (R M L : Nat → Int32) : dq_st oc ax ay fz i R M L = dq_st oc fx fy fz i R M L := by
  obtain ⟨o, ho, e, -⟩ := V i hi
  obtain ⟨e1, e2⟩ := E i hi
  rw [e, dq_e10 ho] at e1 e2
  rw [dq_e9 ho] at e2
  by_cases h9 : o ≤ 8
  · unfold dq_st
    rw [e1 (by omega), e2 (by omega) (by omega)]
  · by_cases h : o = 9
    · have e' : oc i = 9 := by rw [e, h]; rfl
      rw [dq_st9 e', dq_st9 e', e1 (by omega)]
    · have h' : o = 10 := by omega
      have e' : oc i = 10 := by rw [e, h']; rfl
      rw [dq_st10 e', dq_st10 e']

/-! the measure -/
def dq_ln (L : Nat → Int32) (s : Nat) : Nat := (L s).toNatClampNeg
def dq_m (n p : Nat) (l : Nat → Nat) : List Nat → List Nat → Nat
  | [], _ => 36 * (n - p)
  | [s], e :: _ => 36 * (n - (e + 1)) + 6 * ((l s - 1) * (e - s)) + 6 * (e + 1 - p)
  | s2 :: s1 :: _, e2 :: e1 :: _ => 36 * (n - (e1 + 1)) + 6 * ((l s1 - 1) * (e1 - s1)) + 6 * (e1 - e2) + (l s2 - 1) * (e2 - s2) + (e2 + 1 - p)
  | _, _ => 0
theorem dq_m0 (n p : Nat) (l : Nat → Nat) (c : List Nat) : dq_m n p l [] c = 36 * (n - p) := by rw [dq_m]
theorem dq_m1 (n p : Nat) (l : Nat → Nat) (s e : Nat) : dq_m n p l [s] [e] = 36 * (n - (e + 1)) + 6 * ((l s - 1) * (e - s)) + 6 * (e + 1 - p) := by rw [dq_m]
theorem dq_m2 (n p : Nat) (l : Nat → Nat) (s2 s1 e2 e1 : Nat) : dq_m n p l [s2, s1] [e2, e1] = 36 * (n - (e1 + 1)) + 6 * ((l s1 - 1) * (e1 - s1)) + 6 * (e1 - e2) + (l s2 - 1) * (e2 - s2) + (e2 + 1 - p) := by rw [dq_m]
def dq_mm (oc : Nat → Int32) (n p : Nat) (L : Nat → Int32) : Nat := dq_m n p (dq_ln L) (dq_enc oc p) (dq_cl oc n p)
theorem dq_dep {oc : Nat → Int32} {n p : Nat} (W : dq_WD oc n) (hp : p ≤ n) : (dq_enc oc p = [] ∧ dq_cl oc n p = []) ∨ (∃ s e, dq_enc oc p = [s] ∧ dq_cl oc n p = [e]) ∨ (∃ s2 s1 e2 e1, dq_enc oc p = [s2, s1] ∧ dq_cl oc n p = [e2, e1]) := by
  have h1 := dq_len W (n - p) p (by omega)
  have h2 := W.2.1 p hp
  generalize dq_enc oc p = a at h1 h2 ⊢
  generalize dq_cl oc n p = b at h1 ⊢
  match a, b, h1, h2 with
  | [], [], _, _ => exact Or.inl ⟨rfl, rfl⟩
  | [s], [e], _, _ => exact Or.inr (Or.inl ⟨s, e, rfl, rfl⟩)
  | [s2, s1], [e2, e1], _, _ => exact Or.inr (Or.inr ⟨s2, s1, e2, e1, rfl, rfl⟩)
  | [], _ :: _, h, _ => simp at h
  | [_], [], h, _ => simp at h
  | [_], _ :: _ :: _, h, _ => simp at h
  | [_, _], [], h, _ => simp at h
  | [_, _], [_], h, _ => simp at h
  | [_, _], _ :: _ :: _ :: _, h, _ => simp at h
  | _ :: _ :: _ :: _, _, _, h => simp at h
theorem dq_cl_enc {oc : Nat → Int32} {n p p' : Nat} (W : dq_WD oc n) (hp : p ≤ n) (hp' : p' ≤ n) (e : dq_enc oc p' = dq_enc oc p) : dq_cl oc n p' = dq_cl oc n p := by
  cases h : dq_enc oc p with
  | nil =>
    have a := dq_len W (n - p) p (by omega)
    have b := dq_len W (n - p') p' (by omega)
    rw [h] at a
    rw [e, h] at b
    rw [List.eq_nil_of_length_eq_zero a, List.eq_nil_of_length_eq_zero b]
  | cons s t => rw [← dq_cl_same oc n p s t hp h, ← dq_cl_same oc n p' s t hp' (e.trans h)]
theorem dq_mm_adv {oc : Nat → Int32} {n p p' : Nat} {L : Nat → Int32} (W : dq_WD oc n) (hp : p < p') (hp' : p' ≤ n) (e : dq_enc oc p' = dq_enc oc p) : dq_mm oc n p' L < dq_mm oc n p L := by
  unfold dq_mm
  rw [dq_cl_enc W (by omega) hp' e, e]
  have ec := dq_cl_enc W (by omega) hp' e
  rcases dq_dep W (show p ≤ n by omega) with ⟨a, b⟩ | ⟨s, f, a, b⟩ | ⟨s2, s1, f2, f1, a, b⟩
  · rw [a, b, dq_m0, dq_m0]; omega
  · have := (dq_cl_c hp' (ec.trans b)).1
    rw [a, b, dq_m1, dq_m1]; omega
  · have := (dq_cl_c hp' (ec.trans b)).1
    rw [a, b, dq_m2, dq_m2]; omega
theorem dq_ln_s {L : Nat → Int32} {k x : Nat} (hx : x < 2 ^ 31) : dq_ln (upd L k (nI x)) k = x := by
  rw [dq_ln, pk_us, nI_clamp hx]
theorem dq_ln_n {L : Nat → Int32} {k s : Nat} {x : Int32} (h : s ≠ k) : dq_ln (upd L k x) s = dq_ln L s := by
  rw [dq_ln, pk_un h, dq_ln]
theorem dq_mm_rep {oc : Nat → Int32} {n p x : Nat} {L : Nat → Int32} (W : dq_WD oc n) (hp : p < n) (h9 : oc p = 9) (hx : x ≤ 6) : dq_mm oc n (p + 1) (upd L p (nI x)) < dq_mm oc n p L := by
  unfold dq_mm
  have e1 := dq_enc9 h9
  have e2 := dq_cl9 hp h9
  rcases dq_dep W (show p + 1 ≤ n by omega) with ⟨a, b⟩ | ⟨s, f, a, b⟩ | ⟨s2, s1, f2, f1, a, b⟩
  · rw [a] at e1; simp at e1
  · have hf := dq_cl_c (show p + 1 ≤ n by omega) b
    rw [a] at e1
    injection e1 with h1 h2
    subst h1
    rw [a, b, ← h2, dq_m1, dq_m0, dq_ln_s (by omega)]
    have : (x - 1) * (f - s) ≤ 5 * (f - s) := Nat.mul_le_mul_right _ (by omega)
    omega
  · have hf := dq_cl_c (show p + 1 ≤ n by omega) b
    have hg := dq_cl_c (show f2 + 1 ≤ n by omega) hf.2.2.2
    rw [a] at e1
    injection e1 with h1 h2
    subst h1
    rw [b] at e2
    have e3 : dq_cl oc n s2 = [f1] := e2
    have hs : s1 < s2 := dq_enc_lt oc s2 s1 (by rw [← h2]; simp)
    rw [a, b, ← h2, e3, dq_m2, dq_m1, dq_ln_s (by omega), dq_ln_n (by omega)]
    have : (x - 1) * (f2 - s2) ≤ 5 * (f2 - s2) := Nat.mul_le_mul_right _ (by omega)
    omega
theorem dq_mm_back {oc : Nat → Int32} {n p b l : Nat} {t : List Nat} {L : Nat → Int32} (W : dq_WD oc n) (hp : p < n) (h10 : oc p = 10) (he : dq_enc oc p = b :: t) (hL : L b = nI (l + 2)) (hl : l ≤ 4) : dq_mm oc n (b + 1) (upd L b (nI (l + 1))) < dq_mm oc n p L := by
  unfold dq_mm
  obtain ⟨hb, hb9, hbe⟩ := dq_enc_co oc p b t he
  rw [dq_cl_same oc n p b t (by omega) he]
  have e1 : dq_enc oc (b + 1) = b :: t := by rw [dq_enc9 hb9, hbe]
  have e2 := dq_cl10 hp h10
  have hlb : dq_ln L b = l + 2 := by rw [dq_ln, hL, nI_clamp (by omega)]
  have hm : (l + 1) * (p - b) = l * (p - b) + (p - b) := Nat.succ_mul l (p - b)
  rcases dq_dep W (show p ≤ n by omega) with ⟨a, b'⟩ | ⟨s, f, a, b'⟩ | ⟨s2, s1, f2, f1, a, b'⟩
  · rw [a] at he; simp at he
  · rw [a] at he
    injection he with h1 h2
    subst h1
    rw [b'] at e2
    injection e2 with g1 g2
    subst g1
    rw [e1, ← h2, a, b', dq_m1, dq_m1, dq_ln_s (by omega), hlb]
    simp only [Nat.add_sub_cancel, show l + 2 - 1 = l + 1 from rfl]
    omega
  · have hf := dq_cl_c (show p ≤ n by omega) b'
    have hs : s1 < b := dq_enc_lt oc b s1 (by rw [hbe]; rw [a] at he; injection he with _ h2; rw [← h2]; simp)
    rw [a] at he
    injection he with h1 h2
    subst h1
    rw [b'] at e2
    injection e2 with g1 g2
    subst g1
    rw [e1, ← h2, a, b', dq_m2, dq_m2, dq_ln_s (by omega), hlb, dq_ln_n (by omega)]
    simp only [Nat.add_sub_cancel, show l + 2 - 1 = l + 1 from rfl]
    omega
theorem dq_mm_out {oc : Nat → Int32} {n p b : Nat} {t : List Nat} {L : Nat → Int32} {x : Int32} (W : dq_WD oc n) (hp : p < n) (h10 : oc p = 10) (he : dq_enc oc p = b :: t) : dq_mm oc n (p + 1) (upd L b x) < dq_mm oc n p L := by
  unfold dq_mm
  obtain ⟨hb, hb9, hbe⟩ := dq_enc_co oc p b t he
  have e1 : dq_enc oc (p + 1) = t := by rw [dq_enc10 h10, he]; rfl
  have e2 := dq_cl10 hp h10
  rcases dq_dep W (show p ≤ n by omega) with ⟨a, b'⟩ | ⟨s, f, a, b'⟩ | ⟨s2, s1, f2, f1, a, b'⟩
  · rw [a] at he; simp at he
  · rw [a] at he
    injection he with h1 h2
    subst h1
    rw [b'] at e2
    injection e2 with g1 g2
    subst g1
    rw [e1, ← h2, a, b', dq_m0, dq_m1]
    omega
  · have hf := dq_cl_c (show p ≤ n by omega) b'
    have hg := dq_cl_c (show f2 + 1 ≤ n by omega) hf.2.2.2
    have hs : s1 < b := dq_enc_lt oc b s1 (by rw [hbe]; rw [a] at he; injection he with _ h2; rw [← h2]; simp)
    rw [a] at he
    injection he with h1 h2
    subst h1
    rw [b'] at e2
    injection e2 with g1 g2
    subst g1
    rw [e1, ← h2, a, b', ← g2, dq_m1, dq_m2, dq_ln_n (by omega)]
    omega
/-- the counts of the loops begun -/
def dq_SQ (oc : Nat → Int32) (n p : Nat) (L : Nat → Int32) : Prop := p ≤ n ∧ ∀ s, s ∈ dq_enc oc p → ∃ l, 1 ≤ l ∧ l ≤ 6 ∧ L s = nI l
theorem dq_mm_le {oc : Nat → Int32} {n : Nat} {L : Nat → Int32} (hn : n ≤ 24) : dq_mm oc n 0 L ≤ 864 := by
  rw [dq_mm, dq_enc, dq_m0]; omega
theorem dq_step {oc fx fy fz : Nat → Int32} {n p : Nat} {R M L : Nat → Int32} (W : dq_WD oc n) (V : dq_V n oc fx fy fz) (K : dq_SK oc fy n) (Q : dq_SQ oc n p L) (hp : p < n) :
    dq_SQ oc n (dq_st oc fx fy fz p R M L).1 (dq_st oc fx fy fz p R M L).2.2.2 ∧ dq_mm oc n (dq_st oc fx fy fz p R M L).1 (dq_st oc fx fy fz p R M L).2.2.2 < dq_mm oc n p L := by
  obtain ⟨o, ho, e, v1, v2, v3, v4, v5⟩ := V p hp
  have adv : ∀ p', p < p' → p' ≤ n → dq_enc oc p' = dq_enc oc p → dq_SQ oc n p' L ∧ dq_mm oc n p' L < dq_mm oc n p L :=
    fun p' h1 h2 h3 => ⟨⟨h2, by rw [h3]; exact Q.2⟩, dq_mm_adv W h1 h2 h3⟩
  have n9 : o ≠ 9 → ¬ oc p = 9 := fun h => by rw [e, dq_e9 ho]; exact h
  have n10 : o ≠ 10 → ¬ oc p = 10 := fun h => by rw [e, dq_e10 ho]; exact h
  by_cases h5 : o ≤ 5
  · rw [dq_st5 e h5]
    exact adv (p + 1) (by omega) hp (dq_encN (n9 (by omega)) (n10 (by omega)))
  by_cases h6 : o = 6
  · rw [dq_st6 (by rw [e, h6]; rfl)]
    exact adv (p + 1) (by omega) hp (dq_encN (n9 (by omega)) (n10 (by omega)))
  by_cases h7 : o = 7
  · rw [dq_st7 (by rw [e, h7]; rfl)]
    exact adv (p + 1) (by omega) hp (dq_encN (n9 (by omega)) (n10 (by omega)))
  by_cases h8 : o = 8
  · have e8 : oc p = 8 := by rw [e, h8]; rfl
    rw [dq_st8 e8]
    have en := dq_encN (n9 (by omega)) (n10 (by omega))
    by_cases hz : R (fx p).toNatClampNeg = 0
    · rw [if_pos hz]
      obtain ⟨k1, k2⟩ := K p hp e8
      exact adv (p + 1 + (fy p).toNatClampNeg) (by omega) (by omega) ((dq_bal_enc _ (p + 1) 0 [] k2 rfl rfl).trans en)
    · rw [if_neg hz]
      exact adv (p + 1) (by omega) hp en
  by_cases h9 : o = 9
  · have e9 : oc p = 9 := by rw [e, h9]; rfl
    obtain ⟨x, hx1, hx6, ex⟩ := v5 h9
    rw [dq_st9 e9, ex]
    refine ⟨⟨hp, fun s hs => ?_⟩, dq_mm_rep W hp e9 hx6⟩
    dsimp only at hs ⊢
    rw [dq_enc9 e9] at hs
    rcases List.mem_cons.mp hs with h | h
    · subst h; exact ⟨x, hx1, hx6, pk_us⟩
    · have := dq_enc_lt oc p s h
      rw [pk_un (by omega)]
      exact Q.2 s h
  · have h10 : o = 10 := by omega
    have e10 : oc p = 10 := by rw [e, h10]; rfl
    have hne := W.1 p hp e10
    cases he : dq_enc oc p with
    | nil => exact absurd he hne
    | cons b t =>
      obtain ⟨hb, hb9, hbe⟩ := dq_enc_co oc p b t he
      obtain ⟨l, hl1, hl6, hL⟩ := Q.2 b (by rw [he]; simp)
      have hin : ∀ s, s ∈ t → ∃ l, 1 ≤ l ∧ l ≤ 6 ∧ L s = nI l := fun s hs => Q.2 s (by rw [he]; exact List.mem_cons_of_mem _ hs)
      have hlt : ∀ s, s ∈ t → s < b := fun s hs => dq_enc_lt oc b s (by rw [hbe]; exact hs)
      rw [dq_st10 e10, dq_bg_head he, hL]
      obtain ⟨l, rfl⟩ : ∃ k, l = k + 1 := ⟨l - 1, by omega⟩
      rw [nI_pred]
      cases l with
      | zero =>
        rw [if_pos (show nI 0 ≤ 0 by decide)]
        refine ⟨⟨hp, fun s hs => ?_⟩, dq_mm_out W hp e10 he⟩
        dsimp only at hs ⊢
        rw [dq_enc10 e10, he] at hs
        have := hlt s hs
        rw [pk_un (by omega)]
        exact hin s hs
      | succ l =>
        rw [if_neg (nI_nle (by omega) (by omega))]
        refine ⟨⟨by show b + 1 ≤ n; omega, fun s hs => ?_⟩, dq_mm_back W hp e10 he hL (by omega)⟩
        dsimp only at hs ⊢
        rw [dq_enc9 hb9, hbe] at hs
        rcases List.mem_cons.mp hs with h | h
        · subst h; exact ⟨l + 1, by omega, by omega, pk_us⟩
        · have := hlt s h
          rw [pk_un (by omega)]
          exact hin s h
end
section
/-! sets of registers as bits; passes; the least closed set -/
theorem dq_b1 : ∀ i, i < 32 → bt 1 i = decide (i = 0) := by decide +kernel
theorem dq_and1 (y : Int32) : y &&& 1 = if bt y 0 = true then 1 else 0 := by
  apply b_ext
  intro i hi
  rw [b_and, dq_b1 i hi]
  by_cases h0 : i = 0
  · subst h0
    by_cases hb : bt y 0 = true
    · rw [if_pos hb, hb]; decide
    · rw [if_neg hb, b_0]; simp [hb]
  · by_cases hb : bt y 0 = true
    · rw [if_pos hb, dq_b1 i hi]; simp [h0]
    · rw [if_neg hb, b_0]; simp [h0]
theorem dq_bit0 (y : Int32) : (y &&& 1) = 0 ↔ bt y 0 = false := by
  rw [dq_and1]
  by_cases hb : bt y 0 = true
  · rw [if_pos hb, hb]; decide
  · rw [if_neg hb]; simpa using hb
theorem dq_bit1 (y : Int32) : (y &&& 1) = 1 ↔ bt y 0 = true := by
  rw [dq_and1]
  by_cases hb : bt y 0 = true
  · rw [if_pos hb]; simp [hb]
  · rw [if_neg hb]
    constructor
    · intro h; exact absurd h (by decide)
    · intro h; exact absurd h hb
theorem dq_tb0 {s : Int32} {j : Nat} (hj : j < 32) : ((s >>> (nI j &&& 31)) &&& 1) = 0 ↔ bt s j = false := by
  rw [dq_bit0, b_sshr j hj s (by omega), if_pos (by omega), Nat.add_zero]
theorem dq_tb1 {s : Int32} {j : Nat} (hj : j < 32) : ((s >>> (nI j &&& 31)) &&& 1) = 1 ↔ bt s j = true := by
  rw [dq_bit1, b_sshr j hj s (by omega), if_pos (by omega), Nat.add_zero]
theorem dq_tbn {s : Int32} {j : Nat} (hj : j < 32) : ¬ ((s >>> (nI j &&& 31)) &&& 1) = 0 ↔ bt s j = true := by
  rw [dq_tb0 hj]; simp
theorem dq_or1 {s : Int32} {j i : Nat} (hj : j < 32) (hi : i < 32) : bt (s ||| ((1 : Int32) <<< (nI j &&& 31))) i = (bt s i || decide (i = j)) := by
  rw [b_or, b_shl j hj 1 hi]
  congr 1
  by_cases h : j ≤ i
  · rw [dq_b1 _ (by omega)]
    by_cases h2 : i = j
    · subst h2; simp
    · have : ¬ i - j = 0 := by omega
      simp [h2, this]
  · have : ¬ i = j := by omega
    simp [h, this]
/-- inclusion, bound -/
def dq_sub (s t : Int32) : Prop := ∀ i, i < 32 → bt s i = true → bt t i = true
def dq_bd (s : Int32) : Prop := ∀ i, i < 32 → bt s i = true → i < 8
theorem dq_sub_r (s : Int32) : dq_sub s s := fun _ _ h => h
theorem dq_sub_t {s t u : Int32} (h : dq_sub s t) (g : dq_sub t u) : dq_sub s u := fun i hi x => g i hi (h i hi x)
theorem dq_sub_a {s t : Int32} (h : dq_sub s t) (g : dq_sub t s) : s = t := by
  apply b_ext
  intro i hi
  have a := h i hi
  have b := g i hi
  cases hs : bt s i
  · cases ht : bt t i
    · rfl
    · rw [b ht] at hs; cases hs
  · rw [a hs]
theorem dq_sub_o (s : Int32) {j : Nat} (hj : j < 32) : dq_sub s (s ||| ((1 : Int32) <<< (nI j &&& 31))) := by
  intro i hi h
  rw [dq_or1 hj hi, h, Bool.true_or]
theorem dq_in_o (s : Int32) {j : Nat} (hj : j < 32) : bt (s ||| ((1 : Int32) <<< (nI j &&& 31))) j = true := by
  rw [dq_or1 hj hj]; simp
theorem dq_o_sub {s t : Int32} {j : Nat} (hj : j < 32) (h : dq_sub s t) (hb : bt t j = true) : dq_sub (s ||| ((1 : Int32) <<< (nI j &&& 31))) t := by
  intro i hi g
  rw [dq_or1 hj hi] at g
  rcases Bool.or_eq_true_iff.mp g with g | g
  · exact h i hi g
  · have : i = j := by simpa using g
    rw [this]; exact hb
theorem dq_bd_o {s : Int32} {j : Nat} (hj : j < 8) (h : dq_bd s) : dq_bd (s ||| ((1 : Int32) <<< (nI j &&& 31))) := by
  intro i hi g
  rw [dq_or1 (by omega) hi] at g
  rcases Bool.or_eq_true_iff.mp g with g | g
  · exact h i hi g
  · have : i = j := by simpa using g
    omega
theorem dq_o_id {s : Int32} {j : Nat} (hj : j < 32) (h : (s ||| ((1 : Int32) <<< (nI j &&& 31))) = s) : bt s j = true := by
  rw [← h]; exact dq_in_o s hj
/-- how many of the first k bits -/
def dq_pc (s : Int32) : Nat → Nat
  | 0 => 0
  | k + 1 => dq_pc s k + (if bt s k = true then 1 else 0)
theorem dq_pc_le (s : Int32) : ∀ k, dq_pc s k ≤ k := by
  intro k
  induction k with
  | zero => exact Nat.le_refl _
  | succ k ih => rw [dq_pc]; split <;> omega
theorem dq_pc_full (s : Int32) : ∀ k, k ≤ dq_pc s k → ∀ i, i < k → bt s i = true := by
  intro k
  induction k with
  | zero => intro _ i hi; omega
  | succ k ih =>
    intro h i hi
    rw [dq_pc] at h
    have := dq_pc_le s k
    by_cases hb : bt s k = true
    · rw [if_pos hb] at h
      rcases Nat.lt_or_ge i k with g | g
      · exact ih (by omega) i g
      · have : i = k := by omega
        rw [this]; exact hb
    · rw [if_neg hb] at h; omega
theorem dq_pc_mono {s t : Int32} (h : dq_sub s t) : ∀ k, k ≤ 32 → dq_pc s k ≤ dq_pc t k := by
  intro k
  induction k with
  | zero => intro _; exact Nat.le_refl _
  | succ k ih =>
    intro hk
    have := ih (by omega)
    rw [dq_pc, dq_pc]
    by_cases hb : bt s k = true
    · rw [if_pos hb, if_pos (h k (by omega) hb)]; omega
    · rw [if_neg hb]; omega
theorem dq_pc_lt {s t : Int32} (h : dq_sub s t) {j : Nat} (hs : ¬ bt s j = true) (ht : bt t j = true) : ∀ k, k ≤ 32 → j < k → dq_pc s k < dq_pc t k := by
  intro k
  induction k with
  | zero => intro _ h; omega
  | succ k ih =>
    intro hk hj
    rw [dq_pc, dq_pc]
    rcases Nat.lt_or_ge j k with g | g
    · have := ih (by omega) g
      by_cases hb : bt s k = true
      · rw [if_pos hb, if_pos (h k (by omega) hb)]; omega
      · rw [if_neg hb]; omega
    · have : j = k := by omega
      subst this
      have := dq_pc_mono h j (by omega)
      rw [if_neg hs, if_pos ht]; omega
theorem dq_pc_grow {s t : Int32} (h : dq_sub s t) (bt' : dq_bd t) (hn : t ≠ s) : dq_pc s 8 + 1 ≤ dq_pc t 8 := by
  by_cases g : ∃ j, j < 32 ∧ ¬ bt s j = true ∧ bt t j = true
  · obtain ⟨j, hj, a, b⟩ := g
    exact dq_pc_lt h a b 8 (by omega) (bt' j hj b)
  · exfalso
    apply hn
    refine dq_sub_a (fun i hi ht => ?_) h
    by_cases hb : bt s i = true
    · exact hb
    · exact absurd ⟨i, hi, hb, ht⟩ g
/-- iterating a pass -/
def dq_it (g : Int32 → Int32) : Nat → Int32 → Int32
  | 0, s => s
  | k + 1, s => dq_it g k (g s)
theorem dq_it_fix {g : Int32 → Int32} {s : Int32} (h : g s = s) : ∀ k, dq_it g k s = s := by
  intro k
  induction k with
  | zero => rfl
  | succ k ih => rw [dq_it, h, ih]
theorem dq_it_bd {g : Int32 → Int32} (hb : ∀ s, dq_bd s → dq_bd (g s)) : ∀ k s, dq_bd s → dq_bd (dq_it g k s) := by
  intro k
  induction k with
  | zero => intro s h; exact h
  | succ k ih => intro s h; exact ih (g s) (hb s h)
theorem dq_it_inf {g : Int32 → Int32} (hi : ∀ s, dq_bd s → dq_sub s (g s)) (hb : ∀ s, dq_bd s → dq_bd (g s)) : ∀ k s, dq_bd s → dq_sub s (dq_it g k s) := by
  intro k
  induction k with
  | zero => intro s _; exact dq_sub_r s
  | succ k ih => intro s h; exact dq_sub_t (hi s h) (ih (g s) (hb s h))
theorem dq_it_min {g : Int32 → Int32} {t : Int32} (hm : ∀ s, dq_bd s → dq_sub s t → dq_sub (g s) t) (hb : ∀ s, dq_bd s → dq_bd (g s)) : ∀ k s, dq_bd s → dq_sub s t → dq_sub (dq_it g k s) t := by
  intro k
  induction k with
  | zero => intro s _ h; exact h
  | succ k ih => intro s h g'; exact ih (g s) (hb s h) (hm s h g')
theorem dq_it_or {g : Int32 → Int32} (hi : ∀ s, dq_bd s → dq_sub s (g s)) (hb : ∀ s, dq_bd s → dq_bd (g s)) : ∀ k s, dq_bd s → g (dq_it g k s) = dq_it g k s ∨ k + dq_pc s 8 ≤ dq_pc (dq_it g k s) 8 := by
  intro k
  induction k with
  | zero => intro s _; exact Or.inr (by rw [dq_it]; omega)
  | succ k ih =>
    intro s h
    by_cases e : g s = s
    · left
      rw [dq_it_fix e, e]
    · have := dq_pc_grow (hi s h) (hb s h) e
      rw [dq_it]
      rcases ih (g s) (hb s h) with a | a
      · exact Or.inl a
      · exact Or.inr (by omega)
theorem dq_it_8 {g : Int32 → Int32} (hi : ∀ s, dq_bd s → dq_sub s (g s)) (hb : ∀ s, dq_bd s → dq_bd (g s)) {k : Nat} (hk : 8 ≤ k) {s : Int32} (h : dq_bd s) : g (dq_it g k s) = dq_it g k s := by
  rcases dq_it_or hi hb k s h with a | a
  · exact a
  · have hd := dq_it_bd hb k s h
    have full := dq_pc_full (dq_it g k s) 8 (by omega)
    exact dq_sub_a (fun i hi' g' => full i (hb _ hd i hi' g')) (hi _ hd)
/-- a pass over the instructions: k of them from i on -/
def dq_fo (f : Nat → Int32 → Int32) : Nat → Nat → Int32 → Int32
  | 0, _, s => s
  | k + 1, i, s => dq_fo f k (i + 1) (f i s)
section
variable {f : Nat → Int32 → Int32} {n : Nat}
theorem dq_fo_bd (hb : ∀ i s, i < n → dq_bd s → dq_bd (f i s)) : ∀ k i s, i + k = n → dq_bd s → dq_bd (dq_fo f k i s) := by
  intro k
  induction k with
  | zero => intro i s _ h; exact h
  | succ k ih => intro i s hi h; exact ih (i + 1) _ (by omega) (hb i s (by omega) h)
theorem dq_fo_inf (hi : ∀ i s, i < n → dq_sub s (f i s)) : ∀ k i s, i + k = n → dq_sub s (dq_fo f k i s) := by
  intro k
  induction k with
  | zero => intro i s _; exact dq_sub_r s
  | succ k ih => intro i s h; exact dq_sub_t (hi i s (by omega)) (ih (i + 1) _ (by omega))
theorem dq_fo_min {t : Int32} (hm : ∀ i s, i < n → dq_sub s t → dq_sub (f i s) t) : ∀ k i s, i + k = n → dq_sub s t → dq_sub (dq_fo f k i s) t := by
  intro k
  induction k with
  | zero => intro i s _ h; exact h
  | succ k ih => intro i s hi h; exact ih (i + 1) _ (by omega) (hm i s (by omega) h)
theorem dq_fo_fix (hi : ∀ i s, i < n → dq_sub s (f i s)) : ∀ k i s, i + k = n → dq_fo f k i s = s → ∀ j, i ≤ j → j < n → f j s = s := by
  intro k
  induction k with
  | zero => intro i s h _ j h1 h2; omega
  | succ k ih =>
    intro i s h e j h1 h2
    have e1 : f i s = s := by
      refine dq_sub_a ?_ (hi i s (by omega))
      have := dq_fo_inf hi k (i + 1) (f i s) (by omega)
      rw [dq_fo] at e
      rw [e] at this
      exact this
    rcases Nat.lt_or_ge i j with g | g
    · rw [dq_fo, e1] at e
      exact ih (i + 1) s (by omega) e j g h2
    · have : j = i := by omega
      rw [this]; exact e1
theorem dq_fo_has (hi : ∀ i s, i < n → dq_sub s (f i s)) {P : Nat → Int32 → Prop} (hP : ∀ i s, i < n → P i (f i s)) (hm : ∀ i s t, i < n → dq_sub s t → P i s → P i t) : ∀ k i s, i + k = n → ∀ j, i ≤ j → j < n → P j (dq_fo f k i s) := by
  intro k
  induction k with
  | zero => intro i s h j h1 h2; omega
  | succ k ih =>
    intro i s h j h1 h2
    rw [dq_fo]
    rcases Nat.lt_or_ge i j with g | g
    · exact ih (i + 1) _ (by omega) j g h2
    · have : j = i := by omega
      subst this
      exact hm j _ _ (by omega) (dq_fo_inf hi k (j + 1) _ (by omega)) (hP j s (by omega))
end
end
section
/-! X's and Y's address sets are the least closed set -/
def dq_Cl (n : Nat) (oc fx fy fz : Nat → Int32) (s : Int32) : Prop := ∀ i, i < n → ((oc i = 6 ∨ oc i = 7) → bt s (fy i).toNatClampNeg = true) ∧ (oc i = 8 → bt s (fx i).toNatClampNeg = true) ∧ (¬ 6 < oc i → bt s (fx i).toNatClampNeg = true → bt s (fy i).toNatClampNeg = true) ∧ (¬ 4 < oc i → bt s (fx i).toNatClampNeg = true → bt s (fz i).toNatClampNeg = true)
def dq_pb (oc fx fy : Nat → Int32) (i : Nat) (s : Int32) : Int32 := if oc i = 6 ∨ oc i = 7 then s ||| ((1 : Int32) <<< (fy i &&& 31)) else if oc i = 8 then s ||| ((1 : Int32) <<< (fx i &&& 31)) else s
def dq_px (oc fx fy fz : Nat → Int32) (i : Nat) (s : Int32) : Int32 := if 6 < oc i then s else if ((s >>> (fx i &&& 31)) &&& 1) = 0 then s else if 4 < oc i then s ||| ((1 : Int32) <<< (fy i &&& 31)) else (s ||| ((1 : Int32) <<< (fy i &&& 31))) ||| ((1 : Int32) <<< (fz i &&& 31))
def dq_cj (t o x y s : Int32) : Int32 := if t < o then s else if ((s >>> (x &&& 31)) &&& 1) = 1 then s ||| ((1 : Int32) <<< (y &&& 31)) else s
def dq_gr (oc fx fy fz : Nat → Int32) (i : Nat) (s : Int32) : Int32 := dq_cj 4 (oc i) (fx i) (fz i) (dq_cj 6 (oc i) (fx i) (fy i) (dq_pb oc fx fy i s))
section
variable {n : Nat} {oc fx fy fz : Nat → Int32}
theorem dq_pb_f (V : dq_V n oc fx fy fz) {i : Nat} (hi : i < n) (s : Int32) : dq_sub s (dq_pb oc fx fy i s) ∧ (dq_bd s → dq_bd (dq_pb oc fx fy i s)) ∧ (∀ t, dq_Cl n oc fx fy fz t → dq_sub s t → dq_sub (dq_pb oc fx fy i s) t) ∧ ((oc i = 6 ∨ oc i = 7) → bt (dq_pb oc fx fy i s) (fy i).toNatClampNeg = true) ∧ (oc i = 8 → bt (dq_pb oc fx fy i s) (fx i).toNatClampNeg = true) := by
  obtain ⟨o, ho, e, v1, v2, v3, v4, v5⟩ := V i hi
  by_cases h : oc i = 6 ∨ oc i = 7
  · have h7 : o = 6 ∨ o = 7 := by
      rw [e, dq_e6 ho, dq_e7 ho] at h; exact h
    have h8 : ¬ oc i = 8 := by rw [e, dq_e8 ho]; omega
    obtain ⟨y, hy, ey⟩ := v2 (by omega)
    rw [dq_pb, if_pos h, ey, nI_clamp (by omega)]
    refine ⟨dq_sub_o s (by omega), fun hb => dq_bd_o hy hb, fun t C g => dq_o_sub (by omega) g ?_, fun _ => dq_in_o s (by omega), fun z => absurd z h8⟩
    have := (C i hi).1 h
    rw [ey, nI_clamp (by omega)] at this
    exact this
  · by_cases h8 : oc i = 8
    · have h8' : o = 8 := by rw [e, dq_e8 ho] at h8; exact h8
      obtain ⟨x, hx, ex⟩ := v1 (by omega)
      rw [dq_pb, if_neg h, if_pos h8, ex, nI_clamp (n := x) (by omega)]
      refine ⟨dq_sub_o s (by omega), fun hb => dq_bd_o hx hb, fun t C g => dq_o_sub (by omega) g ?_, fun z => absurd z h, fun _ => dq_in_o s (by omega)⟩
      have := (C i hi).2.1 h8
      rw [ex, nI_clamp (by omega)] at this
      exact this
    · rw [dq_pb, if_neg h, if_neg h8]
      exact ⟨dq_sub_r s, fun hb => hb, fun t C g => g, fun z => absurd z h, fun z => absurd z h8⟩
theorem dq_px_f (V : dq_V n oc fx fy fz) {i : Nat} (hi : i < n) (s : Int32) : dq_sub s (dq_px oc fx fy fz i s) ∧ (dq_bd s → dq_bd (dq_px oc fx fy fz i s)) ∧ (∀ t, dq_Cl n oc fx fy fz t → dq_sub s t → dq_sub (dq_px oc fx fy fz i s) t) ∧ (dq_px oc fx fy fz i s = s → (¬ 6 < oc i → bt s (fx i).toNatClampNeg = true → bt s (fy i).toNatClampNeg = true) ∧ (¬ 4 < oc i → bt s (fx i).toNatClampNeg = true → bt s (fz i).toNatClampNeg = true)) := by
  obtain ⟨o, ho, e, v1, v2, v3, v4, v5⟩ := V i hi
  have l6 : 6 < oc i ↔ 6 < o := by rw [e]; exact dq_l6 ho
  have l4 : 4 < oc i ↔ 4 < o := by rw [e]; exact dq_l4 ho
  by_cases h6 : 6 < oc i
  · have h4 : 4 < oc i := by rw [l4]; rw [l6] at h6; omega
    rw [dq_px, if_pos h6]
    exact ⟨dq_sub_r s, fun hb => hb, fun t C g => g, fun _ => ⟨fun z => absurd h6 z, fun z => absurd h4 z⟩⟩
  · obtain ⟨x, hx, ex⟩ := v1 (by rw [l6] at h6; omega)
    obtain ⟨y, hy, ey⟩ := v2 (by rw [l6] at h6; omega)
    by_cases hb : ((s >>> (fx i &&& 31)) &&& 1) = 0
    · rw [dq_px, if_neg h6, if_pos hb]
      rw [ex, dq_tb0 (by omega)] at hb
      rw [ex, nI_clamp (n := x) (by omega), hb]
      exact ⟨dq_sub_r s, fun hb => hb, fun t C g => g, fun _ => ⟨fun _ z => absurd z (by decide), fun _ z => absurd z (by decide)⟩⟩
    · rw [dq_px, if_neg h6, if_neg hb]
      rw [ex, dq_tbn (by omega)] at hb
      have Cx : ∀ t, dq_sub s t → bt t (fx i).toNatClampNeg = true := fun t g => by
        rw [ex, nI_clamp (n := x) (by omega)]; exact g x (by omega) hb
      have Cy : ∀ t, dq_Cl n oc fx fy fz t → dq_sub s t → bt t y = true := fun t C g => by
        have := (C i hi).2.2.1 h6 (Cx t g)
        rw [ey, nI_clamp (by omega)] at this
        exact this
      by_cases h4 : 4 < oc i
      · rw [if_pos h4, ey, nI_clamp (n := y) (by omega)]
        refine ⟨dq_sub_o s (by omega), fun hb => dq_bd_o hy hb, fun t C g => dq_o_sub (by omega) g (Cy t C g), fun z => ⟨fun _ _ => dq_o_id (by omega) z, fun w => absurd h4 w⟩⟩
      · obtain ⟨z, hz, ez⟩ := v3 (by rw [l4] at h4; omega)
        have Cz : ∀ t, dq_Cl n oc fx fy fz t → dq_sub s t → bt t z = true := fun t C g => by
          have := (C i hi).2.2.2 h4 (Cx t g)
          rw [ez, nI_clamp (by omega)] at this
          exact this
        rw [if_neg h4, ey, ez, nI_clamp (n := y) (by omega), nI_clamp (n := z) (by omega)]
        refine ⟨dq_sub_t (dq_sub_o s (by omega)) (dq_sub_o _ (by omega)), fun hb => dq_bd_o hz (dq_bd_o hy hb), fun t C g => dq_o_sub (by omega) (dq_o_sub (by omega) g (Cy t C g)) (Cz t C g), fun w => ⟨fun _ _ => ?_, fun _ _ => ?_⟩⟩
        · rw [← w]
          exact dq_sub_o _ (by omega) y (by omega) (dq_in_o s (by omega))
        · rw [← w]
          exact dq_in_o _ (by omega)
theorem dq_cj_f {t o x y : Int32} (v : ¬ t < o → (∃ a, a < 8 ∧ x = nI a) ∧ ∃ b, b < 8 ∧ y = nI b) (s : Int32) : dq_sub s (dq_cj t o x y s) ∧ (dq_bd s → dq_bd (dq_cj t o x y s)) ∧ (∀ u, (¬ t < o → bt u x.toNatClampNeg = true → bt u y.toNatClampNeg = true) → dq_sub s u → dq_sub (dq_cj t o x y s) u) ∧ (dq_cj t o x y s = s → ¬ t < o → bt s x.toNatClampNeg = true → bt s y.toNatClampNeg = true) := by
  by_cases h : t < o
  · rw [dq_cj, if_pos h]
    exact ⟨dq_sub_r s, fun hb => hb, fun u C g => g, fun _ z => absurd h z⟩
  · obtain ⟨⟨a, ha, ea⟩, b, hb', eb⟩ := v h
    by_cases hb : ((s >>> (x &&& 31)) &&& 1) = 1
    · rw [dq_cj, if_neg h, if_pos hb]
      rw [ea, dq_tb1 (by omega)] at hb
      rw [ea, eb, nI_clamp (n := a) (by omega), nI_clamp (n := b) (by omega)]
      exact ⟨dq_sub_o s (by omega), fun k => dq_bd_o hb' k, fun u C g => dq_o_sub (by omega) g (C h (g a (by omega) hb)), fun z _ _ => dq_o_id (by omega) z⟩
    · rw [dq_cj, if_neg h, if_neg hb]
      rw [ea, dq_tb1 (by omega)] at hb
      rw [ea, nI_clamp (n := a) (by omega)]
      exact ⟨dq_sub_r s, fun hb => hb, fun u C g => g, fun _ _ z => absurd z hb⟩
theorem dq_gr_f (V : dq_V n oc fx fy fz) {i : Nat} (hi : i < n) (s : Int32) : dq_sub s (dq_gr oc fx fy fz i s) ∧ (dq_bd s → dq_bd (dq_gr oc fx fy fz i s)) ∧ (∀ t, dq_Cl n oc fx fy fz t → dq_sub s t → dq_sub (dq_gr oc fx fy fz i s) t) ∧ (dq_gr oc fx fy fz i s = s → ((oc i = 6 ∨ oc i = 7) → bt s (fy i).toNatClampNeg = true) ∧ (oc i = 8 → bt s (fx i).toNatClampNeg = true) ∧ (¬ 6 < oc i → bt s (fx i).toNatClampNeg = true → bt s (fy i).toNatClampNeg = true) ∧ (¬ 4 < oc i → bt s (fx i).toNatClampNeg = true → bt s (fz i).toNatClampNeg = true)) := by
  obtain ⟨p1, p2, p3, p4, p5⟩ := dq_pb_f V hi s
  obtain ⟨o, ho, e, v1, v2, v3, v4, v5⟩ := V i hi
  have l6 : 6 < oc i ↔ 6 < o := by rw [e]; exact dq_l6 ho
  have l4 : 4 < oc i ↔ 4 < o := by rw [e]; exact dq_l4 ho
  have vy : ¬ 6 < oc i → (∃ a, a < 8 ∧ fx i = nI a) ∧ ∃ b, b < 8 ∧ fy i = nI b := fun h => ⟨v1 (by rw [l6] at h; omega), v2 (by rw [l6] at h; omega)⟩
  have vz : ¬ 4 < oc i → (∃ a, a < 8 ∧ fx i = nI a) ∧ ∃ b, b < 8 ∧ fz i = nI b := fun h => ⟨v1 (by rw [l4] at h; omega), v3 (by rw [l4] at h; omega)⟩
  unfold dq_gr
  generalize dq_pb oc fx fy i s = s1 at p1 p2 p3 p4 p5 ⊢
  obtain ⟨q1, q2, q3, q4⟩ := dq_cj_f vy s1
  generalize hs2 : dq_cj 6 (oc i) (fx i) (fy i) s1 = s2 at q1 q2 q3 q4 ⊢
  obtain ⟨r1, r2, r3, r4⟩ := dq_cj_f vz s2
  generalize hs3 : dq_cj 4 (oc i) (fx i) (fz i) s2 = s3 at r1 r2 r3 r4 ⊢
  refine ⟨dq_sub_t p1 (dq_sub_t q1 r1), fun h => r2 (q2 (p2 h)), fun t C g => r3 t (C i hi).2.2.2 (q3 t (C i hi).2.2.1 (p3 t C g)), fun w => ?_⟩
  subst w
  have e1 : s2 = s3 := dq_sub_a r1 (dq_sub_t p1 q1)
  subst e1
  have e2 : s1 = s2 := dq_sub_a q1 p1
  subst e2
  exact ⟨p4, p5, q4 rfl, r4 rfl⟩
def dq_slX (n : Nat) (oc fx fy fz : Nat → Int32) : Int32 := dq_it (dq_fo (dq_px oc fx fy fz) n 0) 8 (dq_fo (dq_pb oc fx fy) n 0 0)
def dq_slY (n : Nat) (oc fx fy fz : Nat → Int32) : Int32 := dq_it (dq_fo (dq_gr oc fx fy fz) n 0) 9 0
theorem dq_bd_0 : dq_bd 0 := fun i _ h => by rw [b_0] at h; cases h
theorem dq_sub_0 (t : Int32) : dq_sub 0 t := fun i _ h => by rw [b_0] at h; cases h
theorem dq_slX_f (V : dq_V n oc fx fy fz) : dq_Cl n oc fx fy fz (dq_slX n oc fx fy fz) ∧ (∀ t, dq_Cl n oc fx fy fz t → dq_sub (dq_slX n oc fx fy fz) t) ∧ dq_bd (dq_slX n oc fx fy fz) := by
  have b0 : dq_bd (dq_fo (dq_pb oc fx fy) n 0 0) := dq_fo_bd (n := n) (fun i s hi h => (dq_pb_f V hi s).2.1 h) n 0 0 (by omega) dq_bd_0
  have gi : ∀ s, dq_bd s → dq_sub s (dq_fo (dq_px oc fx fy fz) n 0 s) := fun s _ => dq_fo_inf (n := n) (fun i s hi => (dq_px_f V hi s).1) n 0 s (by omega)
  have gb : ∀ s, dq_bd s → dq_bd (dq_fo (dq_px oc fx fy fz) n 0 s) := fun s h => dq_fo_bd (n := n) (fun i s hi h => (dq_px_f V hi s).2.1 h) n 0 s (by omega) h
  refine ⟨fun i hi => ?_, fun t C => ?_, dq_it_bd gb 8 _ b0⟩
  · have fx' := dq_fo_fix (n := n) (fun i s hi => (dq_px_f V hi s).1) n 0 _ (by omega) (dq_it_8 gi gb (Nat.le_refl 8) b0) i (by omega) hi
    have hh := (dq_px_f V hi _).2.2.2 fx'
    have hs : dq_sub (dq_fo (dq_pb oc fx fy) n 0 0) (dq_slX n oc fx fy fz) := dq_it_inf gi gb 8 _ b0
    have ha := dq_fo_has (n := n) (f := dq_pb oc fx fy) (P := fun i s => ((oc i = 6 ∨ oc i = 7) → bt s (fy i).toNatClampNeg = true) ∧ (oc i = 8 → bt s (fx i).toNatClampNeg = true)) (fun i s hi => (dq_pb_f V hi s).1) (fun i s hi => ⟨(dq_pb_f V hi s).2.2.2.1, (dq_pb_f V hi s).2.2.2.2⟩) (fun i s t hi st P => by
      obtain ⟨o, ho, e, v1, v2, v3, v4, v5⟩ := V i hi
      refine ⟨fun h => ?_, fun h => ?_⟩
      · have h7 : o = 6 ∨ o = 7 := by
          have h' := h
          rw [e, dq_e6 ho, dq_e7 ho] at h'; exact h'
        obtain ⟨y, hy, ey⟩ := v2 (by omega)
        have p := P.1 h
        rw [ey, nI_clamp (by omega)] at p ⊢
        exact st y (by omega) p
      · have h8 : o = 8 := by
          have h' := h
          rw [e, dq_e8 ho] at h'; exact h'
        obtain ⟨x, hx, ex⟩ := v1 (by omega)
        have p := P.2 h
        rw [ex, nI_clamp (by omega)] at p ⊢
        exact st x (by omega) p) n 0 0 (by omega) i (by omega) hi
    obtain ⟨o, ho, e, v1, v2, v3, v4, v5⟩ := V i hi
    refine ⟨fun h => ?_, fun h => ?_, hh.1, hh.2⟩
    · have h7 : o = 6 ∨ o = 7 := by
        have h' := h
        rw [e, dq_e6 ho, dq_e7 ho] at h'; exact h'
      obtain ⟨y, hy, ey⟩ := v2 (by omega)
      have p := ha.1 h
      rw [ey, nI_clamp (by omega)] at p ⊢
      exact hs y (by omega) p
    · have h8 : o = 8 := by
        have h' := h
        rw [e, dq_e8 ho] at h'; exact h'
      obtain ⟨x, hx, ex⟩ := v1 (by omega)
      have p := ha.2 h
      rw [ex, nI_clamp (by omega)] at p ⊢
      exact hs x (by omega) p
  · exact dq_it_min (fun s _ h => dq_fo_min (n := n) (fun i s hi g => (dq_px_f V hi s).2.2.1 t C g) n 0 s (by omega) h) gb 8 _ b0 (dq_fo_min (n := n) (fun i s hi g => (dq_pb_f V hi s).2.2.1 t C g) n 0 0 (by omega) (dq_sub_0 t))
theorem dq_slY_f (V : dq_V n oc fx fy fz) : dq_Cl n oc fx fy fz (dq_slY n oc fx fy fz) ∧ (∀ t, dq_Cl n oc fx fy fz t → dq_sub (dq_slY n oc fx fy fz) t) := by
  have gi : ∀ s, dq_bd s → dq_sub s (dq_fo (dq_gr oc fx fy fz) n 0 s) := fun s _ => dq_fo_inf (n := n) (fun i s hi => (dq_gr_f V hi s).1) n 0 s (by omega)
  have gb : ∀ s, dq_bd s → dq_bd (dq_fo (dq_gr oc fx fy fz) n 0 s) := fun s h => dq_fo_bd (n := n) (fun i s hi h => (dq_gr_f V hi s).2.1 h) n 0 s (by omega) h
  refine ⟨fun i hi => ?_, fun t C => ?_⟩
  · have fx' := dq_fo_fix (n := n) (fun i s hi => (dq_gr_f V hi s).1) n 0 _ (by omega) (dq_it_8 gi gb (show 8 ≤ 9 by omega) dq_bd_0) i (by omega) hi
    exact (dq_gr_f V hi _).2.2.2 fx'
  · exact dq_it_min (fun s _ h => dq_fo_min (n := n) (fun i s hi g => (dq_gr_f V hi s).2.2.1 t C g) n 0 s (by omega) h) gb 9 _ dq_bd_0 (dq_sub_0 t)
end
theorem dq_Cl_eq {n : Nat} {oc fx fy fz ax ay : Nat → Int32} (V : dq_V n oc fx fy fz) (E : dq_EQ n oc fx fy ax ay) (s : Int32) : dq_Cl n oc ax ay fz s ↔ dq_Cl n oc fx fy fz s := by
  have key : ∀ i, i < n → (¬ oc i = 10 → ¬ oc i = 9 → fx i = ax i ∧ fy i = ay i) := fun i hi a b => ⟨(E i hi).1 a, (E i hi).2 a b⟩
  constructor
  · intro C i hi
    obtain ⟨c1, c2, c3, c4⟩ := C i hi
    obtain ⟨o, ho, e, -⟩ := V i hi
    have k := key i hi
    rw [e, dq_e10 ho, dq_e9 ho] at k
    refine ⟨fun h => ?_, fun h => ?_, fun h => ?_, fun h => ?_⟩
    · have h' := h
      rw [e, dq_e6 ho, dq_e7 ho] at h'
      obtain ⟨k1, k2⟩ := k (by omega) (by omega)
      rw [k2]; exact c1 h
    · have h' := h
      rw [e, dq_e8 ho] at h'
      obtain ⟨k1, k2⟩ := k (by omega) (by omega)
      rw [k1]; exact c2 h
    · have h' := h
      rw [e, dq_l6 ho] at h'
      obtain ⟨k1, k2⟩ := k (by omega) (by omega)
      rw [k1, k2]; exact c3 h
    · have h' := h
      rw [e, dq_l4 ho] at h'
      obtain ⟨k1, k2⟩ := k (by omega) (by omega)
      rw [k1]; exact c4 h
  · intro C i hi
    obtain ⟨c1, c2, c3, c4⟩ := C i hi
    obtain ⟨o, ho, e, -⟩ := V i hi
    have k := key i hi
    rw [e, dq_e10 ho, dq_e9 ho] at k
    refine ⟨fun h => ?_, fun h => ?_, fun h => ?_, fun h => ?_⟩
    · have h' := h
      rw [e, dq_e6 ho, dq_e7 ho] at h'
      obtain ⟨k1, k2⟩ := k (by omega) (by omega)
      rw [← k2]; exact c1 h
    · have h' := h
      rw [e, dq_e8 ho] at h'
      obtain ⟨k1, k2⟩ := k (by omega) (by omega)
      rw [← k1]; exact c2 h
    · have h' := h
      rw [e, dq_l6 ho] at h'
      obtain ⟨k1, k2⟩ := k (by omega) (by omega)
      rw [← k1, ← k2]; exact c3 h
    · have h' := h
      rw [e, dq_l4 ho] at h'
      obtain ⟨k1, k2⟩ := k (by omega) (by omega)
      rw [← k1]; exact c4 h
theorem dq_sl_eq {n : Nat} {oc fx fy fz ax ay : Nat → Int32} (V : dq_V n oc fx fy fz) (E : dq_EQ n oc fx fy ax ay) : dq_slY n oc ax ay fz = dq_slX n oc fx fy fz := by
  obtain ⟨x1, x2, _⟩ := dq_slX_f V
  obtain ⟨y1, y2⟩ := dq_slY_f (dq_V_eq V E)
  exact dq_sub_a (y2 _ ((dq_Cl_eq V E _).mpr x1)) (x2 _ ((dq_Cl_eq V E _).mp y1))
end
section
/-! the pipeline, purely -/
abbrev dq_W : Type := Int32 × Int32 × Int32 × Int32 × Int32 × Int32
abbrev dq_LD : Type := Int32 × Int32
abbrev dq_S : Type := Int32 × Int32 × Int32
abbrev dq_D : Type := List dq_LD × List dq_S × (Nat → Int32)
def dq_src (r v : Int32) (R : Nat → Int32) : Int32 := if 0 ≤ r then R r.toNatClampNeg else v
def dq_fil (v : Int32) : List dq_S → List dq_S
  | [] => []
  | s :: t => if s.2.2 = 0 then (s.1, v, 1) :: t else s :: dq_fil v t
def dq_ex1 (c : dq_D) (w : dq_W) : dq_D :=
  if w.1 = 6 then (c.1.tail, c.2.1, upd c.2.2 w.2.1.toNatClampNeg (c.1.headD (0, 0)).2)
  else if w.1 = 7 then (c.1, dq_fil (dq_src w.2.2.1 w.2.2.2.1 c.2.2) c.2.1, c.2.2)
  else (c.1, c.2.1, upd c.2.2 w.2.1.toNatClampNeg (dq_cmp w.1 (dq_src w.2.2.1 w.2.2.2.1 c.2.2) (dq_src w.2.2.2.2.1 w.2.2.2.2.2 c.2.2)))
def dq_cm : List dq_S → (Nat → Int32) → (Nat → Int32)
  | [], M => M
  | s :: t, M => dq_cm t (upd M s.1.toNatClampNeg s.2.1)
def dq_nl : List dq_W → Nat
  | [] => 0
  | w :: t => (if w.1 = 6 then 1 else 0) + dq_nl t
def dq_nst : List dq_W → Nat
  | [] => 0
  | w :: t => (if w.1 = 7 then 1 else 0) + dq_nst t
def dq_nu : List dq_S → Nat
  | [] => 0
  | s :: t => (if s.2.2 = 0 then 1 else 0) + dq_nu t
theorem dq_10 : ¬ (1 : Int32) = 0 := by decide
theorem dq_n67 {x : Int32} (h : x = 7) : ¬ x = 6 := by rw [h]; decide
theorem dq_n76 {x : Int32} (h : x = 6) : ¬ x = 7 := by rw [h]; decide
theorem dq_ex6 {c : dq_D} {w : dq_W} (h : w.1 = 6) : dq_ex1 c w = (c.1.tail, c.2.1, upd c.2.2 w.2.1.toNatClampNeg (c.1.headD (0, 0)).2) := by
  rw [dq_ex1, if_pos h]
theorem dq_ex7 {c : dq_D} {w : dq_W} (h : w.1 = 7) : dq_ex1 c w = (c.1, dq_fil (dq_src w.2.2.1 w.2.2.2.1 c.2.2) c.2.1, c.2.2) := by
  rw [dq_ex1, if_neg (dq_n67 h), if_pos h]
theorem dq_exA {c : dq_D} {w : dq_W} (h6 : ¬ w.1 = 6) (h7 : ¬ w.1 = 7) : dq_ex1 c w = (c.1, c.2.1, upd c.2.2 w.2.1.toNatClampNeg (dq_cmp w.1 (dq_src w.2.2.1 w.2.2.2.1 c.2.2) (dq_src w.2.2.2.2.1 w.2.2.2.2.2 c.2.2))) := by
  rw [dq_ex1, if_neg h6, if_neg h7]
/-- a register that is not the access processor's; a source -/
def dq_ns (sd x : Int32) : Prop := ∃ r, r < 8 ∧ x = nI r ∧ bt sd r = false
def dq_sr (sd x : Int32) : Prop := x = -1 ∨ dq_ns sd x
def dq_wok (sd : Int32) (w : dq_W) : Prop := (w.1 = 6 ∧ dq_ns sd w.2.1 ∧ w.2.2.1 = -1) ∨ (w.1 = 7 ∧ dq_ns sd w.2.2.1) ∨ (∃ o, o ≤ 5 ∧ w.1 = nI o ∧ dq_ns sd w.2.1 ∧ dq_sr sd w.2.2.1 ∧ dq_sr sd w.2.2.2.2.1)
theorem dq_ns_ne {sd x : Int32} {t : Nat} (h : dq_ns sd x) (ht : bt sd t = true) : t ≠ x.toNatClampNeg := by
  obtain ⟨r, hr, e, hb⟩ := h
  rw [e, nI_clamp (by omega)]
  intro z
  subst z
  rw [ht] at hb
  cases hb
theorem dq_src_upd {sd x v y : Int32} {R : Nat → Int32} {t : Nat} (h : dq_sr sd x) (ht : bt sd t = true) : dq_src x v (upd R t y) = dq_src x v R := by
  rcases h with h | h
  · rw [dq_src, dq_src, h, if_neg (by decide), if_neg (by decide)]
  · rw [dq_src, dq_src, pk_un (Ne.symm (dq_ns_ne h ht))]
theorem dq_upd_comm {R : Nat → Int32} {a b : Nat} {x y : Int32} (h : a ≠ b) : upd (upd R a x) b y = upd (upd R b y) a x := by
  funext j
  unfold upd
  by_cases h1 : j = b
  · by_cases h2 : j = a
    · omega
    · simp [h1, h2]; intro z; omega
  · by_cases h2 : j = a
    · simp [h1, h2]; intro z; omega
    · simp [h1, h2]
theorem dq_o67 {o : Nat} (h : o ≤ 5) : ¬ nI o = 6 ∧ ¬ nI o = 7 := by
  rw [dq_e6 (by omega), dq_e7 (by omega)]; omega
theorem dq_ex1_side {sd : Int32} {w : dq_W} {c : dq_D} {j : Nat} (h : dq_wok sd w) (hj : bt sd j = true) : (dq_ex1 c w).2.2 j = c.2.2 j := by
  rcases h with ⟨h, n, _⟩ | ⟨h, n⟩ | ⟨o, ho, h, n, _⟩
  · rw [dq_ex6 h]; exact pk_un (dq_ns_ne n hj)
  · rw [dq_ex7 h]
  · rw [dq_exA (by rw [h]; exact (dq_o67 ho).1) (by rw [h]; exact (dq_o67 ho).2)]; exact pk_un (dq_ns_ne n hj)
theorem dq_ex1_upd {sd : Int32} {w : dq_W} {ls : List dq_LD} {ss : List dq_S} {R : Nat → Int32} {t : Nat} {v : Int32} (h : dq_wok sd w) (ht : bt sd t = true) :
    dq_ex1 (ls, ss, upd R t v) w = ((dq_ex1 (ls, ss, R) w).1, (dq_ex1 (ls, ss, R) w).2.1, upd (dq_ex1 (ls, ss, R) w).2.2 t v) := by
  rcases h with ⟨h, n, _⟩ | ⟨h, n⟩ | ⟨o, ho, h, n, s1, s2⟩
  · rw [dq_ex6 h, dq_ex6 h]
    dsimp only
    rw [dq_upd_comm (dq_ns_ne n ht)]
  · rw [dq_ex7 h, dq_ex7 h]
    dsimp only
    rw [dq_src_upd (Or.inr n) ht]
  · have h6 : ¬ w.1 = 6 := by rw [h]; exact (dq_o67 ho).1
    have h7 : ¬ w.1 = 7 := by rw [h]; exact (dq_o67 ho).2
    rw [dq_exA h6 h7, dq_exA h6 h7]
    dsimp only
    rw [dq_src_upd s1 ht, dq_src_upd s2 ht, dq_upd_comm (dq_ns_ne n ht)]
theorem dq_fo_side {sd : Int32} {j : Nat} (hj : bt sd j = true) : ∀ (ws : List dq_W) (c : dq_D), (∀ w, w ∈ ws → dq_wok sd w) → (ws.foldl dq_ex1 c).2.2 j = c.2.2 j := by
  intro ws
  induction ws with
  | nil => intro c _; rfl
  | cons w ws ih =>
    intro c h
    rw [List.foldl_cons, ih _ (fun x hx => h x (List.mem_cons_of_mem _ hx)), dq_ex1_side (h w (List.mem_cons_self)) hj]
theorem dq_fo_upd {sd : Int32} {t : Nat} {v : Int32} (ht : bt sd t = true) : ∀ (ws : List dq_W) (ls : List dq_LD) (ss : List dq_S) (R : Nat → Int32), (∀ w, w ∈ ws → dq_wok sd w) →
    ws.foldl dq_ex1 (ls, ss, upd R t v) = ((ws.foldl dq_ex1 (ls, ss, R)).1, (ws.foldl dq_ex1 (ls, ss, R)).2.1, upd (ws.foldl dq_ex1 (ls, ss, R)).2.2 t v) := by
  intro ws
  induction ws with
  | nil => intro ls ss R _; rfl
  | cons w ws ih =>
    intro ls ss R h
    rw [List.foldl_cons, List.foldl_cons, dq_ex1_upd (h w (List.mem_cons_self)) ht, ih _ _ _ (fun x hx => h x (List.mem_cons_of_mem _ hx))]
theorem dq_fo_ls {l : dq_LD} : ∀ (ws : List dq_W) (ls : List dq_LD) (ss : List dq_S) (R : Nat → Int32), dq_nl ws ≤ ls.length →
    ws.foldl dq_ex1 (ls ++ [l], ss, R) = ((ws.foldl dq_ex1 (ls, ss, R)).1 ++ [l], (ws.foldl dq_ex1 (ls, ss, R)).2.1, (ws.foldl dq_ex1 (ls, ss, R)).2.2) := by
  intro ws
  induction ws with
  | nil => intro ls ss R _; rfl
  | cons w ws ih =>
    intro ls ss R h
    rw [List.foldl_cons, List.foldl_cons]
    rw [dq_nl] at h
    by_cases h6 : w.1 = 6
    · rw [if_pos h6] at h
      rw [dq_ex6 h6, dq_ex6 h6]
      cases ls with
      | nil => simp at h
      | cons a ls =>
        have e := ih ls ss (upd R w.2.1.toNatClampNeg a.2) (by simp at h; omega)
        exact e
    · rw [if_neg h6] at h
      by_cases h7 : w.1 = 7
      · rw [dq_ex7 h7, dq_ex7 h7]
        exact ih ls _ R (by omega)
      · rw [dq_exA h6 h7, dq_exA h6 h7]
        exact ih ls ss _ (by omega)
theorem dq_fil_app {v : Int32} {s : dq_S} : ∀ ss : List dq_S, 0 < dq_nu ss → dq_fil v (ss ++ [s]) = dq_fil v ss ++ [s] := by
  intro ss
  induction ss with
  | nil => intro h; exact absurd h (by simp [dq_nu])
  | cons a ss ih =>
    intro h
    rw [List.cons_append, dq_fil, dq_fil]
    rw [dq_nu] at h
    by_cases h0 : a.2.2 = 0
    · rw [if_pos h0, if_pos h0]; rfl
    · rw [if_neg h0, if_neg h0]
      rw [if_neg h0] at h
      rw [ih (by omega)]; rfl
theorem dq_fil_nu {v : Int32} : ∀ ss : List dq_S, dq_nu (dq_fil v ss) = dq_nu ss - 1 := by
  intro ss
  induction ss with
  | nil => rfl
  | cons a ss ih =>
    rw [dq_fil]
    by_cases h0 : a.2.2 = 0
    · rw [if_pos h0, dq_nu, dq_nu, if_pos h0, if_neg dq_10]; omega
    · rw [if_neg h0, dq_nu, dq_nu, if_neg h0, ih]; omega
theorem dq_fil_map {v : Int32} : ∀ ss : List dq_S, (dq_fil v ss).map (fun s => s.1) = ss.map (fun s => s.1) := by
  intro ss
  induction ss with
  | nil => rfl
  | cons a ss ih =>
    rw [dq_fil]
    by_cases h0 : a.2.2 = 0
    · rw [if_pos h0]; rfl
    · rw [if_neg h0, List.map_cons, List.map_cons, ih]
theorem dq_fo_ss {s : dq_S} : ∀ (ws : List dq_W) (ls : List dq_LD) (ss : List dq_S) (R : Nat → Int32), dq_nst ws ≤ dq_nu ss →
    ws.foldl dq_ex1 (ls, ss ++ [s], R) = ((ws.foldl dq_ex1 (ls, ss, R)).1, (ws.foldl dq_ex1 (ls, ss, R)).2.1 ++ [s], (ws.foldl dq_ex1 (ls, ss, R)).2.2) := by
  intro ws
  induction ws with
  | nil => intro ls ss R _; rfl
  | cons w ws ih =>
    intro ls ss R h
    rw [List.foldl_cons, List.foldl_cons]
    rw [dq_nst] at h
    by_cases h6 : w.1 = 6
    · rw [if_neg (dq_n76 h6)] at h
      rw [dq_ex6 h6, dq_ex6 h6]
      exact ih _ ss _ (by omega)
    · by_cases h7 : w.1 = 7
      · rw [if_pos h7] at h
        rw [dq_ex7 h7, dq_ex7 h7]
        dsimp only
        rw [dq_fil_app ss (by omega)]
        exact ih ls _ R (by rw [dq_fil_nu]; omega)
      · rw [if_neg h7] at h
        rw [dq_exA h6 h7, dq_exA h6 h7]
        exact ih ls ss _ (by omega)
theorem dq_fo_cnt : ∀ (ws : List dq_W) (ls : List dq_LD) (ss : List dq_S) (R : Nat → Int32), (ws.foldl dq_ex1 (ls, ss, R)).1.length = ls.length - dq_nl ws ∧ dq_nu (ws.foldl dq_ex1 (ls, ss, R)).2.1 = dq_nu ss - dq_nst ws ∧ (ws.foldl dq_ex1 (ls, ss, R)).2.1.map (fun s => s.1) = ss.map (fun s => s.1) := by
  intro ws
  induction ws with
  | nil => intro ls ss R; exact ⟨rfl, rfl, rfl⟩
  | cons w ws ih =>
    intro ls ss R
    rw [List.foldl_cons, dq_nl, dq_nst]
    by_cases h6 : w.1 = 6
    · rw [dq_ex6 h6, if_pos h6, if_neg (dq_n76 h6)]
      obtain ⟨a, b, c⟩ := ih ls.tail ss (upd R w.2.1.toNatClampNeg (ls.headD (0, 0)).2)
      dsimp only
      refine ⟨?_, ?_, c⟩
      · rw [a, List.length_tail]; omega
      · rw [b]; omega
    · by_cases h7 : w.1 = 7
      · rw [dq_ex7 h7, if_neg h6, if_pos h7]
        obtain ⟨a, b, c⟩ := ih ls (dq_fil (dq_src w.2.2.1 w.2.2.2.1 R) ss) R
        dsimp only
        refine ⟨?_, ?_, c.trans (dq_fil_map ss)⟩
        · rw [a]; omega
        · rw [b, dq_fil_nu]; omega
      · rw [dq_exA h6 h7, if_neg h6, if_neg h7]
        obtain ⟨a, b, c⟩ := ih ls ss (upd R w.2.1.toNatClampNeg (dq_cmp w.1 (dq_src w.2.2.1 w.2.2.2.1 R) (dq_src w.2.2.2.2.1 w.2.2.2.2.2 R)))
        dsimp only
        refine ⟨?_, ?_, c⟩
        · rw [a]; omega
        · rw [b]; omega
theorem dq_fo_hd {s : dq_S} (hs : ¬ s.2.2 = 0) : ∀ (ws : List dq_W) (ls : List dq_LD) (ss : List dq_S) (R : Nat → Int32),
    ws.foldl dq_ex1 (ls, s :: ss, R) = ((ws.foldl dq_ex1 (ls, ss, R)).1, s :: (ws.foldl dq_ex1 (ls, ss, R)).2.1, (ws.foldl dq_ex1 (ls, ss, R)).2.2) := by
  intro ws
  induction ws with
  | nil => intro ls ss R; rfl
  | cons w ws ih =>
    intro ls ss R
    rw [List.foldl_cons, List.foldl_cons]
    by_cases h6 : w.1 = 6
    · rw [dq_ex6 h6, dq_ex6 h6]
      exact ih _ ss _
    · by_cases h7 : w.1 = 7
      · rw [dq_ex7 h7, dq_ex7 h7]
        dsimp only
        rw [dq_fil, if_neg hs]
        exact ih ls _ R
      · rw [dq_exA h6 h7, dq_exA h6 h7]
        exact ih ls ss _
theorem dq_cm_app {s : dq_S} : ∀ (ss : List dq_S) (M : Nat → Int32), dq_cm (ss ++ [s]) M = upd (dq_cm ss M) s.1.toNatClampNeg s.2.1 := by
  intro ss
  induction ss with
  | nil => intro M; rfl
  | cons a ss ih => intro M; rw [List.cons_append, dq_cm, ih, dq_cm]
theorem dq_cm_at {a : Nat} : ∀ (ss : List dq_S) (M : Nat → Int32), (∀ s, s ∈ ss → s.1.toNatClampNeg ≠ a) → dq_cm ss M a = M a := by
  intro ss
  induction ss with
  | nil => intro M _; rfl
  | cons b ss ih =>
    intro M h
    rw [dq_cm, ih _ (fun s hs => h s (List.mem_cons_of_mem _ hs)), pk_un (Ne.symm (h b (List.mem_cons_self)))]
theorem dq_nl_app {w : dq_W} : ∀ ws : List dq_W, dq_nl (ws ++ [w]) = dq_nl ws + (if w.1 = 6 then 1 else 0) := by
  intro ws
  induction ws with
  | nil => simp [dq_nl]
  | cons a ws ih => rw [List.cons_append, dq_nl, ih, dq_nl]; omega
theorem dq_nst_app {w : dq_W} : ∀ ws : List dq_W, dq_nst (ws ++ [w]) = dq_nst ws + (if w.1 = 7 then 1 else 0) := by
  intro ws
  induction ws with
  | nil => simp [dq_nst]
  | cons a ws ih => rw [List.cons_append, dq_nst, ih, dq_nst]; omega
theorem dq_nu_app {s : dq_S} : ∀ ss : List dq_S, dq_nu (ss ++ [s]) = dq_nu ss + (if s.2.2 = 0 then 1 else 0) := by
  intro ss
  induction ss with
  | nil => simp [dq_nu]
  | cons a ss ih => rw [List.cons_append, dq_nu, ih, dq_nu]; omega
/-- the drained state -/
def dq_Z (ws : List dq_W) (ls : List dq_LD) (ss : List dq_S) (R : Nat → Int32) : dq_D := ws.foldl dq_ex1 (ls, ss, R)
/-- the pipeline holds the sequential machine's registers U and memory N -/
def dq_PI (sd : Int32) (ws : List dq_W) (ls : List dq_LD) (ss : List dq_S) (R M : Nat → Int32) (wc : Nat) (wt wv : Int32) (U N : Nat → Int32) : Prop :=
  (∀ w, w ∈ ws → dq_wok sd w) ∧ dq_nl ws = ls.length ∧ dq_nst ws = dq_nu ss ∧ (∀ s, s ∈ ss → ∃ a, a < 16 ∧ s.1 = nI a) ∧ (0 < wc → ∃ t, t < 8 ∧ wt = nI t ∧ bt sd t = true) ∧
  U = (if wc = 0 then (dq_Z ws ls ss R).2.2 else upd (dq_Z ws ls ss R).2.2 wt.toNatClampNeg wv) ∧ N = dq_cm (dq_Z ws ls ss R).2.1 M
end
section
/-! how the pipeline's invariant is kept; ring buffers -/
theorem dq_n6_7 : ¬ (6 : Int32) = 7 := by decide
theorem dq_n7_6 : ¬ (7 : Int32) = 6 := by decide
theorem dq_fil_mem {v : Int32} {ss : List dq_S} {x : dq_S} (h : x ∈ dq_fil v ss) : ∃ s, s ∈ ss ∧ s.1 = x.1 := by
  have h1 : x.1 ∈ (dq_fil v ss).map (fun s => s.1) := List.mem_map.mpr ⟨x, h, rfl⟩
  rw [dq_fil_map] at h1
  exact List.mem_map.mp h1
theorem dq_fil_full {v : Int32} {s : dq_S} : ∀ ss : List dq_S, dq_nu ss = 0 → dq_fil v (ss ++ [s]) = ss ++ dq_fil v [s] := by
  intro ss
  induction ss with
  | nil => intro _; rfl
  | cons a ss ih =>
    intro h
    rw [dq_nu] at h
    have h0 : ¬ a.2.2 = 0 := by
      intro z
      rw [if_pos z] at h
      omega
    rw [if_neg h0] at h
    rw [List.cons_append, dq_fil, if_neg h0, ih (by omega)]
    rfl
section
variable {sd wt wv : Int32} {ws : List dq_W} {ls : List dq_LD} {ss : List dq_S} {R M U N : Nat → Int32} {wc : Nat}
theorem dq_pi_commit {s : dq_S} (hs : ¬ s.2.2 = 0) (I : dq_PI sd ws ls (s :: ss) R M wc wt wv U N) : dq_PI sd ws ls ss R (upd M s.1.toNatClampNeg s.2.1) wc wt wv U N := by
  obtain ⟨a, b, c, d, e, f, g⟩ := I
  have z : dq_Z ws ls (s :: ss) R = ((dq_Z ws ls ss R).1, s :: (dq_Z ws ls ss R).2.1, (dq_Z ws ls ss R).2.2) := dq_fo_hd hs ws ls ss R
  rw [z] at f g
  refine ⟨a, b, ?_, fun x hx => d x (List.mem_cons_of_mem _ hx), e, f, g⟩
  rw [c, dq_nu, if_neg hs]; omega
theorem dq_pi_exL {w : dq_W} {l : dq_LD} (h6 : w.1 = 6) (I : dq_PI sd (w :: ws) (l :: ls) ss R M wc wt wv U N) : dq_PI sd ws ls ss (upd R w.2.1.toNatClampNeg l.2) M wc wt wv U N := by
  obtain ⟨a, b, c, d, e, f, g⟩ := I
  have z : dq_Z (w :: ws) (l :: ls) ss R = dq_Z ws ls ss (upd R w.2.1.toNatClampNeg l.2) := by
    rw [dq_Z, List.foldl_cons, dq_ex6 h6]; rfl
  rw [z] at f g
  refine ⟨fun x hx => a x (List.mem_cons_of_mem _ hx), ?_, ?_, d, e, f, g⟩
  · rw [dq_nl, if_pos h6, List.length_cons] at b; omega
  · rw [dq_nst, if_neg (dq_n76 h6)] at c; omega
theorem dq_pi_exS {w : dq_W} (h7 : w.1 = 7) (I : dq_PI sd (w :: ws) ls ss R M wc wt wv U N) : dq_PI sd ws ls (dq_fil (dq_src w.2.2.1 w.2.2.2.1 R) ss) R M wc wt wv U N := by
  obtain ⟨a, b, c, d, e, f, g⟩ := I
  have z : dq_Z (w :: ws) ls ss R = dq_Z ws ls (dq_fil (dq_src w.2.2.1 w.2.2.2.1 R) ss) R := by
    rw [dq_Z, List.foldl_cons, dq_ex7 h7]; rfl
  rw [z] at f g
  refine ⟨fun x hx => a x (List.mem_cons_of_mem _ hx), ?_, ?_, fun s hs => ?_, e, f, g⟩
  · rw [dq_nl, if_neg (dq_n67 h7)] at b; omega
  · rw [dq_nst, if_pos h7] at c; rw [dq_fil_nu]; omega
  · obtain ⟨s', h1, h2⟩ := dq_fil_mem hs
    rw [← h2]; exact d s' h1
theorem dq_pi_exA {w : dq_W} (h6 : ¬ w.1 = 6) (h7 : ¬ w.1 = 7) (I : dq_PI sd (w :: ws) ls ss R M wc wt wv U N) : dq_PI sd ws ls ss (upd R w.2.1.toNatClampNeg (dq_cmp w.1 (dq_src w.2.2.1 w.2.2.2.1 R) (dq_src w.2.2.2.2.1 w.2.2.2.2.2 R))) M wc wt wv U N := by
  obtain ⟨a, b, c, d, e, f, g⟩ := I
  have z : dq_Z (w :: ws) ls ss R = dq_Z ws ls ss (upd R w.2.1.toNatClampNeg (dq_cmp w.1 (dq_src w.2.2.1 w.2.2.2.1 R) (dq_src w.2.2.2.2.1 w.2.2.2.2.2 R))) := by
    rw [dq_Z, List.foldl_cons, dq_exA h6 h7]; rfl
  rw [z] at f g
  refine ⟨fun x hx => a x (List.mem_cons_of_mem _ hx), ?_, ?_, d, e, f, g⟩
  · rw [dq_nl, if_neg h6] at b; omega
  · rw [dq_nst, if_neg h7] at c; omega
theorem dq_pi_w1 (I : dq_PI sd ws ls ss R M 1 wt wv U N) : dq_PI sd ws ls ss (upd R wt.toNatClampNeg wv) M 0 wt wv U N := by
  obtain ⟨a, b, c, d, e, f, g⟩ := I
  obtain ⟨t, ht, et, hb⟩ := e (by omega)
  have z : dq_Z ws ls ss (upd R wt.toNatClampNeg wv) = ((dq_Z ws ls ss R).1, (dq_Z ws ls ss R).2.1, upd (dq_Z ws ls ss R).2.2 wt.toNatClampNeg wv) := by
    rw [et, nI_clamp (by omega)]
    exact dq_fo_upd hb ws ls ss R a
  refine ⟨a, b, c, d, fun h => absurd h (by omega), ?_, ?_⟩
  · rw [z, if_pos rfl, f, if_neg (by omega)]
  · rw [z, g]
theorem dq_pi_w2 {k : Nat} (I : dq_PI sd ws ls ss R M (k + 2) wt wv U N) : dq_PI sd ws ls ss R M (k + 1) wt wv U N := by
  obtain ⟨a, b, c, d, e, f, g⟩ := I
  refine ⟨a, b, c, d, fun _ => e (by omega), ?_, g⟩
  rw [f, if_neg (by omega), if_neg (by omega)]
theorem dq_pi_side {j : Nat} (I : dq_PI sd ws ls ss R M 0 wt wv U N) (hj : bt sd j = true) : U j = R j := by
  obtain ⟨a, b, c, d, e, f, g⟩ := I
  rw [f, if_pos rfl]
  exact dq_fo_side hj ws _ a
theorem dq_pi_mem {a : Nat} (I : dq_PI sd ws ls ss R M wc wt wv U N) (h : ∀ s, s ∈ ss → s.1.toNatClampNeg ≠ a) : N a = M a := by
  obtain ⟨_, b, c, d, e, f, g⟩ := I
  rw [g]
  apply dq_cm_at
  intro s hs
  have h1 : s.1 ∈ (dq_Z ws ls ss R).2.1.map (fun s => s.1) := List.mem_map.mpr ⟨s, hs, rfl⟩
  rw [dq_Z, (dq_fo_cnt ws ls ss R).2.2] at h1
  obtain ⟨s', h2, h3⟩ := List.mem_map.mp h1
  rw [← h3]
  exact h s' h2
theorem dq_pi_ldO {a t k : Nat} (I : dq_PI sd ws ls ss R M 0 wt wv U N) (h : ∀ s, s ∈ ss → s.1.toNatClampNeg ≠ a) (ht : t < 8) (hb : bt sd t = true) (hk : 0 < k) : dq_PI sd ws ls ss R M k (nI t) (M a) (upd U t (N a)) N := by
  rw [dq_pi_mem I h]
  obtain ⟨a', b, c, d, e, f, g⟩ := I
  refine ⟨a', b, c, d, fun _ => ⟨t, ht, rfl, hb⟩, ?_, g⟩
  rw [if_neg (by omega), f, if_pos rfl, nI_clamp (by omega)]
theorem dq_pi_ldE {a t : Nat} {rdy x y z : Int32} (I : dq_PI sd ws ls ss R M 0 wt wv U N) (h : ∀ s, s ∈ ss → s.1.toNatClampNeg ≠ a) (ht : t < 8) (hb : bt sd t = false) : dq_PI sd (ws ++ [(6, nI t, -1, x, y, z)]) (ls ++ [(rdy, M a)]) ss R M 0 wt wv (upd U t (N a)) N := by
  rw [dq_pi_mem I h]
  obtain ⟨a', b, c, d, e, f, g⟩ := I
  have z1 : (dq_Z ws ls ss R).1 = [] := List.eq_nil_of_length_eq_zero (by rw [dq_Z, (dq_fo_cnt ws ls ss R).1]; omega)
  have zz : dq_Z (ws ++ [(6, nI t, -1, x, y, z)]) (ls ++ [(rdy, M a)]) ss R = ([], (dq_Z ws ls ss R).2.1, upd (dq_Z ws ls ss R).2.2 t (M a)) := by
    have e0 := dq_fo_ls (l := (rdy, M a)) ws ls ss R (by omega)
    unfold dq_Z at z1 ⊢
    rw [List.foldl_append, e0, z1, List.foldl_cons, List.foldl_nil, dq_ex6 rfl]
    dsimp only
    rw [nI_clamp (by omega)]
    rfl
  refine ⟨fun w hw => ?_, ?_, ?_, d, fun h => absurd h (by omega), ?_, ?_⟩
  · rcases List.mem_append.mp hw with hw | hw
    · exact a' w hw
    · rw [List.mem_singleton.mp hw]
      exact Or.inl ⟨rfl, ⟨t, ht, rfl, hb⟩, rfl⟩
  · rw [dq_nl_app, if_pos rfl, b, List.length_append]; rfl
  · rw [dq_nst_app, if_neg dq_n6_7, c]; rfl
  · rw [zz, if_pos rfl, f, if_pos rfl]
  · rw [zz, g]
theorem dq_pi_stO {a r : Nat} (I : dq_PI sd ws ls ss R M 0 wt wv U N) (ha : a < 16) (hb : bt sd r = true) : dq_PI sd ws ls (ss ++ [(nI a, R r, 1)]) R M 0 wt wv U (upd N a (U r)) := by
  rw [dq_pi_side I hb]
  obtain ⟨a', b, c, d, e, f, g⟩ := I
  have zz : dq_Z ws ls (ss ++ [(nI a, R r, 1)]) R = ((dq_Z ws ls ss R).1, (dq_Z ws ls ss R).2.1 ++ [(nI a, R r, 1)], (dq_Z ws ls ss R).2.2) := dq_fo_ss ws ls ss R (by omega)
  refine ⟨a', b, ?_, fun s hs => ?_, fun h => absurd h (by omega), ?_, ?_⟩
  · rw [dq_nu_app, if_neg dq_10, c]; rfl
  · rcases List.mem_append.mp hs with hs | hs
    · exact d s hs
    · rw [List.mem_singleton.mp hs]; exact ⟨a, ha, rfl⟩
  · rw [zz, f]
  · rw [zz, dq_cm_app, g]
    dsimp only
    rw [nI_clamp (by omega)]
theorem dq_pi_stE {a r : Nat} {v tg x y z : Int32} (I : dq_PI sd ws ls ss R M 0 wt wv U N) (ha : a < 16) (hr : r < 8) (hb : bt sd r = false) : dq_PI sd (ws ++ [(7, tg, nI r, x, y, z)]) ls (ss ++ [(nI a, v, 0)]) R M 0 wt wv U (upd N a (U r)) := by
  obtain ⟨a', b, c, d, e, f, g⟩ := I
  have z2 : dq_nu (dq_Z ws ls ss R).2.1 = 0 := by rw [dq_Z, (dq_fo_cnt ws ls ss R).2.1]; omega
  rw [if_pos rfl] at f
  have zz : dq_Z (ws ++ [(7, tg, nI r, x, y, z)]) ls (ss ++ [(nI a, v, 0)]) R = ((dq_Z ws ls ss R).1, (dq_Z ws ls ss R).2.1 ++ [(nI a, U r, 1)], (dq_Z ws ls ss R).2.2) := by
    have e0 := dq_fo_ss (s := (nI a, v, 0)) ws ls ss R (by omega)
    unfold dq_Z at z2 f ⊢
    rw [List.foldl_append, e0, List.foldl_cons, List.foldl_nil, dq_ex7 rfl]
    dsimp only
    rw [dq_fil_full _ z2, dq_src, if_pos (nI_pos' (by omega)), nI_clamp (by omega), ← f]
    rfl
  refine ⟨fun w hw => ?_, ?_, ?_, fun s hs => ?_, fun h => absurd h (by omega), ?_, ?_⟩
  · rcases List.mem_append.mp hw with hw | hw
    · exact a' w hw
    · rw [List.mem_singleton.mp hw]
      exact Or.inr (Or.inl ⟨rfl, r, hr, rfl, hb⟩)
  · rw [dq_nl_app, if_neg dq_n7_6, b]; rfl
  · rw [dq_nst_app, if_pos rfl, dq_nu_app, if_pos rfl, c]
  · rcases List.mem_append.mp hs with hs | hs
    · exact d s hs
    · rw [List.mem_singleton.mp hs]; exact ⟨a, ha, rfl⟩
  · rw [zz, if_pos rfl, f]
  · rw [zz, dq_cm_app, g]
    dsimp only
    rw [nI_clamp (by omega)]
theorem dq_pi_arO {t : Nat} {v : Int32} (I : dq_PI sd ws ls ss R M 0 wt wv U N) (hb : bt sd t = true) : dq_PI sd ws ls ss (upd R t v) M 0 wt wv (upd U t v) N := by
  obtain ⟨a', b, c, d, e, f, g⟩ := I
  have zz : dq_Z ws ls ss (upd R t v) = ((dq_Z ws ls ss R).1, (dq_Z ws ls ss R).2.1, upd (dq_Z ws ls ss R).2.2 t v) := dq_fo_upd hb ws ls ss R a'
  refine ⟨a', b, c, d, fun h => absurd h (by omega), ?_, ?_⟩
  · rw [zz, if_pos rfl, f, if_pos rfl]
  · rw [zz, g]
theorem dq_pi_arE {o t : Nat} {lr lv rr rv : Int32} (I : dq_PI sd ws ls ss R M 0 wt wv U N) (ho : o ≤ 5) (ht : t < 8) (hb : bt sd t = false) (hl : dq_sr sd lr) (hr : dq_sr sd rr) : dq_PI sd (ws ++ [(nI o, nI t, lr, lv, rr, rv)]) ls ss R M 0 wt wv (upd U t (dq_cmp (nI o) (dq_src lr lv U) (dq_src rr rv U))) N := by
  obtain ⟨a', b, c, d, e, f, g⟩ := I
  rw [if_pos rfl] at f
  have zz : dq_Z (ws ++ [(nI o, nI t, lr, lv, rr, rv)]) ls ss R = ((dq_Z ws ls ss R).1, (dq_Z ws ls ss R).2.1, upd U t (dq_cmp (nI o) (dq_src lr lv U) (dq_src rr rv U))) := by
    unfold dq_Z at f ⊢
    rw [List.foldl_append, List.foldl_cons, List.foldl_nil, dq_exA (dq_o67 ho).1 (dq_o67 ho).2, ← f]
    dsimp only
    rw [nI_clamp (by omega)]
  refine ⟨fun w hw => ?_, ?_, ?_, d, fun h => absurd h (by omega), ?_, ?_⟩
  · rcases List.mem_append.mp hw with hw | hw
    · exact a' w hw
    · rw [List.mem_singleton.mp hw]
      exact Or.inr (Or.inr ⟨o, ho, rfl, ⟨t, ht, rfl, hb⟩, hl, hr⟩)
  · rw [dq_nl_app, if_neg (dq_o67 ho).1, b]; rfl
  · rw [dq_nst_app, if_neg (dq_o67 ho).2, c]; rfl
  · rw [zz, if_pos rfl]
  · rw [zz, g]
end
/-! ring buffers of four -/
def dq_vw {α : Type} (g : Nat → α) : Nat → Nat → List α
  | _, 0 => []
  | h, n + 1 => g h :: dq_vw g ((h + 1) % 4) n
theorem dq_vw_push {α : Type} {g g' : Nat → α} : ∀ n h, h < 4 → n ≤ 3 → (∀ j, j ≠ (h + n) % 4 → g' j = g j) → dq_vw g' h (n + 1) = dq_vw g h n ++ [g' ((h + n) % 4)] := by
  intro n
  induction n with
  | zero =>
    intro h hh _ _
    rw [dq_vw, dq_vw, dq_vw, Nat.add_zero, Nat.mod_eq_of_lt hh]
    rfl
  | succ n ih =>
    intro h hh hn hg
    have e : ((h + 1) % 4 + n) % 4 = (h + (n + 1)) % 4 := by omega
    have := ih ((h + 1) % 4) (by omega) (by omega) (by rw [e]; exact hg)
    rw [dq_vw, this, e, hg h (by omega), dq_vw]
    rfl
theorem dq_vw_len {α : Type} {g : Nat → α} : ∀ n h, (dq_vw g h n).length = n := by
  intro n
  induction n with
  | zero => intro h; rfl
  | succ n ih => intro h; rw [dq_vw, List.length_cons, ih]
theorem dq_vw_mem {α : Type} {g : Nat → α} {x : α} : ∀ n h, h < 4 → (x ∈ dq_vw g h n ↔ ∃ i, i < n ∧ x = g ((h + i) % 4)) := by
  intro n
  induction n with
  | zero => intro h _; simp [dq_vw]
  | succ n ih =>
    intro h hh
    rw [dq_vw, List.mem_cons, ih _ (by omega)]
    constructor
    · rintro (e | ⟨i, hi, e⟩)
      · exact ⟨0, by omega, by rw [Nat.add_zero, Nat.mod_eq_of_lt hh]; exact e⟩
      · exact ⟨i + 1, by omega, by rw [e]; congr 1; omega⟩
    · rintro ⟨i, hi, e⟩
      cases i with
      | zero => left; rw [Nat.add_zero, Nat.mod_eq_of_lt hh] at e; exact e
      | succ i => right; exact ⟨i, by omega, by rw [e]; congr 1; omega⟩
theorem dq_vw_ext {α : Type} {g g' : Nat → α} : ∀ n h, h < 4 → n ≤ 4 → (∀ i, i < n → g' ((h + i) % 4) = g ((h + i) % 4)) → dq_vw g' h n = dq_vw g h n := by
  intro n
  induction n with
  | zero => intro h _ _ _; rfl
  | succ n ih =>
    intro h hh hn hg
    rw [dq_vw, dq_vw]
    have h0 := hg 0 (by omega)
    rw [Nat.add_zero, Nat.mod_eq_of_lt hh] at h0
    rw [h0, ih _ (by omega) (by omega) (fun i hi => by
      have := hg (i + 1) (by omega)
      rw [show ((h + 1) % 4 + i) % 4 = (h + (i + 1)) % 4 from by omega]
      exact this)]
theorem dq_vw_fil {g : Nat → dq_S} {v : Int32} : ∀ n h, h < 4 → n ≤ 4 → 0 < dq_nu (dq_vw g h n) → ∃ j, j < n ∧ (∀ i, i < j → ¬ (g ((h + i) % 4)).2.2 = 0) ∧ (g ((h + j) % 4)).2.2 = 0 ∧ ∀ g' : Nat → dq_S, (∀ i, i ≠ (h + j) % 4 → g' i = g i) → g' ((h + j) % 4) = ((g ((h + j) % 4)).1, v, 1) → dq_vw g' h n = dq_fil v (dq_vw g h n) := by
  intro n
  induction n with
  | zero => intro h _ _ h0; exact absurd h0 (by simp [dq_vw, dq_nu])
  | succ n ih =>
    intro h hh hn h0
    rw [dq_vw, dq_nu] at h0
    by_cases hz : (g h).2.2 = 0
    · refine ⟨0, by omega, fun i hi => by omega, ?_, fun g' h1 h2 => ?_⟩
      · rw [Nat.add_zero, Nat.mod_eq_of_lt hh]; exact hz
      · rw [Nat.add_zero, Nat.mod_eq_of_lt hh] at h1 h2
        rw [dq_vw, dq_vw, dq_fil, if_pos hz, h2, dq_vw_ext n _ (by omega) (by omega) (fun i hi => h1 _ (by omega))]
    · rw [if_neg hz] at h0
      obtain ⟨j, hj, a, b, c⟩ := ih ((h + 1) % 4) (by omega) (by omega) (by omega)
      have e : ∀ i, ((h + 1) % 4 + i) % 4 = (h + (i + 1)) % 4 := fun i => by omega
      refine ⟨j + 1, by omega, fun i hi => ?_, ?_, fun g' h1 h2 => ?_⟩
      · cases i with
        | zero => rw [Nat.add_zero, Nat.mod_eq_of_lt hh]; exact hz
        | succ i => have := a i (by omega); rw [e] at this; exact this
      · rw [e] at b; exact b
      · rw [e] at c
        rw [dq_vw, dq_vw, dq_fil, if_neg hz, c g' h1 h2, h1 h (by omega)]
/-- a queue's picture -/
def dq_Q {α : Type} (g : Nat → α) (D h k : Nat) (l : List α) : Prop := h < 4 ∧ k ≤ D ∧ D ≤ 4 ∧ dq_vw g h k = l
theorem dq_Q_nil {α : Type} {g : Nat → α} {D h k : Nat} (q : dq_Q g D h k []) : k = 0 := by
  have := dq_vw_len (g := g) k h
  rw [q.2.2.2] at this
  exact this.symm
theorem dq_Q_len {α : Type} {g : Nat → α} {D h k : Nat} {l : List α} (q : dq_Q g D h k l) : l.length = k := by
  rw [← q.2.2.2, dq_vw_len]
theorem dq_Q_cons {α : Type} {g : Nat → α} {D h k : Nat} {a : α} {t : List α} (q : dq_Q g D h k (a :: t)) : ∃ k', k = k' + 1 ∧ g h = a ∧ dq_Q g D ((h + 1) % 4) k' t := by
  obtain ⟨h1, h2, h3, h4⟩ := q
  cases k with
  | zero => rw [dq_vw] at h4; cases h4
  | succ k =>
    rw [dq_vw] at h4
    injection h4 with h5 h6
    exact ⟨k, rfl, h5, by omega, by omega, h3, h6⟩
theorem dq_Q_push {α : Type} {g g' : Nat → α} {D h k : Nat} {l : List α} {x : α} (q : dq_Q g D h k l) (hk : k < D) (hg : ∀ j, j ≠ (h + k) % 4 → g' j = g j) (hx : g' ((h + k) % 4) = x) : dq_Q g' D h (k + 1) (l ++ [x]) := by
  obtain ⟨h1, h2, h3, h4⟩ := q
  refine ⟨h1, hk, h3, ?_⟩
  rw [dq_vw_push k h h1 (by omega) hg, h4, hx]
theorem dq_Q_mem {α : Type} {g : Nat → α} {D h k : Nat} {l : List α} {x : α} (q : dq_Q g D h k l) : x ∈ l ↔ ∃ i, i < k ∧ x = g ((h + i) % 4) := by
  rw [← q.2.2.2]
  exact dq_vw_mem k h q.1
def dq_gW (wo wg lr lv rr rv : Nat → Int32) : Nat → dq_W := fun j => (wo j, wg j, lr j, lv j, rr j, rv j)
def dq_gL (ld lw : Nat → Int32) : Nat → dq_LD := fun j => (ld j, lw j)
def dq_gS (sa sv sf : Nat → Int32) : Nat → dq_S := fun j => (sa j, sv j, sf j)
theorem dq_mask {a b : Nat} (h : a + b < 2 ^ 31) : (nI a + nI b) &&& 3 = nI ((a + b) % 4) := by
  rw [nI_add, pk_andN (by omega) 2 (by decide)]
theorem dq_mask1 {a : Nat} (h : a < 2 ^ 30) : (nI a + 1) &&& 3 = nI ((a + 1) % 4) := by
  rw [nI_1, pk_andN (by omega) 2 (by decide)]
/-- how long the head still waits -/
def dq_T (ws : List dq_W) (ls : List dq_LD) (nw : Nat) : Nat := match ws, ls with
  | w :: _, l :: _ => if w.1 = 6 then l.1.toNatClampNeg - nw else 0
  | _, _ => 0
def dq_IT (nw : Nat) (ls : List dq_LD) : Prop := ∀ l, l ∈ ls → ∃ r, r ≤ nw + 6 ∧ l.1 = nI r
theorem dq_T_le {ws : List dq_W} {ls : List dq_LD} {nw : Nat} (h : dq_IT nw ls) (hn : nw ≤ 100000) : dq_T ws ls nw ≤ 6 := by
  unfold dq_T
  split
  · rename_i w _ l _
    split
    · obtain ⟨r, hr, e⟩ := h l (List.mem_cons_self)
      rw [e, nI_clamp (by omega)]; omega
    · omega
  · omega
end
section
/-! X: wellFormed, sliceOfAddresses -/
def dq_WF (oc fy : Nat → Int32) (n : Nat) : Prop := dq_bal oc 2 n 0 0 = true ∧ dq_SK oc fy n
def dq_sk1 (oc fy : Nat → Int32) (n j : Nat) : Prop := j + (fy j).toNatClampNeg < n ∧ dq_bal oc 24 (fy j).toNatClampNeg (j + 1) 0 = true
section
variable {n : Nat} {D la sd pl xd ol wc wt wv nw wh wn lh ln sh sn : Int32} {oc fx fy fz R M lS lL wo wg lr lv rr rv ld lw sa sv sf : Nat → Int32}
theorem dq_xsk26 {post : Int32 → Prop} {last : Nat} (hl : last < n) (hn : n ≤ 24) : ∀ k i o N, i + k = last + 1 → k < N → o + k ≤ 24 → (dq_bal oc 24 k i o = true → post 1) → (¬ dq_bal oc 24 k i o = true → post 0) → wX_skipBalanced_26 post (nI last) (nI n) D la sd pl xd ol wc wt wv nw wh wn lh ln sh sn oc fx fy fz R M lS lL wo wg lr lv rr rv ld lw sa sv sf N (nI o) (nI i) := by
  intro k
  induction k with
  | zero =>
    intro i o N hi hN ho hT hF
    obtain ⟨N, rfl⟩ : ∃ m, N = m + 1 := ⟨N - 1, by omega⟩
    refine br_t (nI_lt (by omega) (by omega)) (pk_eq o 0 (fun e => hT ?_) (fun e => hF ?_))
    · rw [dq_bal]; exact decide_eq_true e
    · rw [dq_bal]; simpa using e
  | succ k ih =>
    intro i o N hi hN ho hT hF
    obtain ⟨N, rfl⟩ : ∃ m, N = m + 1 := ⟨N - 1, by omega⟩
    have hc : (nI i).toNatClampNeg = i := nI_clamp (by omega)
    have hv : vp_in (nI i) 24 := vp_in_nI (by omega) (by omega)
    refine br_f (nI_nlt (by omega) (by omega)) (And.intro hv ?_)
    rw [hc]
    by_cases h9 : oc i = 9
    · have h10 := dq_n10 h9
      rw [dq_bal_9 h9] at hT hF
      refine br_t h9 (nm_r (nI_1 o) ?_)
      refine And.intro hv ?_
      rw [hc]
      refine br_f h10 ?_
      refine br_t (nI_pos' (by omega)) (nm_r (nI_1 i) ?_)
      exact ih (i + 1) (o + 1) N (by omega) (by omega) (by omega) (fun b => hT ⟨by omega, b⟩) (fun b => hF (fun z => b z.2))
    · refine br_f h9 ?_
      refine And.intro hv ?_
      rw [hc]
      by_cases h10 : oc i = 10
      · rw [dq_bal_10 h10] at hT hF
        refine br_t h10 ?_
        cases o with
        | zero =>
          refine nm_e ?_
          exact br_f (by decide) (hF (fun z => absurd z.1 (by omega)))
        | succ o =>
          refine nm_r (pk_m1 o) ?_
          refine br_t (nI_pos' (by omega)) (nm_r (nI_1 i) ?_)
          exact ih (i + 1) o N (by omega) (by omega) (by omega) (fun b => hT ⟨by omega, by omega, b⟩) (fun b => hF (fun z => b z.2.2))
      · rw [dq_bal_N h9 h10] at hT hF
        refine br_f h10 ?_
        refine br_t (nI_pos' (by omega)) (nm_r (nI_1 i) ?_)
        exact ih (i + 1) o N (by omega) (by omega) (by omega) (fun b => hT ⟨by omega, b⟩) (fun b => hF (fun z => b z.2))
theorem dq_xsk {post : Int32 → Prop} {p y : Nat} (hp : p < n) (hn : n ≤ 24) (hy : y ≤ 8) (ey : fy p = nI y) (hT : dq_sk1 oc fy n p → post 1) (hF : ¬ dq_sk1 oc fy n p → post 0) : wpX_skipBalanced post (nI n, D, la, sd, pl, xd, ol, wc, wt, wv, nw, wh, wn, lh, ln, sh, sn, oc, fx, fy, fz, R, M, lS, lL, wo, wg, lr, lv, rr, rv, ld, lw, sa, sv, sf) (nI p) := by
  have hc : (nI p).toNatClampNeg = p := nI_clamp (by omega)
  have hv : vp_in (nI p) 24 := vp_in_nI (by omega) (by omega)
  rw [dq_sk1, ey, nI_clamp (by omega)] at hT hF
  refine And.intro hv ?_
  rw [hc, ey]
  refine nm_r (nI_add p y) ?_
  refine pk_lt (p + y) n (fun h => ?_) (fun h => ?_)
  · refine nm_r (nI_1 p) ?_
    exact ⟨y + 1, dq_xsk26 h hn y (p + 1) 0 (y + 1) (by omega) (by omega) (by omega) (fun b => hT ⟨h, b⟩) (fun b => hF (fun z => b z.2))⟩
  · exact hF (fun z => by omega)
theorem dq_xwf4 {post : Int32 → Prop} (V : dq_V n oc fx fy fz) (hn : n ≤ 24) : ∀ k i o N, i + k = n → k < N → o ≤ 2 → ((dq_bal oc 2 k i o = true ∧ ∀ j, i ≤ j → j < n → oc j = 8 → dq_sk1 oc fy n j) → post 1) → (¬ (dq_bal oc 2 k i o = true ∧ ∀ j, i ≤ j → j < n → oc j = 8 → dq_sk1 oc fy n j) → post 0) → wX_wellFormed_4 post (nI n) D la sd pl xd ol wc wt wv nw wh wn lh ln sh sn oc fx fy fz R M lS lL wo wg lr lv rr rv ld lw sa sv sf N (nI o) (nI i) := by
  intro k
  induction k with
  | zero =>
    intro i o N hi hN ho hT hF
    obtain ⟨N, rfl⟩ : ∃ m, N = m + 1 := ⟨N - 1, by omega⟩
    refine br_t (nI_le (by omega) (by omega)) (pk_eq o 0 (fun e => hT ⟨?_, fun j h1 h2 => by omega⟩) (fun e => hF (fun z => ?_)))
    · rw [dq_bal]; exact decide_eq_true e
    · rw [dq_bal] at z; exact e (by simpa using z.1)
  | succ k ih =>
    intro i o N hi hN ho hT hF
    obtain ⟨N, rfl⟩ : ∃ m, N = m + 1 := ⟨N - 1, by omega⟩
    have hc : (nI i).toNatClampNeg = i := nI_clamp (by omega)
    have hv : vp_in (nI i) 24 := vp_in_nI (by omega) (by omega)
    have up : ∀ h8 : ¬ oc i = 8, (∀ j, i + 1 ≤ j → j < n → oc j = 8 → dq_sk1 oc fy n j) → (∀ j, i ≤ j → j < n → oc j = 8 → dq_sk1 oc fy n j) := fun h8 h j h1 h2 h3 => by
      rcases Nat.lt_or_ge i j with g | g
      · exact h j g h2 h3
      · have : j = i := by omega
        subst this; exact absurd h3 h8
    refine br_f (nI_ge (by omega) (by omega)) (And.intro hv ?_)
    rw [hc]
    by_cases h9 : oc i = 9
    · have h10 := dq_n10 h9
      have h8 : ¬ oc i = 8 := by rw [h9]; decide
      rw [dq_bal_9 h9] at hT hF
      refine br_t h9 (nm_r (nI_1 o) ?_)
      refine And.intro hv ?_
      rw [hc]
      refine br_f h10 ?_
      refine br_f (nI_pos (by omega)) ?_
      refine pk_le (o + 1) 2 (fun h => And.intro hv ?_) (fun h => hF (fun z => by omega))
      rw [hc]
      refine br_f h8 (nm_r (nI_1 i) ?_)
      exact ih (i + 1) (o + 1) N (by omega) (by omega) (by omega) (fun b => hT ⟨⟨h, b.1⟩, up h8 b.2⟩) (fun b => hF (fun z => b ⟨z.1.2, fun j h1 => z.2 j (by omega)⟩))
    · refine br_f h9 ?_
      refine And.intro hv ?_
      rw [hc]
      by_cases h10 : oc i = 10
      · have h8 : ¬ oc i = 8 := by rw [h10]; decide
        rw [dq_bal_10 h10] at hT hF
        refine br_t h10 ?_
        cases o with
        | zero =>
          refine nm_e ?_
          exact br_t (by decide) (hF (fun z => absurd z.1.1 (by omega)))
        | succ o =>
          refine nm_r (pk_m1 o) ?_
          refine br_f (nI_pos (by omega)) ?_
          refine pk_le o 2 (fun h => And.intro hv ?_) (fun h => by omega)
          rw [hc]
          refine br_f h8 (nm_r (nI_1 i) ?_)
          exact ih (i + 1) o N (by omega) (by omega) (by omega) (fun b => hT ⟨⟨by omega, by omega, b.1⟩, up h8 b.2⟩) (fun b => hF (fun z => b ⟨z.1.2.2, fun j h1 => z.2 j (by omega)⟩))
      · rw [dq_bal_N h9 h10] at hT hF
        refine br_f h10 ?_
        refine br_f (nI_pos (by omega)) ?_
        refine pk_le o 2 (fun h => And.intro hv ?_) (fun h => by omega)
        rw [hc]
        by_cases h8 : oc i = 8
        · refine br_t h8 ?_
          obtain ⟨q, hq, e, v1, v2, v3, v4, v5⟩ := V i (by omega)
          obtain ⟨y, hy1, hy8, ey⟩ := v4 (by rw [e, dq_e8 hq] at h8; exact h8)
          refine dq_xsk (by omega) hn hy8 ey (fun hs => ?_) (fun hs => ?_)
          · refine br_f (by decide) (nm_r (nI_1 i) ?_)
            refine ih (i + 1) o N (by omega) (by omega) (by omega) (fun b => hT ⟨⟨ho, b.1⟩, fun j h1 h2 h3 => ?_⟩) (fun b => hF (fun z => b ⟨z.1.2, fun j h1 => z.2 j (by omega)⟩))
            rcases Nat.lt_or_ge i j with g | g
            · exact b.2 j g h2 h3
            · have : j = i := by omega
              subst this; exact hs
          · exact br_t rfl (hF (fun z => hs (z.2 i (by omega) (by omega) h8)))
        · refine br_f h8 (nm_r (nI_1 i) ?_)
          exact ih (i + 1) o N (by omega) (by omega) (by omega) (fun b => hT ⟨⟨ho, b.1⟩, up h8 b.2⟩) (fun b => hF (fun z => b ⟨z.1.2, fun j h1 => z.2 j (by omega)⟩))
theorem dq_xwf {post : Int32 → Prop} (V : dq_V n oc fx fy fz) (hn : n ≤ 24) (hT : dq_WF oc fy n → post 1) (hF : ¬ dq_WF oc fy n → post 0) : wpX_wellFormed post (nI n, D, la, sd, pl, xd, ol, wc, wt, wv, nw, wh, wn, lh, ln, sh, sn, oc, fx, fy, fz, R, M, lS, lL, wo, wg, lr, lv, rr, rv, ld, lw, sa, sv, sf) :=
  ⟨n + 1, dq_xwf4 V hn n 0 0 (n + 1) (by omega) (by omega) (by omega) (fun b => hT ⟨b.1, fun i hi h8 => b.2 i (by omega) hi h8⟩) (fun b => hF (fun z => b ⟨z.1, fun j _ h2 h3 => z.2 j h2 h3⟩))⟩
theorem dq_xs75 {post : Int32 → Prop} {J : Int32 → Int32 → Prop} {x2 : Int32} (hn : n ≤ 24) : ∀ k i s N, i + k = n → k < N → J (dq_fo (dq_px oc fx fy fz) k i s) (x2 + 1) → wX_sliceOfAddresses_75 post J x2 (nI n) D la sd pl xd ol wc wt wv nw wh wn lh ln sh sn oc fx fy fz R M lS lL wo wg lr lv rr rv ld lw sa sv sf N s (nI i) := by
  intro k
  induction k with
  | zero =>
    intro i s N hi hN hJ
    obtain ⟨N, rfl⟩ : ∃ m, N = m + 1 := ⟨N - 1, by omega⟩
    exact br_t (nI_le (by omega) (by omega)) (nm_e hJ)
  | succ k ih =>
    intro i s N hi hN hJ
    obtain ⟨N, rfl⟩ : ∃ m, N = m + 1 := ⟨N - 1, by omega⟩
    have hc : (nI i).toNatClampNeg = i := nI_clamp (by omega)
    have hv : vp_in (nI i) 24 := vp_in_nI (by omega) (by omega)
    have IH : ∀ s', J (dq_fo (dq_px oc fx fy fz) k (i + 1) s') (x2 + 1) → wX_sliceOfAddresses_75 post J x2 (nI n) D la sd pl xd ol wc wt wv nw wh wn lh ln sh sn oc fx fy fz R M lS lL wo wg lr lv rr rv ld lw sa sv sf N s' (nI (i + 1)) := fun s' h => ih (i + 1) s' N (by omega) (by omega) h
    rw [dq_fo] at hJ
    refine br_f (nI_ge (by omega) (by omega)) (And.intro hv ?_)
    rw [hc]
    refine nm_e ?_
    by_cases h6 : 6 < oc i
    · rw [dq_px, if_pos h6] at hJ
      exact br_t h6 (nm_r (nI_1 i) (IH s hJ))
    · refine br_f h6 (And.intro hv ?_)
      by_cases hb : ((s >>> (fx i &&& 31)) &&& 1) = 0
      · rw [dq_px, if_neg h6, if_pos hb] at hJ
        exact br_t hb (nm_r (nI_1 i) (IH s hJ))
      · refine br_f hb (And.intro hv (nm_e ?_))
        by_cases h4 : 4 < oc i
        · rw [dq_px, if_neg h6, if_neg hb, if_pos h4] at hJ
          exact br_t h4 (nm_r (nI_1 i) (IH _ hJ))
        · rw [dq_px, if_neg h6, if_neg hb, if_neg h4] at hJ
          exact br_f h4 (And.intro hv (nm_e (nm_r (nI_1 i) (IH _ hJ))))
theorem dq_xs67 {post : Int32 → Prop} (hn : n ≤ 24) : ∀ k p s N, p + k = 8 → k < N → post (dq_it (dq_fo (dq_px oc fx fy fz) n 0) k s) → wX_sliceOfAddresses_67 post (nI n) D la sd pl xd ol wc wt wv nw wh wn lh ln sh sn oc fx fy fz R M lS lL wo wg lr lv rr rv ld lw sa sv sf N s (nI p) := by
  intro k
  induction k with
  | zero =>
    intro p s N hp hN h
    obtain ⟨N, rfl⟩ : ∃ m, N = m + 1 := ⟨N - 1, by omega⟩
    exact br_t (nI_le (a := 8) (by omega) (by omega)) h
  | succ k ih =>
    intro p s N hp hN h
    obtain ⟨N, rfl⟩ : ∃ m, N = m + 1 := ⟨N - 1, by omega⟩
    refine br_f (nI_ge (b := 8) (by omega) (by omega)) ⟨n + 1, ?_⟩
    refine dq_xs75 hn n 0 s (n + 1) (by omega) (by omega) ?_
    rw [nI_1]
    exact ih (p + 1) _ N (by omega) (by omega) h
theorem dq_xs4 {post : Int32 → Prop} (hn : n ≤ 24) : ∀ k i s N, i + k = n → k < N → post (dq_it (dq_fo (dq_px oc fx fy fz) n 0) 8 (dq_fo (dq_pb oc fx fy) k i s)) → wX_sliceOfAddresses_4 post (nI n) D la sd pl xd ol wc wt wv nw wh wn lh ln sh sn oc fx fy fz R M lS lL wo wg lr lv rr rv ld lw sa sv sf N s (nI i) := by
  intro k
  induction k with
  | zero =>
    intro i s N hi hN h
    obtain ⟨N, rfl⟩ : ∃ m, N = m + 1 := ⟨N - 1, by omega⟩
    exact br_t (nI_le (by omega) (by omega)) ⟨9, dq_xs67 hn 8 0 s 9 (by omega) (by omega) h⟩
  | succ k ih =>
    intro i s N hi hN h
    obtain ⟨N, rfl⟩ : ∃ m, N = m + 1 := ⟨N - 1, by omega⟩
    have hc : (nI i).toNatClampNeg = i := nI_clamp (by omega)
    have hv : vp_in (nI i) 24 := vp_in_nI (by omega) (by omega)
    have IH : ∀ s', post (dq_it (dq_fo (dq_px oc fx fy fz) n 0) 8 (dq_fo (dq_pb oc fx fy) k (i + 1) s')) → wX_sliceOfAddresses_4 post (nI n) D la sd pl xd ol wc wt wv nw wh wn lh ln sh sn oc fx fy fz R M lS lL wo wg lr lv rr rv ld lw sa sv sf N s' (nI (i + 1)) := fun s' h => ih (i + 1) s' N (by omega) (by omega) h
    rw [dq_fo] at h
    refine br_f (nI_ge (by omega) (by omega)) (And.intro hv ?_)
    rw [hc]
    refine nm_e ?_
    by_cases h6 : oc i = 6
    · have h8 : ¬ oc i = 8 := by rw [h6]; decide
      rw [dq_pb, if_pos (Or.inl h6)] at h
      refine br_t h6 (And.intro hv ?_)
      rw [hc]
      refine nm_e (br_f h8 (nm_r (nI_1 i) (IH _ h)))
    · refine br_f h6 ?_
      by_cases h7 : oc i = 7
      · have h8 : ¬ oc i = 8 := by rw [h7]; decide
        rw [dq_pb, if_pos (Or.inr h7)] at h
        refine br_t h7 (And.intro hv ?_)
        rw [hc]
        refine nm_e (br_f h8 (nm_r (nI_1 i) (IH _ h)))
      · refine br_f h7 ?_
        have h67 : ¬ (oc i = 6 ∨ oc i = 7) := fun z => z.elim h6 h7
        by_cases h8 : oc i = 8
        · rw [dq_pb, if_neg h67, if_pos h8] at h
          refine br_t h8 (And.intro hv ?_)
          rw [hc]
          exact nm_e (nm_r (nI_1 i) (IH _ h))
        · rw [dq_pb, if_neg h67, if_neg h8] at h
          exact br_f h8 (nm_r (nI_1 i) (IH _ h))
theorem dq_xsl {post : Int32 → Prop} (hn : n ≤ 24) (h : post (dq_slX n oc fx fy fz)) : wpX_sliceOfAddresses post (nI n, D, la, sd, pl, xd, ol, wc, wt, wv, nw, wh, wn, lh, ln, sh, sn, oc, fx, fy, fz, R, M, lS, lL, wo, wg, lr, lv, rr, rv, ld, lw, sa, sv, sf) :=
  ⟨n + 1, dq_xs4 hn n 0 0 (n + 1) (by omega) (by omega) h⟩
end
end
section
/-! Y: wellFormed, addressSide -/
theorem dq_cj_1 {t o x y s : Int32} (h : t < o) : dq_cj t o x y s = s := by rw [dq_cj, if_pos h]
theorem dq_cj_2 {t o x y s : Int32} (h : ¬ t < o) (g : ((s >>> (x &&& 31)) &&& 1) = 1) : dq_cj t o x y s = s ||| ((1 : Int32) <<< (y &&& 31)) := by rw [dq_cj, if_neg h, if_pos g]
theorem dq_cj_3 {t o x y s : Int32} (h : ¬ t < o) (g : ¬ ((s >>> (x &&& 31)) &&& 1) = 1) : dq_cj t o x y s = s := by rw [dq_cj, if_neg h, if_neg g]
section
variable {n : Nat} {oc ax ay fz R M L : Nat → Int32}
theorem dq_yb6 {post : Int32 → Prop} {to m : Nat} (ht : to ≤ 24) (hm : m ≤ 24) : ∀ k i o N, i + k = to → k < N → o ≤ m → (dq_bal oc m k i o = true → post 1) → (¬ dq_bal oc m k i o = true → post 0) → wY_balanced_6 post (nI to) (nI m) (nI n) oc ax ay fz R M L N (nI o) (nI i) := by
  intro k
  induction k with
  | zero =>
    intro i o N hi hN ho hT hF
    obtain ⟨N, rfl⟩ : ∃ m, N = m + 1 := ⟨N - 1, by omega⟩
    refine br_t (nI_le (by omega) (by omega)) (pk_eq o 0 (fun e => hT ?_) (fun e => hF ?_))
    · rw [dq_bal]; exact decide_eq_true e
    · rw [dq_bal]; simpa using e
  | succ k ih =>
    intro i o N hi hN ho hT hF
    obtain ⟨N, rfl⟩ : ∃ m, N = m + 1 := ⟨N - 1, by omega⟩
    have hc : (nI i).toNatClampNeg = i := nI_clamp (by omega)
    have hv : vp_in (nI i) 24 := vp_in_nI (by omega) (by omega)
    refine br_f (nI_ge (by omega) (by omega)) (And.intro hv ?_)
    rw [hc]
    by_cases h9 : oc i = 9
    · have h10 := dq_n10 h9
      rw [dq_bal_9 h9] at hT hF
      refine br_t h9 (nm_r (nI_1 o) ?_)
      refine And.intro hv ?_
      rw [hc]
      refine br_f h10 ?_
      refine br_f (nI_pos (by omega)) (pk_le (o + 1) m (fun h => nm_r (nI_1 i) ?_) (fun h => hF (fun z => by omega)))
      exact ih (i + 1) (o + 1) N (by omega) (by omega) h (fun b => hT ⟨h, b⟩) (fun b => hF (fun z => b z.2))
    · refine br_f h9 ?_
      refine And.intro hv ?_
      rw [hc]
      by_cases h10 : oc i = 10
      · rw [dq_bal_10 h10] at hT hF
        refine br_t h10 ?_
        cases o with
        | zero =>
          refine nm_e ?_
          exact br_t (by decide) (hF (fun z => absurd z.1 (by omega)))
        | succ o =>
          refine nm_r (pk_m1 o) ?_
          refine br_f (nI_pos (by omega)) (pk_le o m (fun h => nm_r (nI_1 i) ?_) (fun h => by omega))
          exact ih (i + 1) o N (by omega) (by omega) h (fun b => hT ⟨by omega, h, b⟩) (fun b => hF (fun z => b z.2.2))
      · rw [dq_bal_N h9 h10] at hT hF
        refine br_f h10 ?_
        refine br_f (nI_pos (by omega)) (pk_le o m (fun h => nm_r (nI_1 i) ?_) (fun h => by omega))
        exact ih (i + 1) o N (by omega) (by omega) h (fun b => hT ⟨h, b⟩) (fun b => hF (fun z => b z.2))
theorem dq_yb {post : Int32 → Prop} {i k m : Nat} (ht : i + k ≤ 24) (hm : m ≤ 24) (hT : dq_bal oc m k i 0 = true → post 1) (hF : ¬ dq_bal oc m k i 0 = true → post 0) : wpY_balanced post (nI n, oc, ax, ay, fz, R, M, L) (nI i) (nI (i + k)) (nI m) :=
  ⟨k + 1, dq_yb6 ht hm k i 0 (k + 1) rfl (by omega) (by omega) hT hF⟩
theorem dq_yw17 {post : Int32 → Prop} (V : dq_V n oc ax ay fz) (hn : n ≤ 24) : ∀ k i N, i + k = n → k < N → ((∀ j, i ≤ j → j < n → oc j = 8 → dq_sk1 oc ay n j) → post 1) → (¬ (∀ j, i ≤ j → j < n → oc j = 8 → dq_sk1 oc ay n j) → post 0) → wY_wellFormed_17 post (nI n) oc ax ay fz R M L N (nI i) := by
  intro k
  induction k with
  | zero =>
    intro i N hi hN hT hF
    obtain ⟨N, rfl⟩ : ∃ m, N = m + 1 := ⟨N - 1, by omega⟩
    exact br_t (nI_le (by omega) (by omega)) (hT (fun j h1 h2 => by omega))
  | succ k ih =>
    intro i N hi hN hT hF
    obtain ⟨N, rfl⟩ : ∃ m, N = m + 1 := ⟨N - 1, by omega⟩
    have hc : (nI i).toNatClampNeg = i := nI_clamp (by omega)
    have hv : vp_in (nI i) 24 := vp_in_nI (by omega) (by omega)
    refine br_f (nI_ge (by omega) (by omega)) (And.intro hv ?_)
    rw [hc]
    by_cases h8 : oc i = 8
    · obtain ⟨q, hq, e, v1, v2, v3, v4, v5⟩ := V i (by omega)
      obtain ⟨y, hy1, hy8, ey⟩ := v4 (by rw [e, dq_e8 hq] at h8; exact h8)
      refine br_t h8 (And.intro hv ?_)
      rw [ey, nI_add, nI_1, nI_add]
      refine pk_lt (i + y) n (fun h => And.intro hv ?_) (fun h => hF (fun z => ?_))
      · refine dq_yb (m := 24) (by omega) (by omega) (fun b => ?_) (fun b => ?_)
        · refine br_f (by decide) (nm_e ?_)
          refine ih (i + 1) N (by omega) (by omega) (fun a => hT (fun j h1 h2 h3 => ?_)) (fun a => hF (fun z => a (fun j h1 => z j (by omega))))
          rcases Nat.lt_or_ge i j with g | g
          · exact a j g h2 h3
          · have : j = i := by omega
            subst this
            rw [dq_sk1, ey, nI_clamp (by omega)]
            exact ⟨h, b⟩
        · refine br_t rfl (hF (fun z => b ?_))
          have := z i (by omega) (by omega) h8
          rw [dq_sk1, ey, nI_clamp (by omega)] at this
          exact this.2
      · have := z i (by omega) (by omega) h8
        rw [dq_sk1, ey, nI_clamp (by omega)] at this
        omega
    · refine br_f h8 (nm_r (nI_1 i) ?_)
      refine ih (i + 1) N (by omega) (by omega) (fun a => hT (fun j h1 h2 h3 => ?_)) (fun a => hF (fun z => a (fun j h1 => z j (by omega))))
      rcases Nat.lt_or_ge i j with g | g
      · exact a j g h2 h3
      · have : j = i := by omega
        subst this; exact absurd h3 h8
theorem dq_ywf {post : Int32 → Prop} (V : dq_V n oc ax ay fz) (hn : n ≤ 24) (hT : dq_WF oc ay n → post 1) (hF : ¬ dq_WF oc ay n → post 0) : wpY_wellFormed post (nI n, oc, ax, ay, fz, R, M, L) := by
  have key : wpY_balanced (fun r_1 => (((r_1 = 0 → (post 0)) ∧ (¬ r_1 = 0 → (∃ n17 : Nat, wY_wellFormed_17 post (nI n) oc ax ay fz R M L n17 0))))) (nI n, oc, ax, ay, fz, R, M, L) (nI 0) (nI (0 + n)) (nI 2) := by
    refine dq_yb (by omega) (by omega) (fun b => br_f (by decide) ⟨n + 1, ?_⟩) (fun b => br_t rfl (hF (fun z => b z.1)))
    exact dq_yw17 V hn n 0 (n + 1) (by omega) (by omega) (fun a => hT ⟨b, fun i hi h8 => a i (by omega) hi h8⟩) (fun a => hF (fun z => a (fun j _ h2 h3 => z.2 j h2 h3)))
  rw [Nat.zero_add] at key
  exact key
theorem dq_yg4 {post : Int32 → Prop} (hn : n ≤ 24) : ∀ k i s N, i + k = n → k < N → post (dq_fo (dq_gr oc ax ay fz) k i s) → wY_grown_4 post (nI n) oc ax ay fz R M L N s (nI i) := by
  intro k
  induction k with
  | zero =>
    intro i s N hi hN h
    obtain ⟨N, rfl⟩ : ∃ m, N = m + 1 := ⟨N - 1, by omega⟩
    exact br_t (nI_le (by omega) (by omega)) h
  | succ k ih =>
    intro i s N hi hN h
    obtain ⟨N, rfl⟩ : ∃ m, N = m + 1 := ⟨N - 1, by omega⟩
    have hc : (nI i).toNatClampNeg = i := nI_clamp (by omega)
    have hv : vp_in (nI i) 24 := vp_in_nI (by omega) (by omega)
    have IH : ∀ s', post (dq_fo (dq_gr oc ax ay fz) k (i + 1) s') → wY_grown_4 post (nI n) oc ax ay fz R M L N s' (nI (i + 1)) := fun s' h => ih (i + 1) s' N (by omega) (by omega) h
    have k103 : ∀ s', post (dq_fo (dq_gr oc ax ay fz) k (i + 1) (dq_cj 4 (oc i) (ax i) (fz i) s')) → wY_grown_103 post (wY_grown_4 post (nI n) oc ax ay fz R M L N) s' (nI i) (nI n) oc ax ay fz R M L := by
      intro s' h
      refine And.intro hv ?_
      rw [hc]
      by_cases h4 : 4 < oc i
      · rw [dq_cj, if_pos h4] at h
        exact br_t h4 (nm_r (nI_1 i) (IH _ h))
      · refine br_f h4 (And.intro hv ?_)
        by_cases hb : ((s' >>> (ax i &&& 31)) &&& 1) = 1
        · rw [dq_cj, if_neg h4, if_pos hb] at h
          exact br_t hb (And.intro hv (nm_e (nm_r (nI_1 i) (IH _ h))))
        · rw [dq_cj, if_neg h4, if_neg hb] at h
          exact br_f hb (nm_r (nI_1 i) (IH _ h))
    have k67 : ∀ s', post (dq_fo (dq_gr oc ax ay fz) k (i + 1) (dq_cj 4 (oc i) (ax i) (fz i) (dq_cj 6 (oc i) (ax i) (ay i) s'))) → wY_grown_67 post (wY_grown_4 post (nI n) oc ax ay fz R M L N) s' (nI i) (nI n) oc ax ay fz R M L := by
      intro s' h
      refine And.intro hv ?_
      rw [hc]
      by_cases h6 : 6 < oc i
      · rw [dq_cj_1 h6] at h
        exact br_t h6 (k103 _ h)
      · refine br_f h6 (And.intro hv ?_)
        by_cases hb : ((s' >>> (ax i &&& 31)) &&& 1) = 1
        · rw [dq_cj_2 h6 hb] at h
          exact br_t hb (And.intro hv (nm_e (k103 _ h)))
        · rw [dq_cj_3 h6 hb] at h
          exact br_f hb (k103 _ h)
    rw [dq_fo, dq_gr] at h
    refine br_f (nI_ge (by omega) (by omega)) (And.intro hv ?_)
    rw [hc]
    by_cases h6 : oc i = 6
    · have h8 : ¬ oc i = 8 := by rw [h6]; decide
      rw [dq_pb, if_pos (Or.inl h6)] at h
      refine br_t h6 (And.intro hv ?_)
      rw [hc]
      refine nm_e (And.intro hv ?_)
      rw [hc]
      exact br_f h8 (k67 _ h)
    · refine br_f h6 (And.intro hv ?_)
      by_cases h7 : oc i = 7
      · have h8 : ¬ oc i = 8 := by rw [h7]; decide
        rw [dq_pb, if_pos (Or.inr h7)] at h
        refine br_t h7 (And.intro hv ?_)
        rw [hc]
        refine nm_e (And.intro hv ?_)
        rw [hc]
        exact br_f h8 (k67 _ h)
      · have h67 : ¬ (oc i = 6 ∨ oc i = 7) := fun z => z.elim h6 h7
        refine br_f h7 (And.intro hv ?_)
        rw [hc]
        by_cases h8 : oc i = 8
        · rw [dq_pb, if_neg h67, if_pos h8] at h
          exact br_t h8 (And.intro hv (nm_e (k67 _ h)))
        · rw [dq_pb, if_neg h67, if_neg h8] at h
          exact br_f h8 (k67 _ h)
theorem dq_ya4 {post : Int32 → Prop} (hn : n ≤ 24) : ∀ k p s N, p + k = 9 → k < N → post (dq_it (dq_fo (dq_gr oc ax ay fz) n 0) k s) → wY_addressSide_4 post (nI n) oc ax ay fz R M L N s (nI p) := by
  intro k
  induction k with
  | zero =>
    intro p s N hp hN h
    obtain ⟨N, rfl⟩ : ∃ m, N = m + 1 := ⟨N - 1, by omega⟩
    exact br_t (nI_le (a := 9) (by omega) (by omega)) h
  | succ k ih =>
    intro p s N hp hN h
    obtain ⟨N, rfl⟩ : ∃ m, N = m + 1 := ⟨N - 1, by omega⟩
    refine br_f (nI_ge (b := 9) (by omega) (by omega)) ⟨n + 1, ?_⟩
    refine dq_yg4 hn n 0 s (n + 1) (by omega) (by omega) ?_
    refine nm_r (nI_1 p) ?_
    exact ih (p + 1) _ N (by omega) (by omega) h
theorem dq_ysl {post : Int32 → Prop} (hn : n ≤ 24) (h : post (dq_slY n oc ax ay fz)) : wpY_addressSide post (nI n, oc, ax, ay, fz, R, M, L) :=
  ⟨10, dq_ya4 hn 9 0 0 10 (by omega) (by omega) h⟩
end
end
section
/-! Y: beginOf, step, run -/
theorem dq_cmp5 {o : Nat} (h : o = 0 ∨ o = 5) (p q : Int32) : dq_cmp (nI o) p q = p + q := by
  rcases h with rfl | rfl
  · rw [dq_cmp, if_neg (by decide), if_neg (by decide), if_neg (by decide), if_neg (by decide)]
  · rw [dq_cmp, if_neg (by decide), if_neg (by decide), if_neg (by decide), if_neg (by decide)]
theorem dq_bg_le (oc : Nat → Int32) : ∀ i k, dq_bg oc i k ≤ i := by
  intro i
  induction i with
  | zero => intro k; rw [dq_bg]; omega
  | succ i ih =>
    intro k
    rw [dq_bg]
    split
    · exact Nat.le_succ_of_le (ih _)
    · split
      · split
        · omega
        · exact Nat.le_succ_of_le (ih _)
      · exact Nat.le_succ_of_le (ih _)
section
variable {n : Nat} {oc ax ay fz R M L : Nat → Int32}
theorem dq_ybg {post : Int32 → Prop} : ∀ i k N, i ≤ 24 → k + i ≤ 100 → 1 ≤ k → i < N → post (nI (dq_bg oc i k)) → wY_beginOf_6 post (nI n) oc ax ay fz R M L N (nI k) (nI i - 1) := by
  intro i
  induction i with
  | zero =>
    intro k N _ _ _ hN h
    obtain ⟨N, rfl⟩ : ∃ m, N = m + 1 := ⟨N - 1, by omega⟩
    exact br_t (by decide) h
  | succ i ih =>
    intro k N hi hk h1 hN h
    obtain ⟨N, rfl⟩ : ∃ m, N = m + 1 := ⟨N - 1, by omega⟩
    have hc : (nI i).toNatClampNeg = i := nI_clamp (by omega)
    have hv : vp_in (nI i) 24 := vp_in_nI (by omega) (by omega)
    have em : nI i + (-1) = nI i - 1 := (Int32.sub_eq_add_neg _ _).symm
    rw [nI_pred]
    rw [dq_bg] at h
    refine br_f (nI_pos (by omega)) (And.intro hv ?_)
    rw [hc]
    by_cases h10 : oc i = 10
    · rw [if_pos h10] at h
      refine br_t h10 (nm_r (nI_1 k) ?_)
      refine And.intro hv ?_
      rw [hc]
      refine br_f (dq_n9 h10) ?_
      refine br_f (nI_ne0 (by omega) (by omega)) (nm_r em ?_)
      exact ih (k + 1) N (by omega) (by omega) (by omega) (by omega) h
    · rw [if_neg h10] at h
      refine br_f h10 ?_
      refine And.intro hv ?_
      rw [hc]
      by_cases h9 : oc i = 9
      · rw [if_pos h9] at h
        obtain ⟨k, rfl⟩ : ∃ m, k = m + 1 := ⟨k - 1, by omega⟩
        refine br_t h9 (nm_r (pk_m1 k) ?_)
        refine pk_eq k 0 (fun e => ?_) (fun e => nm_r em ?_)
        · rw [if_pos (by omega)] at h; exact h
        · rw [if_neg (by omega), Nat.add_sub_cancel] at h
          exact ih k N (by omega) (by omega) (by omega) (by omega) h
      · rw [if_neg h9] at h
        refine br_f h9 ?_
        refine br_f (nI_ne0 (by omega) (by omega)) (nm_r em ?_)
        exact ih k N (by omega) (by omega) (by omega) (by omega) h
theorem dq_ysum {post : Int32 → Prop} {o : Nat} {p q : Int32} (ho : o ≤ 4) (h : post (dq_cmp (nI o) p q)) : wpY_sum post (nI n, oc, ax, ay, fz, R, M, L) (nI o) p q := by
  have c : o = 0 ∨ o = 1 ∨ o = 2 ∨ o = 3 ∨ o = 4 := by omega
  rcases c with rfl | rfl | rfl | rfl | rfl
  · rw [dq_cmp5 (Or.inl rfl)] at h
    exact br_t rfl h
  · rw [dq_cmp, if_pos (by decide)] at h
    exact br_f (by decide) (br_t rfl h)
  · rw [dq_cmp, if_neg (by decide), if_pos (by decide)] at h
    exact br_f (by decide) (br_f (by decide) (br_t rfl h))
  · rw [dq_cmp, if_neg (by decide), if_neg (by decide), if_pos (by decide)] at h
    exact br_f (by decide) (br_f (by decide) (br_f (by decide) (br_t rfl h)))
  · rw [dq_cmp, if_neg (by decide), if_neg (by decide), if_neg (by decide), if_pos (by decide)] at h
    refine br_f (by decide) (br_f (by decide) (br_f (by decide) (br_f (by decide) ?_)))
    by_cases hq : q ≤ p
    · rw [if_pos hq] at h; exact br_t hq h
    · rw [if_neg hq] at h; exact br_f hq h
theorem dq_yst {post : Int32 → SY → Prop} {p : Nat} (V : dq_V n oc ax ay fz) (hp : p < n) (hn : n ≤ 24) (h : post (nI (dq_st oc ax ay fz p R M L).1) (nI n, oc, ax, ay, fz, (dq_st oc ax ay fz p R M L).2.1, (dq_st oc ax ay fz p R M L).2.2.1, (dq_st oc ax ay fz p R M L).2.2.2)) : wpY_step post (nI n, oc, ax, ay, fz, R, M, L) (nI p) := by
  have hc : (nI p).toNatClampNeg = p := nI_clamp (by omega)
  have hv : vp_in (nI p) 24 := vp_in_nI (by omega) (by omega)
  obtain ⟨o, ho, e, v1, v2, v3, v4, v5⟩ := V p hp
  have vx : o ≤ 8 → vp_in (ax p) 8 := fun h => by
    obtain ⟨x, hx, ex⟩ := v1 h
    rw [ex]; exact vp_in_nI hx (by omega)
  have vy : o ≤ 7 → vp_in (ay p) 8 := fun h => by
    obtain ⟨x, hx, ex⟩ := v2 h
    rw [ex]; exact vp_in_nI hx (by omega)
  have vz : o ≤ 4 → vp_in (fz p) 8 := fun h => by
    obtain ⟨x, hx, ex⟩ := v3 h
    rw [ex]; exact vp_in_nI hx (by omega)
  have va : vp_in ((R (ay p).toNatClampNeg + fz p) &&& 15) 16 := by
    rw [dq_adr_n]; exact vp_in_nI (dq_adr_lt _ _ _) (by omega)
  refine And.intro hv ?_
  rw [hc]
  refine nm_e ?_
  by_cases h4 : o ≤ 4
  · rw [dq_st5 e (by omega), if_neg (by rw [e, dq_e5 ho]; omega)] at h
    have l4 : ¬ 4 < oc p := by rw [e, dq_l4 ho]; omega
    refine br_f l4 (And.intro hv (And.intro hv (And.intro (vy (by omega)) (And.intro hv (And.intro (vz h4) ?_)))))
    rw [e] at h ⊢
    refine dq_ysum h4 (And.intro (vx (by omega)) (nm_e ?_))
    rw [nI_1]; exact h
  · have l4 : 4 < oc p := by rw [e, dq_l4 ho]; omega
    refine br_t l4 ?_
    by_cases h5 : o = 5
    · have e5 : oc p = 5 := by rw [e, h5]; rfl
      rw [dq_st5 e (by omega), if_pos e5, e, dq_cmp5 (Or.inr h5)] at h
      refine br_t e5 (And.intro hv (And.intro hv (And.intro (vy (by omega)) (And.intro hv (And.intro (vx (by omega)) (nm_e ?_))))))
      rw [nI_1]; exact h
    have e5 : ¬ oc p = 5 := by rw [e, dq_e5 ho]; exact h5
    refine br_f e5 ?_
    by_cases h6 : o = 6
    · have e6 : oc p = 6 := by rw [e, h6]; rfl
      rw [dq_st6 e6] at h
      refine br_t e6 (And.intro hv (And.intro hv (And.intro (vy (by omega)) (And.intro hv (And.intro va (And.intro (vx (by omega)) (nm_e ?_)))))))
      rw [nI_1]; exact h
    have e6 : ¬ oc p = 6 := by rw [e, dq_e6 ho]; exact h6
    refine br_f e6 ?_
    by_cases h7 : o = 7
    · have e7 : oc p = 7 := by rw [e, h7]; rfl
      rw [dq_st7 e7] at h
      refine br_t e7 (And.intro hv (And.intro (vy (by omega)) (And.intro hv (And.intro hv (And.intro (vx (by omega)) (And.intro va (nm_e ?_)))))))
      rw [nI_1]; exact h
    have e7 : ¬ oc p = 7 := by rw [e, dq_e7 ho]; exact h7
    refine br_f e7 ?_
    by_cases h8 : o = 8
    · have e8 : oc p = 8 := by rw [e, h8]; rfl
      obtain ⟨y, hy1, hy8, ey⟩ := v4 h8
      rw [dq_st8 e8] at h
      refine br_t e8 (And.intro hv (And.intro (vx (by omega)) ?_))
      by_cases hz : R (ax p).toNatClampNeg = 0
      · rw [if_pos hz, ey, nI_clamp (n := y) (by omega)] at h
        refine br_t hz (And.intro hv ?_)
        rw [ey, nI_1, nI_add]; exact h
      · rw [if_neg hz] at h
        refine br_f hz ?_
        refine br_f (by rw [e8]; decide) (br_f (by rw [e8]; decide) ?_)
        rw [nI_1]; exact h
    have e8 : ¬ oc p = 8 := by rw [e, dq_e8 ho]; exact h8
    refine br_f e8 ?_
    by_cases h9 : o = 9
    · have e9 : oc p = 9 := by rw [e, h9]; rfl
      rw [dq_st9 e9] at h
      refine br_t e9 (And.intro hv (And.intro hv ?_))
      rw [hc]
      refine nm_e ?_
      rw [nI_1]; exact h
    · have e10 : oc p = 10 := by rw [e]; exact (dq_e10 ho).mpr (by omega)
      rw [dq_st10 e10] at h
      refine br_f (dq_n9 e10) (br_t e10 ?_)
      have hb := dq_bg_le oc p 1
      have hcb : (nI (dq_bg oc p 1)).toNatClampNeg = dq_bg oc p 1 := nI_clamp (by omega)
      have hvb : vp_in (nI (dq_bg oc p 1)) 24 := vp_in_nI (by omega) (by omega)
      refine nm_e ⟨p + 1, dq_ybg p 1 (p + 1) (by omega) (by omega) (by omega) (by omega) ?_⟩
      refine And.intro hvb (And.intro hvb ?_)
      rw [hcb]
      refine nm_e (And.intro hvb ?_)
      rw [pk_us]
      by_cases hz : L (dq_bg oc p 1) - 1 ≤ 0
      · rw [if_pos hz] at h
        refine br_t hz ?_
        rw [nI_1]; exact h
      · rw [if_neg hz] at h
        refine br_f hz ?_
        rw [nI_1]; exact h
end
theorem dq_yrun {n NN : Nat} {oc fx fy fz ax ay : Nat → Int32} {c0 : dq_CS} {post : Int32 → SY → Prop} (V : dq_V n oc fx fy fz) (E : dq_EQ n oc fx fy ax ay) (hn : n ≤ 24) (hN : NN ≤ 864)
    (hlt : ∀ j, j < NN → (dq_run oc fx fy fz c0 j).1 < n) (he : (dq_run oc fx fy fz c0 NN).1 = n)
    (h : post (nI NN) (nI n, oc, ax, ay, fz, (dq_run oc fx fy fz c0 NN).2.1, (dq_run oc fx fy fz c0 NN).2.2.1, (dq_run oc fx fy fz c0 NN).2.2.2)) :
    ∀ k j F, j + k = NN → k < F → wY_run_16 post F (nI (dq_run oc fx fy fz c0 j).1) (nI j) (nI j) (nI n) oc ax ay fz (dq_run oc fx fy fz c0 j).2.1 (dq_run oc fx fy fz c0 j).2.2.1 (dq_run oc fx fy fz c0 j).2.2.2 := by
  intro k
  induction k with
  | zero =>
    intro j F hj hF
    obtain ⟨F, rfl⟩ : ∃ m, F = m + 1 := ⟨F - 1, by omega⟩
    have : j = NN := by omega
    subst this
    exact br_f (nI_ge (b := 4000) (by omega) (by omega)) (br_t (by rw [he]; exact nI_le (Nat.le_refl _) (by omega)) h)
  | succ k ih =>
    intro j F hj hF
    obtain ⟨F, rfl⟩ : ∃ m, F = m + 1 := ⟨F - 1, by omega⟩
    have hl := hlt j (by omega)
    refine br_f (nI_ge (b := 4000) (by omega) (by omega)) (br_f (nI_ge hl (by omega)) ?_)
    refine dq_yst (dq_V_eq V E) hl hn ?_
    rw [dq_st_eq V E hl]
    refine nm_r (nI_1 j) (nm_r (nI_1 j) ?_)
    exact ih (j + 1) F (by omega) (by omega)
end
section
/-! X: commitStore, executeStep -/
theorem dq_nb1 : vp_nar .boolean 1 = 1 := rfl
theorem dq_nb0 : vp_nar .boolean 0 = 0 := rfl
theorem dq_i8 : ∀ k, k < 32 → (nI k).toInt8.toInt32 = nI k := by decide +kernel
theorem dq_nby {k : Nat} (h : k < 32) : vp_nar .byte (nI k).toInt8.toInt32 = nI k := by rw [pk_vb, dq_i8 k h]
theorem dq_nm1 : vp_nar .byte (-1) = -1 := by rw [vp_nar_byte]; decide
theorem dq_nm1' : vp_nar .byte (-1 : Int32).toInt8.toInt32 = -1 := by rw [pk_vb]; decide
theorem dq_n60 : vp_nar .byte (6 : Int32).toInt8.toInt32 = 6 := by rw [pk_vb]; decide
theorem dq_n70 : vp_nar .byte (7 : Int32).toInt8.toInt32 = 7 := by rw [pk_vb]; decide
theorem dq_n00 : vp_nar .byte (0 : Int32).toInt8.toInt32 = 0 := by rw [pk_vb]; decide
/-- what an execute step does to the queues -/
def dq_EX (nw : Nat) (ws ws' : List dq_W) (ls ls' : List dq_LD) (ss ss' : List dq_S) : Prop :=
  (ws = [] ∧ ws' = [] ∧ ls' = ls ∧ ss' = ss) ∨ (0 < dq_T ws ls nw ∧ ws' = ws ∧ ls' = ls ∧ ss' = ss) ∨ (ws'.length + 1 = ws.length ∧ ss'.length = ss.length)
section
variable {n D la pl xd ol wc nw wh wn lh ln sh sn : Nat} {sd wt wv : Int32} {oc fx fy fz R M lS lL wo wg lr lv rr rv ld lw sa sv sf : Nat → Int32} {ws : List dq_W} {ls : List dq_LD} {ss : List dq_S} {U N : Nat → Int32}
theorem dq_xcommit {post : SX → Prop} (ps : dq_Q (dq_gS sa sv sf) D sh sn ss) (P : dq_PI sd ws ls ss R M wc wt wv U N)
    (h0 : (ss = [] ∨ ∃ s t, ss = s :: t ∧ s.2.2 = 0) → post (nI n, nI D, nI la, sd, nI pl, nI xd, nI ol, nI wc, wt, wv, nI nw, nI wh, nI wn, nI lh, nI ln, nI sh, nI sn, oc, fx, fy, fz, R, M, lS, lL, wo, wg, lr, lv, rr, rv, ld, lw, sa, sv, sf))
    (h1 : ∀ s t k, ss = s :: t → dq_Q (dq_gS sa sv sf) D ((sh + 1) % 4) k t → dq_PI sd ws ls t R (upd M s.1.toNatClampNeg s.2.1) wc wt wv U N → post (nI n, nI D, nI la, sd, nI pl, nI xd, nI ol, nI wc, wt, wv, nI nw, nI wh, nI wn, nI lh, nI ln, nI ((sh + 1) % 4), nI k, oc, fx, fy, fz, R, upd M s.1.toNatClampNeg s.2.1, lS, lL, wo, wg, lr, lv, rr, rv, ld, lw, sa, sv, sf)) : wpX_commitStore post (nI n, nI D, nI la, sd, nI pl, nI xd, nI ol, nI wc, wt, wv, nI nw, nI wh, nI wn, nI lh, nI ln, nI sh, nI sn, oc, fx, fy, fz, R, M, lS, lL, wo, wg, lr, lv, rr, rv, ld, lw, sa, sv, sf) := by
  cases ss with
  | nil =>
    have := dq_Q_nil ps
    subst this
    exact br_t rfl (h0 (Or.inl rfl))
  | cons s t =>
    have hh := ps.1
    have hk := ps.2.1
    have hD := ps.2.2.1
    obtain ⟨k, rfl, eg, q'⟩ := dq_Q_cons ps
    have hc : (nI sh).toNatClampNeg = sh := nI_clamp (by omega)
    have hv : vp_in (nI sh) 4 := vp_in_nI hh (by omega)
    have e1 : sa sh = s.1 := congrArg (fun z : dq_S => z.1) eg
    have e2 : sv sh = s.2.1 := congrArg (fun z : dq_S => z.2.1) eg
    have e3 : sf sh = s.2.2 := congrArg (fun z : dq_S => z.2.2) eg
    refine br_f (nI_ne0 (by omega) (by omega)) (And.intro hv ?_)
    rw [hc, e1, e2, e3]
    by_cases z : s.2.2 = 0
    · exact br_t z (h0 (Or.inr ⟨s, t, rfl, z⟩))
    · obtain ⟨a, ha, ea⟩ := P.2.2.2.1 s (List.mem_cons_self)
      refine br_f z (And.intro hv (And.intro hv (And.intro ?_ (nm_e (nm_r (dq_mask1 (by omega)) (nm_r (nI_pred k) (h1 s t k rfl q' (dq_pi_commit z P))))))))
      rw [ea]; exact vp_in_nI ha (by omega)
theorem dq_xfill {post : SX → Prop} {v : Int32} {j : Nat} (hh : sh < 4) (hj : j < sn) (hk : sn ≤ 4) (hF : ∀ i, i < j → ¬ sf ((sh + i) % 4) = 0) (hz : sf ((sh + j) % 4) = 0) (h : post (nI n, nI D, nI la, sd, nI pl, nI xd, nI ol, nI wc, wt, wv, nI nw, nI wh, nI wn, nI lh, nI ln, nI sh, nI sn, oc, fx, fy, fz, R, M, lS, lL, wo, wg, lr, lv, rr, rv, ld, lw, sa, upd sv ((sh + j) % 4) v, upd sf ((sh + j) % 4) 1)) :
    ∀ m k F, k + m = j → m < F → wX_fillOldestStore_2 post v (nI n) (nI D) (nI la) sd (nI pl) (nI xd) (nI ol) (nI wc) wt wv (nI nw) (nI wh) (nI wn) (nI lh) (nI ln) (nI sh) (nI sn) oc fx fy fz R M lS lL wo wg lr lv rr rv ld lw sa sv sf F (nI k) := by
  intro m
  induction m with
  | zero =>
    intro k F hkj hFu
    obtain ⟨F, rfl⟩ : ∃ m, F = m + 1 := ⟨F - 1, by omega⟩
    have : k = j := by omega
    subst this
    have hv : vp_in (nI ((sh + k) % 4)) 4 := vp_in_nI (by omega) (by omega)
    refine br_f (nI_ge (by omega) (by omega)) (nm_r (dq_mask (by omega)) (And.intro hv ?_))
    rw [nI_clamp (by omega), dq_nb1]
    exact br_t hz (And.intro hv (nm_e (And.intro hv (nm_e h))))
  | succ m ih =>
    intro k F hkj hFu
    obtain ⟨F, rfl⟩ : ∃ m, F = m + 1 := ⟨F - 1, by omega⟩
    have hv : vp_in (nI ((sh + k) % 4)) 4 := vp_in_nI (by omega) (by omega)
    refine br_f (nI_ge (by omega) (by omega)) (nm_r (dq_mask (by omega)) (And.intro hv ?_))
    rw [nI_clamp (by omega)]
    exact br_f (hF k (by omega)) (nm_r (nI_1 k) (ih (k + 1) F (by omega) (by omega)))
theorem dq_xcmp {post : Int32 → Prop} {o p q : Int32} (h : post (dq_cmp o p q)) : wpX_compute post (nI n, nI D, nI la, sd, nI pl, nI xd, nI ol, nI wc, wt, wv, nI nw, nI wh, nI wn, nI lh, nI ln, nI sh, nI sn, oc, fx, fy, fz, R, M, lS, lL, wo, wg, lr, lv, rr, rv, ld, lw, sa, sv, sf) o p q := by
  by_cases h1 : o = 1
  · rw [dq_cmp, if_pos h1] at h; exact br_t h1 h
  rw [dq_cmp, if_neg h1] at h
  refine br_f h1 ?_
  by_cases h2 : o = 2
  · rw [if_pos h2] at h; exact br_t h2 h
  rw [if_neg h2] at h
  refine br_f h2 ?_
  by_cases h3 : o = 3
  · rw [if_pos h3] at h; exact br_t h3 h
  rw [if_neg h3] at h
  refine br_f h3 ?_
  by_cases h4 : o = 4
  · rw [if_pos h4] at h
    refine br_t h4 ?_
    by_cases hq : q ≤ p
    · rw [if_pos hq] at h; exact br_t hq h
    · rw [if_neg hq] at h; exact br_f hq h
  · rw [if_neg h4] at h; exact br_f h4 h
theorem dq_ns_in {x : Int32} (h : dq_ns sd x) : vp_in x 8 := by
  obtain ⟨r, hr, e, _⟩ := h
  rw [e]; exact vp_in_nI hr (by omega)
theorem dq_sr_in {x : Int32} (h : dq_sr sd x) (h0 : 0 ≤ x) : vp_in x 8 := by
  rcases h with h | h
  · rw [h] at h0; exact absurd h0 (by decide)
  · exact dq_ns_in h
theorem dq_fil_len {v : Int32} : ∀ ss : List dq_S, (dq_fil v ss).length = ss.length := by
  intro ss
  have := congrArg List.length (dq_fil_map (v := v) ss)
  rw [List.length_map, List.length_map] at this
  exact this
theorem dq_xexec {post : SX → Prop} (hnw : nw ≤ 100000) (pw : dq_Q (dq_gW wo wg lr lv rr rv) D wh wn ws) (pl' : dq_Q (dq_gL ld lw) D lh ln ls) (ps : dq_Q (dq_gS sa sv sf) D sh sn ss) (P : dq_PI sd ws ls ss R M wc wt wv U N) (T : dq_IT nw ls)
    (H : ∀ wh' wn' lh' ln' R' sv' sf' ws' ls' ss', dq_Q (dq_gW wo wg lr lv rr rv) D wh' wn' ws' → dq_Q (dq_gL ld lw) D lh' ln' ls' → dq_Q (dq_gS sa sv' sf') D sh sn ss' → dq_PI sd ws' ls' ss' R' M wc wt wv U N → dq_IT nw ls' → dq_EX nw ws ws' ls ls' ss ss' → post (nI n, nI D, nI la, sd, nI pl, nI xd, nI ol, nI wc, wt, wv, nI nw, nI wh', nI wn', nI lh', nI ln', nI sh, nI sn, oc, fx, fy, fz, R', M, lS, lL, wo, wg, lr, lv, rr, rv, ld, lw, sa, sv', sf')) : wpX_executeStep post (nI n, nI D, nI la, sd, nI pl, nI xd, nI ol, nI wc, wt, wv, nI nw, nI wh, nI wn, nI lh, nI ln, nI sh, nI sn, oc, fx, fy, fz, R, M, lS, lL, wo, wg, lr, lv, rr, rv, ld, lw, sa, sv, sf) := by
  cases ws with
  | nil =>
    have := dq_Q_nil pw
    subst this
    exact br_t rfl (H wh 0 lh ln R sv sf [] ls ss pw pl' ps P T (Or.inl ⟨rfl, rfl, rfl, rfl⟩))
  | cons w t =>
    have hh := pw.1
    have hk := pw.2.1
    have hD := pw.2.2.1
    obtain ⟨k, rfl, eg, q'⟩ := dq_Q_cons pw
    have hc : (nI wh).toNatClampNeg = wh := nI_clamp (by omega)
    have hv : vp_in (nI wh) 4 := vp_in_nI hh (by omega)
    have e1 : wo wh = w.1 := congrArg (fun z : dq_W => z.1) eg
    have e2 : wg wh = w.2.1 := congrArg (fun z : dq_W => z.2.1) eg
    have e3 : lr wh = w.2.2.1 := congrArg (fun z : dq_W => z.2.2.1) eg
    have e4 : lv wh = w.2.2.2.1 := congrArg (fun z : dq_W => z.2.2.2.1) eg
    have e5 : rr wh = w.2.2.2.2.1 := congrArg (fun z : dq_W => z.2.2.2.2.1) eg
    have e6 : rv wh = w.2.2.2.2.2 := congrArg (fun z : dq_W => z.2.2.2.2.2) eg
    have ok := P.1 w (List.mem_cons_self)
    have lrok : dq_sr sd w.2.2.1 := by
      rcases ok with ⟨_, _, h⟩ | ⟨_, h⟩ | ⟨_, _, _, _, h, _⟩
      · exact Or.inl h
      · exact Or.inr h
      · exact h
    have key : wX_executeStep_56 post w.1 (dq_src w.2.2.1 w.2.2.2.1 R) (nI n) (nI D) (nI la) sd (nI pl) (nI xd) (nI ol) (nI wc) wt wv (nI nw) (nI wh) (nI (k + 1)) (nI lh) (nI ln) (nI sh) (nI sn) oc fx fy fz R M lS lL wo wg lr lv rr rv ld lw sa sv sf := by
      rcases ok with ⟨h6, ns, _⟩ | ⟨h7, ns⟩ | ⟨o, ho, eo, ns, s1, s2⟩
      · cases ls with
        | nil =>
          have := P.2.1
          rw [dq_nl, if_pos h6] at this
          simp at this
        | cons l u =>
          have hh' := pl'.1
          have hk' := pl'.2.1
          have hD' := pl'.2.2.1
          obtain ⟨k', rfl, eg', q''⟩ := dq_Q_cons pl'
          have hc' : (nI lh).toNatClampNeg = lh := nI_clamp (by omega)
          have hv' : vp_in (nI lh) 4 := vp_in_nI hh' (by omega)
          have g1 : ld lh = l.1 := congrArg (fun z : dq_LD => z.1) eg'
          have g2 : lw lh = l.2 := congrArg (fun z : dq_LD => z.2) eg'
          obtain ⟨r, hr, er⟩ := T l (List.mem_cons_self)
          refine br_t h6 (And.intro hv' ?_)
          rw [hc', hc, g1, g2, e2]
          by_cases hrd : l.1 ≤ nI nw
          · refine br_t hrd (And.intro hv (And.intro hv' (And.intro (dq_ns_in ns) (nm_e (nm_r (dq_mask1 (by omega)) (nm_r (nI_pred k') ?_))))))
            refine nm_r (dq_mask1 (by omega)) (nm_r (nI_pred k) ?_)
            exact H _ k _ k' _ sv sf t u ss q' q'' ps (dq_pi_exL h6 P) (fun x hx => T x (List.mem_cons_of_mem _ hx)) (Or.inr (Or.inr ⟨rfl, rfl⟩))
          · refine br_f hrd ?_
            refine H wh (k + 1) lh (k' + 1) R sv sf (w :: t) (l :: u) ss pw pl' ps P T (Or.inr (Or.inl ⟨?_, rfl, rfl, rfl⟩))
            rw [er, nI_leI (by omega) (by omega)] at hrd
            rw [dq_T, if_pos h6, er, nI_clamp (by omega)]
            omega
      · refine br_f (dq_n67 h7) (br_t h7 ?_)
        obtain ⟨hh', hk', hD', hvw⟩ := ps
        have hnu : 0 < dq_nu (dq_vw (dq_gS sa sv sf) sh sn) := by
          rw [hvw]
          have := P.2.2.1
          rw [dq_nst, if_pos h7] at this
          omega
        obtain ⟨j, hj, a, b, c⟩ := dq_vw_fil (v := dq_src w.2.2.1 w.2.2.2.1 R) sn sh hh' (by omega) hnu
        refine ⟨j + 1, dq_xfill (j := j) hh' hj (by omega) a b ?_ j 0 (j + 1) (by omega) (by omega)⟩
        refine nm_r (dq_mask1 (by omega)) (nm_r (nI_pred k) ?_)
        refine H _ k lh ln R _ _ t ls (dq_fil (dq_src w.2.2.1 w.2.2.2.1 R) ss) q' pl' ⟨hh', hk', hD', ?_⟩ (dq_pi_exS h7 P) T (Or.inr (Or.inr ⟨rfl, dq_fil_len ss⟩))
        rw [← hvw]
        refine c _ (fun i hi => ?_) ?_
        · show (sa i, upd sv _ _ i, upd sf _ _ i) = (sa i, sv i, sf i)
          rw [pk_un hi, pk_un hi]
        · show (sa _, upd sv _ _ _, upd sf _ _ _) = (sa _, _, _)
          rw [pk_us, pk_us]
      · have h6 : ¬ w.1 = 6 := by rw [eo]; exact (dq_o67 ho).1
        have h7 : ¬ w.1 = 7 := by rw [eo]; exact (dq_o67 ho).2
        have key2 : wX_executeStep_180 post w.1 (dq_src w.2.2.1 w.2.2.2.1 R) (dq_src w.2.2.2.2.1 w.2.2.2.2.2 R) (nI n) (nI D) (nI la) sd (nI pl) (nI xd) (nI ol) (nI wc) wt wv (nI nw) (nI wh) (nI (k + 1)) (nI lh) (nI ln) (nI sh) (nI sn) oc fx fy fz R M lS lL wo wg lr lv rr rv ld lw sa sv sf := by
          refine And.intro hv ?_
          rw [hc, e2]
          refine dq_xcmp (And.intro (dq_ns_in ns) (nm_e ?_))
          refine nm_r (dq_mask1 (by omega)) (nm_r (nI_pred k) ?_)
          exact H _ k lh ln _ sv sf t ls ss q' pl' ps (dq_pi_exA h6 h7 P) T (Or.inr (Or.inr ⟨rfl, rfl⟩))
        refine br_f h6 (br_f h7 (And.intro hv ?_))
        rw [hc, e5, e6]
        by_cases h0 : 0 ≤ w.2.2.2.2.1
        · have e : dq_src w.2.2.2.2.1 w.2.2.2.2.2 R = R w.2.2.2.2.1.toNatClampNeg := by rw [dq_src, if_pos h0]
          rw [e] at key2
          exact br_t h0 (And.intro hv (And.intro (dq_sr_in s2 h0) key2))
        · have e : dq_src w.2.2.2.2.1 w.2.2.2.2.2 R = w.2.2.2.2.2 := by rw [dq_src, if_neg h0]
          rw [e] at key2
          exact br_f h0 (And.intro hv key2)
    refine br_f (nI_ne0 (by omega) (by omega)) (And.intro hv ?_)
    rw [hc, e1, e3, e4]
    refine nm_e (And.intro hv ?_)
    by_cases h0 : 0 ≤ w.2.2.1
    · rw [dq_src, if_pos h0] at key
      exact br_t h0 (And.intro hv (And.intro (dq_sr_in lrok h0) key))
    · rw [dq_src, if_neg h0] at key
      exact br_f h0 (And.intro hv key)
end
end
section
/-! X: issueLoad, issueStore, issueArithmetic -/
section
variable {n D la pl xd ol wc nw wh wn lh ln sh sn : Nat} {sd wt wv : Int32} {oc fx fy fz R M lS lL wo wg lr lv rr rv ld lw sa sv sf : Nat → Int32} {ws : List dq_W} {ls : List dq_LD} {ss : List dq_S} {U N L : Nat → Int32}
theorem dq_xown {post : Int32 → Prop} {x : Nat} (hx : x < 8) (h0 : bt sd x = false → post 0) (h1 : bt sd x = true → post 1) : wpX_ownedHere post (nI n, nI D, nI la, sd, nI pl, nI xd, nI ol, nI wc, wt, wv, nI nw, nI wh, nI wn, nI lh, nI ln, nI sh, nI sn, oc, fx, fy, fz, R, M, lS, lL, wo, wg, lr, lv, rr, rv, ld, lw, sa, sv, sf) (nI x) := by
  by_cases hb : ((sd >>> (nI x &&& 31)) &&& 1) = 0
  · exact br_t hb (h0 ((dq_tb0 (by omega)).mp hb))
  · exact br_f hb (h1 ((dq_tbn (by omega)).mp hb))
theorem dq_xadr {post : Int32 → Prop} {y : Nat} (hp : pl < 24) (hy : y < 8) (ey : fy pl = nI y) (h : post (nI (dq_adr R (fy pl) (fz pl)))) : wpX_addressOf post (nI n, nI D, nI la, sd, nI pl, nI xd, nI ol, nI wc, wt, wv, nI nw, nI wh, nI wn, nI lh, nI ln, nI sh, nI sn, oc, fx, fy, fz, R, M, lS, lL, wo, wg, lr, lv, rr, rv, ld, lw, sa, sv, sf) (nI pl) := by
  have hv : vp_in (nI pl) 24 := vp_in_nI hp (by omega)
  rw [← dq_adr_n] at h
  refine And.intro hv ?_
  rw [nI_clamp (n := pl) (by omega)]
  refine And.intro ?_ (And.intro hv h)
  rw [ey]; exact vp_in_nI hy (by omega)
theorem dq_xadd {post : Int32 → SX → Prop} {p q p' q' : Int32} (hh : wh < 4) (hk : wn ≤ 4) (ep : vp_nar .byte p.toInt8.toInt32 = p') (eq : vp_nar .byte q.toInt8.toInt32 = q') (h : post (nI ((wh + wn) % 4)) (nI n, nI D, nI la, sd, nI pl, nI xd, nI ol, nI wc, wt, wv, nI nw, nI wh, nI (wn + 1), nI lh, nI ln, nI sh, nI sn, oc, fx, fy, fz, R, M, lS, lL, upd wo ((wh + wn) % 4) p', upd wg ((wh + wn) % 4) q', lr, lv, rr, rv, ld, lw, sa, sv, sf)) : wpX_addWork post (nI n, nI D, nI la, sd, nI pl, nI xd, nI ol, nI wc, wt, wv, nI nw, nI wh, nI wn, nI lh, nI ln, nI sh, nI sn, oc, fx, fy, fz, R, M, lS, lL, wo, wg, lr, lv, rr, rv, ld, lw, sa, sv, sf) p q := by
  have hv : vp_in (nI ((wh + wn) % 4)) 4 := vp_in_nI (by omega) (by omega)
  refine nm_r (dq_mask (by omega)) (And.intro hv ?_)
  rw [nI_clamp (by omega), ep, eq]
  exact nm_e (And.intro hv (nm_e (nm_r (nI_1 wn) h)))
theorem dq_IT_up {nw : Nat} {ls : List dq_LD} (T : dq_IT nw ls) : dq_IT (nw + 1) ls := fun l hl => by
  obtain ⟨r, hr, e⟩ := T l hl
  exact ⟨r, by omega, e⟩
theorem dq_xscan {post : Int32 → SX → Prop} {x1 : Int32} (hh : sh < 4) (hk : sn ≤ 4) (hB : (∃ k, k < sn ∧ sa ((sh + k) % 4) = x1) → post 0 (nI n, nI D, nI la, sd, nI pl, nI xd, nI ol, nI wc, wt, wv, nI nw, nI wh, nI wn, nI lh, nI ln, nI sh, nI sn, oc, fx, fy, fz, R, M, lS, lL, wo, wg, lr, lv, rr, rv, ld, lw, sa, sv, sf)) (hG : (∀ k, k < sn → ¬ sa ((sh + k) % 4) = x1) → ∀ F, wX_issueLoad_11 post x1 (nI n) (nI D) (nI la) sd (nI pl) (nI xd) (nI ol) (nI wc) wt wv (nI nw) (nI wh) (nI wn) (nI lh) (nI ln) (nI sh) (nI sn) oc fx fy fz R M lS lL wo wg lr lv rr rv ld lw sa sv sf (F + 1) (nI sn)) :
    ∀ m k F, k + m = sn → m < F → (∀ i, i < k → ¬ sa ((sh + i) % 4) = x1) → wX_issueLoad_11 post x1 (nI n) (nI D) (nI la) sd (nI pl) (nI xd) (nI ol) (nI wc) wt wv (nI nw) (nI wh) (nI wn) (nI lh) (nI ln) (nI sh) (nI sn) oc fx fy fz R M lS lL wo wg lr lv rr rv ld lw sa sv sf F (nI k) := by
  intro m
  induction m with
  | zero =>
    intro k F hkm hF ha
    obtain ⟨F, rfl⟩ : ∃ m, F = m + 1 := ⟨F - 1, by omega⟩
    have : k = sn := by omega
    subst this
    exact hG ha F
  | succ m ih =>
    intro k F hkm hF ha
    obtain ⟨F, rfl⟩ : ∃ m, F = m + 1 := ⟨F - 1, by omega⟩
    refine br_f (nI_ge (by omega) (by omega)) ?_
    rw [dq_mask (by omega)]
    refine And.intro (vp_in_nI (by omega) (by omega)) ?_
    rw [nI_clamp (n := (sh + k) % 4) (by omega)]
    by_cases hx : sa ((sh + k) % 4) = x1
    · exact br_t hx (hB ⟨k, by omega, hx⟩)
    · refine br_f hx (nm_r (nI_1 k) (ih (k + 1) F (by omega) (by omega) (fun i hi => ?_)))
      rcases Nat.lt_or_ge i k with g | g
      · exact ha i g
      · have : i = k := by omega
        rw [this]; exact hx
theorem dq_ne_len {α : Type} {l : List α} (h : 0 < l.length) : l ≠ [] := by
  intro z
  rw [z] at h
  exact absurd h (by simp)
theorem dq_ne_ls (P : dq_PI sd ws ls ss R M wc wt wv U N) (h : 0 < ls.length) : ws ≠ [] := by
  intro z
  have := P.2.1
  rw [z, dq_nl] at this
  omega
theorem dq_xload {post : Int32 → SX → Prop} (V : dq_V n oc fx fy fz) (C : dq_Cl n oc fx fy fz sd) (hp : pl < n) (hn : n ≤ 24) (hD1 : 1 ≤ D) (hla1 : 1 ≤ la) (hla6 : la ≤ 6) (hnw : nw ≤ 100000) (hwc : wc = 0) (pw : dq_Q (dq_gW wo wg lr lv rr rv) D wh wn ws) (pl' : dq_Q (dq_gL ld lw) D lh ln ls) (ps : dq_Q (dq_gS sa sv sf) D sh sn ss) (P : dq_PI sd ws ls ss R M wc wt wv U N) (T : dq_IT nw ls) (e6 : oc pl = 6) (HB : (ws ≠ [] ∨ ss ≠ []) → post 0 (nI n, nI D, nI la, sd, nI pl, nI xd, nI ol, nI wc, wt, wv, nI nw, nI wh, nI wn, nI lh, nI ln, nI sh, nI sn, oc, fx, fy, fz, R, M, lS, lL, wo, wg, lr, lv, rr, rv, ld, lw, sa, sv, sf)) (HD : ∀ wc' wt' wv' wn' ln' sn' R' wo' wg' lr' lv' rr' rv' ld' lw' sa' sv' sf' ws' ls' ss', dq_Q (dq_gW wo' wg' lr' lv' rr' rv') D wh wn' ws' → dq_Q (dq_gL ld' lw') D lh ln' ls' → dq_Q (dq_gS sa' sv' sf') D sh sn' ss' → dq_PI sd ws' ls' ss' R' M wc' wt' wv' (dq_st oc fx fy fz pl U N L).2.1 (dq_st oc fx fy fz pl U N L).2.2.1 → dq_IT (nw + 1) ls' → ws'.length ≤ ws.length + 1 → ss'.length ≤ ss.length + 1 → wc' ≤ 6 → post 1 (nI n, nI D, nI la, sd, nI pl, nI xd, nI ol, nI wc', wt', wv', nI nw, nI wh, nI wn', nI lh, nI ln', nI sh, nI sn', oc, fx, fy, fz, R', M, lS, lL, wo', wg', lr', lv', rr', rv', ld', lw', sa', sv', sf')) : wpX_issueLoad post (nI n, nI D, nI la, sd, nI pl, nI xd, nI ol, nI wc, wt, wv, nI nw, nI wh, nI wn, nI lh, nI ln, nI sh, nI sn, oc, fx, fy, fz, R, M, lS, lL, wo, wg, lr, lv, rr, rv, ld, lw, sa, sv, sf) := by
  subst hwc
  obtain ⟨o, ho, e, v1, v2, v3, v4, v5⟩ := V pl hp
  have o6 : o = 6 := by
    have h := e6
    rw [e, dq_e6 ho] at h; exact h
  obtain ⟨x, hx, ex⟩ := v1 (by omega)
  obtain ⟨y, hy, ey⟩ := v2 (by omega)
  have hsy : bt sd y = true := by
    have := (C pl hp).1 (Or.inl e6)
    rw [ey, nI_clamp (by omega)] at this; exact this
  have hUy : U y = R y := dq_pi_side P hsy
  have ha : dq_adr U (fy pl) (fz pl) = dq_adr R (fy pl) (fz pl) := by
    rw [dq_adr, dq_adr, ey, nI_clamp (by omega), hUy]
  rw [dq_st6 e6] at HD
  dsimp only at HD
  rw [ha, ex, nI_clamp (n := x) (by omega)] at HD
  have hh := ps.1
  have hk := ps.2.1
  have hD := ps.2.2.1
  have hlk := pl'.2.1
  have hwk := pw.2.1
  have alt := dq_adr_lt R (fy pl) (fz pl)
  unfold wpX_issueLoad
  refine dq_xadr (by omega) hy ey (Exists.intro (sn + 1) ?_)
  generalize dq_adr R (fy pl) (fz pl) = a at HD alt
  have hva : vp_in (nI a) 16 := vp_in_nI alt (by omega)
  have hca : (nI a).toNatClampNeg = a := nI_clamp (by omega)
  refine dq_xscan hh (by omega) (fun ⟨k, h1, _⟩ => HB (Or.inr (dq_ne_len (by rw [dq_Q_len ps]; omega)))) (fun hno F => ?_) sn 0 (sn + 1) (by omega) (by omega) (fun i hi => absurd hi (by omega))
  have hnS : ∀ s, s ∈ ss → s.1.toNatClampNeg ≠ a := fun s hs z => by
    obtain ⟨i, hi, es⟩ := (dq_Q_mem ps).mp hs
    obtain ⟨b, hb, eb⟩ := P.2.2.2.1 s hs
    refine hno i hi ?_
    have e0 : sa ((sh + i) % 4) = s.1 := by rw [es]; rfl
    rw [e0, eb, ← z, eb, nI_clamp (by omega)]
  have hv : vp_in (nI pl) 24 := vp_in_nI (by omega) (by omega)
  refine br_t (nI_le (Nat.le_refl _) (by omega)) (And.intro hv ?_)
  rw [nI_clamp (n := pl) (by omega), ex]
  refine nm_e (dq_xown hx (fun hb => br_t rfl ?_) (fun hb => br_f (by decide) (And.intro hva ?_)))
  · refine pk_le D ln (fun h => HB (Or.inl (dq_ne_ls P (by rw [dq_Q_len pl']; omega)))) (fun h => ?_)
    refine pk_lt wn D (fun hw => ?_) (fun hw => HB (Or.inl (dq_ne_len (by rw [dq_Q_len pw]; omega))))
    have hl4 := pl'.1
    have hw4 := pw.1
    have hvl : vp_in (nI ((lh + ln) % 4)) 4 := vp_in_nI (by omega) (by omega)
    have hvw : vp_in (nI ((wh + wn) % 4)) 4 := vp_in_nI (by omega) (by omega)
    refine nm_r (dq_mask (by omega)) (And.intro hvl ?_)
    rw [nI_clamp (n := (lh + ln) % 4) (by omega), nI_add, hca]
    refine nm_e (And.intro hva (And.intro hvl (nm_e (nm_r (nI_1 ln) ?_))))
    refine dq_xadd hw4 (by omega) dq_n60 (dq_nby (k := x) (by omega)) (And.intro hvw ?_)
    rw [nI_clamp (n := (wh + wn) % 4) (by omega), dq_nm1]
    refine nm_e ?_
    refine HD 0 wt wv (wn + 1) (ln + 1) sn R _ _ _ lv rr rv _ _ sa sv sf _ _ ss (dq_Q_push pw hw (fun j hj => ?_) rfl) (dq_Q_push pl' h (fun j hj => ?_) rfl) ps ?_ (fun l hl => ?_) ?_ (by omega) (by omega)
    · show (upd wo _ _ j, upd wg _ _ j, upd lr _ _ j, lv j, rr j, rv j) = (wo j, wg j, lr j, lv j, rr j, rv j)
      rw [pk_un hj, pk_un hj, pk_un hj]
    · show (upd ld _ _ j, upd lw _ _ j) = (ld j, lw j)
      rw [pk_un hj, pk_un hj]
    · show dq_PI sd (ws ++ [(upd wo _ _ _, upd wg _ _ _, upd lr _ _ _, lv _, rr _, rv _)]) (ls ++ [(upd ld _ _ _, upd lw _ _ _)]) ss R M 0 wt wv _ N
      rw [pk_us, pk_us, pk_us, pk_us, pk_us]
      exact dq_pi_ldE P hnS hx hb
    · rcases List.mem_append.mp hl with hl | hl
      · exact dq_IT_up T l hl
      · refine ⟨nw + la, by omega, ?_⟩
        rw [List.mem_singleton.mp hl]
        exact pk_us
    · rw [List.length_append]; exact Nat.le_refl _
  · rw [hca]
    refine nm_e ?_
    exact HD la (nI x) (M a) wn ln sn R wo wg lr lv rr rv ld lw sa sv sf ws ls ss pw pl' ps (dq_pi_ldO P hnS hx hb (by omega)) (dq_IT_up T) (by omega) (by omega) hla6
theorem dq_xstore {post : Int32 → SX → Prop} (V : dq_V n oc fx fy fz) (C : dq_Cl n oc fx fy fz sd) (hp : pl < n) (hn : n ≤ 24) (hD1 : 1 ≤ D) (hla1 : 1 ≤ la) (hla6 : la ≤ 6) (hnw : nw ≤ 100000) (hwc : wc = 0) (pw : dq_Q (dq_gW wo wg lr lv rr rv) D wh wn ws) (pl' : dq_Q (dq_gL ld lw) D lh ln ls) (ps : dq_Q (dq_gS sa sv sf) D sh sn ss) (P : dq_PI sd ws ls ss R M wc wt wv U N) (T : dq_IT nw ls) (e7 : oc pl = 7) (HB : (ws ≠ [] ∨ ss ≠ []) → post 0 (nI n, nI D, nI la, sd, nI pl, nI xd, nI ol, nI wc, wt, wv, nI nw, nI wh, nI wn, nI lh, nI ln, nI sh, nI sn, oc, fx, fy, fz, R, M, lS, lL, wo, wg, lr, lv, rr, rv, ld, lw, sa, sv, sf)) (HD : ∀ wc' wt' wv' wn' ln' sn' R' wo' wg' lr' lv' rr' rv' ld' lw' sa' sv' sf' ws' ls' ss', dq_Q (dq_gW wo' wg' lr' lv' rr' rv') D wh wn' ws' → dq_Q (dq_gL ld' lw') D lh ln' ls' → dq_Q (dq_gS sa' sv' sf') D sh sn' ss' → dq_PI sd ws' ls' ss' R' M wc' wt' wv' (dq_st oc fx fy fz pl U N L).2.1 (dq_st oc fx fy fz pl U N L).2.2.1 → dq_IT (nw + 1) ls' → ws'.length ≤ ws.length + 1 → ss'.length ≤ ss.length + 1 → wc' ≤ 6 → post 1 (nI n, nI D, nI la, sd, nI pl, nI xd, nI ol, nI wc', wt', wv', nI nw, nI wh, nI wn', nI lh, nI ln', nI sh, nI sn', oc, fx, fy, fz, R', M, lS, lL, wo', wg', lr', lv', rr', rv', ld', lw', sa', sv', sf')) : wpX_issueStore post (nI n, nI D, nI la, sd, nI pl, nI xd, nI ol, nI wc, wt, wv, nI nw, nI wh, nI wn, nI lh, nI ln, nI sh, nI sn, oc, fx, fy, fz, R, M, lS, lL, wo, wg, lr, lv, rr, rv, ld, lw, sa, sv, sf) := by
  subst hwc
  obtain ⟨o, ho, e, v1, v2, v3, v4, v5⟩ := V pl hp
  have o7 : o = 7 := by
    have h := e7
    rw [e, dq_e7 ho] at h; exact h
  obtain ⟨x, hx, ex⟩ := v1 (by omega)
  obtain ⟨y, hy, ey⟩ := v2 (by omega)
  have hsy : bt sd y = true := by
    have := (C pl hp).1 (Or.inr e7)
    rw [ey, nI_clamp (by omega)] at this; exact this
  have hUy : U y = R y := dq_pi_side P hsy
  have ha : dq_adr U (fy pl) (fz pl) = dq_adr R (fy pl) (fz pl) := by
    rw [dq_adr, dq_adr, ey, nI_clamp (by omega), hUy]
  rw [dq_st7 e7] at HD
  dsimp only at HD
  rw [ha, ex, nI_clamp (n := x) (by omega)] at HD
  have hh := ps.1
  have hk := ps.2.1
  have hD := ps.2.2.1
  have hw4 := pw.1
  have hwk := pw.2.1
  have alt := dq_adr_lt R (fy pl) (fz pl)
  have hv : vp_in (nI pl) 24 := vp_in_nI (by omega) (by omega)
  have hvx : vp_in (nI x) 8 := vp_in_nI hx (by omega)
  have hvs : vp_in (nI ((sh + sn) % 4)) 4 := vp_in_nI (by omega) (by omega)
  have hvw : vp_in (nI ((wh + wn) % 4)) 4 := vp_in_nI (by omega) (by omega)
  refine pk_lt sn D (fun hs => And.intro hv ?_) (fun hs => HB (Or.inr (dq_ne_len (by rw [dq_Q_len ps]; omega))))
  rw [nI_clamp (n := pl) (by omega), ex]
  have push : ∀ s : dq_S, dq_Q (dq_gS (upd sa ((sh + sn) % 4) s.1) (upd sv ((sh + sn) % 4) s.2.1) (upd sf ((sh + sn) % 4) s.2.2)) D sh (sn + 1) (ss ++ [s]) := fun s => by
    refine dq_Q_push ps hs (fun j hj => ?_) ?_
    · show (upd sa _ _ j, upd sv _ _ j, upd sf _ _ j) = (sa j, sv j, sf j)
      rw [pk_un hj, pk_un hj, pk_un hj]
    · show (upd sa _ _ _, upd sv _ _ _, upd sf _ _ _) = _
      rw [pk_us, pk_us, pk_us]
  refine nm_e (dq_xown hx (fun hb => br_t rfl (pk_lt wn D (fun hw => ?_) (fun hw => HB (Or.inl (dq_ne_len (by rw [dq_Q_len pw]; omega)))))) (fun hb => br_f (by decide) ?_))
  · refine nm_r (dq_mask (by omega)) (dq_xadr (by omega) hy ey ?_)
    generalize dq_adr R (fy pl) (fz pl) = a at HD alt
    refine And.intro hvs ?_
    rw [nI_clamp (n := (sh + sn) % 4) (by omega), dq_nby (k := a) (by omega), dq_nb0]
    refine nm_e (And.intro hvs (nm_e (br_t rfl (And.intro hvs ?_))))
    rw [nI_clamp (n := (sh + sn) % 4) (by omega)]
    refine nm_e (nm_r (nI_1 sn) (br_t rfl ?_))
    refine dq_xadd hw4 (by omega) dq_n70 dq_n00 (And.intro hvw ?_)
    rw [nI_clamp (n := (wh + wn) % 4) (by omega), dq_nby (k := x) (by omega)]
    refine nm_e ?_
    refine HD 0 wt wv (wn + 1) ln (sn + 1) R _ _ _ lv rr rv ld lw _ _ _ _ ls _ (dq_Q_push pw hw (fun j hj => ?_) rfl) pl' (push (nI a, 0, 0)) ?_ (dq_IT_up T) ?_ ?_ (by omega)
    · show (upd wo _ _ j, upd wg _ _ j, upd lr _ _ j, lv j, rr j, rv j) = (wo j, wg j, lr j, lv j, rr j, rv j)
      rw [pk_un hj, pk_un hj, pk_un hj]
    · show dq_PI sd (ws ++ [(upd wo _ _ _, upd wg _ _ _, upd lr _ _ _, lv _, rr _, rv _)]) ls _ R M 0 wt wv U _
      rw [pk_us, pk_us, pk_us]
      exact dq_pi_stE P alt hx hb
    · rw [List.length_append]; exact Nat.le_refl _
    · rw [List.length_append]; exact Nat.le_refl _
  · refine nm_r (dq_mask (by omega)) (dq_xadr (by omega) hy ey ?_)
    generalize dq_adr R (fy pl) (fz pl) = a at HD alt
    refine And.intro hvs ?_
    rw [nI_clamp (n := (sh + sn) % 4) (by omega), dq_nby (k := a) (by omega), dq_nb1]
    refine nm_e (And.intro hvs (nm_e (br_f (by decide) (And.intro hvx (And.intro hvs ?_)))))
    rw [nI_clamp (n := (sh + sn) % 4) (by omega), nI_clamp (n := x) (by omega)]
    refine nm_e (nm_r (nI_1 sn) (br_f (by decide) ?_))
    refine HD 0 wt wv wn ln (sn + 1) R wo wg lr lv rr rv ld lw _ _ _ ws ls _ pw pl' (push (nI a, R x, 1)) (dq_pi_stO P alt hb) (dq_IT_up T) (by omega) ?_ (by omega)
    rw [List.length_append]; exact Nat.le_refl _
end
end
section
/-! X: issueArithmetic -/
section
variable {n D la pl xd ol wc nw wh wn lh ln sh sn : Nat} {sd wt wv : Int32} {oc fx fy fz R M lS lL wo wg lr lv rr rv ld lw sa sv sf : Nat → Int32} {ws : List dq_W} {ls : List dq_LD} {ss : List dq_S} {U N L : Nat → Int32}
theorem dq_xarith {post : Int32 → SX → Prop} {o : Nat} (V : dq_V n oc fx fy fz) (C : dq_Cl n oc fx fy fz sd) (hp : pl < n) (hn : n ≤ 24) (hD1 : 1 ≤ D) (hla1 : 1 ≤ la) (hla6 : la ≤ 6) (hnw : nw ≤ 100000) (hwc : wc = 0) (pw : dq_Q (dq_gW wo wg lr lv rr rv) D wh wn ws) (pl' : dq_Q (dq_gL ld lw) D lh ln ls) (ps : dq_Q (dq_gS sa sv sf) D sh sn ss) (P : dq_PI sd ws ls ss R M wc wt wv U N) (T : dq_IT nw ls) (e : oc pl = nI o) (ho5 : o ≤ 5) (HB : (ws ≠ [] ∨ ss ≠ []) → post 0 (nI n, nI D, nI la, sd, nI pl, nI xd, nI ol, nI wc, wt, wv, nI nw, nI wh, nI wn, nI lh, nI ln, nI sh, nI sn, oc, fx, fy, fz, R, M, lS, lL, wo, wg, lr, lv, rr, rv, ld, lw, sa, sv, sf)) (HD : ∀ wc' wt' wv' wn' ln' sn' R' wo' wg' lr' lv' rr' rv' ld' lw' sa' sv' sf' ws' ls' ss', dq_Q (dq_gW wo' wg' lr' lv' rr' rv') D wh wn' ws' → dq_Q (dq_gL ld' lw') D lh ln' ls' → dq_Q (dq_gS sa' sv' sf') D sh sn' ss' → dq_PI sd ws' ls' ss' R' M wc' wt' wv' (dq_st oc fx fy fz pl U N L).2.1 (dq_st oc fx fy fz pl U N L).2.2.1 → dq_IT (nw + 1) ls' → ws'.length ≤ ws.length + 1 → ss'.length ≤ ss.length + 1 → wc' ≤ 6 → post 1 (nI n, nI D, nI la, sd, nI pl, nI xd, nI ol, nI wc', wt', wv', nI nw, nI wh, nI wn', nI lh, nI ln', nI sh, nI sn', oc, fx, fy, fz, R', M, lS, lL, wo', wg', lr', lv', rr', rv', ld', lw', sa', sv', sf')) : wpX_issueArithmetic post (nI n, nI D, nI la, sd, nI pl, nI xd, nI ol, nI wc, wt, wv, nI nw, nI wh, nI wn, nI lh, nI ln, nI sh, nI sn, oc, fx, fy, fz, R, M, lS, lL, wo, wg, lr, lv, rr, rv, ld, lw, sa, sv, sf) (nI o) := by
  subst hwc
  obtain ⟨o', ho, e', v1, v2, v3, v4, v5⟩ := V pl hp
  have oo : o' = o := by
    rw [e'] at e
    exact (nI_eq (by omega) (by omega)).mp e
  subst oo
  obtain ⟨x, hx, ex⟩ := v1 (by omega)
  obtain ⟨y, hy, ey⟩ := v2 (by omega)
  have e5 : oc pl = 5 ↔ o' = 5 := by rw [e]; exact dq_e5 ho
  have l6 : ¬ 6 < oc pl := by rw [e, dq_l6 ho]; omega
  have Cy : bt sd x = true → bt sd y = true := fun h => by
    have := (C pl hp).2.2.1 l6
    rw [ex, ey, nI_clamp (by omega), nI_clamp (by omega)] at this
    exact this h
  have Cz : ∀ z, z < 8 → o' ≤ 4 → fz pl = nI z → bt sd x = true → bt sd z = true := fun z hz ho4 ez h => by
    have := (C pl hp).2.2.2 (by rw [e, dq_l4 ho]; omega)
    rw [ex, ez, nI_clamp (by omega), nI_clamp (by omega)] at this
    exact this h
  rw [dq_st5 e ho5] at HD
  dsimp only at HD
  rw [ex, ey, nI_clamp (n := x) (by omega), nI_clamp (n := y) (by omega), e] at HD
  have hD := ps.2.2.1
  have hw4 := pw.1
  have hwk := pw.2.1
  have hv : vp_in (nI pl) 24 := vp_in_nI (by omega) (by omega)
  have hvx : vp_in (nI x) 8 := vp_in_nI hx (by omega)
  have hvy : vp_in (nI y) 8 := vp_in_nI hy (by omega)
  have hvw : vp_in (nI ((wh + wn) % 4)) 4 := vp_in_nI (by omega) (by omega)
  have hcw : (nI ((wh + wn) % 4)).toNatClampNeg = (wh + wn) % 4 := nI_clamp (by omega)
  refine And.intro hv ?_
  rw [nI_clamp (n := pl) (by omega), ex, ey]
  refine nm_e (And.intro hv (nm_e (And.intro hv (nm_e ?_))))
  refine dq_xown hx (fun hb => br_t rfl (pk_lt wn D (fun hw => ?_) (fun hw => HB (Or.inl (dq_ne_len (by rw [dq_Q_len pw]; omega)))))) (fun hb => br_f (by decide) ?_)
  · have FIN : ∀ l1 l2 r1 r2, dq_sr sd l1 → dq_sr sd r1 → dq_src l1 l2 U = U y → dq_src r1 r2 U = (if nI o' = 5 then fz pl else U (fz pl).toNatClampNeg) → post 1 (nI n, nI D, nI la, sd, nI pl, nI xd, nI ol, nI 0, wt, wv, nI nw, nI wh, nI (wn + 1), nI lh, nI ln, nI sh, nI sn, oc, fx, fy, fz, R, M, lS, lL, upd wo ((wh + wn) % 4) (nI o'), upd wg ((wh + wn) % 4) (nI x), upd lr ((wh + wn) % 4) l1, upd lv ((wh + wn) % 4) l2, upd rr ((wh + wn) % 4) r1, upd rv ((wh + wn) % 4) r2, ld, lw, sa, sv, sf) := by
      intro l1 l2 r1 r2 s1 s2 q1 q2
      refine HD 0 wt wv (wn + 1) ln sn R _ _ _ _ _ _ ld lw sa sv sf _ ls ss (dq_Q_push pw hw (fun j hj => ?_) rfl) pl' ps ?_ (dq_IT_up T) ?_ (by omega) (by omega)
      · show (upd wo _ _ j, upd wg _ _ j, upd lr _ _ j, upd lv _ _ j, upd rr _ _ j, upd rv _ _ j) = (wo j, wg j, lr j, lv j, rr j, rv j)
        rw [pk_un hj, pk_un hj, pk_un hj, pk_un hj, pk_un hj, pk_un hj]
      · show dq_PI sd (ws ++ [(upd wo _ _ _, upd wg _ _ _, upd lr _ _ _, upd lv _ _ _, upd rr _ _ _, upd rv _ _ _)]) ls ss R M 0 wt wv _ N
        rw [pk_us, pk_us, pk_us, pk_us, pk_us, pk_us, ← q1, ← q2]
        exact dq_pi_arE P ho5 hx hb s1 s2
      · rw [List.length_append]; exact Nat.le_refl _
    have K146 : ∀ l1 l2, dq_sr sd l1 → dq_src l1 l2 U = U y → wX_issueArithmetic_146 post (nI o') (fz pl) (nI ((wh + wn) % 4)) l2 (nI ((wh + wn) % 4)) (nI n) (nI D) (nI la) sd (nI pl) (nI xd) (nI ol) (nI 0) wt wv (nI nw) (nI wh) (nI (wn + 1)) (nI lh) (nI ln) (nI sh) (nI sn) oc fx fy fz R M lS lL (upd wo ((wh + wn) % 4) (nI o')) (upd wg ((wh + wn) % 4) (nI x)) (upd lr ((wh + wn) % 4) l1) lv rr rv ld lw sa sv sf := by
      intro l1 l2 s1 q1
      refine And.intro hvw ?_
      rw [hcw]
      refine nm_e ?_
      by_cases h5 : o' = 5
      · have h5' : nI o' = 5 := (dq_e5 ho).mpr h5
        refine br_t h5' (And.intro hvw ?_)
        rw [dq_nm1]
        refine nm_e (And.intro hvw (nm_e ?_))
        refine FIN l1 l2 (-1) (fz pl) s1 (Or.inl rfl) q1 ?_
        rw [if_pos h5', dq_src, if_neg (by decide)]
      · have h5' : ¬ nI o' = 5 := fun z => h5 ((dq_e5 ho).mp z)
        obtain ⟨z, hz, ez⟩ := v3 (by omega)
        refine br_f h5' ?_
        rw [if_neg h5', ez, nI_clamp (n := z) (by omega)] at FIN
        rw [ez]
        refine dq_xown hz (fun hbz => br_t rfl (And.intro hvw ?_)) (fun hbz => br_f (by decide) (And.intro hvw ?_))
        · rw [hcw, dq_nby (k := z) (by omega)]
          refine nm_e (br_t rfl (And.intro hvw (nm_e ?_)))
          refine FIN l1 l2 (nI z) 0 s1 (Or.inr ⟨z, hz, rfl, hbz⟩) q1 ?_
          rw [dq_src, if_pos (nI_pos' (by omega)), nI_clamp (by omega)]
        · rw [hcw, dq_nm1', nI_clamp (n := z) (by omega)]
          refine nm_e (br_f (by decide) (And.intro (vp_in_nI hz (by omega)) (And.intro hvw (nm_e ?_))))
          refine FIN l1 l2 (-1) (R z) s1 (Or.inl rfl) q1 ?_
          rw [dq_src, if_neg (by decide), dq_pi_side P hbz]
    refine dq_xadd hw4 (by omega) (dq_nby (k := o') (by omega)) (dq_nby (k := x) (by omega)) ?_
    refine dq_xown hy (fun hby => br_t rfl (And.intro hvw ?_)) (fun hby => br_f (by decide) (And.intro hvw ?_))
    · rw [hcw, dq_nby (k := y) (by omega)]
      refine nm_e (br_t rfl ?_)
      refine K146 (nI y) 0 (Or.inr ⟨y, hy, rfl, hby⟩) ?_
      rw [dq_src, if_pos (nI_pos' (by omega)), nI_clamp (by omega)]
    · rw [hcw, dq_nm1', nI_clamp (n := y) (by omega)]
      refine nm_e (br_f (by decide) (And.intro hvy ?_))
      refine K146 (-1) (R y) (Or.inl rfl) ?_
      rw [dq_src, if_neg (by decide), dq_pi_side P hby]
  · have key : ∀ q, q = (if nI o' = 5 then fz pl else U (fz pl).toNatClampNeg) → wX_issueArithmetic_56 post (nI o') (nI x) (nI y) q (nI n) (nI D) (nI la) sd (nI pl) (nI xd) (nI ol) (nI 0) wt wv (nI nw) (nI wh) (nI wn) (nI lh) (nI ln) (nI sh) (nI sn) oc fx fy fz R M lS lL wo wg lr lv rr rv ld lw sa sv sf := by
      intro q hq
      refine And.intro hvy ?_
      rw [nI_clamp (n := x) (by omega), nI_clamp (n := y) (by omega)]
      refine dq_xcmp (And.intro hvx (nm_e ?_))
      refine HD 0 wt wv wn ln sn _ wo wg lr lv rr rv ld lw sa sv sf ws ls ss pw pl' ps ?_ (dq_IT_up T) (by omega) (by omega) (by omega)
      rw [← hq, dq_pi_side P (Cy hb)]
      exact dq_pi_arO P hb
    by_cases h5 : o' = 5
    · have h5' : nI o' = 5 := (dq_e5 ho).mpr h5
      rw [if_pos h5'] at key
      exact br_t h5' (key _ rfl)
    · have h5' : ¬ nI o' = 5 := fun z => h5 ((dq_e5 ho).mp z)
      obtain ⟨z, hz, ez⟩ := v3 (by omega)
      rw [if_neg h5', ez, nI_clamp (n := z) (by omega), dq_pi_side P (Cz z hz (by omega) ez hb)] at key
      refine br_f h5' ?_
      rw [ez, nI_clamp (n := z) (by omega)]
      exact And.intro (vp_in_nI hz (by omega)) (key _ rfl)
end
end
section
/-! X: control, accessStep -/
/-- X's stack of loops against the loops begun: the innermost lies at index (number of the others) -/
def dq_lp (lS lL L : Nat → Int32) : List Nat → Prop
  | [] => True
  | s :: t => lS t.length = nI s ∧ lL t.length = L s ∧ dq_lp lS lL L t
theorem dq_lp_fr {lS lL L lS' lL' L' : Nat → Int32} : ∀ t : List Nat, (∀ k, k < t.length → lS' k = lS k ∧ lL' k = lL k) → (∀ s, s ∈ t → L' s = L s) → dq_lp lS lL L t → dq_lp lS' lL' L' t := by
  intro t
  induction t with
  | nil => intro _ _ _; trivial
  | cons s t ih =>
    intro h1 h2 ⟨a, b, c⟩
    obtain ⟨g1, g2⟩ := h1 t.length (by rw [List.length_cons]; omega)
    refine ⟨g1.trans a, g2.trans (b.trans (h2 s (List.mem_cons_self)).symm), ih (fun k hk => h1 k (by rw [List.length_cons]; omega)) (fun x hx => h2 x (List.mem_cons_of_mem _ hx)) c⟩
section
variable {n D la pl xd ol wc nw wh wn lh ln sh sn : Nat} {sd wt wv : Int32} {oc fx fy fz R M lS lL wo wg lr lv rr rv ld lw sa sv sf : Nat → Int32} {ws : List dq_W} {ls : List dq_LD} {ss : List dq_S} {U N L : Nat → Int32}
theorem dq_xctl {post : SX → Prop} {o : Nat} (V : dq_V n oc fx fy fz) (W : dq_WD oc n) (K : dq_SK oc fy n) (hp : pl < n) (hn : n ≤ 24) (e : oc pl = nI o) (ho8 : 8 ≤ o) (ho : o ≤ 10) (Q : dq_SQ oc n pl L) (hol : ol = (dq_enc oc pl).length) (LP : dq_lp lS lL L (dq_enc oc pl)) (hU : o = 8 → R (fx pl).toNatClampNeg = U (fx pl).toNatClampNeg)
    (H : ∀ pl' ol' lS' lL', pl' + 1 = (dq_st oc fx fy fz pl U N L).1 → ol' = (dq_enc oc (pl' + 1)).length → dq_lp lS' lL' (dq_st oc fx fy fz pl U N L).2.2.2 (dq_enc oc (pl' + 1)) → post (nI n, nI D, nI la, sd, nI pl', nI xd, nI ol', nI wc, wt, wv, nI nw, nI wh, nI wn, nI lh, nI ln, nI sh, nI sn, oc, fx, fy, fz, R, M, lS', lL', wo, wg, lr, lv, rr, rv, ld, lw, sa, sv, sf)) : wpX_control post (nI n, nI D, nI la, sd, nI pl, nI xd, nI ol, nI wc, wt, wv, nI nw, nI wh, nI wn, nI lh, nI ln, nI sh, nI sn, oc, fx, fy, fz, R, M, lS, lL, wo, wg, lr, lv, rr, rv, ld, lw, sa, sv, sf) (nI o) := by
  have hv : vp_in (nI pl) 24 := vp_in_nI (by omega) (by omega)
  have hc : (nI pl).toNatClampNeg = pl := nI_clamp (by omega)
  obtain ⟨o', ho', e', v1, v2, v3, v4, v5⟩ := V pl hp
  have oo : o' = o := by
    rw [e'] at e
    exact (nI_eq (by omega) (by omega)).mp e
  subst oo
  have n9 : o' ≠ 9 → ¬ oc pl = 9 := fun h => by rw [e, dq_e9 ho]; exact h
  have n10 : o' ≠ 10 → ¬ oc pl = 10 := fun h => by rw [e, dq_e10 ho]; exact h
  by_cases h8 : o' = 8
  · have e8 : oc pl = 8 := by rw [e, h8]; rfl
    obtain ⟨x, hx, ex⟩ := v1 (by omega)
    obtain ⟨y, hy1, hy8, ey⟩ := v4 h8
    have hvx : vp_in (fx pl) 8 := by rw [ex]; exact vp_in_nI hx (by omega)
    have en := dq_encN (n9 (by omega)) (n10 (by omega))
    refine br_t ((dq_e8 ho).mpr h8) (And.intro hv ?_)
    rw [hc, hU h8]
    rw [dq_st8 e8] at H
    refine And.intro hvx ?_
    by_cases hz : U (fx pl).toNatClampNeg = 0
    · rw [if_pos hz] at H
      refine br_t hz (And.intro hv ?_)
      obtain ⟨k1, k2⟩ := K pl hp e8
      have ee : dq_enc oc (pl + y + 1) = dq_enc oc pl := by
        rw [ey, nI_clamp (n := y) (by omega)] at k2
        have := (dq_bal_enc _ (pl + 1) 0 [] k2 rfl rfl).trans en
        rw [show pl + y + 1 = pl + 1 + y from by omega]
        exact this
      rw [ey]
      refine nm_r (nI_add pl y) ?_
      refine H (pl + y) ol lS lL ?_ ?_ ?_
      · dsimp only
        rw [ey, nI_clamp (n := y) (by omega)]; omega
      · rw [ee]; exact hol
      · rw [ee]; exact LP
    · rw [if_neg hz] at H
      refine br_f hz ?_
      refine H pl ol lS lL rfl ?_ ?_
      · rw [en]; exact hol
      · rw [en]; exact LP
  refine br_f (fun z => h8 ((dq_e8 ho).mp z)) ?_
  by_cases h9 : o' = 9
  · have e9 : oc pl = 9 := by rw [e, h9]; rfl
    have en := dq_enc9 e9
    have hl2 := W.2.1 (pl + 1) (by omega)
    rw [en, List.length_cons, ← hol] at hl2
    have hvo : vp_in (nI ol) 3 := vp_in_nI (by omega) (by omega)
    have hco : (nI ol).toNatClampNeg = ol := nI_clamp (by omega)
    rw [dq_st9 e9] at H
    refine br_t ((dq_e9 ho).mpr h9) (And.intro hvo ?_)
    rw [hco, hc]
    refine nm_e (And.intro hv (And.intro hvo (nm_e (nm_r (nI_1 ol) ?_))))
    refine H pl (ol + 1) _ _ rfl ?_ ?_
    · rw [en, List.length_cons, hol]
    · rw [en]
      refine ⟨?_, ?_, dq_lp_fr (dq_enc oc pl) (fun k hk => ⟨pk_un (by omega), pk_un (by omega)⟩) (fun s hs => ?_) LP⟩
      · rw [← hol]; exact pk_us
      · rw [← hol, pk_us]; exact pk_us.symm
      · have := dq_enc_lt oc pl s hs
        exact pk_un (by omega)
  refine br_f (fun z => h9 ((dq_e9 ho).mp z)) ?_
  have h10 : o' = 10 := by omega
  have e10 : oc pl = 10 := by rw [e, h10]; rfl
  have hne := W.1 pl hp e10
  cases he : dq_enc oc pl with
  | nil => exact absurd he hne
  | cons b t =>
    have hl2 := W.2.1 pl (by omega)
    rw [he] at hol LP hl2
    obtain ⟨a1, a2, a3⟩ := LP
    rw [List.length_cons] at hol hl2
    subst hol
    obtain ⟨hb, hb9, hbe⟩ := dq_enc_co oc pl b t he
    obtain ⟨l, hl1, hl6, hL⟩ := Q.2 b (by rw [he]; simp)
    have hlt : ∀ s, s ∈ t → s < b := fun s hs => dq_enc_lt oc b s (by rw [hbe]; exact hs)
    have hvt : vp_in (nI t.length) 3 := vp_in_nI (by omega) (by omega)
    have hct : (nI t.length).toNatClampNeg = t.length := nI_clamp (by omega)
    rw [dq_st10 e10, dq_bg_head he] at H
    have fr : dq_lp lS (upd lL t.length (L b - 1)) (upd L b (L b - 1)) t := dq_lp_fr t (fun k hk => ⟨rfl, pk_un (by omega)⟩) (fun s hs => pk_un (by have := hlt s hs; omega)) a3
    refine nm_r (nI_pred t.length) (And.intro hvt (And.intro hvt ?_))
    rw [hct, a2]
    refine nm_e (And.intro hvt ?_)
    rw [pk_us]
    by_cases hz : L b - 1 ≤ 0
    · rw [if_pos hz] at H
      refine br_t hz ?_
      refine H pl t.length lS _ rfl ?_ ?_
      · rw [dq_enc10 e10, he]; rfl
      · rw [dq_enc10 e10, he]; exact fr
    · rw [if_neg hz] at H
      refine br_f hz (And.intro hvt ?_)
      rw [a1]
      refine nm_e ?_
      have en : dq_enc oc (b + 1) = b :: t := by rw [dq_enc9 hb9, hbe]
      refine H b (t.length + 1) lS _ rfl ?_ ?_
      · rw [en]; rfl
      · rw [en]
        exact ⟨a1, by rw [pk_us]; exact pk_us.symm, fr⟩
theorem dq_x110 {post : SX → Prop} (h : post (nI n, nI D, nI la, sd, nI (pl + 1), nI (xd + 1), nI ol, nI wc, wt, wv, nI nw, nI wh, nI wn, nI lh, nI ln, nI sh, nI sn, oc, fx, fy, fz, R, M, lS, lL, wo, wg, lr, lv, rr, rv, ld, lw, sa, sv, sf)) : wX_accessStep_110 post 1 (nI n) (nI D) (nI la) sd (nI pl) (nI xd) (nI ol) (nI wc) wt wv (nI nw) (nI wh) (nI wn) (nI lh) (nI ln) (nI sh) (nI sn) oc fx fy fz R M lS lL wo wg lr lv rr rv ld lw sa sv sf :=
  br_f (by decide) (nm_r (nI_1 xd) (nm_r (nI_1 pl) h))
theorem dq_xacc {post : SX → Prop} (V : dq_V n oc fx fy fz) (W : dq_WD oc n) (K : dq_SK oc fy n) (C : dq_Cl n oc fx fy fz sd) (hn : n ≤ 24) (hD1 : 1 ≤ D) (hla1 : 1 ≤ la) (hla6 : la ≤ 6) (hnw : nw ≤ 100000) (hwc : wc ≤ 6) (pw : dq_Q (dq_gW wo wg lr lv rr rv) D wh wn ws) (pl' : dq_Q (dq_gL ld lw) D lh ln ls) (ps : dq_Q (dq_gS sa sv sf) D sh sn ss) (P : dq_PI sd ws ls ss R M wc wt wv U N) (T : dq_IT nw ls)
    (Q : dq_SQ oc n pl L) (hol : ol = (dq_enc oc pl).length) (LP : dq_lp lS lL L (dq_enc oc pl))
    (HW : ∀ k R', wc = k + 1 → dq_PI sd ws ls ss R' M k wt wv U N → post (nI n, nI D, nI la, sd, nI pl, nI xd, nI ol, nI k, wt, wv, nI nw, nI wh, nI wn, nI lh, nI ln, nI sh, nI sn, oc, fx, fy, fz, R', M, lS, lL, wo, wg, lr, lv, rr, rv, ld, lw, sa, sv, sf))
    (HS : wc = 0 → (n ≤ pl ∨ ws ≠ [] ∨ ss ≠ []) → post (nI n, nI D, nI la, sd, nI pl, nI xd, nI ol, nI wc, wt, wv, nI nw, nI wh, nI wn, nI lh, nI ln, nI sh, nI sn, oc, fx, fy, fz, R, M, lS, lL, wo, wg, lr, lv, rr, rv, ld, lw, sa, sv, sf))
    (HI : wc = 0 → pl < n → ∀ pl' ol' lS' lL' wc' wt' wv' wn' ln' sn' R' wo' wg' lr' lv' rr' rv' ld' lw' sa' sv' sf' ws' ls' ss', pl' = (dq_st oc fx fy fz pl U N L).1 → ol' = (dq_enc oc pl').length → dq_lp lS' lL' (dq_st oc fx fy fz pl U N L).2.2.2 (dq_enc oc pl') → dq_Q (dq_gW wo' wg' lr' lv' rr' rv') D wh wn' ws' → dq_Q (dq_gL ld' lw') D lh ln' ls' → dq_Q (dq_gS sa' sv' sf') D sh sn' ss' → dq_PI sd ws' ls' ss' R' M wc' wt' wv' (dq_st oc fx fy fz pl U N L).2.1 (dq_st oc fx fy fz pl U N L).2.2.1 → dq_IT (nw + 1) ls' → ws'.length ≤ ws.length + 1 → ss'.length ≤ ss.length + 1 → wc' ≤ 6 → post (nI n, nI D, nI la, sd, nI pl', nI (xd + 1), nI ol', nI wc', wt', wv', nI nw, nI wh, nI wn', nI lh, nI ln', nI sh, nI sn', oc, fx, fy, fz, R', M, lS', lL', wo', wg', lr', lv', rr', rv', ld', lw', sa', sv', sf')) :
    wpX_accessStep post (nI n, nI D, nI la, sd, nI pl, nI xd, nI ol, nI wc, wt, wv, nI nw, nI wh, nI wn, nI lh, nI ln, nI sh, nI sn, oc, fx, fy, fz, R, M, lS, lL, wo, wg, lr, lv, rr, rv, ld, lw, sa, sv, sf) := by
  have hpl := Q.1
  by_cases hw0 : wc = 0
  · refine br_t (by rw [hw0]; exact nI_le (a := 0) (b := 0) (by omega) (by omega)) ?_
    refine pk_lt pl n (fun hp => ?_) (fun hp => HS hw0 (Or.inl hp))
    have hv : vp_in (nI pl) 24 := vp_in_nI (by omega) (by omega)
    have hc : (nI pl).toNatClampNeg = pl := nI_clamp (by omega)
    have hi := HI hw0 hp
    obtain ⟨o, ho, e, v1, v2, v3, v4, v5⟩ := V pl hp
    have HB : (ws ≠ [] ∨ ss ≠ []) → post (nI n, nI D, nI la, sd, nI pl, nI xd, nI ol, nI wc, wt, wv, nI nw, nI wh, nI wn, nI lh, nI ln, nI sh, nI sn, oc, fx, fy, fz, R, M, lS, lL, wo, wg, lr, lv, rr, rv, ld, lw, sa, sv, sf) := fun h => HS hw0 (Or.inr h)
    refine And.intro hv ?_
    rw [hc, e]
    refine nm_e ?_
    have n9 : o ≠ 9 → ¬ oc pl = 9 := fun h => by rw [e, dq_e9 ho]; exact h
    have n10 : o ≠ 10 → ¬ oc pl = 10 := fun h => by rw [e, dq_e10 ho]; exact h
    by_cases h8 : o < 8
    · have en := dq_encN (n9 (by omega)) (n10 (by omega))
      refine br_t ((dq_g8 ho).mpr h8) ?_
      by_cases h6 : o = 6
      · have e6 : oc pl = 6 := by rw [e, h6]; rfl
        rw [dq_st6 e6] at hi
        refine br_t ((dq_e6 ho).mpr h6) ?_
        refine dq_xload (U := U) (N := N) (L := L) V C hp hn hD1 hla1 hla6 hnw hw0 pw pl' ps P T e6 (fun h => br_t rfl (HB h)) ?_
        rw [dq_st6 e6]
        intro wc' wt' wv' wn' ln' sn' R' wo' wg' lr' lv' rr' rv' ld' lw' sa' sv' sf' ws' ls' ss' q1 q2 q3 p1 t1 l1 l2 l3
        exact dq_x110 (hi (pl + 1) ol lS lL wc' wt' wv' wn' ln' sn' R' wo' wg' lr' lv' rr' rv' ld' lw' sa' sv' sf' ws' ls' ss' rfl (by rw [en]; exact hol) (by rw [en]; exact LP) q1 q2 q3 p1 t1 l1 l2 l3)
      refine br_f (fun z => h6 ((dq_e6 ho).mp z)) ?_
      by_cases h7 : o = 7
      · have e7 : oc pl = 7 := by rw [e, h7]; rfl
        rw [dq_st7 e7] at hi
        refine br_t ((dq_e7 ho).mpr h7) ?_
        refine dq_xstore (U := U) (N := N) (L := L) V C hp hn hD1 hla1 hla6 hnw hw0 pw pl' ps P T e7 (fun h => br_t rfl (HB h)) ?_
        rw [dq_st7 e7]
        intro wc' wt' wv' wn' ln' sn' R' wo' wg' lr' lv' rr' rv' ld' lw' sa' sv' sf' ws' ls' ss' q1 q2 q3 p1 t1 l1 l2 l3
        exact dq_x110 (hi (pl + 1) ol lS lL wc' wt' wv' wn' ln' sn' R' wo' wg' lr' lv' rr' rv' ld' lw' sa' sv' sf' ws' ls' ss' rfl (by rw [en]; exact hol) (by rw [en]; exact LP) q1 q2 q3 p1 t1 l1 l2 l3)
      · refine br_f (fun z => h7 ((dq_e7 ho).mp z)) ?_
        have h5 : o ≤ 5 := by omega
        rw [dq_st5 e h5] at hi
        refine dq_xarith (U := U) (N := N) (L := L) V C hp hn hD1 hla1 hla6 hnw hw0 pw pl' ps P T e h5 (fun h => br_t rfl (HB h)) ?_
        rw [dq_st5 e h5]
        intro wc' wt' wv' wn' ln' sn' R' wo' wg' lr' lv' rr' rv' ld' lw' sa' sv' sf' ws' ls' ss' q1 q2 q3 p1 t1 l1 l2 l3
        exact dq_x110 (hi (pl + 1) ol lS lL wc' wt' wv' wn' ln' sn' R' wo' wg' lr' lv' rr' rv' ld' lw' sa' sv' sf' ws' ls' ss' rfl (by rw [en]; exact hol) (by rw [en]; exact LP) q1 q2 q3 p1 t1 l1 l2 l3)
    · refine br_f (fun z => h8 ((dq_g8 ho).mp z)) ?_
      have hP0 : dq_PI sd ws ls ss R M 0 wt wv U N := by rw [hw0] at P; exact P
      have eU : (dq_st oc fx fy fz pl U N L).2.1 = U ∧ (dq_st oc fx fy fz pl U N L).2.2.1 = N := by
        by_cases a8 : o = 8
        · rw [dq_st8 (by rw [e, a8]; rfl)]; exact ⟨rfl, rfl⟩
        · by_cases a9 : o = 9
          · rw [dq_st9 (by rw [e, a9]; rfl)]; exact ⟨rfl, rfl⟩
          · rw [dq_st10 (by rw [e]; exact (dq_e10 ho).mpr (by omega))]; exact ⟨rfl, rfl⟩
      refine dq_xctl (U := U) (N := N) V W K hp hn e (by omega) ho Q hol LP (fun a8 => ?_) ?_
      · have e8 : oc pl = 8 := by rw [e, a8]; rfl
        obtain ⟨x, hx, ex⟩ := v1 (by omega)
        have := (C pl hp).2.1 e8
        exact (dq_pi_side hP0 this).symm
      · intro pl' ol' lS' lL' h1 h2 h3
        refine dq_x110 (hi (pl' + 1) ol' lS' lL' wc wt wv wn ln sn R wo wg lr lv rr rv ld lw sa sv sf ws ls ss h1 h2 h3 pw (by assumption) ps ?_ (dq_IT_up T) (by omega) (by omega) (by omega))
        rw [eU.1, eU.2]; exact P
  · obtain ⟨k, hk⟩ : ∃ k, wc = k + 1 := ⟨wc - 1, by omega⟩
    refine br_f (nI_nle (by omega) (by omega)) ?_
    have em : nI wc - 1 = nI k := by rw [hk]; exact nI_pred k
    refine nm_r em ?_
    obtain ⟨t, ht, et, hb⟩ := P.2.2.2.2.1 (by omega)
    refine pk_eq k 0 (fun hz => And.intro (by rw [et]; exact vp_in_nI ht (by omega)) (nm_e ?_)) (fun hz => ?_)
    · subst hz
      exact HW 0 _ hk (dq_pi_w1 (by rw [hk] at P; exact P))
    · obtain ⟨j, rfl⟩ : ∃ j, k = j + 1 := ⟨k - 1, by omega⟩
      exact HW (j + 1) R hk (dq_pi_w2 (by rw [hk] at P; exact P))
end
end
section
/-! X: run -/
theorem dq_T_up {ws : List dq_W} {ls : List dq_LD} {nw : Nat} : dq_T ws ls (nw + 1) = dq_T ws ls nw - 1 := by
  unfold dq_T
  split
  · split
    · omega
    · omega
  · omega
def dq_Phi (m : Nat) (ws : List dq_W) (ls : List dq_LD) (ss : List dq_S) (wc nw : Nat) : Nat := 24 * m + 8 * ws.length + dq_T ws ls nw + ss.length + wc
section
variable {n D la pl xd ol wc nw wh wn lh ln sh sn : Nat} {sd wt wv : Int32} {oc fx fy fz R M lS lL wo wg lr lv rr rv ld lw sa sv sf : Nat → Int32}
theorem dq_xfin {post : Int32 → Prop} (hpl : pl < 2 ^ 31) (hn : n ≤ 24) (hwc : wc ≤ 6) (h1 : wn ≤ 4) (h2 : ln ≤ 4) (h3 : sn ≤ 4) (hT : (n ≤ pl ∧ wc = 0 ∧ wn = 0 ∧ ln = 0 ∧ sn = 0) → post 1) (hF : ¬ (n ≤ pl ∧ wc = 0 ∧ wn = 0 ∧ ln = 0 ∧ sn = 0) → post 0) : wpX_finished post (nI n, nI D, nI la, sd, nI pl, nI xd, nI ol, nI wc, wt, wv, nI nw, nI wh, nI wn, nI lh, nI ln, nI sh, nI sn, oc, fx, fy, fz, R, M, lS, lL, wo, wg, lr, lv, rr, rv, ld, lw, sa, sv, sf) := by
  refine pk_lt pl n (fun a => hF (fun z => by omega)) (fun a => ?_)
  refine pk_le wc 0 (fun b => ?_) (fun b => hF (fun z => by omega))
  refine pk_eq wn 0 (fun c => ?_) (fun c => hF (fun z => by omega))
  refine pk_eq ln 0 (fun d => ?_) (fun d => hF (fun z => by omega))
  exact pk_eq sn 0 (fun e => hT ⟨a, by omega, c, d, e⟩) (fun e => hF (fun z => by omega))
end
section
variable {n D la : Nat} {sd : Int32} {oc fx fy fz : Nat → Int32} {c0 : dq_CS}
theorem dq_xrun {post : Int32 → SX → Prop} (V : dq_V n oc fx fy fz) (W : dq_WD oc n) (K : dq_SK oc fy n) (C : dq_Cl n oc fx fy fz sd) (hn : n ≤ 24) (hD1 : 1 ≤ D) (hD4 : D ≤ 4) (hla1 : 1 ≤ la) (hla6 : la ≤ 6)
    (H : ∀ {pl xd ol wc nw wh wn lh ln sh sn : Nat} {wt wv : Int32} {R M lS lL wo wg lr lv rr rv ld lw sa sv sf : Nat → Int32}, (∀ j, j < xd → (dq_run oc fx fy fz c0 j).1 < n) → (dq_run oc fx fy fz c0 xd).1 = n → xd ≤ 864 → R = (dq_run oc fx fy fz c0 xd).2.1 → M = (dq_run oc fx fy fz c0 xd).2.2.1 → post (nI xd) (nI n, nI D, nI la, sd, nI pl, nI xd, nI ol, nI wc, wt, wv, nI nw, nI wh, nI wn, nI lh, nI ln, nI sh, nI sn, oc, fx, fy, fz, R, M, lS, lL, wo, wg, lr, lv, rr, rv, ld, lw, sa, sv, sf)) :
    ∀ F {pl xd ol wc nw wh wn lh ln sh sn : Nat} {wt wv : Int32} {R M lS lL wo wg lr lv rr rv ld lw sa sv sf : Nat → Int32} {ws : List dq_W} {ls : List dq_LD} {ss : List dq_S}, (dq_run oc fx fy fz c0 xd).1 = pl → dq_SQ oc n pl (dq_run oc fx fy fz c0 xd).2.2.2 → ol = (dq_enc oc pl).length → dq_lp lS lL (dq_run oc fx fy fz c0 xd).2.2.2 (dq_enc oc pl) → (∀ j, j < xd → (dq_run oc fx fy fz c0 j).1 < n) → xd + dq_mm oc n pl (dq_run oc fx fy fz c0 xd).2.2.2 ≤ 864 →
    dq_Q (dq_gW wo wg lr lv rr rv) D wh wn ws → dq_Q (dq_gL ld lw) D lh ln ls → dq_Q (dq_gS sa sv sf) D sh sn ss → dq_PI sd ws ls ss R M wc wt wv (dq_run oc fx fy fz c0 xd).2.1 (dq_run oc fx fy fz c0 xd).2.2.1 → dq_IT nw ls → wc ≤ 6 →
    nw + dq_Phi (dq_mm oc n pl (dq_run oc fx fy fz c0 xd).2.2.2) ws ls ss wc nw ≤ 25000 → dq_Phi (dq_mm oc n pl (dq_run oc fx fy fz c0 xd).2.2.2) ws ls ss wc nw < F → wX_run_27 post F (nI n) (nI D) (nI la) sd (nI pl) (nI xd) (nI ol) (nI wc) wt wv (nI nw) (nI wh) (nI wn) (nI lh) (nI ln) (nI sh) (nI sn) oc fx fy fz R M lS lL wo wg lr lv rr rv ld lw sa sv sf := by
  intro F
  induction F with
  | zero =>
    intro pl xd ol wc nw wh wn lh ln sh sn wt wv R M lS lL wo wg lr lv rr rv ld lw sa sv sf ws ls ss ec Q hol LP hlt hm pw pl' ps P T hwc hph hF
    exact absurd hF (by omega)
  | succ F ih =>
    intro pl xd ol wc nw wh wn lh ln sh sn wt wv R M lS lL wo wg lr lv rr rv ld lw sa sv sf ws ls ss ec Q hol LP hlt hm pw pl' ps P T hwc hph hF
    have hpl := Q.1
    have k1 := pw.2.1
    have k2 := pl'.2.1
    have k3 := ps.2.1
    refine br_f (nI_ge (b := 100000) (by omega) (by omega)) ?_
    refine dq_xfin (by omega) hn hwc (by omega) (by omega) (by omega) (fun hfin => br_f (by decide) ?_) (fun hnf => br_t rfl ?_)
    · obtain ⟨f1, f2, f3, f4, f5⟩ := hfin
      have w0 : ws = [] := List.eq_nil_of_length_eq_zero (by rw [dq_Q_len pw]; exact f3)
      have s0 : ss = [] := List.eq_nil_of_length_eq_zero (by rw [dq_Q_len ps]; exact f5)
      refine H hlt (by rw [ec]; omega) (by omega) ?_ ?_
      · rw [P.2.2.2.2.2.1, if_pos f2, w0]; rfl
      · rw [P.2.2.2.2.2.2, w0, s0]; rfl
    · have after : ∀ sh' sn' M' ss', dq_Q (dq_gS sa sv sf) D sh' sn' ss' → dq_PI sd ws ls ss' R M' wc wt wv (dq_run oc fx fy fz c0 xd).2.1 (dq_run oc fx fy fz c0 xd).2.2.1 → ((ss' = ss ∧ (ss = [] ∨ ∃ s t, ss = s :: t ∧ s.2.2 = 0)) ∨ ss'.length + 1 = ss.length) →
          wpX_executeStep (fun u => match u with | (f1, f2, f3, f4, f5, f6, f7, f8, f9, f10, f11, f12, f13, f14, f15, f16, f17, a1, a2, a3, a4, a5, a6, a7, a8, a9, a10, a11, a12, a13, a14, a15, a16, a17, a18, a19) => wpX_accessStep (fun u => match u with | (f1, f2, f3, f4, f5, f6, f7, f8, f9, f10, f11, f12, f13, f14, f15, f16, f17, a1, a2, a3, a4, a5, a6, a7, a8, a9, a10, a11, a12, a13, a14, a15, a16, a17, a18, a19) => ∀ x : Int32, x = f11 + 1 → wX_run_27 post F f1 f2 f3 f4 f5 f6 f7 f8 f9 f10 x f12 f13 f14 f15 f16 f17 a1 a2 a3 a4 a5 a6 a7 a8 a9 a10 a11 a12 a13 a14 a15 a16 a17 a18 a19) (f1, f2, f3, f4, f5, f6, f7, f8, f9, f10, f11, f12, f13, f14, f15, f16, f17, a1, a2, a3, a4, a5, a6, a7, a8, a9, a10, a11, a12, a13, a14, a15, a16, a17, a18, a19)) (nI n, nI D, nI la, sd, nI pl, nI xd, nI ol, nI wc, wt, wv, nI nw, nI wh, nI wn, nI lh, nI ln, nI sh', nI sn', oc, fx, fy, fz, R, M', lS, lL, wo, wg, lr, lv, rr, rv, ld, lw, sa, sv, sf) := by
        intro sh' sn' M' ss' ps' P' CE
        refine dq_xexec (by omega) pw pl' ps' P' T ?_
        intro wh2 wn2 lh2 ln2 R2 sv2 sf2 ws2 ls2 ss2 pw2 pl2 ps2 P2 T2 EX
        have T6 := dq_T_le (ws := ws2) T2 (by omega)
        have T6' := dq_T_le (ws := ws2) (dq_IT_up T2) (by omega)
        have Tu := dq_T_up (ws := ws2) (ls := ls2) (nw := nw)
        have hs1 : ss'.length ≤ ss.length := by
          rcases CE with ⟨c, _⟩ | c
          · rw [c]; exact Nat.le_refl _
          · omega
        unfold dq_Phi at hph hF
        refine dq_xacc V W K C hn hD1 hla1 hla6 (by omega) hwc pw2 pl2 ps2 P2 T2 Q hol LP ?_ ?_ ?_
        · intro k R3 hk P3
          refine nm_r (nI_1 nw) ?_
          have hlt' : dq_Phi (dq_mm oc n pl (dq_run oc fx fy fz c0 xd).2.2.2) ws2 ls2 ss2 k (nw + 1) < 24 * dq_mm oc n pl (dq_run oc fx fy fz c0 xd).2.2.2 + 8 * ws.length + dq_T ws ls nw + ss.length + wc := by
            unfold dq_Phi
            rcases EX with ⟨x1, x2, x3, x4⟩ | ⟨x1, x2, x3, x4⟩ | ⟨x1, x2⟩
            · subst x1; subst x2; subst x3; subst x4; omega
            · subst x2; subst x3; subst x4; omega
            · omega
          exact ih ec Q hol LP hlt hm pw2 pl2 ps2 P3 (dq_IT_up T2) (by omega) (by omega) (by omega)
        · intro hw0 hst
          refine nm_r (nI_1 nw) ?_
          have hlt' : dq_Phi (dq_mm oc n pl (dq_run oc fx fy fz c0 xd).2.2.2) ws2 ls2 ss2 wc (nw + 1) < 24 * dq_mm oc n pl (dq_run oc fx fy fz c0 xd).2.2.2 + 8 * ws.length + dq_T ws ls nw + ss.length + wc := by
            unfold dq_Phi
            rcases EX with ⟨x1, x2, x3, x4⟩ | ⟨x1, x2, x3, x4⟩ | ⟨x1, x2⟩
            · subst x1; subst x2; subst x3; subst x4
              rcases CE with ⟨c, d⟩ | c
              · exfalso
                have hnu := P.2.2.1
                rw [dq_nst] at hnu
                have hs0 : ss = [] := by
                  rcases d with d | ⟨s, t, d, d2⟩
                  · exact d
                  · rw [d, dq_nu, if_pos d2] at hnu; omega
                have hl0 := P.2.1
                rw [dq_nl, dq_Q_len pl'] at hl0
                have hw' := dq_Q_nil pw
                rw [hs0] at ps
                have hs' := dq_Q_nil ps
                rcases hst with h | h | h
                · exact hnf ⟨h, hw0, hw', hl0.symm, hs'⟩
                · exact h rfl
                · exact h (c.trans hs0)
              · omega
            · subst x2; subst x3; subst x4; omega
            · omega
          exact ih ec Q hol LP hlt hm pw2 pl2 ps2 P2 (dq_IT_up T2) hwc (by omega) (by omega)
        · intro hw0 hp pl3 ol3 lS3 lL3 wc3 wt3 wv3 wn3 ln3 sn3 R3 wo3 wg3 lr3 lv3 rr3 rv3 ld3 lw3 sa3 sv3 sf3 ws3 ls3 ss3 g1 g2 g3 pw3 pl4 ps3 P3 T3 b1 b2 b3
          have est : dq_run oc fx fy fz c0 (xd + 1) = dq_st oc fx fy fz pl (dq_run oc fx fy fz c0 xd).2.1 (dq_run oc fx fy fz c0 xd).2.2.1 (dq_run oc fx fy fz c0 xd).2.2.2 := by
            rw [dq_run, dq_stp, ec]
          obtain ⟨s1, s2⟩ := dq_step (R := (dq_run oc fx fy fz c0 xd).2.1) (M := (dq_run oc fx fy fz c0 xd).2.2.1) W V K Q hp
          rw [← est] at g1 g3 P3 s1 s2
          rw [← g1] at s1 s2
          refine nm_r (nI_1 nw) ?_
          have T7 := dq_T_le (ws := ws3) T3 (by omega)
          have hlt' : dq_Phi (dq_mm oc n pl3 (dq_run oc fx fy fz c0 (xd + 1)).2.2.2) ws3 ls3 ss3 wc3 (nw + 1) < 24 * dq_mm oc n pl (dq_run oc fx fy fz c0 xd).2.2.2 + 8 * ws.length + dq_T ws ls nw + ss.length + wc := by
            unfold dq_Phi
            rcases EX with ⟨x1, x2, x3, x4⟩ | ⟨x1, x2, x3, x4⟩ | ⟨x1, x2⟩
            · subst x1; subst x2; subst x3; subst x4; omega
            · subst x2; subst x3; subst x4; omega
            · omega
          refine ih g1.symm s1 g2 g3 (fun j hj => ?_) (by omega) pw3 pl4 ps3 P3 T3 b3 (by omega) (by omega)
          rcases Nat.lt_or_ge j xd with h | h
          · exact hlt j h
          · have : j = xd := by omega
            rw [this, ec]; exact hp
      refine dq_xcommit ps P (fun h => ?_) (fun s t k hss ps' P' => ?_)
      · exact after sh sn M ss ps P (Or.inl ⟨rfl, h⟩)
      · exact after _ k _ t ps' P' (Or.inr (by rw [hss]; rfl))
end
end
section
/-! the relation; emit -/
def i_Rel (k : Nat) (u : SX) (v : SY) : Prop := match u with
  | (f_length, f_queueDepth, f_loadLatency, sd, pl, xd, ol, wc, wt, wv, nw, wh, wn, lh, ln, sh, sn, oc, fx, fy, fz, R, M, lS, lL, wo, wg, lr, lv, rr, rv, ld, lw, sa, sv, sf) => match v with
    | (f_n, a_op, ax, ay, a_az, a_reg, a_mem, L) => ∃ n D la : Nat, n ≤ 24 ∧ 1 ≤ D ∧ D ≤ 4 ∧ 1 ≤ la ∧ la ≤ 6 ∧ f_length = nI n ∧ f_queueDepth = nI D ∧ f_loadLatency = nI la ∧ f_n = nI n ∧ a_op = oc ∧ a_az = fz ∧ a_reg = R ∧ a_mem = M ∧ dq_V n oc fx fy fz ∧ dq_EQ n oc fx fy ax ay
theorem dq_el {k : Nat} {u : SX} {v : SY} {P : SX → SY → Prop} (h : ∀ (n D la : Nat) (sd pl xd ol wc wt wv nw wh wn lh ln sh sn : Int32) (oc fx fy fz R M lS lL wo wg lr lv rr rv ld lw sa sv sf ax ay L : Nat → Int32), n ≤ 24 → 1 ≤ D → D ≤ 4 → 1 ≤ la → la ≤ 6 → dq_V n oc fx fy fz → dq_EQ n oc fx fy ax ay → P (nI n, nI D, nI la, sd, pl, xd, ol, wc, wt, wv, nw, wh, wn, lh, ln, sh, sn, oc, fx, fy, fz, R, M, lS, lL, wo, wg, lr, lv, rr, rv, ld, lw, sa, sv, sf) (nI n, oc, ax, ay, fz, R, M, L)) (I : i_Rel k u v) : P u v := by
  obtain ⟨f_length, f_queueDepth, f_loadLatency, sd, pl, xd, ol, wc, wt, wv, nw, wh, wn, lh, ln, sh, sn, oc, fx, fy, fz, R, M, lS, lL, wo, wg, lr, lv, rr, rv, ld, lw, sa, sv, sf⟩ := u
  obtain ⟨f_n, a_op, ax, ay, a_az, a_reg, a_mem, L⟩ := v
  obtain ⟨n, D, la, h1, h2, h3, h4, h5, e1, e2, e3, e4, e5, e6, e7, e8, V, E⟩ := I
  subst e1 e2 e3 e4 e5 e6 e7 e8
  exact h n D la sd pl xd ol wc wt wv nw wh wn lh ln sh sn _ fx fy _ _ _ lS lL wo wg lr lv rr rv ld lw sa sv sf ax ay L h1 h2 h3 h4 h5 V E
section
variable {n D la : Nat} {sd pl xd ol wc wt wv nw wh wn lh ln sh sn : Int32} {oc fx fy fz R M lS lL wo wg lr lv rr rv ld lw sa sv sf ax ay L : Nat → Int32}
theorem dq_in {k : Nat} (h1 : n ≤ 24) (h2 : 1 ≤ D) (h3 : D ≤ 4) (h4 : 1 ≤ la) (h5 : la ≤ 6) (V : dq_V n oc fx fy fz) (E : dq_EQ n oc fx fy ax ay) : i_Rel k (nI n, nI D, nI la, sd, pl, xd, ol, wc, wt, wv, nw, wh, wn, lh, ln, sh, sn, oc, fx, fy, fz, R, M, lS, lL, wo, wg, lr, lv, rr, rv, ld, lw, sa, sv, sf) (nI n, oc, ax, ay, fz, R, M, L) :=
  ⟨n, D, la, h1, h2, h3, h4, h5, rfl, rfl, rfl, rfl, rfl, rfl, rfl, rfl, V, E⟩
end
theorem i_up {k : Nat} {u : SX} {v : SY} (h : i_Rel k u v) : i_Rel (k + 5) u v := h
def dq_rg (x : Int32) : Prop := ¬ x < 0 ∧ ¬ 7 < x
theorem dq_rg_n {x : Int32} (h : dq_rg x) : ∃ j, j < 8 ∧ x = nI j := by
  obtain ⟨j, hj, e⟩ := nI_of2 (M := 7) (n := 7) (by decide) h.1 (Int32.not_lt.mp h.2)
  exact ⟨j, by omega, e⟩
theorem dq_rg_in {x : Int32} (h : dq_rg x) : vp_in x 8 := by
  obtain ⟨j, hj, e⟩ := dq_rg_n h
  rw [e]; exact vp_in_nI hj (by omega)
theorem dq_lo {x c : Int32} {m b : Nat} (hc : c.toInt = b) (h1 : ¬ x < 1) (h : x ≤ c) (hm : b = m) : ∃ j, 1 ≤ j ∧ j ≤ m ∧ x = nI j := by
  subst hm
  have h1' : (1 : Int32) ≤ x := Int32.not_lt.mp h1
  have g1 : (1 : Int) ≤ x.toInt := by
    have := Int32.le_iff_toInt_le.mp h1'
    rw [show (1 : Int32).toInt = 1 from by decide] at this
    exact this
  have h0 : ¬ x < 0 := by
    rw [Int32.lt_iff_toInt_lt, show (0 : Int32).toInt = 0 from by decide]
    omega
  obtain ⟨j, hj, e⟩ := nI_of2 hc h0 h
  refine ⟨j, ?_, hj, e⟩
  rcases Nat.eq_zero_or_pos j with z | z
  · rw [e, z, show (nI 0).toInt = 0 from by decide] at g1
    omega
  · exact z
def dq_F2 (o : Nat) (x y z : Int32) : Prop := (o ≤ 7 → dq_rg x ∧ dq_rg y) ∧ (o ≤ 4 → dq_rg z) ∧ (o = 8 → dq_rg x ∧ ¬ y < 1 ∧ y ≤ 8) ∧ (o = 9 → ¬ x < 1 ∧ x ≤ 6)
theorem dq_l7 {o : Nat} (h : o ≤ 10) : 7 < nI o ↔ 7 < o := nI_ltI (a := 7) (by omega) (by omega)
section
variable {n : Nat} {D la sd pl xd ol wc wt wv nw wh wn lh ln sh sn : Int32} {oc fx fy fz R M lS lL wo wg lr lv rr rv ld lw sa sv sf : Nat → Int32}
theorem dq_xreg {post : Int32 → Prop} {x : Int32} (h1 : dq_rg x → post 1) (h0 : ¬ dq_rg x → post 0) : wpX_isRegister post (nI n, D, la, sd, pl, xd, ol, wc, wt, wv, nw, wh, wn, lh, ln, sh, sn, oc, fx, fy, fz, R, M, lS, lL, wo, wg, lr, lv, rr, rv, ld, lw, sa, sv, sf) x := by
  refine br_c (fun a => h0 (fun z => z.1 a)) (fun a => br_c (fun b => h0 (fun z => z.2 b)) (fun b => h1 ⟨a, b⟩))
theorem dq_xemit {post : Int32 → SX → Prop} {o : Nat} {x y z : Int32} (hn : n ≤ 24) (ho : o ≤ 10) (h24 : n = 24 → post (-2) (nI n, D, la, sd, pl, xd, ol, wc, wt, wv, nw, wh, wn, lh, ln, sh, sn, oc, fx, fy, fz, R, M, lS, lL, wo, wg, lr, lv, rr, rv, ld, lw, sa, sv, sf)) (hF : n < 24 → ¬ dq_F2 o x y z → post (-1) (nI n, D, la, sd, pl, xd, ol, wc, wt, wv, nw, wh, wn, lh, ln, sh, sn, oc, fx, fy, fz, R, M, lS, lL, wo, wg, lr, lv, rr, rv, ld, lw, sa, sv, sf))
    (hT : n < 24 → dq_F2 o x y z → post (nI (n + 1)) (nI (n + 1), D, la, sd, pl, xd, ol, wc, wt, wv, nw, wh, wn, lh, ln, sh, sn, upd oc n (nI o), upd fx n (vp_nar .byte x.toInt8.toInt32), upd fy n (vp_nar .byte y.toInt8.toInt32), upd fz n z, R, M, lS, lL, wo, wg, lr, lv, rr, rv, ld, lw, sa, sv, sf)) : wpX_emit post (nI n, D, la, sd, pl, xd, ol, wc, wt, wv, nw, wh, wn, lh, ln, sh, sn, oc, fx, fy, fz, R, M, lS, lL, wo, wg, lr, lv, rr, rv, ld, lw, sa, sv, sf) (nI o) x y z := by
  refine pk_lt n 24 (fun h => ?_) (fun h => h24 (by omega))
  have hF := hF h
  have hT := hT h
  refine br_f (nI_pos (by omega)) (pk_le o 10 (fun _ => ?_) (fun h => by omega))
  have hv : vp_in (nI n) 24 := vp_in_nI h (by omega)
  have hc : (nI n).toNatClampNeg = n := nI_clamp (by omega)
  have K110 : dq_F2 o x y z → wX_emit_110 post (nI o) x y z (nI n) D la sd pl xd ol wc wt wv nw wh wn lh ln sh sn oc fx fy fz R M lS lL wo wg lr lv rr rv ld lw sa sv sf := fun hf => by
    refine And.intro hv ?_
    rw [hc, dq_nby (k := o) (by omega)]
    exact nm_e (And.intro hv (nm_e (And.intro hv (nm_e (And.intro hv (nm_e (nm_r (nI_1 n) (hT hf))))))))
  have K91 : (o ≤ 7 → dq_rg x ∧ dq_rg y) → (o ≤ 4 → dq_rg z) → (o = 8 → dq_rg x ∧ ¬ y < 1 ∧ y ≤ 8) → wX_emit_91 post (nI o) x y z (nI n) D la sd pl xd ol wc wt wv nw wh wn lh ln sh sn oc fx fy fz R M lS lL wo wg lr lv rr rv ld lw sa sv sf := fun a1 a2 a3 => by
    refine br_c (fun g => ?_) (fun g => K110 ⟨a1, a2, a3, fun w => absurd ((dq_e9 ho).mpr w) g⟩)
    have g' := (dq_e9 ho).mp g
    refine br_c (fun b => hF (fun w => (w.2.2.2 g').1 b)) (fun b => br_c (fun c => K110 ⟨a1, a2, a3, fun _ => ⟨b, c⟩⟩) (fun c => hF (fun w => c (w.2.2.2 g').2)))
  have K64 : (o ≤ 7 → dq_rg x ∧ dq_rg y) → (o ≤ 4 → dq_rg z) → wX_emit_64 post (nI o) x y z (nI n) D la sd pl xd ol wc wt wv nw wh wn lh ln sh sn oc fx fy fz R M lS lL wo wg lr lv rr rv ld lw sa sv sf := fun a1 a2 => by
    refine br_c (fun g => ?_) (fun g => K91 a1 a2 (fun w => absurd ((dq_e8 ho).mpr w) g))
    have g' := (dq_e8 ho).mp g
    refine dq_xreg (fun r => br_f (by decide) ?_) (fun r => br_t rfl (hF (fun w => r (w.2.2.1 g').1)))
    exact br_c (fun b => hF (fun w => (w.2.2.1 g').2.1 b)) (fun b => br_c (fun c => K91 a1 a2 (fun _ => ⟨r, b, c⟩)) (fun c => hF (fun w => c (w.2.2.1 g').2.2)))
  have K48 : (o ≤ 7 → dq_rg x ∧ dq_rg y) → wX_emit_48 post (nI o) x y z (nI n) D la sd pl xd ol wc wt wv nw wh wn lh ln sh sn oc fx fy fz R M lS lL wo wg lr lv rr rv ld lw sa sv sf := fun a1 => by
    refine br_c (fun g => K64 a1 (fun w => absurd ((dq_l4 ho).mp g) (by omega))) (fun g => ?_)
    have g' : o ≤ 4 := by rw [dq_l4 ho] at g; omega
    exact dq_xreg (fun r => br_f (by decide) (K64 a1 (fun _ => r))) (fun r => br_t rfl (hF (fun w => r (w.2.1 g'))))
  refine br_c (fun g => K48 (fun w => absurd ((dq_l7 ho).mp g) (by omega))) (fun g => ?_)
  have g' : o ≤ 7 := by rw [dq_l7 ho] at g; omega
  refine dq_xreg (fun r => br_f (by decide) ?_) (fun r => br_t rfl (hF (fun w => r (w.1 g').1)))
  exact dq_xreg (fun s => br_f (by decide) (K48 (fun _ => ⟨r, s⟩))) (fun s => br_t rfl (hF (fun w => s (w.1 g').2)))
end
section
variable {n : Nat} {oc ax ay fz R M L : Nat → Int32}
theorem dq_yreg {post : Int32 → Prop} {x : Int32} (h1 : dq_rg x → post 1) (h0 : ¬ dq_rg x → post 0) : wpY_isRegister post (nI n, oc, ax, ay, fz, R, M, L) x := by
  refine br_c (fun a => h0 (fun z => z.1 a)) (fun a => br_c (fun b => h0 (fun z => z.2 b)) (fun b => h1 ⟨a, b⟩))
theorem dq_yfit {post : Int32 → Prop} {o : Nat} {x y z : Int32} (ho : o ≤ 10) (hT : dq_F2 o x y z → post 1) (hF : ¬ dq_F2 o x y z → post 0) : wpY_fits post (nI n, oc, ax, ay, fz, R, M, L) (nI o) x y z := by
  refine br_f (nI_pos (by omega)) (pk_le o 10 (fun _ => ?_) (fun h => by omega))
  by_cases h4 : o ≤ 4
  · refine br_f (by rw [dq_l4 ho]; omega) ?_
    refine dq_yreg (fun a => br_f (by decide) ?_) (fun a => br_t rfl (hF (fun w => a (w.1 (by omega)).1)))
    refine dq_yreg (fun b => br_f (by decide) ?_) (fun b => br_t rfl (hF (fun w => b (w.1 (by omega)).2)))
    exact dq_yreg (fun c => br_f (by decide) (hT ⟨fun _ => ⟨a, b⟩, fun _ => c, fun w => by omega, fun w => by omega⟩)) (fun c => br_t rfl (hF (fun w => c (w.2.1 h4))))
  refine br_t (by rw [dq_l4 ho]; omega) ?_
  by_cases h7 : o ≤ 7
  · refine br_f (by rw [dq_l7 ho]; omega) ?_
    refine dq_yreg (fun a => br_f (by decide) ?_) (fun a => br_t rfl (hF (fun w => a (w.1 (by omega)).1)))
    exact dq_yreg (fun b => br_f (by decide) (hT ⟨fun _ => ⟨a, b⟩, fun w => by omega, fun w => by omega, fun w => by omega⟩)) (fun b => br_t rfl (hF (fun w => b (w.1 (by omega)).2)))
  refine br_t (by rw [dq_l7 ho]; omega) ?_
  by_cases h8 : o = 8
  · refine br_t ((dq_e8 ho).mpr h8) ?_
    refine dq_yreg (fun a => br_f (by decide) ?_) (fun a => br_t rfl (hF (fun w => a (w.2.2.1 h8).1)))
    exact br_c (fun b => hF (fun w => (w.2.2.1 h8).2.1 b)) (fun b => br_c (fun c => hF (fun w => absurd c (Int32.not_lt.mpr (w.2.2.1 h8).2.2))) (fun c => hT ⟨fun w => by omega, fun w => by omega, fun _ => ⟨a, b, Int32.not_lt.mp c⟩, fun w => by omega⟩))
  refine br_f (fun w => h8 ((dq_e8 ho).mp w)) ?_
  by_cases h10 : o = 10
  · exact br_t ((dq_e10 ho).mpr h10) (hT ⟨fun w => by omega, fun w => by omega, fun w => by omega, fun w => by omega⟩)
  · refine br_f (fun w => h10 ((dq_e10 ho).mp w)) ?_
    have h9 : o = 9 := by omega
    exact br_c (fun b => hF (fun w => (w.2.2.2 h9).1 b)) (fun b => br_c (fun c => hF (fun w => absurd c (Int32.not_lt.mpr (w.2.2.2 h9).2))) (fun c => hT ⟨fun w => by omega, fun w => by omega, fun w => by omega, fun _ => ⟨b, Int32.not_lt.mp c⟩⟩))
theorem dq_yemit {post : Int32 → SY → Prop} {o : Nat} {x y z : Int32} (hn : n ≤ 24) (ho : o ≤ 10) (h24 : n = 24 → post (-2) (nI n, oc, ax, ay, fz, R, M, L)) (hF : n < 24 → ¬ dq_F2 o x y z → post (-1) (nI n, oc, ax, ay, fz, R, M, L))
    (hT : n < 24 → dq_F2 o x y z → post (nI (n + 1)) (nI (n + 1), upd oc n (nI o), upd ax n x, upd ay n y, upd fz n z, R, M, L)) : wpY_emit post (nI n, oc, ax, ay, fz, R, M, L) (nI o) x y z := by
  refine pk_eq n 24 (fun h => h24 h) (fun h => ?_)
  have hv : vp_in (nI n) 24 := vp_in_nI (by omega) (by omega)
  have hc : (nI n).toNatClampNeg = n := nI_clamp (by omega)
  refine dq_yfit ho (fun f => br_f (by decide) (And.intro hv ?_)) (fun f => br_t rfl (hF (by omega) f))
  rw [hc]
  exact nm_e (And.intro hv (nm_e (And.intro hv (nm_e (And.intro hv (nm_e (nm_r (nI_1 n) (hT (by omega) f))))))))
end
theorem dq_push {n o : Nat} {oc fx fy fz ax ay : Nat → Int32} {x y z : Int32} (ho : o ≤ 10) (f : dq_F2 o x y z) (V : dq_V n oc fx fy fz) (E : dq_EQ n oc fx fy ax ay) :
    dq_V (n + 1) (upd oc n (nI o)) (upd fx n (vp_nar .byte x.toInt8.toInt32)) (upd fy n (vp_nar .byte y.toInt8.toInt32)) (upd fz n z) ∧ dq_EQ (n + 1) (upd oc n (nI o)) (upd fx n (vp_nar .byte x.toInt8.toInt32)) (upd fy n (vp_nar .byte y.toInt8.toInt32)) (upd ax n x) (upd ay n y) := by
  obtain ⟨f1, f2, f3, f4⟩ := f
  have rx : o ≤ 8 → dq_rg x := fun h => by
    rcases Nat.lt_or_ge o 8 with g | g
    · exact (f1 (by omega)).1
    · exact (f3 (by omega)).1
  have x8 : o ≤ 8 → ∃ j, j < 8 ∧ x = nI j := fun h => dq_rg_n (rx h)
  have x9 : o = 9 → ∃ j, 1 ≤ j ∧ j ≤ 6 ∧ x = nI j := fun h => dq_lo (c := 6) (b := 6) (by decide) (f4 h).1 (f4 h).2 rfl
  have y7 : o ≤ 7 → ∃ j, j < 8 ∧ y = nI j := fun h => dq_rg_n (f1 h).2
  have y8 : o = 8 → ∃ j, 1 ≤ j ∧ j ≤ 8 ∧ y = nI j := fun h => dq_lo (c := 8) (b := 8) (by decide) (f3 h).2.1 (f3 h).2.2 rfl
  have nx : o ≤ 9 → vp_nar .byte x.toInt8.toInt32 = x := fun h => by
    rcases Nat.lt_or_ge o 9 with g | g
    · obtain ⟨j, hj, e⟩ := x8 (by omega)
      rw [e]; exact dq_nby (by omega)
    · obtain ⟨j, hj, hj2, e⟩ := x9 (by omega)
      rw [e]; exact dq_nby (by omega)
  have ny : o ≤ 8 → vp_nar .byte y.toInt8.toInt32 = y := fun h => by
    rcases Nat.lt_or_ge o 8 with g | g
    · obtain ⟨j, hj, e⟩ := y7 (by omega)
      rw [e]; exact dq_nby (by omega)
    · obtain ⟨j, hj, hj2, e⟩ := y8 (by omega)
      rw [e]; exact dq_nby (by omega)
  refine ⟨fun i hi => ?_, fun i hi => ?_⟩
  · rcases Nat.lt_or_ge i n with g | g
    · rw [pk_un (by omega), pk_un (by omega), pk_un (by omega), pk_un (by omega)]
      exact V i g
    · have : i = n := by omega
      subst this
      rw [pk_us, pk_us, pk_us, pk_us]
      refine ⟨o, ho, rfl, fun h => ?_, fun h => ?_, fun h => dq_rg_n (f2 h), fun h => ?_, fun h => ?_⟩
      · rw [nx (by omega)]; exact x8 h
      · rw [ny (by omega)]; exact y7 h
      · rw [ny (by omega)]; exact y8 h
      · rw [nx (by omega)]; exact x9 h
  · rcases Nat.lt_or_ge i n with g | g
    · rw [pk_un (by omega), pk_un (by omega), pk_un (by omega), pk_un (by omega), pk_un (by omega)]
      exact E i g
    · have : i = n := by omega
      subst this
      rw [pk_us, pk_us, pk_us, pk_us, pk_us, dq_e10 ho, dq_e9 ho]
      exact ⟨fun h => nx (by omega), fun h h' => ny (by omega)⟩
theorem i_vc_emit {k : Nat} {u : SX} {v : SY} (I : i_Rel k u v) (hk : k + 5 ≤ 2562) (v1 : Int32) (v2 : Int32) (v3 : Int32) (v4 : Int32) : wpX_emit (fun r u' => wpY_emit (fun r' v' => r' = r ∧ i_Rel (k + 5) u' v') v v1 v2 v3 v4) u v1 v2 v3 v4 := by
  refine dq_el (P := fun u v => wpX_emit (fun r u' => wpY_emit (fun r' v' => r' = r ∧ i_Rel (k + 5) u' v') v v1 v2 v3 v4) u v1 v2 v3 v4) ?_ I
  intro n D la sd pl xd ol wc wt wv nw wh wn lh ln sh sn oc fx fy fz R M lS lL wo wg lr lv rr rv ld lw sa sv sf ax ay L hn hD1 hD4 hl1 hl6 V E
  have same : ∀ r : Int32, r = r ∧ i_Rel (k + 5) (nI n, nI D, nI la, sd, pl, xd, ol, wc, wt, wv, nw, wh, wn, lh, ln, sh, sn, oc, fx, fy, fz, R, M, lS, lL, wo, wg, lr, lv, rr, rv, ld, lw, sa, sv, sf) (nI n, oc, ax, ay, fz, R, M, L) := fun r => ⟨rfl, dq_in hn hD1 hD4 hl1 hl6 V E⟩
  by_cases h0 : v1 < 0
  · refine pk_lt n 24 (fun h => br_t h0 ?_) (fun h => ?_)
    · exact br_f (fun z => absurd ((nI_eq (b := 24) (by omega) (by omega)).mp z) (by omega)) (br_t h0 (br_t rfl (same (-1))))
    · exact br_t ((nI_eq (b := 24) (by omega) (by omega)).mpr (by omega)) (same (-2))
  by_cases h10 : v1 ≤ 10
  · obtain ⟨o, ho, e⟩ := nI_of2 (M := 10) (n := 10) (by decide) h0 h10
    subst e
    refine dq_xemit hn ho (fun a => ?_) (fun a f => ?_) (fun a f => ?_)
    · exact dq_yemit hn ho (fun _ => same (-2)) (fun b _ => by omega) (fun b _ => by omega)
    · exact dq_yemit hn ho (fun b => by omega) (fun _ _ => same (-1)) (fun _ g => absurd g f)
    · refine dq_yemit hn ho (fun b => by omega) (fun _ g => absurd f g) (fun _ _ => ⟨rfl, ?_⟩)
      obtain ⟨V', E'⟩ := dq_push ho f V E
      exact dq_in (n := n + 1) (by omega) hD1 hD4 hl1 hl6 V' E'
  · refine pk_lt n 24 (fun h => br_f h0 (br_f h10 ?_)) (fun h => ?_)
    · exact br_f (fun z => absurd ((nI_eq (b := 24) (by omega) (by omega)).mp z) (by omega)) (br_f h0 (br_f h10 (br_t rfl (same (-1)))))
    · exact br_t ((nI_eq (b := 24) (by omega) (by omega)).mpr (by omega)) (same (-2))
end
section
/-! the owed statements -/
theorem dq_V0 (oc fx fy fz : Nat → Int32) : dq_V 0 oc fx fy fz := fun i hi => absurd hi (by omega)
theorem dq_EQ0 (oc fx fy ax ay : Nat → Int32) : dq_EQ 0 oc fx fy ax ay := fun i hi => absurd hi (by omega)
theorem dq_x163 {post : SX → Prop} {k1 : Int32} {D : Nat} (h : ∀ la, 1 ≤ la → la ≤ 6 → post (0, nI D, nI la, 0, 0, 0, 0, 0, 0, 0, 0, 0, 0, 0, 0, 0, 0, (fun _ => 0), (fun _ => 0), (fun _ => 0), (fun _ => 0), (fun _ => 0), (fun _ => 0), (fun _ => 0), (fun _ => 0), (fun _ => 0), (fun _ => 0), (fun _ => 0), (fun _ => 0), (fun _ => 0), (fun _ => 0), (fun _ => 0), (fun _ => 0), (fun _ => 0), (fun _ => 0), (fun _ => 0))) :
    wX_init_163 post k1 (nI D) 0 0 0 0 0 0 0 0 0 0 0 0 0 0 0 0 0 (fun _ => 0) (fun _ => 0) (fun _ => 0) (fun _ => 0) (fun _ => 0) (fun _ => 0) (fun _ => 0) (fun _ => 0) (fun _ => 0) (fun _ => 0) (fun _ => 0) (fun _ => 0) (fun _ => 0) (fun _ => 0) (fun _ => 0) (fun _ => 0) (fun _ => 0) (fun _ => 0) (fun _ => 0) := by
  refine br_c (fun a => br_c (fun b => ?_) (fun b => h 6 (by omega) (by omega))) (fun a => h 1 (by omega) (by omega))
  obtain ⟨la, h1, h6, e⟩ := dq_lo (c := 6) (b := 6) (m := 6) (by decide) (Int32.not_lt.mpr a) b rfl
  subst e
  exact h la h1 h6
theorem i_vc0 (k0 : Int32) (k1 : Int32) : wpX_init (fun u => wpY_init (fun v => i_Rel 2 u v) k0 k1) k0 k1 := by
  have fin : ∀ D, 1 ≤ D → D ≤ 4 → wX_init_163 (fun u => wpY_init (fun v => i_Rel 2 u v) k0 k1) k1 (nI D) 0 0 0 0 0 0 0 0 0 0 0 0 0 0 0 0 0 (fun _ => 0) (fun _ => 0) (fun _ => 0) (fun _ => 0) (fun _ => 0) (fun _ => 0) (fun _ => 0) (fun _ => 0) (fun _ => 0) (fun _ => 0) (fun _ => 0) (fun _ => 0) (fun _ => 0) (fun _ => 0) (fun _ => 0) (fun _ => 0) (fun _ => 0) (fun _ => 0) (fun _ => 0) := by
    intro D h1 h4
    refine dq_x163 (fun la g1 g6 => ?_)
    unfold wpY_init
    exact dq_in (n := 0) (by omega) h1 h4 g1 g6 (dq_V0 _ _ _ _) (dq_EQ0 _ _ _ _ _)
  refine br_c (fun a => br_c (fun b => ?_) (fun b => fin 4 (by omega) (by omega))) (fun a => fin 1 (by omega) (by omega))
  obtain ⟨D, h1, h4, e⟩ := dq_lo (c := 4) (b := 4) (m := 4) (by decide) (Int32.not_lt.mpr a) b rfl
  have := fin D h1 h4
  rw [← e] at this
  exact this
theorem i_vc_retract {k : Nat} {u : SX} {v : SY} (I : i_Rel k u v) (hk : k + 5 ≤ 2562) : wpX_retract (fun r u' => wpY_retract (fun r' v' => r' = r ∧ i_Rel (k + 5) u' v') v) u := by
  refine dq_el (P := fun u v => wpX_retract (fun r u' => wpY_retract (fun r' v' => r' = r ∧ i_Rel (k + 5) u' v') v) u) ?_ I
  intro n D la sd pl xd ol wc wt wv nw wh wn lh ln sh sn oc fx fy fz R M lS lL wo wg lr lv rr rv ld lw sa sv sf ax ay L hn hD1 hD4 hl1 hl6 V E
  cases n with
  | zero => exact br_t rfl (br_t rfl ⟨rfl, dq_in hn hD1 hD4 hl1 hl6 V E⟩)
  | succ n =>
    refine br_f (nI_ne0 (by omega) (by omega)) (nm_r (nI_pred n) ?_)
    refine br_f (nI_ne0 (by omega) (by omega)) (nm_r (nI_pred n) ⟨rfl, ?_⟩)
    exact dq_in (by omega) hD1 hD4 hl1 hl6 (fun i hi => V i (by omega)) (fun i hi => E i (by omega))
theorem i_vc_setRegister {k : Nat} {u : SX} {v : SY} (I : i_Rel k u v) (hk : k + 5 ≤ 2562) (v1 : Int32) (v2 : Int32) : wpX_setRegister (fun r u' => wpY_setRegister (fun r' v' => r' = r ∧ i_Rel (k + 5) u' v') v v1 v2) u v1 v2 := by
  refine dq_el (P := fun u v => wpX_setRegister (fun r u' => wpY_setRegister (fun r' v' => r' = r ∧ i_Rel (k + 5) u' v') v v1 v2) u v1 v2) ?_ I
  intro n D la sd pl xd ol wc wt wv nw wh wn lh ln sh sn oc fx fy fz R M lS lL wo wg lr lv rr rv ld lw sa sv sf ax ay L hn hD1 hD4 hl1 hl6 V E
  unfold wpX_setRegister wpY_setRegister
  dsimp only
  refine dq_xreg (fun a => br_f (by decide) (And.intro (dq_rg_in a) (nm_e ?_))) (fun a => br_t rfl ?_)
  · refine dq_yreg (fun b => br_f (by decide) (And.intro (dq_rg_in a) (nm_e ⟨rfl, ?_⟩))) (fun b => absurd a b)
    exact dq_in hn hD1 hD4 hl1 hl6 V E
  · refine dq_yreg (fun b => absurd b a) (fun b => br_t rfl ⟨rfl, ?_⟩)
    exact dq_in hn hD1 hD4 hl1 hl6 V E
theorem dq_c16 {x : Int32} (h0 : ¬ x < 0) (h : x ≤ 15) : vp_in x 16 := by
  obtain ⟨j, hj, e⟩ := nI_of2 (M := 15) (n := 15) (by decide) h0 h
  rw [e]; exact vp_in_nI (by omega) (by omega)
theorem i_vc_setMemory {k : Nat} {u : SX} {v : SY} (I : i_Rel k u v) (hk : k + 5 ≤ 2562) (v1 : Int32) (v2 : Int32) : wpX_setMemory (fun r u' => wpY_setMemory (fun r' v' => r' = r ∧ i_Rel (k + 5) u' v') v v1 v2) u v1 v2 := by
  refine dq_el (P := fun u v => wpX_setMemory (fun r u' => wpY_setMemory (fun r' v' => r' = r ∧ i_Rel (k + 5) u' v') v v1 v2) u v1 v2) ?_ I
  intro n D la sd pl xd ol wc wt wv nw wh wn lh ln sh sn oc fx fy fz R M lS lL wo wg lr lv rr rv ld lw sa sv sf ax ay L hn hD1 hD4 hl1 hl6 V E
  by_cases h0 : v1 < 0
  · exact br_t h0 (br_t h0 ⟨rfl, dq_in hn hD1 hD4 hl1 hl6 V E⟩)
  · by_cases h : v1 ≤ 15
    · refine br_f h0 (br_t h (And.intro (dq_c16 h0 h) (nm_e ?_)))
      refine br_f h0 (br_t h (And.intro (dq_c16 h0 h) (nm_e ⟨rfl, ?_⟩)))
      exact dq_in hn hD1 hD4 hl1 hl6 V E
    · exact br_f h0 (br_f h (br_f h0 (br_f h ⟨rfl, dq_in hn hD1 hD4 hl1 hl6 V E⟩)))
theorem i_vc_register {k : Nat} {u : SX} {v : SY} (I : i_Rel k u v) (hk : k + 5 ≤ 2562) (v1 : Int32) : wpX_register (fun r => wpY_register (fun r' => r' = r ∧ i_Rel (k + 5) u v) v v1) u v1 := by
  refine dq_el (P := fun u v => wpX_register (fun r => wpY_register (fun r' => r' = r ∧ i_Rel (k + 5) u v) v v1) u v1) ?_ I
  intro n D la sd pl xd ol wc wt wv nw wh wn lh ln sh sn oc fx fy fz R M lS lL wo wg lr lv rr rv ld lw sa sv sf ax ay L hn hD1 hD4 hl1 hl6 V E
  unfold wpX_register wpY_register
  dsimp only
  refine dq_xreg (fun a => br_f (by decide) (And.intro (dq_rg_in a) ?_)) (fun a => br_t rfl ?_)
  · refine dq_yreg (fun b => br_f (by decide) (And.intro (dq_rg_in a) ⟨rfl, ?_⟩)) (fun b => absurd a b)
    exact dq_in hn hD1 hD4 hl1 hl6 V E
  · refine dq_yreg (fun b => absurd b a) (fun b => br_t rfl ⟨rfl, ?_⟩)
    exact dq_in hn hD1 hD4 hl1 hl6 V E
theorem i_vc_memory {k : Nat} {u : SX} {v : SY} (I : i_Rel k u v) (hk : k + 5 ≤ 2562) (v1 : Int32) : wpX_memory (fun r => wpY_memory (fun r' => r' = r ∧ i_Rel (k + 5) u v) v v1) u v1 := by
  refine dq_el (P := fun u v => wpX_memory (fun r => wpY_memory (fun r' => r' = r ∧ i_Rel (k + 5) u v) v v1) u v1) ?_ I
  intro n D la sd pl xd ol wc wt wv nw wh wn lh ln sh sn oc fx fy fz R M lS lL wo wg lr lv rr rv ld lw sa sv sf ax ay L hn hD1 hD4 hl1 hl6 V E
  by_cases h0 : v1 < 0
  · exact br_t h0 (br_t h0 ⟨rfl, dq_in hn hD1 hD4 hl1 hl6 V E⟩)
  · by_cases h : v1 ≤ 15
    · refine br_f h0 (br_t h (And.intro (dq_c16 h0 h) ?_))
      refine br_f h0 (br_f (Int32.not_lt.mpr h) (And.intro (dq_c16 h0 h) ⟨rfl, ?_⟩))
      exact dq_in hn hD1 hD4 hl1 hl6 V E
    · exact br_f h0 (br_f h (br_f h0 (br_t (Int32.not_le.mp h) ⟨rfl, dq_in hn hD1 hD4 hl1 hl6 V E⟩)))
theorem i_vc_addressSide {k : Nat} {u : SX} {v : SY} (I : i_Rel k u v) (hk : k + 5 ≤ 2562) : wpX_addressSide (fun r => wpY_addressSide (fun r' => r' = r ∧ i_Rel (k + 5) u v) v) u := by
  refine dq_el (P := fun u v => wpX_addressSide (fun r => wpY_addressSide (fun r' => r' = r ∧ i_Rel (k + 5) u v) v) u) ?_ I
  intro n D la sd pl xd ol wc wt wv nw wh wn lh ln sh sn oc fx fy fz R M lS lL wo wg lr lv rr rv ld lw sa sv sf ax ay L hn hD1 hD4 hl1 hl6 V E
  unfold wpX_addressSide
  dsimp only
  refine dq_xsl hn (dq_ysl hn ⟨dq_sl_eq V E, ?_⟩)
  exact dq_in hn hD1 hD4 hl1 hl6 V E
/-! clear -/
def dq_cz : Nat → Nat → (Nat → Int32) → (Nat → Int32)
  | 0, _, R => R
  | k + 1, i, R => dq_cz k (i + 1) (upd R i 0)
section
variable {n : Nat} {D la sd pl xd ol wc wt wv nw wh wn lh ln sh sn : Int32} {oc fx fy fz R M lS lL wo wg lr lv rr rv ld lw sa sv sf : Nat → Int32}
theorem dq_xc28 {post : SX → Prop} : ∀ k i N M, i + k = 16 → k < N → post (nI n, D, la, sd, pl, xd, ol, wc, wt, wv, nw, wh, wn, lh, ln, sh, sn, oc, fx, fy, fz, R, dq_cz k i M, lS, lL, wo, wg, lr, lv, rr, rv, ld, lw, sa, sv, sf) → wX_clear_28 post (nI n) D la sd pl xd ol wc wt wv nw wh wn lh ln sh sn N (nI i) oc fx fy fz R M lS lL wo wg lr lv rr rv ld lw sa sv sf := by
  intro k
  induction k with
  | zero =>
    intro i N M hi hN h
    obtain ⟨N, rfl⟩ : ∃ m, N = m + 1 := ⟨N - 1, by omega⟩
    exact br_t (nI_le (a := 16) (by omega) (by omega)) h
  | succ k ih =>
    intro i N M hi hN h
    obtain ⟨N, rfl⟩ : ∃ m, N = m + 1 := ⟨N - 1, by omega⟩
    refine br_f (nI_ge (b := 16) (by omega) (by omega)) (And.intro (vp_in_nI (by omega) (by omega)) ?_)
    rw [nI_clamp (n := i) (by omega)]
    exact nm_e (nm_r (nI_1 i) (ih (i + 1) N _ (by omega) (by omega) h))
theorem dq_xc7 {post : SX → Prop} : ∀ k i N R, i + k = 8 → k < N → post (nI n, D, la, sd, pl, xd, ol, wc, wt, wv, nw, wh, wn, lh, ln, sh, sn, oc, fx, fy, fz, dq_cz k i R, dq_cz 16 0 M, lS, lL, wo, wg, lr, lv, rr, rv, ld, lw, sa, sv, sf) → wX_clear_7 post (nI n) D la sd pl xd ol wc wt wv nw wh wn lh ln sh sn N (nI i) oc fx fy fz R M lS lL wo wg lr lv rr rv ld lw sa sv sf := by
  intro k
  induction k with
  | zero =>
    intro i N R hi hN h
    obtain ⟨N, rfl⟩ : ∃ m, N = m + 1 := ⟨N - 1, by omega⟩
    exact br_t (nI_le (a := 8) (by omega) (by omega)) ⟨17, dq_xc28 16 0 17 M (by omega) (by omega) h⟩
  | succ k ih =>
    intro i N R hi hN h
    obtain ⟨N, rfl⟩ : ∃ m, N = m + 1 := ⟨N - 1, by omega⟩
    refine br_f (nI_ge (b := 8) (by omega) (by omega)) (And.intro (vp_in_nI (by omega) (by omega)) ?_)
    rw [nI_clamp (n := i) (by omega)]
    exact nm_e (nm_r (nI_1 i) (ih (i + 1) N _ (by omega) (by omega) h))
end
section
variable {n : Nat} {oc ax ay fz R M L : Nat → Int32}
theorem dq_yc28 {post : SY → Prop} : ∀ k i N M, i + k = 16 → k < N → post (nI n, oc, ax, ay, fz, R, dq_cz k i M, L) → wY_clear_28 post (nI n) N (nI i) oc ax ay fz R M L := by
  intro k
  induction k with
  | zero =>
    intro i N M hi hN h
    obtain ⟨N, rfl⟩ : ∃ m, N = m + 1 := ⟨N - 1, by omega⟩
    exact br_t (nI_le (a := 16) (by omega) (by omega)) h
  | succ k ih =>
    intro i N M hi hN h
    obtain ⟨N, rfl⟩ : ∃ m, N = m + 1 := ⟨N - 1, by omega⟩
    refine br_f (nI_ge (b := 16) (by omega) (by omega)) (And.intro (vp_in_nI (by omega) (by omega)) ?_)
    rw [nI_clamp (n := i) (by omega)]
    exact nm_e (nm_r (nI_1 i) (ih (i + 1) N _ (by omega) (by omega) h))
theorem dq_yc7 {post : SY → Prop} : ∀ k i N R, i + k = 8 → k < N → post (nI n, oc, ax, ay, fz, dq_cz k i R, dq_cz 16 0 M, L) → wY_clear_7 post (nI n) N (nI i) oc ax ay fz R M L := by
  intro k
  induction k with
  | zero =>
    intro i N R hi hN h
    obtain ⟨N, rfl⟩ : ∃ m, N = m + 1 := ⟨N - 1, by omega⟩
    exact br_t (nI_le (a := 8) (by omega) (by omega)) ⟨17, dq_yc28 16 0 17 M (by omega) (by omega) h⟩
  | succ k ih =>
    intro i N R hi hN h
    obtain ⟨N, rfl⟩ : ∃ m, N = m + 1 := ⟨N - 1, by omega⟩
    refine br_f (nI_ge (b := 8) (by omega) (by omega)) (And.intro (vp_in_nI (by omega) (by omega)) ?_)
    rw [nI_clamp (n := i) (by omega)]
    exact nm_e (nm_r (nI_1 i) (ih (i + 1) N _ (by omega) (by omega) h))
end
theorem i_vc_clear {k : Nat} {u : SX} {v : SY} (I : i_Rel k u v) (hk : k + 5 ≤ 2562) : wpX_clear (fun u' => wpY_clear (fun v' => i_Rel (k + 5) u' v') v) u := by
  refine dq_el (P := fun u v => wpX_clear (fun u' => wpY_clear (fun v' => i_Rel (k + 5) u' v') v) u) ?_ I
  intro n D la sd pl xd ol wc wt wv nw wh wn lh ln sh sn oc fx fy fz R M lS lL wo wg lr lv rr rv ld lw sa sv sf ax ay L hn hD1 hD4 hl1 hl6 V E
  refine Exists.intro 9 (dq_xc7 (n := 0) 8 0 9 R (by omega) (by omega) ?_)
  refine Exists.intro 9 (dq_yc7 (n := 0) 8 0 9 R (by omega) (by omega) ?_)
  exact dq_in (n := 0) (by omega) hD1 hD4 hl1 hl6 (dq_V0 _ _ _ _) (dq_EQ0 _ _ _ _ _)
/-! run -/
theorem dq_WF_eq {n : Nat} {oc fx fy fz ax ay : Nat → Int32} (V : dq_V n oc fx fy fz) (E : dq_EQ n oc fx fy ax ay) : dq_WF oc ay n ↔ dq_WF oc fy n := by
  have key : ∀ i, i < n → oc i = 8 → fy i = ay i := fun i hi h => (E i hi).2 (by rw [h]; decide) (by rw [h]; decide)
  constructor
  · rintro ⟨a, b⟩
    refine ⟨a, fun i hi h => ?_⟩
    rw [key i hi h]; exact b i hi h
  · rintro ⟨a, b⟩
    refine ⟨a, fun i hi h => ?_⟩
    rw [← key i hi h]; exact b i hi h
theorem i_vc_run {k : Nat} {u : SX} {v : SY} (I : i_Rel k u v) (hk : k + 5 ≤ 2562) : wpX_run (fun r u' => wpY_run (fun r' v' => r' = r ∧ i_Rel (k + 5) u' v') v) u := by
  refine dq_el (P := fun u v => wpX_run (fun r u' => wpY_run (fun r' v' => r' = r ∧ i_Rel (k + 5) u' v') v) u) ?_ I
  intro n D la sd pl xd ol wc wt wv nw wh wn lh ln sh sn oc fx fy fz R M lS lL wo wg lr lv rr rv ld lw sa sv sf ax ay L hn hD1 hD4 hl1 hl6 V E
  unfold wpX_run
  dsimp only
  refine dq_xwf V hn (fun w => br_f (by decide) ?_) (fun w => br_t rfl ?_)
  · obtain ⟨C, _, _⟩ := dq_slX_f V
    have W := dq_WD_of w.1
    have hm := dq_mm_le (oc := oc) (L := L) hn
    refine dq_xsl hn ?_
    refine Exists.intro 25001 ?_
    refine dq_xrun (n := n) (D := D) (la := la) (c0 := (0, R, M, L)) V W w.2 C hn hD1 hD4 hl1 hl6 ?_ 25001 (pl := 0) (xd := 0) (ol := 0) (wc := 0) (nw := 0) (wh := 0) (wn := 0) (lh := 0) (ln := 0) (sh := 0) (sn := 0) (ws := []) (ls := []) (ss := []) rfl ⟨by omega, fun s hs => ?_⟩ rfl trivial (fun j hj => absurd hj (by omega)) ?_ ⟨by omega, by omega, hD4, rfl⟩ ⟨by omega, by omega, hD4, rfl⟩ ⟨by omega, by omega, hD4, rfl⟩ ?_ (fun l hl => ?_) (by omega) ?_ ?_
    · intro pl xd ol wc nw wh wn lh ln sh sn wt wv R' M' lS lL wo wg lr lv rr rv ld lw sa sv sf hlt he hx hR hM
      unfold wpY_run
      dsimp only
      refine dq_ywf (dq_V_eq V E) hn (fun w' => br_f (by decide) ?_) (fun w' => absurd ((dq_WF_eq V E).mpr w) w')
      refine Exists.intro (xd + 1) ?_
      refine dq_yrun (c0 := (0, R, M, L)) V E hn hx hlt he ⟨rfl, ?_⟩ xd 0 (xd + 1) (by omega) (by omega)
      rw [← hR, ← hM]
      exact dq_in hn hD1 hD4 hl1 hl6 V E
    · rw [dq_enc] at hs; exact absurd hs (by simp)
    · rw [Nat.zero_add]; exact hm
    · exact ⟨fun w hw => absurd hw (by simp), rfl, rfl, fun s hs => absurd hs (by simp), fun h => absurd h (by omega), rfl, rfl⟩
    · exact absurd hl (by simp)
    · show 0 + dq_Phi (dq_mm oc n 0 L) [] [] [] 0 0 ≤ 25000
      unfold dq_Phi dq_T
      simp only [List.length_nil]
      omega
    · show dq_Phi (dq_mm oc n 0 L) [] [] [] 0 0 < 25001
      unfold dq_Phi dq_T
      simp only [List.length_nil]
      omega
  · unfold wpY_run
    dsimp only
    refine dq_ywf (dq_V_eq V E) hn (fun w' => absurd ((dq_WF_eq V E).mp w') w) (fun w' => br_t rfl ⟨rfl, ?_⟩)
    exact dq_in hn hD1 hD4 hl1 hl6 V E
end
