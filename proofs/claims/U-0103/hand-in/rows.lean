section
/-! rows pasted from the kit's PURE-ROWS and BITS -/
theorem pk_us {f : Nat → Int32} {k : Nat} {x : Int32} : upd f k x k = x := if_pos rfl
theorem pk_un {f : Nat → Int32} {k j : Nat} {x : Int32} (h : j ≠ k) : upd f k x j = f j := if_neg h
theorem pk_uLs {f : Nat → Int64} {k : Nat} {x : Int64} : vp_updL f k x k = x := if_pos rfl
theorem pk_uLn {f : Nat → Int64} {k j : Nat} {x : Int64} (h : j ≠ k) : vp_updL f k x j = f j := if_neg h
theorem pk_sub {a b : Nat} (h : b ≤ a) : nI a - nI b = nI (a - b) := by
  obtain ⟨c, rfl⟩ : ∃ c, a = c + b := ⟨a - b, by omega⟩
  rw [← nI_add, Int32.add_sub_cancel, Nat.add_sub_cancel]
theorem pk_m1 (n : Nat) : nI (n + 1) + (-1) = nI n := by
  rw [← nI_1, Int32.add_assoc, show (1 : Int32) + (-1) = 0 from rfl, Int32.add_zero]
theorem pk_mul (a b : Nat) : nI a * nI b = nI (a * b) := (Int32.ofNat_mul a b).symm
theorem pk_div {a d : Nat} (ha : a < 2 ^ 31) (h0 : 0 < d) (hd : d < 2 ^ 31) : nI a / nI d = nI (a / d) := by
  apply Int32.toInt_inj.mp
  rw [lg_idiv_nonneg (by rw [nI_toInt ha]; omega) (by rw [nI_toInt hd]; omega), nI_toInt ha, nI_toInt hd, nI_toInt (Nat.lt_of_le_of_lt (Nat.div_le_self a d) ha)]
  first | rfl | exact (Int.natCast_ediv _ _).symm
theorem pk_rem {a d : Nat} (ha : a < 2 ^ 31) (h0 : 0 < d) (hd : d < 2 ^ 31) : nI a - nI a / nI d * nI d = nI (a % d) := by
  rw [pk_div ha h0 hd, pk_mul, pk_sub (Nat.div_mul_le_self a d)]
  exact congrArg nI (by have := Nat.div_add_mod' a d; omega)
theorem pk_sub_toInt {a b : Nat} (ha : a < 2 ^ 30) (hb : b < 2 ^ 30) : (nI a - nI b).toInt = (a : Int) - b := by
  rw [Int32.toInt_sub, nI_toInt (by omega), nI_toInt (by omega)]
  exact Int.bmod_eq_of_le (by omega) (by omega)
theorem pk_sneg {a b : Nat} (hb : b < 2 ^ 30) (h : a < b) : nI a - nI b < 0 := by
  rw [Int32.lt_iff_toInt_lt, pk_sub_toInt (by omega) hb, show (0 : Int32).toInt = 0 from by decide]
  omega
theorem pk_ix (x : Int32) {n : Nat} (hn : n < 2 ^ 31) : x < 0 ∨ nI n ≤ x ∨ ∃ j : Nat, j < n ∧ x = nI j := by
  by_cases h : x < 0
  · exact Or.inl h
  · obtain ⟨j, hj, rfl⟩ := nI_of h
    by_cases h2 : j < n
    · exact Or.inr (Or.inr ⟨j, h2, rfl⟩)
    · exact Or.inr (Or.inl (nI_le (by omega) hj))
theorem pk_le {x y : Int32} {A B : Prop} (a b : Nat) (f : a ≤ b → A) (g : b < a → B) (hx : x = nI a := by rfl) (hy : y = nI b := by rfl) (ha : a < 2 ^ 31 := by omega) (hb : b < 2 ^ 31 := by omega) : (x ≤ y → A) ∧ (¬ x ≤ y → B) := by
  subst hx hy
  rw [nI_leI ha hb]
  exact ⟨f, fun z => g (by omega)⟩
theorem pk_lt {x y : Int32} {A B : Prop} (a b : Nat) (f : a < b → A) (g : b ≤ a → B) (hx : x = nI a := by rfl) (hy : y = nI b := by rfl) (ha : a < 2 ^ 31 := by omega) (hb : b < 2 ^ 31 := by omega) : (x < y → A) ∧ (¬ x < y → B) := by
  subst hx hy
  rw [nI_ltI ha hb]
  exact ⟨f, fun z => g (by omega)⟩
theorem pk_eq {x y : Int32} {A B : Prop} (a b : Nat) (f : a = b → A) (g : a ≠ b → B) (hx : x = nI a := by rfl) (hy : y = nI b := by rfl) (ha : a < 2 ^ 31 := by omega) (hb : b < 2 ^ 31 := by omega) : (x = y → A) ∧ (¬ x = y → B) := by
  subst hx hy
  rw [nI_eq ha hb]
  exact ⟨f, g⟩
theorem pk_in {x : Int32} (n N : Nat) (h : n < N) (hx : x = nI n := by rfl) (hN : N < 2 ^ 31 := by omega) : vp_in x N := by
  subst hx
  exact vp_in_nI h hN
theorem pk_cl {x : Int32} (n : Nat) (hx : x = nI n := by rfl) (h : n < 2 ^ 31 := by omega) : x.toNatClampNeg = n := by
  subst hx
  exact nI_clamp h
theorem pk_tn {n : Nat} (h : n < 2 ^ 32) : (nI n).toBitVec.toNat = n := Nat.mod_eq_of_lt h
theorem pk_and (x : Int32) {m : Int32} (k : Nat) (hm : m.toBitVec.toNat = 2 ^ k - 1) : x &&& m = nI (x.toBitVec.toNat % 2 ^ k) := by
  apply Int32.toBitVec_inj.mp
  apply BitVec.eq_of_toNat_eq
  rw [Int32.toBitVec_and, BitVec.toNat_and, hm, Nat.and_two_pow_sub_one_eq_mod]
  show _ = (BitVec.ofNat 32 _).toNat
  rw [BitVec.toNat_ofNat]
  exact (Nat.mod_eq_of_lt (Nat.lt_of_le_of_lt (Nat.mod_le _ _) x.toBitVec.isLt)).symm
theorem pk_andN {n : Nat} (h : n < 2 ^ 32) {m : Int32} (k : Nat) (hm : m.toBitVec.toNat = 2 ^ k - 1) : nI n &&& m = nI (n % 2 ^ k) := by
  rw [pk_and _ k hm, pk_tn h]
theorem pk_andE (x : Int32) {m : Int32} (k : Nat) (hm : m.toBitVec.toNat = 2 ^ k - 1) : ∃ j : Nat, j < 2 ^ k ∧ x &&& m = nI j := ⟨_, Nat.mod_lt _ (Nat.two_pow_pos k), pk_and x k hm⟩
theorem pk_andIn (x : Int32) {m : Int32} (k : Nat) (hm : m.toBitVec.toNat = 2 ^ k - 1) (hk : k ≤ 30) : vp_in (x &&& m) (2 ^ k) := by
  obtain ⟨j, hj, e⟩ := pk_andE x k hm
  rw [e]
  exact vp_in_nI hj (Nat.lt_of_le_of_lt (Nat.pow_le_pow_right (by decide) hk) (by decide))
theorem sb_cl0 : (0 : Int32).toNatClampNeg = 0 := by decide
theorem sb_m1 {p : Nat} (h : 0 < p) : nI p + (-1) = nI (p - 1) := by
  obtain ⟨q, rfl⟩ : ∃ q, p = q + 1 := ⟨p - 1, by omega⟩
  exact pk_m1 q
/-! ===== Int32 by its bits: bt x i ===== -/
def bt (x : Int32) (i : Nat) : Bool := x.toBitVec.getLsbD i
theorem b_ext {x y : Int32} (h : ∀ i, i < 32 → bt x i = bt y i) : x = y := Int32.toBitVec_inj.mp (BitVec.eq_of_getLsbD_eq (fun i hi => h i hi))
theorem b_or (x y : Int32) (i : Nat) : bt (x ||| y) i = (bt x i || bt y i) := by unfold bt; rw [Int32.toBitVec_or, BitVec.getLsbD_or]
theorem b_and (x y : Int32) (i : Nat) : bt (x &&& y) i = (bt x i && bt y i) := by unfold bt; rw [Int32.toBitVec_and, BitVec.getLsbD_and]
theorem b_xor (x y : Int32) (i : Nat) : bt (x ^^^ y) i = (bt x i ^^ bt y i) := by unfold bt; rw [Int32.toBitVec_xor, BitVec.getLsbD_xor]
theorem b_big {x : Int32} {i : Nat} (h : 32 ≤ i) : bt x i = false := BitVec.getLsbD_of_ge _ _ h
theorem b_255 (i : Nat) : bt 255 i = decide (i < 8) := by
  rcases Nat.lt_or_ge i 32 with h | h
  · exact (by decide +kernel : ∀ i, i < 32 → bt 255 i = decide (i < 8)) i h
  · rw [b_big h, decide_eq_false (by omega)]
theorem b_65535 (i : Nat) : bt 65535 i = decide (i < 16) := by
  rcases Nat.lt_or_ge i 32 with h | h
  · exact (by decide +kernel : ∀ i, i < 32 → bt 65535 i = decide (i < 16)) i h
  · rw [b_big h, decide_eq_false (by omega)]
theorem b_m1 : ∀ i, i < 32 → bt (-1) i = true := by decide +kernel
theorem b_0 (i : Nat) : bt 0 i = false := BitVec.getLsbD_zero
theorem s_l : ∀ n, n < 32 → ((nI n &&& 31).toBitVec.smod 32).toNat = n := by decide +kernel
theorem s_u : ∀ n, n < 32 → (((nI n).toUInt32 &&& Int32.toUInt32 31).toBitVec % 32).toNat = n := by decide +kernel
theorem b_shl (n : Nat) (hn : n < 32) (x : Int32) {i : Nat} (hi : i < 32) : bt (x <<< (nI n &&& 31)) i = (decide (n ≤ i) && bt x (i - n)) := by
  unfold bt
  rw [Int32.toBitVec_shiftLeft]
  show (x.toBitVec <<< ((nI n &&& 31).toBitVec.smod 32).toNat).getLsbD i = _
  rw [s_l n hn, BitVec.getLsbD_shiftLeft]
  rcases Nat.lt_or_ge i n with h | h
  · simp [h, Nat.not_le.mpr h]
  · simp [hi, h, Nat.not_lt.mpr h]
theorem b_ushr (n : Nat) (hn : n < 32) (x : Int32) (i : Nat) : bt ((x.toUInt32 >>> ((nI n).toUInt32 &&& Int32.toUInt32 31)).toInt32) i = bt x (n + i) := by
  show (x.toUInt32 >>> ((nI n).toUInt32 &&& Int32.toUInt32 31)).toBitVec.getLsbD i = x.toUInt32.toBitVec.getLsbD (n + i)
  rw [UInt32.toBitVec_shiftRight]
  show (x.toUInt32.toBitVec >>> (((nI n).toUInt32 &&& Int32.toUInt32 31).toBitVec % 32).toNat).getLsbD i = _
  rw [s_u n hn, BitVec.getLsbD_ushiftRight]
theorem b_sshr (n : Nat) (hn : n < 32) (x : Int32) {i : Nat} (hi : i < 32) : bt (x >>> (nI n &&& 31)) i = if n + i < 32 then bt x (n + i) else bt x 31 := by
  unfold bt
  rw [Int32.toBitVec_shiftRight]
  show (x.toBitVec.sshiftRight ((nI n &&& 31).toBitVec.smod 32).toNat).getLsbD i = _
  rw [s_l n hn, BitVec.getLsbD_sshiftRight, BitVec.msb_eq_getLsbD_last]
  simp [hi]
theorem b_shl8 (x : Int32) {i : Nat} (hi : i < 32) : bt (x <<< ((8 : Int32) &&& 31)) i = (decide (8 ≤ i) && bt x (i - 8)) := b_shl 8 (by omega) x hi
theorem b_shl16 (x : Int32) {i : Nat} (hi : i < 32) : bt (x <<< ((16 : Int32) &&& 31)) i = (decide (16 ≤ i) && bt x (i - 16)) := b_shl 16 (by omega) x hi
theorem b_shl24 (x : Int32) {i : Nat} (hi : i < 32) : bt (x <<< ((24 : Int32) &&& 31)) i = (decide (24 ≤ i) && bt x (i - 24)) := b_shl 24 (by omega) x hi
theorem b_sshr8 (x : Int32) {i : Nat} (hi : i < 32) : bt (x >>> ((8 : Int32) &&& 31)) i = if 8 + i < 32 then bt x (8 + i) else bt x 31 := b_sshr 8 (by omega) x hi
end
section
/-! the stack of blocks still unclosed, and where they close -/
def zk (K : Nat → Int32) : Nat → List Nat
  | 0 => []
  | i + 1 => if K i = 12 ∨ K i = 14 then i :: zk K i else if K i = 15 then (zk K i).tail else zk K i
theorem zk_s (K : Nat → Int32) (i : Nat) : zk K (i + 1) = if K i = 12 ∨ K i = 14 then i :: zk K i else if K i = 15 then (zk K i).tail else zk K i := rfl
theorem zk_o {K : Nat → Int32} {i : Nat} (h : K i = 12 ∨ K i = 14) : zk K (i + 1) = i :: zk K i := by rw [zk_s, if_pos h]
theorem zk_15 {k : Int32} (h : k = 15) : ¬ (k = 12 ∨ k = 14) := by
  rw [h]; decide
theorem zk_e {K : Nat → Int32} {i : Nat} (h : K i = 15) : zk K (i + 1) = (zk K i).tail := by rw [zk_s, if_neg (zk_15 h), if_pos h]
theorem zk_n {K : Nat → Int32} {i : Nat} (h : ¬ (K i = 12 ∨ K i = 14)) (h' : ¬ K i = 15) : zk K (i + 1) = zk K i := by rw [zk_s, if_neg h, if_neg h']
theorem zk_cg {K K' : Nat → Int32} : ∀ p : Nat, (∀ i, i < p → K' i = K i) → zk K' p = zk K p := by
  intro p
  induction p with
  | zero => intro _; rfl
  | succ p ih =>
    intro h
    rw [zk_s, zk_s, h p (by omega), ih (fun i hi => h i (by omega))]
theorem zk_lt {K : Nat → Int32} : ∀ (p o : Nat), o ∈ zk K p → o < p := by
  intro p
  induction p with
  | zero => intro o h; exact absurd h (List.not_mem_nil)
  | succ p ih =>
    intro o h
    by_cases h1 : K p = 12 ∨ K p = 14
    · rw [zk_o h1] at h
      rcases List.mem_cons.mp h with e | e
      · omega
      · have := ih o e; omega
    · by_cases h2 : K p = 15
      · rw [zk_e h2] at h
        have := ih o (List.mem_of_mem_tail h); omega
      · rw [zk_n h1 h2] at h
        have := ih o h; omega
theorem zk_op {K : Nat → Int32} : ∀ (p o : Nat), o ∈ zk K p → K o = 12 ∨ K o = 14 := by
  intro p
  induction p with
  | zero => intro o h; exact absurd h (List.not_mem_nil)
  | succ p ih =>
    intro o h
    by_cases h1 : K p = 12 ∨ K p = 14
    · rw [zk_o h1] at h
      rcases List.mem_cons.mp h with e | e
      · rw [e]; exact h1
      · exact ih o e
    · by_cases h2 : K p = 15
      · rw [zk_e h2] at h
        exact ih o (List.mem_of_mem_tail h)
      · rw [zk_n h1 h2] at h
        exact ih o h
theorem zk_pw {K : Nat → Int32} : ∀ p : Nat, (zk K p).Pairwise (fun a b => b < a) := by
  intro p
  induction p with
  | zero => exact List.Pairwise.nil
  | succ p ih =>
    by_cases h1 : K p = 12 ∨ K p = 14
    · rw [zk_o h1]
      exact List.Pairwise.cons (fun a ha => zk_lt p a ha) ih
    · by_cases h2 : K p = 15
      · rw [zk_e h2]
        exact ih.tail
      · rw [zk_n h1 h2]
        exact ih
theorem zk_suf {K : Nat → Int32} : ∀ (p o : Nat), o ∈ zk K p → ∃ pre : List Nat, zk K p = pre ++ o :: zk K o := by
  intro p
  induction p with
  | zero => intro o h; exact absurd h (List.not_mem_nil)
  | succ p ih =>
    intro o h
    by_cases h1 : K p = 12 ∨ K p = 14
    · rw [zk_o h1] at h ⊢
      rcases List.mem_cons.mp h with e | e
      · exact ⟨[], by rw [e]; rfl⟩
      · obtain ⟨pre, e'⟩ := ih o e
        exact ⟨p :: pre, by rw [e']; rfl⟩
    · by_cases h2 : K p = 15
      · rw [zk_e h2] at h ⊢
        obtain ⟨pre, e'⟩ := ih o (List.mem_of_mem_tail h)
        cases pre with
        | nil =>
          rw [e'] at h
          exact absurd (zk_lt o o h) (by omega)
        | cons a pre => exact ⟨pre, by rw [e']; rfl⟩
      · rw [zk_n h1 h2] at h ⊢
        exact ih o h
theorem zk_no {K : Nat → Int32} {o i : Nat} (h0 : o < i) (h : o ∉ zk K i) : ∀ d : Nat, o ∉ zk K (i + d) := by
  intro d
  induction d with
  | zero => exact h
  | succ d ih =>
    intro hm
    have hm' : o ∈ zk K (i + d + 1) := hm
    by_cases h1 : K (i + d) = 12 ∨ K (i + d) = 14
    · rw [zk_o h1] at hm'
      rcases List.mem_cons.mp hm' with e | e
      · omega
      · exact ih e
    · by_cases h2 : K (i + d) = 15
      · rw [zk_e h2] at hm'
        exact ih (List.mem_of_mem_tail hm')
      · rw [zk_n h1 h2] at hm'
        exact ih hm'
/-- the scan for the place that closes -/
def zc (K : Nat → Int32) (e : Bool) : Nat → Nat → Nat → Nat
  | 0, _, i => i
  | r + 1, d, i => if d = 0 ∧ (K i = 15 ∨ (e = true ∧ K i = 13)) then i else
      zc K e r (if K i = 12 ∨ K i = 14 then d + 1 else if K i = 15 then d - 1 else d) (i + 1)
theorem zc_s (K : Nat → Int32) (e : Bool) (r d i : Nat) : zc K e (r + 1) d i = if d = 0 ∧ (K i = 15 ∨ (e = true ∧ K i = 13)) then i else
      zc K e r (if K i = 12 ∨ K i = 14 then d + 1 else if K i = 15 then d - 1 else d) (i + 1) := rfl
/-- place j closes the block opened at o -/
def zl (K : Nat → Int32) (e : Bool) (o j : Nat) : Prop := zk K j = o :: zk K o ∧ (K j = 15 ∨ (e = true ∧ K j = 13))
def zq (K : Nat → Int32) (n : Nat) (e : Bool) (o : Nat) : Nat := zc K e (n - (o + 1)) 0 (o + 1)
theorem zc_le {K : Nat → Int32} {e : Bool} : ∀ r d i : Nat, i ≤ zc K e r d i ∧ zc K e r d i ≤ i + r := by
  intro r
  induction r with
  | zero => intro d i; exact ⟨Nat.le_refl _, Nat.le_refl _⟩
  | succ r ih =>
    intro d i
    rw [zc_s]
    split
    · omega
    · have := ih (if K i = 12 ∨ K i = 14 then d + 1 else if K i = 15 then d - 1 else d) (i + 1)
      omega
theorem zc_sp {K : Nat → Int32} {e : Bool} {o : Nat} : ∀ (r i : Nat) (pre : List Nat), zk K i = pre ++ o :: zk K o →
    (∀ j, i ≤ j → j ≤ zc K e r pre.length i → o ∈ zk K j) ∧ (zc K e r pre.length i < i + r → zl K e o (zc K e r pre.length i)) ∧
    (∀ j, i ≤ j → j < zc K e r pre.length i → ¬ zl K e o j) := by
  intro r
  induction r with
  | zero =>
    intro i pre h
    refine ⟨fun j h1 h2 => ?_, fun h1 => absurd h1 (Nat.lt_irrefl _), fun j h1 h2 => ?_⟩
    · have h2' : j ≤ i := h2
      have : j = i := by omega
      rw [this, h]
      exact List.mem_append.mpr (Or.inr (List.mem_cons_self))
    · have h2' : j < i := h2
      omega
  | succ r ih =>
    intro i pre h
    have hm : o ∈ zk K i := by
      rw [h]
      exact List.mem_append.mpr (Or.inr (List.mem_cons_self))
    rw [zc_s]
    by_cases c : pre.length = 0 ∧ (K i = 15 ∨ (e = true ∧ K i = 13))
    · rw [if_pos c]
      have hp : pre = [] := List.length_eq_zero_iff.mp c.1
      refine ⟨fun j h1 h2 => ?_, fun _ => ⟨?_, c.2⟩, fun j h1 h2 => by omega⟩
      · have : j = i := by omega
        rw [this]; exact hm
      · rw [h, hp]; rfl
    · rw [if_neg c]
      have hni : ¬ zl K e o i := by
        intro hz
        have hz1 := hz.1
        rw [h] at hz1
        have hl := congrArg List.length hz1
        rw [List.length_append] at hl
        exact c ⟨by omega, hz.2⟩
      have key : ∃ pre' : List Nat, zk K (i + 1) = pre' ++ o :: zk K o ∧ pre'.length = (if K i = 12 ∨ K i = 14 then pre.length + 1 else if K i = 15 then pre.length - 1 else pre.length) := by
        by_cases h1 : K i = 12 ∨ K i = 14
        · refine ⟨i :: pre, ?_, ?_⟩
          · rw [zk_o h1, h]; rfl
          · rw [if_pos h1]; rfl
        · by_cases h2 : K i = 15
          · cases pre with
            | nil => exact absurd ⟨rfl, Or.inl h2⟩ c
            | cons a pre =>
              refine ⟨pre, ?_, ?_⟩
              · rw [zk_e h2, h]; rfl
              · rw [if_neg h1, if_pos h2]; rfl
          · refine ⟨pre, ?_, ?_⟩
            · rw [zk_n h1 h2, h]
            · rw [if_neg h1, if_neg h2]
      obtain ⟨pre', e1, e2⟩ := key
      rw [← e2]
      obtain ⟨a1, a2, a3⟩ := ih (i + 1) pre' e1
      refine ⟨fun j h1 h2 => ?_, fun h1 => a2 (by omega), fun j h1 h2 => ?_⟩
      · by_cases hj : j = i
        · rw [hj]; exact hm
        · exact a1 j (by omega) h2
      · by_cases hj : j = i
        · rw [hj]; exact hni
        · exact a3 j (by omega) h2
theorem zq_b {K : Nat → Int32} {n : Nat} {e : Bool} {o : Nat} (hn : o < n) : o < zq K n e o ∧ zq K n e o ≤ n := by
  have := zc_le (K := K) (e := e) (n - (o + 1)) 0 (o + 1)
  unfold zq
  omega
theorem zq_in {K : Nat → Int32} {n : Nat} {e : Bool} {o : Nat} (ho : K o = 12 ∨ K o = 14) {j : Nat} (h1 : o < j) (h2 : j ≤ zq K n e o) : o ∈ zk K j :=
  (zc_sp (n - (o + 1)) (o + 1) [] (zk_o ho)).1 j h1 h2
theorem zq_cl {K : Nat → Int32} {n : Nat} {e : Bool} {o : Nat} (ho : K o = 12 ∨ K o = 14) (hn : o < n) (h : zq K n e o < n) : zl K e o (zq K n e o) :=
  (zc_sp (n - (o + 1)) (o + 1) [] (zk_o ho)).2.1 (by show zq K n e o < _; omega)
theorem zq_nc {K : Nat → Int32} {n : Nat} {e : Bool} {o : Nat} (ho : K o = 12 ∨ K o = 14) {j : Nat} (h1 : o < j) (h2 : j < zq K n e o) : ¬ zl K e o j :=
  (zc_sp (n - (o + 1)) (o + 1) [] (zk_o ho)).2.2 j h1 h2
theorem zq_un {K : Nat → Int32} {n : Nat} {e : Bool} {o c : Nat} (ho : K o = 12 ∨ K o = 14) (hn : o < n) (h1 : o < c) (h2 : c ≤ n) (h3 : c < n → zl K e o c) (h4 : ∀ j, o < j → j < c → ¬ zl K e o j) : zq K n e o = c := by
  have hb := zq_b (K := K) (e := e) hn
  rcases Nat.lt_trichotomy (zq K n e o) c with h | h | h
  · exact absurd (zq_cl ho hn (by omega)) (h4 _ hb.1 h)
  · exact h
  · exact absurd (h3 (by omega)) (zq_nc ho h1 h)
theorem zl_cg {K K' : Nat → Int32} {n : Nat} (hK : ∀ i, i < n → K' i = K i) {e : Bool} {o j : Nat} (ho : o < n) (hj : j < n) : zl K' e o j ↔ zl K e o j := by
  unfold zl
  rw [zk_cg j (fun i hi => hK i (by omega)), zk_cg o (fun i hi => hK i (by omega)), hK j hj]
/-- one more place -/
theorem zq_a {K K' : Nat → Int32} {n : Nat} (hK : ∀ i, i < n → K' i = K i) {e : Bool} {o : Nat} (ho : K o = 12 ∨ K o = 14) (hn : o < n) (h : zq K n e o < n) : zq K' (n + 1) e o = zq K n e o := by
  have hb := zq_b (K := K) (e := e) hn
  refine zq_un (by rw [hK o hn]; exact ho) (by omega) hb.1 (by omega) (fun _ => (zl_cg hK hn h).mpr (zq_cl ho hn h)) (fun j h1 h2 h3 => ?_)
  exact zq_nc ho h1 h2 ((zl_cg hK hn (by omega)).mp h3)
theorem zq_c {K K' : Nat → Int32} {n : Nat} (hK : ∀ i, i < n → K' i = K i) {e : Bool} {o : Nat} (ho : K o = 12 ∨ K o = 14) (hn : o < n) (h : ¬ zq K n e o < n) (hz : zl K' e o n) : zq K' (n + 1) e o = n := by
  have hb := zq_b (K := K) (e := e) hn
  refine zq_un (by rw [hK o hn]; exact ho) (by omega) (by omega) (by omega) (fun _ => hz) (fun j h1 h2 h3 => ?_)
  exact zq_nc (n := n) ho h1 (by omega) ((zl_cg hK hn (by omega)).mp h3)
theorem zq_d {K K' : Nat → Int32} {n : Nat} (hK : ∀ i, i < n → K' i = K i) {e : Bool} {o : Nat} (ho : K o = 12 ∨ K o = 14) (hn : o < n) (h : ¬ zq K n e o < n) (hz : ¬ zl K' e o n) : zq K' (n + 1) e o = n + 1 := by
  have hb := zq_b (K := K) (e := e) hn
  refine zq_un (by rw [hK o hn]; exact ho) (by omega) (by omega) (by omega) (fun h => absurd h (by omega)) (fun j h1 h2 h3 => ?_)
  by_cases hj : j = n
  · rw [hj] at h3; exact hz h3
  · exact zq_nc (n := n) ho h1 (by omega) ((zl_cg hK hn (by omega)).mp h3)
theorem zq_new {K : Nat → Int32} {n : Nat} {e : Bool} : zq K (n + 1) e n = n + 1 := by
  unfold zq
  rw [Nat.sub_self]; rfl
/-- unclosed at j: from behind the opener to its closing place -/
theorem zq_mem {K : Nat → Int32} {n o j : Nat} (ho : K o = 12 ∨ K o = 14) (hn : o < n) (hj : j ≤ n) : o ∈ zk K j ↔ o < j ∧ j ≤ zq K n false o := by
  constructor
  · intro h
    have h1 := zk_lt j o h
    refine ⟨h1, ?_⟩
    rcases Nat.lt_or_ge (zq K n false o) j with h2 | h2
    · exfalso
      have hb := zq_b (K := K) (e := false) hn
      have hz := zq_cl (e := false) ho hn (by omega)
      have h15 : K (zq K n false o) = 15 := by
        rcases hz.2 with h3 | h3
        · exact h3
        · exact absurd h3.1 (by decide)
      have hs : zk K (zq K n false o + 1) = zk K o := by rw [zk_e h15, hz.1]; rfl
      have hno : o ∉ zk K (zq K n false o + 1) := by
        rw [hs]; intro h4; exact absurd (zk_lt o o h4) (by omega)
      have := zk_no (by omega) hno (j - (zq K n false o + 1))
      rw [show zq K n false o + 1 + (j - (zq K n false o + 1)) = j by omega] at this
      exact this h
    · exact h2
  · intro h
    exact zq_in ho h.1 h.2
theorem zq_tf {K : Nat → Int32} {n o : Nat} (ho : K o = 12 ∨ K o = 14) (hn : o < n) : zq K n true o ≤ zq K n false o := by
  rcases Nat.lt_or_ge (zq K n false o) (zq K n true o) with h | h
  · exfalso
    have hb := zq_b (K := K) (e := true) hn
    have hb' := zq_b (K := K) (e := false) hn
    have hz := zq_cl (e := false) ho hn (by omega)
    refine zq_nc (e := true) ho hb'.1 h ⟨hz.1, ?_⟩
    rcases hz.2 with h3 | h3
    · exact Or.inl h3
    · exact absurd h3.1 (by decide)
  · exact h
/-- counting -/
def zn (P : Nat → Bool) : Nat → Nat
  | 0 => 0
  | i + 1 => zn P i + if P i = true then 1 else 0
theorem zn_cg {P Q : Nat → Bool} : ∀ n : Nat, (∀ i, i < n → P i = Q i) → zn P n = zn Q n := by
  intro n
  induction n with
  | zero => intro _; rfl
  | succ n ih =>
    intro h
    show zn P n + _ = zn Q n + _
    rw [ih (fun i hi => h i (by omega)), h n (by omega)]
theorem zn_le (P : Nat → Bool) : ∀ n : Nat, zn P n ≤ n := by
  intro n
  induction n with
  | zero => exact Nat.le_refl _
  | succ n ih =>
    show zn P n + _ ≤ _
    split <;> omega
theorem zn_li {P : Nat → Bool} : ∀ (n : Nat) (l : List Nat), l.Pairwise (fun a b => b < a) → (∀ o, o ∈ l → o < n) → zn (fun i => P i && decide (i ∈ l)) n = (l.filter P).length := by
  intro n
  induction n with
  | zero =>
    intro l hp hl
    cases l with
    | nil => rfl
    | cons a l => exact absurd (hl a (List.mem_cons_self)) (by omega)
  | succ n ih =>
    intro l hp hl
    show zn (fun i => P i && decide (i ∈ l)) n + (if (P n && decide (n ∈ l)) = true then 1 else 0) = _
    by_cases hn : n ∈ l
    · cases l with
      | nil => exact absurd hn (List.not_mem_nil)
      | cons a l =>
        have hp' := List.pairwise_cons.mp hp
        have ha : a = n := by
          rcases List.mem_cons.mp hn with e | e
          · exact e.symm
          · have h1 := hp'.1 n e
            have h2 := hl a (List.mem_cons_self)
            omega
        have hl' : ∀ o, o ∈ l → o < n := fun o ho => by
          have := hp'.1 o ho
          omega
        have hc : zn (fun i => P i && decide (i ∈ a :: l)) n = zn (fun i => P i && decide (i ∈ l)) n := by
          refine zn_cg n (fun i hi => ?_)
          have : (i ∈ a :: l) ↔ (i ∈ l) := by
            rw [List.mem_cons]
            constructor
            · intro h
              rcases h with h | h
              · omega
              · exact h
            · exact Or.inr
          simp only [this]
        rw [hc, ih l hp'.2 hl', ha]
        by_cases hP : P n = true
        · rw [List.filter_cons_of_pos hP]
          simp [hP]
        · rw [List.filter_cons_of_neg hP]
          simp [hP]
    · have hl' : ∀ o, o ∈ l → o < n := fun o ho => by
        have h1 := hl o ho
        have h2 : o ≠ n := fun h => hn (h ▸ ho)
        omega
      rw [ih l hp hl']
      simp [hn]
/-- around -/
def zfl (K : Nat → Int32) (f : Bool) (o : Nat) : Bool := decide (K o = 14 ∨ (f = true ∧ K o = 12))
def zab (K : Nat → Int32) (n : Nat) (f : Bool) (a i : Nat) : Bool := zfl K f i && decide (a ≤ zq K n false i)
def zar (K : Nat → Int32) (f : Bool) (a : Nat) : Nat := ((zk K a).filter (zfl K f)).length
theorem zfl_op {K : Nat → Int32} {f : Bool} {o : Nat} (h : zfl K f o = true) : K o = 12 ∨ K o = 14 := by
  have := of_decide_eq_true h
  rcases this with h | h
  · exact Or.inr h
  · exact Or.inl h.2
theorem zar_eq {K : Nat → Int32} {n : Nat} {f : Bool} {a : Nat} (ha : a ≤ n) : zn (zab K n f a) a = zar K f a := by
  unfold zar
  rw [← zn_li (P := zfl K f) a (zk K a) (zk_pw a) (zk_lt a)]
  refine zn_cg a (fun i hi => ?_)
  unfold zab
  by_cases hf : zfl K f i = true
  · rw [hf, Bool.true_and, Bool.true_and]
    have := zq_mem (j := a) (zfl_op hf) (show i < n by omega) ha
    by_cases hm : i ∈ zk K a
    · rw [decide_eq_true hm, decide_eq_true (this.mp hm).2]
    · rw [decide_eq_false hm, decide_eq_false]
      intro h
      exact hm (this.mpr ⟨hi, h⟩)
  · rw [Bool.not_eq_true] at hf
    rw [hf, Bool.false_and, Bool.false_and]
theorem zar_t {K : Nat → Int32} {a : Nat} : zar K true a = (zk K a).length := by
  unfold zar
  rw [List.filter_eq_self.mpr]
  intro o ho
  have := zk_op a o ho
  unfold zfl
  rw [decide_eq_true]
  rcases this with h | h
  · exact Or.inr ⟨rfl, h⟩
  · exact Or.inl h
end
section
/-! X's tables as functions of the kinds -/
def zt (c n : Nat) : Int32 := if c < n then nI (c + 1) else -1
def zh (K : Nat → Int32) (p : Nat) : Nat := (zk K p).headD 0
def zJ (K : Nat → Int32) (n p : Nat) : Int32 :=
  if K p = 14 then zt (zq K n false p) n else if K p = 12 then zt (zq K n true p) n else if K p = 13 then zt (zq K n false (zh K p)) n
  else if K p = 15 ∧ K (zh K p) = 14 then nI (zh K p + 1) else -1
def zL (K : Nat → Int32) (p : Nat) : Int32 := if K p = 14 then nI (zar K false p + 1) else if K p = 15 ∧ K (zh K p) = 14 then nI (zar K false p) else 0
def zW (K : Nat → Int32) (n : Nat) : Prop := (∀ p, p ≤ n → (zk K p).length ≤ 4 ∧ zar K false p ≤ 2) ∧
  (∀ p, p < n → (K p = 15 → zk K p ≠ []) ∧ (K p = 13 → ∃ o, zk K p = o :: zk K o ∧ K o = 12 ∧ zq K n true o = p))
def zT (K : Nat → Int32) (n : Nat) (ja la : Nat → Int32) : Prop := ∀ p, p < n → ja p = zJ K n p ∧ la p = zL K p
/-- the unclosed blocks as X keeps them -/
def zO (K : Nat → Int32) (n : Nat) (oa ea : Nat → Int32) : List Nat → Prop
  | [] => True
  | o :: l => oa l.length = nI o ∧ (K o = 12 → ea l.length = if zq K n true o < n then nI (zq K n true o) else -1) ∧ zO K n oa ea l
/-- what may be emitted at n -/
def zG (K : Nat → Int32) (n : Nat) (k : Int32) : Prop := (k = 15 → zk K n ≠ []) ∧ (k = 13 → ∃ o, zk K n = o :: zk K o ∧ K o = 12 ∧ ¬ zq K n true o < n) ∧
  (k = 12 ∨ k = 14 → (zk K n).length < 4) ∧ (k = 14 → zar K false n < 2)
theorem zk_hd {K : Nat → Int32} {p o : Nat} {l : List Nat} (h : zk K p = o :: l) : l = zk K o ∧ o < p ∧ (K o = 12 ∨ K o = 14) ∧ zh K p = o := by
  have hm : o ∈ zk K p := by rw [h]; exact List.mem_cons_self
  have hlt := zk_lt p o hm
  refine ⟨?_, hlt, zk_op p o hm, by unfold zh; rw [h]; rfl⟩
  obtain ⟨pre, e⟩ := zk_suf p o hm
  rw [h] at e
  cases pre with
  | nil => exact (List.cons.inj e).2
  | cons a pre =>
    have e1 := (List.cons.inj e).1
    have e2 := (List.cons.inj e).2
    have hp := zk_pw (K := K) p
    rw [h] at hp
    have := (List.pairwise_cons.mp hp).1 o (by rw [e2]; exact List.mem_append.mpr (Or.inr List.mem_cons_self))
    omega
theorem zk_ne {K : Nat → Int32} {p : Nat} (h : zk K p ≠ []) : ∃ o, zk K p = o :: zk K o ∧ o < p ∧ (K o = 12 ∨ K o = 14) ∧ zh K p = o := by
  cases e : zk K p with
  | nil => exact absurd e h
  | cons o l =>
    have := zk_hd e
    exact ⟨o, by rw [this.1], this.2.1, this.2.2.1, this.2.2.2⟩
theorem zfl_f {K : Nat → Int32} {o : Nat} : zfl K false o = decide (K o = 14) := by
  unfold zfl
  by_cases h : K o = 14
  · rw [decide_eq_true h, decide_eq_true (Or.inl h)]
  · rw [decide_eq_false h, decide_eq_false]
    intro h'
    rcases h' with h' | h'
    · exact h h'
    · exact absurd h'.1 (by decide)
theorem zar_cg {K K' : Nat → Int32} {n : Nat} (hK : ∀ i, i < n → K' i = K i) {p : Nat} (hp : p ≤ n) (f : Bool) : zar K' f p = zar K f p := by
  unfold zar
  rw [zk_cg p (fun i hi => hK i (by omega))]
  congr 1
  refine List.filter_congr (fun o ho => ?_)
  have := zk_lt p o ho
  unfold zfl
  rw [hK o (by omega)]
theorem zar_o {K : Nat → Int32} {p : Nat} (h : K p = 14) : zar K false (p + 1) = zar K false p + 1 := by
  unfold zar
  rw [zk_o (Or.inr h), List.filter_cons_of_pos (by rw [zfl_f, decide_eq_true h])]
  rfl
theorem zar_i {K : Nat → Int32} {p : Nat} (h : K p = 12) : zar K false (p + 1) = zar K false p := by
  unfold zar
  rw [zk_o (Or.inl h), List.filter_cons_of_neg (by rw [zfl_f, h]; decide)]
theorem zar_n {K : Nat → Int32} {p : Nat} (h : ¬ (K p = 12 ∨ K p = 14)) (h' : ¬ K p = 15) : zar K false (p + 1) = zar K false p := by
  unfold zar
  rw [zk_n h h']
theorem zar_e {K : Nat → Int32} {p o : Nat} (h : K p = 15) (ho : zk K p = o :: zk K o) : zar K false (p + 1) = zar K false o ∧ zar K false p = zar K false o + (if K o = 14 then 1 else 0) := by
  unfold zar
  rw [zk_e h, ho]
  refine ⟨rfl, ?_⟩
  by_cases h4 : K o = 14
  · rw [List.filter_cons_of_pos (by rw [zfl_f, decide_eq_true h4]), if_pos h4]
    rfl
  · rw [List.filter_cons_of_neg (by rw [zfl_f, decide_eq_false h4]; decide), if_neg h4]
    rfl
section ONE
variable {K K' : Nat → Int32} {n : Nat}
theorem zh_cg (hK : ∀ i, i < n → K' i = K i) {p : Nat} (hp : p ≤ n) : zh K' p = zh K p := by
  unfold zh
  rw [zk_cg p (fun i hi => hK i (by omega))]
theorem zW_s (hK : ∀ i, i < n → K' i = K i) (h : zW K n) (g : zG K n (K' n)) : zW K' (n + 1) := by
  have hzk : ∀ p, p ≤ n → zk K' p = zk K p := fun p hp => zk_cg p (fun i hi => hK i (by omega))
  refine ⟨fun p hp => ?_, fun p hp => ?_⟩
  · by_cases hpn : p = n + 1
    · subst hpn
      have h0 := h.1 n (Nat.le_refl _)
      have hz : zar K' false n = zar K false n := zar_cg hK (Nat.le_refl _) false
      by_cases h1 : K' n = 12 ∨ K' n = 14
      · have g3 := g.2.2.1 h1
        refine ⟨by rw [zk_o h1, hzk n (Nat.le_refl _), List.length_cons]; omega, ?_⟩
        rcases h1 with h1 | h1
        · rw [zar_i h1, hz]; exact h0.2
        · rw [zar_o h1, hz]
          have := g.2.2.2 h1
          omega
      · by_cases h2 : K' n = 15
        · have hne := g.1 h2
          obtain ⟨o, e1, e2, e3, e4⟩ := zk_ne hne
          have e1' : zk K' n = o :: zk K' o := by rw [hzk n (Nat.le_refl _), e1, hzk o (by omega)]
          have := zar_e h2 e1'
          refine ⟨?_, by omega⟩
          rw [zk_e h2, hzk n (Nat.le_refl _), List.length_tail]
          omega
        · refine ⟨by rw [zk_n h1 h2, hzk n (Nat.le_refl _)]; exact h0.1, ?_⟩
          rw [zar_n h1 h2, hz]; exact h0.2
    · rw [hzk p (by omega), zar_cg hK (by omega) false]
      exact h.1 p (by omega)
  · by_cases hpn : p = n
    · subst hpn
      rw [hzk p (Nat.le_refl _)]
      refine ⟨g.1, fun h13 => ?_⟩
      obtain ⟨o, e1, e2, e3⟩ := g.2.1 h13
      have hm := zk_hd e1
      refine ⟨o, by rw [hzk o (by omega)]; exact e1, by rw [hK o hm.2.1]; exact e2, ?_⟩
      refine zq_c hK hm.2.2.1 hm.2.1 e3 ⟨?_, Or.inr ⟨rfl, h13⟩⟩
      rw [hzk p (Nat.le_refl _), e1, hzk o (by omega)]
    · have hp' : p < n := by omega
      rw [hzk p (by omega), hK p hp']
      have h0 := h.2 p hp'
      refine ⟨h0.1, fun h13 => ?_⟩
      obtain ⟨o, e1, e2, e3⟩ := h0.2 h13
      have hm := zk_hd e1
      refine ⟨o, by rw [hzk o (by omega)]; exact e1, by rw [hK o (by omega)]; exact e2, ?_⟩
      rw [zq_a hK hm.2.2.1 (by omega) (by omega)]
      exact e3
theorem zt_k (hK : ∀ i, i < n → K' i = K i) {e : Bool} {o : Nat} (ho : K o = 12 ∨ K o = 14) (hn : o < n) (h : ¬ (¬ zq K n e o < n ∧ zl K' e o n)) : zt (zq K' (n + 1) e o) (n + 1) = zt (zq K n e o) n := by
  unfold zt
  by_cases h1 : zq K n e o < n
  · rw [zq_a hK ho hn h1, if_pos h1, if_pos (by omega)]
  · by_cases h2 : zl K' e o n
    · exact absurd ⟨h1, h2⟩ h
    · rw [zq_d hK ho hn h1 h2, if_neg h1, if_neg (by omega)]
theorem zt_x (hK : ∀ i, i < n → K' i = K i) {e : Bool} {o : Nat} (ho : K o = 12 ∨ K o = 14) (hn : o < n) (h1 : ¬ zq K n e o < n) (h2 : zl K' e o n) : zt (zq K' (n + 1) e o) (n + 1) = nI (n + 1) := by
  unfold zt
  rw [zq_c hK ho hn h1 h2, if_pos (by omega)]
/-- p's jump stays unless n closes its block -/
theorem zJ_k (hK : ∀ i, i < n → K' i = K i) (h : zW K n) {p : Nat} (hp : p < n) (h14 : K p = 14 → ¬ (¬ zq K n false p < n ∧ zl K' false p n))
    (h12 : K p = 12 → ¬ (¬ zq K n true p < n ∧ zl K' true p n)) (h13 : K p = 13 → ¬ (¬ zq K n false (zh K p) < n ∧ zl K' false (zh K p) n)) : zJ K' (n + 1) p = zJ K n p := by
  unfold zJ
  rw [hK p hp, zh_cg hK (Nat.le_of_lt hp)]
  by_cases c1 : K p = 14
  · rw [if_pos c1, if_pos c1]
    exact zt_k hK (Or.inr c1) hp (h14 c1)
  · rw [if_neg c1, if_neg c1]
    by_cases c2 : K p = 12
    · rw [if_pos c2, if_pos c2]
      exact zt_k hK (Or.inl c2) hp (h12 c2)
    · rw [if_neg c2, if_neg c2]
      by_cases c3 : K p = 13
      · rw [if_pos c3, if_pos c3]
        obtain ⟨o, e1, e2, e3⟩ := (h.2 p hp).2 c3
        have hm := zk_hd e1
        have h13' := h13 c3
        rw [hm.2.2.2] at h13' ⊢
        exact zt_k hK (Or.inl e2) (by omega) h13'
      · rw [if_neg c3, if_neg c3]
        by_cases c4 : K p = 15
        · obtain ⟨o, e1, e2, e3, e4⟩ := zk_ne ((h.2 p hp).1 c4)
          rw [hK (zh K p) (by omega)]
        · rw [if_neg (fun h => c4 h.1), if_neg (fun h => c4 h.1)]
theorem zL_k (hK : ∀ i, i < n → K' i = K i) (h : zW K n) {p : Nat} (hp : p < n) : zL K' p = zL K p := by
  unfold zL
  rw [hK p hp, zh_cg hK (Nat.le_of_lt hp), zar_cg hK (Nat.le_of_lt hp) false]
  by_cases c4 : K p = 15
  · obtain ⟨o, e1, e2, e3, e4⟩ := zk_ne ((h.2 p hp).1 c4)
    rw [hK (zh K p) (by omega)]
  · rw [if_neg (c := K p = 15 ∧ K' (zh K p) = 14) (fun h => c4 h.1), if_neg (c := K p = 15 ∧ K (zh K p) = 14) (fun h => c4 h.1)]
theorem zO_k (hK : ∀ i, i < n → K' i = K i) {oa ea oa' ea' : Nat → Int32} : ∀ l : List Nat, (∀ o, o ∈ l → o < n ∧ (K o = 12 ∨ K o = 14) ∧ (¬ zl K' true o n)) → (∀ i, i < l.length → oa' i = oa i ∧ ea' i = ea i) →
    zO K n oa ea l → zO K' (n + 1) oa' ea' l := by
  intro l
  induction l with
  | nil => intro _ _ _; trivial
  | cons o l ih =>
    intro h1 h2 h3
    have ho := h1 o List.mem_cons_self
    have hl := h2 l.length (by rw [List.length_cons]; omega)
    refine ⟨by rw [hl.1]; exact h3.1, fun h12 => ?_, ih (fun o' ho' => h1 o' (List.mem_cons_of_mem _ ho')) (fun i hi => h2 i (by rw [List.length_cons]; omega)) h3.2.2⟩
    rw [hK o ho.1] at h12
    rw [hl.2, h3.2.1 h12]
    by_cases c : zq K n true o < n
    · rw [zq_a hK ho.2.1 ho.1 c, if_pos c, if_pos (by omega)]
    · rw [zq_d hK ho.2.1 ho.1 c ho.2.2, if_neg c, if_neg (by omega)]
theorem zl_hd {e : Bool} {o : Nat} (hK : ∀ i, i < n → K' i = K i) (h : zl K' e o n) : o < n ∧ zk K n = o :: zk K o := by
  have h1 := h.1
  have hm := zk_hd h1
  rw [zk_cg n (fun i hi => hK i hi), zk_cg o (fun i hi => hK i (by omega))] at h1
  exact ⟨hm.2.1, h1⟩
theorem zl_13 {o : Nat} (h : K' n = 13) : ¬ zl K' false o n := by
  intro hz
  rcases hz.2 with h1 | h1
  · rw [h] at h1; exact absurd h1 (by decide)
  · exact absurd h1.1 (by decide)
theorem zl_ot {e : Bool} {o : Nat} (h : K' n ≠ 13) (h' : K' n ≠ 15) : ¬ zl K' e o n := by
  intro hz
  rcases hz.2 with h1 | h1
  · exact h' h1
  · exact h h1.2
end ONE
/-- the new place is plain or opens a block -/
theorem zT_a {K K' : Nat → Int32} {n : Nat} (hK : ∀ i, i < n → K' i = K i) (h : zW K n) {ja la ja' la' : Nat → Int32} (t : zT K n ja la) (h13 : K' n ≠ 13) (h15 : K' n ≠ 15)
    (hj : ∀ i, i < n → ja' i = ja i) (hl : ∀ i, i < n → la' i = la i) (jn : ja' n = -1) (ln : la' n = if K' n = 14 then nI (zar K false n + 1) else 0) : zT K' (n + 1) ja' la' := by
  intro p hp
  by_cases e : p = n
  · subst e
    rw [jn, ln]
    unfold zJ zL
    rw [if_neg h13, if_neg (fun h : K' p = 15 ∧ _ => h15 h.1), if_neg (fun h : K' p = 15 ∧ _ => h15 h.1), zq_new, zq_new, zar_cg hK (Nat.le_refl _) false]
    unfold zt
    rw [if_neg (Nat.lt_irrefl _)]
    refine ⟨?_, rfl⟩
    split
    · rfl
    · split <;> rfl
  · have hp' : p < n := by omega
    rw [hj p hp', hl p hp', zL_k hK h hp', zJ_k hK h hp' (fun _ hx => zl_ot h13 h15 hx.2) (fun _ hx => zl_ot h13 h15 hx.2) (fun _ hx => zl_ot h13 h15 hx.2)]
    exact t p hp'
/-- an ELSE -/
theorem zT_b {K K' : Nat → Int32} {n : Nat} (hK : ∀ i, i < n → K' i = K i) (h : zW K n) {ja la ja' la' : Nat → Int32} (t : zT K n ja la) (h13 : K' n = 13) {o : Nat} (e1 : zk K n = o :: zk K o) (e2 : K o = 12) (e3 : ¬ zq K n true o < n)
    (hj : ∀ i, i < n → i ≠ o → ja' i = ja i) (hl : ∀ i, i < n → la' i = la i) (jo : ja' o = nI (n + 1)) (jn : ja' n = -1) (ln : la' n = 0) : zT K' (n + 1) ja' la' := by
  have hm := zk_hd e1
  have hz : zl K' true o n := ⟨by rw [zk_cg n (fun i hi => hK i hi), e1, zk_cg o (fun i hi => hK i (by omega))], Or.inr ⟨rfl, h13⟩⟩
  intro p hp
  by_cases e : p = n
  · subst e
    rw [jn, ln]
    unfold zJ zL
    have n14 : ¬ K' p = 14 := by rw [h13]; decide
    have n12 : ¬ K' p = 12 := by rw [h13]; decide
    have n15 : ¬ K' p = 15 := by rw [h13]; decide
    rw [if_neg n14, if_neg n12, if_pos h13, if_neg n14, if_neg (fun h : K' p = 15 ∧ _ => n15 h.1), zh_cg hK (Nat.le_refl _), hm.2.2.2]
    refine ⟨?_, rfl⟩
    have hqf : ¬ zq K p false o < p := by
      have := zq_tf hm.2.2.1 hm.2.1
      omega
    unfold zt
    rw [zq_d hK hm.2.2.1 hm.2.1 hqf (zl_13 h13), if_neg (Nat.lt_irrefl _)]
  · have hp' : p < n := by omega
    rw [hl p hp', zL_k hK h hp']
    by_cases ep : p = o
    · subst ep
      refine ⟨?_, (t p hp').2⟩
      rw [jo]
      unfold zJ
      rw [hK p hp', if_neg (by rw [e2]; decide), if_pos e2]
      exact (zt_x hK hm.2.2.1 hm.2.1 e3 hz).symm
    · rw [hj p hp' ep, zJ_k hK h hp' (fun _ hx => zl_13 h13 hx.2) (fun _ hx => ?_) (fun _ hx => zl_13 h13 hx.2)]
      · exact t p hp'
      · have := (zl_hd hK hx.2).2
        rw [e1] at this
        exact ep (List.cons.inj this).1.symm
/-- an END of a REPEAT -/
theorem zT_c {K K' : Nat → Int32} {n : Nat} (hK : ∀ i, i < n → K' i = K i) (h : zW K n) {ja la ja' la' : Nat → Int32} (t : zT K n ja la) (h15 : K' n = 15) {o : Nat} (e1 : zk K n = o :: zk K o) (e2 : K o = 14)
    (hj : ∀ i, i < n → i ≠ o → ja' i = ja i) (hl : ∀ i, i < n → la' i = la i) (jo : ja' o = nI (n + 1)) (jn : ja' n = nI (o + 1)) (ln : la' n = la o) : zT K' (n + 1) ja' la' := by
  have hm := zk_hd e1
  have hzk : zk K' n = o :: zk K' o := by rw [zk_cg n (fun i hi => hK i hi), e1, zk_cg o (fun i hi => hK i (by omega))]
  have hz : zl K' false o n := ⟨hzk, Or.inl h15⟩
  have hq : ¬ zq K n false o < n := by
    have := (zq_mem (j := n) hm.2.2.1 hm.2.1 (Nat.le_refl _)).mp (by rw [e1]; exact List.mem_cons_self)
    omega
  intro p hp
  by_cases e : p = n
  · subst e
    rw [jn, ln, (t o hm.2.1).2]
    unfold zJ zL
    have n14 : ¬ K' p = 14 := by rw [h15]; decide
    have n12 : ¬ K' p = 12 := by rw [h15]; decide
    have n13 : ¬ K' p = 13 := by rw [h15]; decide
    have ho4 : K' (zh K' p) = 14 := by rw [zh_cg hK (Nat.le_refl _), hm.2.2.2, hK o hm.2.1, e2]
    have hand : K' p = 15 ∧ K' (zh K' p) = 14 := ⟨h15, ho4⟩
    rw [if_neg n14, if_neg n12, if_neg n13, if_pos e2, if_pos hand, if_neg n14, if_pos hand, zh_cg hK (Nat.le_refl _), hm.2.2.2]
    refine ⟨rfl, ?_⟩
    have := (zar_e h15 hzk).2
    rw [this, hK o hm.2.1, if_pos e2, zar_cg hK (by omega) false]
  · have hp' : p < n := by omega
    rw [hl p hp', zL_k hK h hp']
    by_cases ep : p = o
    · subst ep
      refine ⟨?_, (t p hp').2⟩
      rw [jo]
      unfold zJ
      rw [hK p hp', if_pos e2]
      exact (zt_x hK hm.2.2.1 hm.2.1 hq hz).symm
    · rw [hj p hp' ep, zJ_k hK h hp' (fun _ hx => ?_) (fun _ hx => ?_) (fun c3 hx => ?_)]
      · exact t p hp'
      · have := (zl_hd hK hx.2).2
        rw [e1] at this
        exact ep (List.cons.inj this).1.symm
      · have := (zl_hd hK hx.2).2
        rw [e1] at this
        exact ep (List.cons.inj this).1.symm
      · have hx1 := (zl_hd hK hx.2).2
        rw [e1] at hx1
        obtain ⟨o', f1, f2, f3⟩ := (h.2 p hp').2 c3
        have hm' := zk_hd f1
        rw [hm'.2.2.2] at hx1
        rw [← (List.cons.inj hx1).1, e2] at f2
        exact absurd f2 (by decide)
/-- an END of an IF with an ELSE at x -/
theorem zT_d {K K' : Nat → Int32} {n : Nat} (hK : ∀ i, i < n → K' i = K i) (h : zW K n) {ja la ja' la' : Nat → Int32} (t : zT K n ja la) (h15 : K' n = 15) {o : Nat} (e1 : zk K n = o :: zk K o) (e2 : K o = 12) (e3 : zq K n true o < n)
    (hj : ∀ i, i < n → i ≠ zq K n true o → ja' i = ja i) (hl : ∀ i, i < n → la' i = la i) (jo : ja' (zq K n true o) = nI (n + 1)) (jn : ja' n = -1) (ln : la' n = 0) : zT K' (n + 1) ja' la' := by
  have hm := zk_hd e1
  have hzk : zk K' n = o :: zk K' o := by rw [zk_cg n (fun i hi => hK i hi), e1, zk_cg o (fun i hi => hK i (by omega))]
  have hz : zl K' false o n := ⟨hzk, Or.inl h15⟩
  have hq : ¬ zq K n false o < n := by
    have := (zq_mem (j := n) hm.2.2.1 hm.2.1 (Nat.le_refl _)).mp (by rw [e1]; exact List.mem_cons_self)
    omega
  have hx := zq_cl hm.2.2.1 hm.2.1 e3
  have hx13 : K (zq K n true o) = 13 := by
    rcases hx.2 with h1 | h1
    · exfalso
      refine zq_nc (e := false) hm.2.2.1 (zq_b hm.2.1).1 (n := n) (by omega) ⟨hx.1, Or.inl h1⟩
    · exact h1.2
  have hxh : zh K (zq K n true o) = o := (zk_hd hx.1).2.2.2
  intro p hp
  by_cases e : p = n
  · subst e
    rw [jn, ln]
    unfold zJ zL
    have n14 : ¬ K' p = 14 := by rw [h15]; decide
    have n12 : ¬ K' p = 12 := by rw [h15]; decide
    have n13 : ¬ K' p = 13 := by rw [h15]; decide
    have ho4 : ¬ K' (zh K' p) = 14 := by rw [zh_cg hK (Nat.le_refl _), hm.2.2.2, hK o hm.2.1, e2]; decide
    rw [if_neg n14, if_neg n12, if_neg n13, if_neg (fun h : K' p = 15 ∧ _ => ho4 h.2), if_neg n14, if_neg (fun h : K' p = 15 ∧ _ => ho4 h.2)]
    exact ⟨rfl, rfl⟩
  · have hp' : p < n := by omega
    rw [hl p hp', zL_k hK h hp']
    by_cases ep : p = zq K n true o
    · refine ⟨?_, (t p hp').2⟩
      rw [ep, jo]
      unfold zJ
      rw [hK _ e3, if_neg (by rw [hx13]; decide), if_neg (by rw [hx13]; decide), if_pos hx13, zh_cg hK (by omega), hxh]
      exact (zt_x hK hm.2.2.1 hm.2.1 hq hz).symm
    · rw [hj p hp' ep, zJ_k hK h hp' (fun c1 hx => ?_) (fun _ hx => ?_) (fun c3 hx => ?_)]
      · exact t p hp'
      · have := (zl_hd hK hx.2).2
        rw [e1] at this
        rw [← (List.cons.inj this).1, e2] at c1
        exact absurd c1 (by decide)
      · have := (zl_hd hK hx.2).2
        rw [e1] at this
        rw [← (List.cons.inj this).1] at hx
        exact hx.1 e3
      · have hx1 := (zl_hd hK hx.2).2
        rw [e1] at hx1
        obtain ⟨o', f1, f2, f3⟩ := (h.2 p hp').2 c3
        have hm' := zk_hd f1
        rw [hm'.2.2.2] at hx1
        rw [← (List.cons.inj hx1).1] at f3
        exact ep f3.symm
/-- an END of an IF without an ELSE -/
theorem zT_e {K K' : Nat → Int32} {n : Nat} (hK : ∀ i, i < n → K' i = K i) (h : zW K n) {ja la ja' la' : Nat → Int32} (t : zT K n ja la) (h15 : K' n = 15) {o : Nat} (e1 : zk K n = o :: zk K o) (e2 : K o = 12) (e3 : ¬ zq K n true o < n)
    (hj : ∀ i, i < n → i ≠ o → ja' i = ja i) (hl : ∀ i, i < n → la' i = la i) (jo : ja' o = nI (n + 1)) (jn : ja' n = -1) (ln : la' n = 0) : zT K' (n + 1) ja' la' := by
  have hm := zk_hd e1
  have hzk : zk K' n = o :: zk K' o := by rw [zk_cg n (fun i hi => hK i hi), e1, zk_cg o (fun i hi => hK i (by omega))]
  intro p hp
  by_cases e : p = n
  · subst e
    rw [jn, ln]
    unfold zJ zL
    have n14 : ¬ K' p = 14 := by rw [h15]; decide
    have n12 : ¬ K' p = 12 := by rw [h15]; decide
    have n13 : ¬ K' p = 13 := by rw [h15]; decide
    have ho4 : ¬ K' (zh K' p) = 14 := by rw [zh_cg hK (Nat.le_refl _), hm.2.2.2, hK o hm.2.1, e2]; decide
    rw [if_neg n14, if_neg n12, if_neg n13, if_neg (fun h : K' p = 15 ∧ _ => ho4 h.2), if_neg n14, if_neg (fun h : K' p = 15 ∧ _ => ho4 h.2)]
    exact ⟨rfl, rfl⟩
  · have hp' : p < n := by omega
    rw [hl p hp', zL_k hK h hp']
    by_cases ep : p = o
    · subst ep
      refine ⟨?_, (t p hp').2⟩
      rw [jo]
      unfold zJ
      rw [hK _ hp', if_neg (by rw [e2]; decide), if_pos e2]
      exact (zt_x hK hm.2.2.1 hm.2.1 e3 ⟨hzk, Or.inl h15⟩).symm
    · rw [hj p hp' ep, zJ_k hK h hp' (fun c1 hx => ?_) (fun _ hx => ?_) (fun c3 hx => ?_)]
      · exact t p hp'
      · have := (zl_hd hK hx.2).2
        rw [e1] at this
        exact ep (List.cons.inj this).1.symm
      · have := (zl_hd hK hx.2).2
        rw [e1] at this
        exact ep (List.cons.inj this).1.symm
      · have hx1 := (zl_hd hK hx.2).2
        rw [e1] at hx1
        obtain ⟨o', f1, f2, f3⟩ := (h.2 p hp').2 c3
        have hm' := zk_hd f1
        rw [hm'.2.2.2] at hx1
        rw [← (List.cons.inj hx1).1] at f3
        omega
end
section
/-! how often places may still be executed -/
def zrl (K : Nat → Int32) (p : Nat) : List Nat := (zk K p).filter (zfl K false)
theorem zrl_len {K : Nat → Int32} {p : Nat} : (zrl K p).length = zar K false p := rfl
def zcm (K : Nat → Int32) (p q : Nat) : Nat := ((zrl K p).filter (fun o => decide (o ∈ zrl K q))).length
def zv4 (c r a b t : Nat) : Nat := if c = 0 then 4 ^ r * t else if c = 1 then 4 ^ (r - 1) * (t + (a - 1)) else 4 ^ (r - 2) * (t + (b - 1) + 4 * (a - 1))
def zb (p q : Nat) : Nat := if p ≤ q then 1 else 0
def zm (K : Nat → Int32) (a b p q : Nat) : Nat := zv4 (zcm K p q) (zar K false q) a b (zb p q)
def zsum (f : Nat → Nat) : Nat → Nat
  | 0 => 0
  | i + 1 => zsum f i + f i
def zmu (K : Nat → Int32) (n a b p : Nat) : Nat := zsum (zm K a b p) n
def zCV (K : Nat → Int32) (a b p : Nat) : Prop := a ≤ 4 ∧ b ≤ 4 ∧ (1 ≤ zar K false p → 1 ≤ a) ∧ (2 ≤ zar K false p → 1 ≤ b)
theorem zsum_le {f g : Nat → Nat} : ∀ n : Nat, (∀ q, q < n → f q ≤ g q) → zsum f n ≤ zsum g n := by
  intro n
  induction n with
  | zero => intro _; exact Nat.le_refl _
  | succ n ih =>
    intro h
    have h1 := ih (fun q hq => h q (by omega))
    have h2 := h n (by omega)
    show zsum f n + f n ≤ zsum g n + g n
    omega
theorem zsum_lt {f g : Nat → Nat} {p : Nat} : ∀ n : Nat, p < n → (∀ q, q < n → f q ≤ g q) → f p < g p → zsum f n < zsum g n := by
  intro n
  induction n with
  | zero => intro h; omega
  | succ n ih =>
    intro hp h hs
    have h2 := h n (by omega)
    show zsum f n + f n < zsum g n + g n
    by_cases e : p = n
    · have h1 := zsum_le n (fun q hq => h q (by omega))
      rw [e] at hs
      omega
    · have h1 := ih (by omega) (fun q hq => h q (by omega)) hs
      omega
theorem zsum_bd {f : Nat → Nat} {c : Nat} : ∀ n : Nat, (∀ q, q < n → f q ≤ c) → zsum f n ≤ c * n := by
  intro n
  induction n with
  | zero => intro _; exact Nat.zero_le _
  | succ n ih =>
    intro h
    have h1 := ih (fun q hq => h q (by omega))
    have h2 := h n (by omega)
    show zsum f n + f n ≤ c * (n + 1)
    rw [Nat.mul_succ]
    omega
theorem zb_1 {p q : Nat} (h : p ≤ q) : zb p q = 1 := if_pos h
theorem zb_0 {p q : Nat} (h : ¬ p ≤ q) : zb p q = 0 := if_neg h
theorem zb_le (p q : Nat) : zb p q ≤ 1 := by unfold zb; split <;> omega
theorem z4p (x : Nat) : 0 < 4 ^ x := Nat.pow_pos (by decide)
theorem z4_m {c r a b t t' : Nat} (h : t' ≤ t) : zv4 c r a b t' ≤ zv4 c r a b t := by
  unfold zv4
  split
  · exact Nat.mul_le_mul_left _ h
  · split
    · exact Nat.mul_le_mul_left _ (by omega)
    · exact Nat.mul_le_mul_left _ (by omega)
theorem z4_s {c r a b t t' : Nat} (h : t' < t) : zv4 c r a b t' < zv4 c r a b t := by
  unfold zv4
  split
  · exact (Nat.mul_lt_mul_left (z4p _)).mpr h
  · split
    · exact (Nat.mul_lt_mul_left (z4p _)).mpr (by omega)
    · exact (Nat.mul_lt_mul_left (z4p _)).mpr (by omega)
theorem z4_b {c r a b t : Nat} (hr : r ≤ 2) (ha : a ≤ 4) (hb : b ≤ 4) (ht : t ≤ 1) : zv4 c r a b t ≤ 16 := by
  have h0 : r = 0 ∨ r = 1 ∨ r = 2 := by omega
  unfold zv4
  rcases h0 with h0 | h0 | h0 <;> subst h0
  · split
    · simp; omega
    · split <;> simp <;> omega
  · split
    · simp; omega
    · split <;> simp <;> omega
  · split
    · simp; omega
    · split <;> simp <;> omega
theorem z4_en {c r a b a' b' t : Nat} (h1 : c + 1 ≤ r) (h2 : r ≤ 2) (ht : t ≤ 1) (h3 : c = 0 → a' ≤ 4) (h4 : c = 1 → a' = a ∧ b' ≤ 4) : zv4 (c + 1) r a' b' t ≤ zv4 c r a b 1 := by
  have hc : (c = 0 ∧ r = 1) ∨ (c = 0 ∧ r = 2) ∨ (c = 1 ∧ r = 2) := by omega
  rcases hc with h | h | h
  · have := h3 h.1
    rw [h.1, h.2]; simp [zv4]; omega
  · have := h3 h.1
    rw [h.1, h.2]; simp [zv4]; omega
  · have := h4 h.1
    rw [h.1, h.2]; simp [zv4]; omega
theorem z4_i0 {r a b a' b' t : Nat} : zv4 0 r a b t = zv4 0 r a' b' t := rfl
theorem z4_i1 {c r a b b' t : Nat} (h : c ≤ 1) : zv4 c r a b t = zv4 c r a b' t := by
  have hc : c = 0 ∨ c = 1 := by omega
  rcases hc with hc | hc <;> rw [hc] <;> rfl
theorem z4_l1 {r a b t t' : Nat} (ha : 2 ≤ a) (ht : t' ≤ 1) : zv4 1 r (a - 1) b t' ≤ zv4 1 r a b t := by
  show 4 ^ (r - 1) * (t' + (a - 1 - 1)) ≤ 4 ^ (r - 1) * (t + (a - 1))
  exact Nat.mul_le_mul_left _ (by omega)
theorem z4_l1s {r a b t' : Nat} (ha : 2 ≤ a) (ht : t' ≤ 1) : zv4 1 r (a - 1) b t' < zv4 1 r a b 1 := by
  show 4 ^ (r - 1) * (t' + (a - 1 - 1)) < 4 ^ (r - 1) * (1 + (a - 1))
  exact (Nat.mul_lt_mul_left (z4p _)).mpr (by omega)
theorem z4_l2 {r a b t t' : Nat} (ha : 2 ≤ b) (ht : t' ≤ 1) : zv4 2 r a (b - 1) t' ≤ zv4 2 r a b t := by
  show 4 ^ (r - 2) * (t' + (b - 1 - 1) + 4 * (a - 1)) ≤ 4 ^ (r - 2) * (t + (b - 1) + 4 * (a - 1))
  exact Nat.mul_le_mul_left _ (by omega)
theorem z4_l2s {r a b t' : Nat} (ha : 2 ≤ b) (ht : t' ≤ 1) : zv4 2 r a (b - 1) t' < zv4 2 r a b 1 := by
  show 4 ^ (r - 2) * (t' + (b - 1 - 1) + 4 * (a - 1)) < 4 ^ (r - 2) * (1 + (b - 1) + 4 * (a - 1))
  exact (Nat.mul_lt_mul_left (z4p _)).mpr (by omega)
theorem z4_x {c r a b a' b' t : Nat} (h1 : c + 1 ≤ r) (h2 : r ≤ 2) (h4 : c = 1 → a' = a) : zv4 c r a' b' 0 ≤ zv4 (c + 1) r a b t := by
  have hc : (c = 0 ∧ r = 1) ∨ (c = 0 ∧ r = 2) ∨ (c = 1 ∧ r = 2) := by omega
  rcases hc with h | h | h
  · rw [h.1, h.2]; simp [zv4]
  · rw [h.1, h.2]; simp [zv4]
  · have := h4 h.1
    rw [h.1, h.2, this]; simp [zv4]
theorem zcm_all {K : Nat → Int32} {p q : Nat} (h : ∀ o, o ∈ zrl K p → o ∈ zrl K q) : zcm K p q = zar K false p := by
  unfold zcm
  rw [List.filter_eq_self.mpr (fun o ho => decide_eq_true (h o ho)), zrl_len]
theorem zcm_self {K : Nat → Int32} {p : Nat} : zcm K p p = zar K false p := zcm_all (fun _ h => h)
theorem zcm_le {K : Nat → Int32} {p q : Nat} : zcm K p q ≤ zar K false p := by
  unfold zcm
  rw [← zrl_len]
  exact List.length_filter_le _ _
theorem zcm_c1 {K : Nat → Int32} {p p' o q : Nat} (h : zrl K p' = o :: zrl K p) (hq : o ∈ zrl K q) : zcm K p' q = zcm K p q + 1 := by
  unfold zcm
  rw [h, List.filter_cons_of_pos (p := fun o => decide (o ∈ zrl K q)) (a := o) (decide_eq_true hq)]
  rfl
theorem zcm_c0 {K : Nat → Int32} {p p' o q : Nat} (h : zrl K p' = o :: zrl K p) (hq : o ∉ zrl K q) : zcm K p' q = zcm K p q := by
  unfold zcm
  rw [h, List.filter_cons_of_neg (p := fun o => decide (o ∈ zrl K q)) (a := o) (by rw [decide_eq_false hq]; decide)]
theorem zrl_mem {K : Nat → Int32} {o q : Nat} : o ∈ zrl K q ↔ o ∈ zk K q ∧ K o = 14 := by
  unfold zrl
  rw [List.mem_filter, zfl_f, decide_eq_true_eq]
/-- inside o: all that is around o, and o -/
theorem zrl_sub {K : Nat → Int32} {o q : Nat} (h : o ∈ zrl K q) : (∀ x, x ∈ zrl K o → x ∈ zrl K q) ∧ zar K false o + 1 ≤ zar K false q := by
  have h' := zrl_mem.mp h
  obtain ⟨pre, e⟩ := zk_suf q o h'.1
  have e' : zrl K q = pre.filter (zfl K false) ++ o :: zrl K o := by
    unfold zrl
    rw [e, List.filter_append, List.filter_cons_of_pos (by rw [zfl_f, decide_eq_true h'.2])]
  refine ⟨fun x hx => ?_, ?_⟩
  · rw [e']
    exact List.mem_append.mpr (Or.inr (List.mem_cons_of_mem _ hx))
  · rw [← zrl_len, ← zrl_len, e', List.length_append, List.length_cons]
    omega
theorem zrl_o {K : Nat → Int32} {p : Nat} (h : K p = 14) : zrl K (p + 1) = p :: zrl K p := by
  unfold zrl
  rw [zk_o (Or.inr h), List.filter_cons_of_pos (by rw [zfl_f, decide_eq_true h])]
theorem zrl_i {K : Nat → Int32} {p q : Nat} (h : K p = 12) (hq : zk K q = p :: zk K p) : zrl K q = zrl K p := by
  unfold zrl
  rw [hq, List.filter_cons_of_neg (by rw [zfl_f, h]; decide)]
theorem zrl_r {K : Nat → Int32} {p q : Nat} (h : K p = 14) (hq : zk K q = p :: zk K p) : zrl K q = p :: zrl K p := by
  unfold zrl
  rw [hq, List.filter_cons_of_pos (by rw [zfl_f, decide_eq_true h])]
theorem zrl_k {K : Nat → Int32} {p q : Nat} (hq : zk K q = zk K p) : zrl K q = zrl K p := by
  unfold zrl
  rw [hq]
theorem zar_rl {K : Nat → Int32} {p q : Nat} (h : zrl K q = zrl K p) : zar K false q = zar K false p := by
  rw [← zrl_len, ← zrl_len, h]
theorem zmu_bd {K : Nat → Int32} {n a b p : Nat} (h : zW K n) (ha : a ≤ 4) (hb : b ≤ 4) (hn : n ≤ 32) : zmu K n a b p ≤ 512 := by
  have := zsum_bd (f := zm K a b p) (c := 16) n (fun q hq => z4_b (h.1 q (by omega)).2 ha hb (zb_le p q))
  unfold zmu
  omega
/-- forward under the same loops -/
theorem zmu_f {K : Nat → Int32} {n a b p p' : Nat} (h : zrl K p' = zrl K p) (hp : p < p') (hn : p < n) : zmu K n a b p' < zmu K n a b p := by
  have hc : ∀ q, zcm K p' q = zcm K p q := fun q => by unfold zcm; rw [h]
  refine zsum_lt (p := p) n hn (fun q hq => ?_) ?_
  · show zv4 (zcm K p' q) _ a b (zb p' q) ≤ zv4 (zcm K p q) _ a b (zb p q)
    rw [hc q]
    refine z4_m ?_
    unfold zb
    split
    · rw [if_pos (by omega)]; exact Nat.le_refl _
    · omega
  · show zv4 (zcm K p' p) _ a b (zb p' p) < zv4 (zcm K p p) _ a b (zb p p)
    rw [hc p, zb_0 (by omega), zb_1 (Nat.le_refl _)]
    exact z4_s (by omega)
/-- into a loop -/
theorem zmu_o {K : Nat → Int32} {n a b a' b' p : Nat} (hW : zW K n) (h14 : K p = 14) (hn : p < n) (h0 : zar K false p = 0 → a' ≤ 4) (h1 : zar K false p = 1 → a' = a ∧ b' ≤ 4) : zmu K n a' b' (p + 1) < zmu K n a b p := by
  have hr := zrl_o h14
  have hle : zar K false p ≤ 1 := by
    have := (hW.1 (p + 1) (by omega)).2
    rw [zar_o h14] at this
    omega
  have hind : ∀ r t c, c ≤ zar K false p → zv4 c r a' b' t = zv4 c r a b t := by
    intro r t c hc
    rcases Nat.lt_or_ge (zar K false p) 1 with h | h
    · have : c = 0 := by omega
      rw [this]; rfl
    · have e := h1 (by omega)
      rw [e.1]
      exact z4_i1 (by omega)
  have hpp : p ∉ zrl K p := fun h => absurd (zk_lt p p (zrl_mem.mp h).1) (by omega)
  refine zsum_lt (p := p) n hn (fun q hq => ?_) ?_
  · show zv4 (zcm K (p + 1) q) _ a' b' (zb (p + 1) q) ≤ zv4 (zcm K p q) _ a b (zb p q)
    by_cases hm : p ∈ zrl K q
    · have hs := zrl_sub hm
      have hlt := zk_lt q p (zrl_mem.mp hm).1
      rw [zcm_c1 hr hm, zcm_all hs.1, zb_1 (p := p) (by omega)]
      exact z4_en hs.2 (hW.1 q (by omega)).2 (zb_le _ _) h0 h1
    · rw [zcm_c0 hr hm, hind _ _ _ zcm_le]
      refine z4_m ?_
      unfold zb
      split
      · rw [if_pos (by omega)]; exact Nat.le_refl _
      · omega
  · show zv4 (zcm K (p + 1) p) _ a' b' (zb (p + 1) p) < zv4 (zcm K p p) _ a b (zb p p)
    rw [zcm_c0 hr hpp, hind _ _ _ zcm_le, zb_0 (by omega), zb_1 (Nat.le_refl _)]
    exact z4_s (by omega)
theorem zq_end {K : Nat → Int32} {n p o : Nat} (h15 : K p = 15) (ho : zk K p = o :: zk K o) (hn : p < n) : zq K n false o = p := by
  have hm := zk_hd ho
  refine zq_un hm.2.2.1 (by omega) hm.2.1 (by omega) (fun _ => ⟨ho, Or.inl h15⟩) (fun j h1 h2 h3 => ?_)
  have hj15 : K j = 15 := by
    rcases h3.2 with h | h
    · exact h
    · exact absurd h.1 (by decide)
  have hs : zk K (j + 1) = zk K o := by rw [zk_e hj15, h3.1]; rfl
  have hno : o ∉ zk K (j + 1) := by
    rw [hs]; intro h4; exact absurd (zk_lt o o h4) (by omega)
  have := zk_no (by omega) hno (p - (j + 1))
  rw [show j + 1 + (p - (j + 1)) = p by omega, ho] at this
  exact this List.mem_cons_self
section LOOP
variable {K : Nat → Int32} {n a b a' b' p o : Nat}
/-- round again -/
theorem zmu_l (hW : zW K n) (h15 : K p = 15) (ho : zk K p = o :: zk K o) (h14 : K o = 14) (hn : p < n) (h1 : zar K false p = 1 → 2 ≤ a ∧ a' = a - 1 ∧ b' = b) (h2 : zar K false p = 2 → 2 ≤ b ∧ b' = b - 1 ∧ a' = a) : zmu K n a' b' (o + 1) < zmu K n a b p := by
  have hm := zk_hd ho
  have hrp := zrl_r h14 ho
  have hro := zrl_o h14
  have hsame : zrl K (o + 1) = zrl K p := by rw [hro, hrp]
  have hc : ∀ q, zcm K (o + 1) q = zcm K p q := fun q => by unfold zcm; rw [hsame]
  have ha : zar K false p = zar K false o + 1 := by rw [← zrl_len, hrp]; rfl
  have hle := (hW.1 p (by omega)).2
  have hE := zq_end h15 ho hn
  have hop : o ∈ zrl K p := by rw [hrp]; exact List.mem_cons_self
  have big : ∀ q, o ∈ zrl K q → zcm K p q = zar K false p := fun q hq => by rw [zcm_c1 hrp hq, zcm_all (zrl_sub hq).1, ha]
  refine zsum_lt (p := p) n hn (fun q hq => ?_) ?_
  · show zv4 (zcm K (o + 1) q) _ a' b' (zb (o + 1) q) ≤ zv4 (zcm K p q) _ a b (zb p q)
    rw [hc q]
    by_cases hmq : o ∈ zrl K q
    · rw [big q hmq]
      rcases Nat.lt_or_ge (zar K false p) 2 with h | h
      · have e := h1 (by omega)
        rw [show zar K false p = 1 by omega, e.2.1, e.2.2]
        exact z4_l1 e.1 (zb_le _ _)
      · have e := h2 (by omega)
        rw [show zar K false p = 2 by omega, e.2.1, e.2.2]
        exact z4_l2 e.1 (zb_le _ _)
    · have hcc : zcm K p q ≤ zar K false o := by rw [zcm_c0 hrp hmq]; exact zcm_le
      have hind : zv4 (zcm K p q) (zar K false q) a' b' (zb (o + 1) q) = zv4 (zcm K p q) (zar K false q) a b (zb (o + 1) q) := by
        rcases Nat.lt_or_ge (zar K false p) 2 with h | h
        · rw [show zcm K p q = 0 by omega]; rfl
        · have e := h2 (by omega)
          rw [e.2.2]
          exact z4_i1 (by omega)
      rw [hind]
      refine z4_m ?_
      by_cases hq1 : o + 1 ≤ q
      · have : ¬ q ≤ p := fun hqp => hmq (zrl_mem.mpr ⟨(zq_mem (n := n) hm.2.2.1 (by omega) (by omega)).mpr ⟨hq1, by omega⟩, h14⟩)
        rw [zb_1 (p := p) (by omega)]
        exact zb_le _ _
      · rw [zb_0 hq1]; exact Nat.zero_le _
  · show zv4 (zcm K (o + 1) p) _ a' b' (zb (o + 1) p) < zv4 (zcm K p p) _ a b (zb p p)
    rw [hc p, zcm_self, zb_1 (p := p) (Nat.le_refl _)]
    rcases Nat.lt_or_ge (zar K false p) 2 with h | h
    · have e := h1 (by omega)
      rw [show zar K false p = 1 by omega, e.2.1, e.2.2]
      exact z4_l1s e.1 (zb_le _ _)
    · have e := h2 (by omega)
      rw [show zar K false p = 2 by omega, e.2.1, e.2.2]
      exact z4_l2s e.1 (zb_le _ _)
/-- out of the loop -/
theorem zmu_x (hW : zW K n) (h15 : K p = 15) (ho : zk K p = o :: zk K o) (h14 : K o = 14) (hn : p < n) (h2 : zar K false p = 2 → a' = a) : zmu K n a' b' (p + 1) < zmu K n a b p := by
  have hm := zk_hd ho
  have hrp := zrl_r h14 ho
  have hx : zrl K (p + 1) = zrl K o := zrl_k (by rw [zk_e h15, ho]; rfl)
  have hc : ∀ q, zcm K (p + 1) q = zcm K o q := fun q => by unfold zcm; rw [hx]
  have ha : zar K false p = zar K false o + 1 := by rw [← zrl_len, hrp]; rfl
  have hle := (hW.1 p (by omega)).2
  have hE := zq_end h15 ho hn
  have hop : o ∈ zrl K p := by rw [hrp]; exact List.mem_cons_self
  refine zsum_lt (p := p) n hn (fun q hq => ?_) ?_
  · show zv4 (zcm K (p + 1) q) _ a' b' (zb (p + 1) q) ≤ zv4 (zcm K p q) _ a b (zb p q)
    rw [hc q]
    by_cases hmq : o ∈ zrl K q
    · have hs := zrl_sub hmq
      have hqp := ((zq_mem (n := n) hm.2.2.1 (by omega) (by omega)).mp (zrl_mem.mp hmq).1).2
      rw [zcm_c1 hrp hmq, zcm_all hs.1, zb_0 (p := p + 1) (by omega)]
      exact z4_x hs.2 (hW.1 q (by omega)).2 (fun h => h2 (by omega))
    · rw [zcm_c0 hrp hmq]
      have hcc : zcm K o q ≤ zar K false o := zcm_le
      have hind : zv4 (zcm K o q) (zar K false q) a' b' (zb (p + 1) q) = zv4 (zcm K o q) (zar K false q) a b (zb (p + 1) q) := by
        rcases Nat.lt_or_ge (zar K false p) 2 with h | h
        · rw [show zcm K o q = 0 by omega]; rfl
        · rw [h2 (by omega)]
          exact z4_i1 (by omega)
      rw [hind]
      refine z4_m ?_
      unfold zb
      split
      · rw [if_pos (by omega)]; exact Nat.le_refl _
      · omega
  · show zv4 (zcm K (p + 1) p) _ a' b' (zb (p + 1) p) < zv4 (zcm K p p) _ a b (zb p p)
    rw [hc p, zcm_c1 hrp hop, zcm_all (zrl_sub hop).1, zb_0 (by omega), zb_1 (Nat.le_refl _)]
    exact Nat.lt_of_le_of_lt (z4_x (t := 0) (zrl_sub hop).2 hle (fun h => h2 (by omega))) (z4_s (by omega))
end LOOP
end
section
/-! the sealed kernel: successors and counters -/
def zS (K : Nat → Int32) (n : Nat) : Prop := zW K n ∧ zk K n = [] ∧ n ≤ 32
def zx (K : Nat → Int32) (n p : Nat) (j : Bool) : Nat :=
  if K p = 13 then zq K n false (zh K p) + 1 else if j = true ∧ K p = 12 then zq K n true p + 1 else if j = true ∧ K p = 14 then zq K n false p + 1
  else if j = true ∧ K p = 15 ∧ K (zh K p) = 14 then zh K p + 1 else p + 1
theorem zq_se {K : Nat → Int32} {n o : Nat} (h : zS K n) (ho : K o = 12 ∨ K o = 14) (hn : o < n) (e : Bool) : zq K n e o < n := by
  have hf : zq K n false o < n := by
    rcases Nat.lt_or_ge (zq K n false o) n with h1 | h1
    · exact h1
    · have := (zq_mem (j := n) ho hn (Nat.le_refl _)).mpr ⟨hn, h1⟩
      rw [h.2.1] at this
      exact absurd this List.not_mem_nil
  cases e with
  | false => exact hf
  | true => have := zq_tf ho hn; omega
theorem zx_f {K : Nat → Int32} {n p : Nat} (h : ¬ K p = 13) : zx K n p false = p + 1 := by
  unfold zx
  rw [if_neg h, if_neg (fun h : false = true ∧ _ => absurd h.1 (by decide)), if_neg (fun h : false = true ∧ _ => absurd h.1 (by decide)), if_neg (fun h : false = true ∧ _ => absurd h.1 (by decide))]
theorem zx_13 {K : Nat → Int32} {n p : Nat} {j : Bool} (h : K p = 13) : zx K n p j = zq K n false (zh K p) + 1 := by
  unfold zx
  rw [if_pos h]
theorem zx_12 {K : Nat → Int32} {n p : Nat} (h : K p = 12) : zx K n p true = zq K n true p + 1 := by
  unfold zx
  rw [if_neg (by rw [h]; decide), if_pos ⟨rfl, h⟩]
theorem zx_14 {K : Nat → Int32} {n p : Nat} (h : K p = 14) : zx K n p true = zq K n false p + 1 := by
  unfold zx
  rw [if_neg (by rw [h]; decide), if_neg (by rw [h]; decide), if_pos ⟨rfl, h⟩]
theorem zx_15 {K : Nat → Int32} {n p : Nat} (h : K p = 15) (h' : K (zh K p) = 14) : zx K n p true = zh K p + 1 := by
  unfold zx
  rw [if_neg (by rw [h]; decide), if_neg (by rw [h]; decide), if_neg (by rw [h]; decide), if_pos ⟨rfl, h, h'⟩]
theorem zx_ot {K : Nat → Int32} {n p : Nat} {j : Bool} (h3 : ¬ K p = 13) (h2 : ¬ K p = 12) (h4 : ¬ K p = 14) (h5 : ¬ (K p = 15 ∧ K (zh K p) = 14)) : zx K n p j = p + 1 := by
  unfold zx
  rw [if_neg h3, if_neg (fun h => h2 h.2), if_neg (fun h => h4 h.2), if_neg (fun h => h5 h.2)]
theorem zx_le {K : Nat → Int32} {n p : Nat} (h : zS K n) (hp : p < n) (j : Bool) : zx K n p j ≤ n := by
  by_cases h3 : K p = 13
  · rw [zx_13 h3]
    obtain ⟨o, e1, e2, e3⟩ := (h.1.2 p hp).2 h3
    have hm := zk_hd e1
    have := zq_se h (Or.inl e2) (by omega) false
    rw [hm.2.2.2]; omega
  · cases j with
    | false => rw [zx_f h3]; omega
    | true =>
      by_cases h2 : K p = 12
      · rw [zx_12 h2]
        have := zq_se h (Or.inl h2) hp true
        omega
      · by_cases h4 : K p = 14
        · rw [zx_14 h4]
          have := zq_se h (Or.inr h4) hp false
          omega
        · by_cases h5 : K p = 15 ∧ K (zh K p) = 14
          · rw [zx_15 h5.1 h5.2]
            obtain ⟨o, e1, e2, e3, e4⟩ := zk_ne ((h.1.2 p hp).1 h5.1)
            omega
          · rw [zx_ot h3 h2 h4 h5]; omega
theorem zJ_c {K : Nat → Int32} {n p : Nat} (h : zS K n) (hp : p < n) : (K p = 13 ∧ zJ K n p = nI (zx K n p true) ∧ zx K n p false = zx K n p true) ∨
    (¬ K p = 13 ∧ zx K n p false = p + 1 ∧ (zJ K n p = nI (zx K n p true) ∨ (zJ K n p = -1 ∧ zx K n p true = p + 1))) := by
  by_cases h3 : K p = 13
  · left
    refine ⟨h3, ?_, by rw [zx_13 h3, zx_13 h3]⟩
    rw [zx_13 h3]
    obtain ⟨o, e1, e2, e3⟩ := (h.1.2 p hp).2 h3
    have hm := zk_hd e1
    have := zq_se h (Or.inl e2) (by omega) false
    unfold zJ zt
    rw [if_neg (by rw [h3]; decide), if_neg (by rw [h3]; decide), if_pos h3, hm.2.2.2, if_pos this]
  · right
    refine ⟨h3, zx_f h3, ?_⟩
    by_cases h2 : K p = 12
    · left
      have := zq_se h (Or.inl h2) hp true
      unfold zJ zt
      rw [zx_12 h2, if_neg (by rw [h2]; decide), if_pos h2, if_pos this]
    · by_cases h4 : K p = 14
      · left
        have := zq_se h (Or.inr h4) hp false
        unfold zJ zt
        rw [zx_14 h4, if_pos h4, if_pos this]
      · by_cases h5 : K p = 15 ∧ K (zh K p) = 14
        · left
          unfold zJ
          rw [zx_15 h5.1 h5.2, if_neg h4, if_neg h2, if_neg h3, if_pos h5]
        · right
          unfold zJ
          exact ⟨by rw [if_neg h4, if_neg h2, if_neg h3, if_neg h5], zx_ot h3 h2 h4 h5⟩
theorem zrl_p {K : Nat → Int32} {p : Nat} (h4 : ¬ K p = 14) (h5 : ¬ K p = 15) : zrl K (p + 1) = zrl K p := by
  by_cases h2 : K p = 12
  · exact zrl_i h2 (zk_o (Or.inl h2))
  · exact zrl_k (zk_n (fun h => h.elim h2 h4) h5)
theorem zl_next {K : Nat → Int32} {o c : Nat} (h : zl K false o c) : zk K (c + 1) = zk K o := by
  have h15 : K c = 15 := by
    rcases h.2 with h1 | h1
    · exact h1
    · exact absurd h1.1 (by decide)
  rw [zk_e h15, h.1]
  rfl
theorem zrl_12 {K : Nat → Int32} {n p : Nat} (h : zS K n) (hp : p < n) (h2 : K p = 12) : zrl K (zq K n true p + 1) = zrl K p := by
  have hz := zq_cl (Or.inl h2) hp (zq_se h (Or.inl h2) hp true)
  rcases hz.2 with h1 | h1
  · exact zrl_k (by rw [zk_e h1, hz.1]; rfl)
  · refine zrl_i h2 ?_
    rw [zk_n (by rw [h1.2]; decide) (by rw [h1.2]; decide), hz.1]
theorem zrl_13 {K : Nat → Int32} {n p : Nat} (h : zS K n) (hp : p < n) (h3 : K p = 13) : zrl K (zq K n false (zh K p) + 1) = zrl K p ∧ p < zq K n false (zh K p) + 1 := by
  obtain ⟨o, e1, e2, e3⟩ := (h.1.2 p hp).2 h3
  have hm := zk_hd e1
  rw [hm.2.2.2]
  have hz := zq_cl (Or.inl e2) (by omega) (zq_se h (Or.inl e2) (by omega) false)
  refine ⟨?_, ?_⟩
  · rw [zrl_k (zl_next hz), zrl_i e2 e1]
  · have := zq_tf (Or.inl e2) (show o < n by omega)
    omega
theorem zrl_14 {K : Nat → Int32} {n p : Nat} (h : zS K n) (hp : p < n) (h4 : K p = 14) : zrl K (zq K n false p + 1) = zrl K p := by
  have hz := zq_cl (Or.inr h4) hp (zq_se h (Or.inr h4) hp false)
  exact zrl_k (zl_next hz)
theorem zrl_e12 {K : Nat → Int32} {p o : Nat} (h5 : K p = 15) (ho : zk K p = o :: zk K o) (h2 : K o = 12) : zrl K (p + 1) = zrl K p := by
  rw [zrl_i h2 ho]
  exact zrl_k (by rw [zk_e h5, ho]; rfl)
/-- counters: l the loop's level from 0 -/
def za1 (l c a : Nat) : Nat := if l = 0 then c else a
def zb1 (l c b : Nat) : Nat := if l = 0 then b else c
theorem zmu_i {K : Nat → Int32} {n a b a' b' p : Nat} (h : zar K false p ≤ 1) (h1 : zar K false p = 1 → a' = a) : zmu K n a' b' p = zmu K n a b p := by
  refine Nat.le_antisymm (zsum_le n (fun q _ => ?_)) (zsum_le n (fun q _ => ?_))
  all_goals
    have hc : zcm K p q ≤ zar K false p := zcm_le
    unfold zm
    rcases Nat.lt_or_ge (zar K false p) 1 with h2 | h2
    · rw [show zcm K p q = 0 by omega]; exact Nat.le_refl _
    · rw [h1 (by omega)]
      exact Nat.le_of_eq (z4_i1 (by omega))
theorem zC_f {K : Nat → Int32} {n a b p p' : Nat} (h : zrl K p' = zrl K p) (hp : p < p') (hn : p < n) (hc : zCV K a b p) : zCV K a b p' ∧ zmu K n a b p' < zmu K n a b p := by
  refine ⟨?_, zmu_f h hp hn⟩
  unfold zCV at hc ⊢
  rw [zar_rl h]
  exact hc
section CTR
variable {K : Nat → Int32} {n a b c p o : Nat}
theorem zC_o (hW : zW K n) (h14 : K p = 14) (hn : p < n) (hv : zCV K a b p) (hc : 1 ≤ c) (hc' : c ≤ 4) :
    zCV K (za1 (zar K false p) c a) (zb1 (zar K false p) c b) (p + 1) ∧ zmu K n (za1 (zar K false p) c a) (zb1 (zar K false p) c b) (p + 1) < zmu K n a b p := by
  have hle : zar K false p ≤ 1 := by
    have := (hW.1 (p + 1) (by omega)).2
    rw [zar_o h14] at this
    omega
  refine ⟨?_, zmu_o hW h14 hn (fun h => by unfold za1; rw [if_pos h]; exact hc') (fun h => by unfold za1 zb1; rw [if_neg (by omega), if_neg (by omega)]; exact ⟨rfl, hc'⟩)⟩
  unfold zCV at hv ⊢
  rw [zar_o h14]
  unfold za1 zb1
  by_cases h0 : zar K false p = 0
  · rw [if_pos h0, if_pos h0]
    exact ⟨hc', hv.2.1, fun _ => hc, fun h => by omega⟩
  · rw [if_neg h0, if_neg h0]
    exact ⟨hv.1, hc', fun _ => hv.2.2.1 (by omega), fun _ => hc⟩
theorem zC_s (h : zS K n) (h14 : K p = 14) (hn : p < n) (hv : zCV K a b p) :
    zCV K (za1 (zar K false p) 0 a) (zb1 (zar K false p) 0 b) (zq K n false p + 1) ∧ zmu K n (za1 (zar K false p) 0 a) (zb1 (zar K false p) 0 b) (zq K n false p + 1) < zmu K n a b p := by
  have hle : zar K false p ≤ 1 := by
    have := (h.1.1 (p + 1) (by omega)).2
    rw [zar_o h14] at this
    omega
  have hr := zrl_14 h hn h14
  have hb := zq_b (K := K) (e := false) hn
  have hz := zar_rl hr
  refine ⟨?_, ?_⟩
  · unfold zCV at hv ⊢
    rw [hz]
    unfold za1 zb1
    by_cases h0 : zar K false p = 0
    · rw [if_pos h0, if_pos h0]
      exact ⟨by omega, hv.2.1, fun h => by omega, fun h => by omega⟩
    · rw [if_neg h0, if_neg h0]
      exact ⟨hv.1, by omega, fun _ => hv.2.2.1 (by omega), fun h => by omega⟩
  · rw [zmu_i (a := a) (b := b) (by omega) (fun h1 => by unfold za1; rw [if_neg (by omega)])]
    exact zmu_f hr (by omega) hn
/-- the counter at an END of a REPEAT -/
theorem zC_c (h15 : K p = 15) (ho : zk K p = o :: zk K o) (h14 : K o = 14) (hW : zW K n) (hn : p < n) (hv : zCV K a b p) :
    zar K false p = zar K false o + 1 ∧ zar K false o ≤ 1 ∧ 1 ≤ (if zar K false o = 0 then a else b) ∧ (if zar K false o = 0 then a else b) ≤ 4 := by
  have ha : zar K false p = zar K false o + 1 := by rw [← zrl_len, zrl_r h14 ho]; rfl
  have hle := (hW.1 p (by omega)).2
  unfold zCV at hv
  refine ⟨ha, by omega, ?_, ?_⟩
  · split
    · exact hv.2.2.1 (by omega)
    · exact hv.2.2.2 (by omega)
  · split
    · exact hv.1
    · exact hv.2.1
theorem zC_l (h15 : K p = 15) (ho : zk K p = o :: zk K o) (h14 : K o = 14) (hW : zW K n) (hn : p < n) (hv : zCV K a b p) (hc : c + 1 = if zar K false o = 0 then a else b) (hc1 : 1 ≤ c) :
    zCV K (za1 (zar K false o) c a) (zb1 (zar K false o) c b) (o + 1) ∧ zmu K n (za1 (zar K false o) c a) (zb1 (zar K false o) c b) (o + 1) < zmu K n a b p := by
  obtain ⟨ha, hb, h1, h2⟩ := zC_c h15 ho h14 hW hn hv
  refine ⟨?_, zmu_l hW h15 ho h14 hn (fun h => ?_) (fun h => ?_)⟩
  · have hz : zar K false (o + 1) = zar K false o + 1 := zar_o h14
    unfold zCV at hv ⊢
    rw [hz]
    unfold za1 zb1
    by_cases h0 : zar K false o = 0
    · rw [if_pos h0] at hc h1 h2
      rw [if_pos h0, if_pos h0]
      exact ⟨by omega, hv.2.1, fun _ => hc1, fun h => by omega⟩
    · rw [if_neg h0] at hc h1 h2
      rw [if_neg h0, if_neg h0]
      exact ⟨hv.1, by omega, fun _ => hv.2.2.1 (by omega), fun _ => hc1⟩
  · have h0 : zar K false o = 0 := by omega
    unfold za1 zb1
    rw [if_pos h0] at hc
    rw [if_pos h0, if_pos h0]
    exact ⟨by omega, by omega, rfl⟩
  · have h0 : ¬ zar K false o = 0 := by omega
    unfold za1 zb1
    rw [if_neg h0] at hc
    rw [if_neg h0, if_neg h0]
    exact ⟨by omega, by omega, rfl⟩
theorem zC_x (h15 : K p = 15) (ho : zk K p = o :: zk K o) (h14 : K o = 14) (hW : zW K n) (hn : p < n) (hv : zCV K a b p) :
    zCV K (za1 (zar K false o) 0 a) (zb1 (zar K false o) 0 b) (p + 1) ∧ zmu K n (za1 (zar K false o) 0 a) (zb1 (zar K false o) 0 b) (p + 1) < zmu K n a b p := by
  obtain ⟨ha, hb, h1, h2⟩ := zC_c h15 ho h14 hW hn hv
  refine ⟨?_, zmu_x hW h15 ho h14 hn (fun h => ?_)⟩
  · have hz := (zar_e h15 ho).1
    unfold zCV at hv ⊢
    rw [hz]
    unfold za1 zb1
    by_cases h0 : zar K false o = 0
    · rw [if_pos h0, if_pos h0]
      exact ⟨by omega, hv.2.1, fun h => by omega, fun h => by omega⟩
    · rw [if_neg h0, if_neg h0]
      exact ⟨hv.1, by omega, fun _ => hv.2.2.1 (by omega), fun h => by omega⟩
  · unfold za1
    rw [if_neg (by omega)]
end CTR
end
section
/-! Y's scans -/
section YSC
variable {ii cc nn ss dd rr : Int32} {ka xa ya za ja la ra wa va oa ea ce be rc pc pa ca da sa ga ta ita sna : Nat → Int32}
def zf (e : Bool) : Int32 := if e = true then 1 else 0
theorem zf_t : ¬ zf true = 0 := by decide
theorem zf_f : zf false = 0 := by decide
def zo1 (l : List Nat) (d : Nat) : Int32 := match l[d]? with
  | some o => nI o
  | none => -1
theorem yo_46 {post : Int32 → Prop} {J : Int32 → Int32 → Prop} {d i : Nat} (hd : d < 2 ^ 31) (h0 : d = 0 → post (nI i)) (h1 : 0 < d → J (nI (d - 1)) (nI i + (-1))) : wY_opener_46 post J (nI d) (nI i) ii cc nn ss ka xa ya za ce ita be rc pc sna := by
  unfold wY_opener_46
  cases d with
  | zero => exact br_t rfl (h0 rfl)
  | succ d => exact br_f (nI_ne0 (by omega) hd) (nm_r (pk_m1 d) (nm_e (h1 (by omega))))
theorem yo_24 {post : Int32 → Prop} {J : Int32 → Int32 → Prop} {x2 : Int32} {i : Nat} (hi : i < 32) (h1 : ka i = 12 ∨ ka i = 14 → wY_opener_46 post J x2 (nI i) ii cc nn ss ka xa ya za ce ita be rc pc sna)
    (h2 : ¬ (ka i = 12 ∨ ka i = 14) → J x2 (nI i + (-1))) : wY_opener_24 post J x2 (nI i) ii cc nn ss ka xa ya za ce ita be rc pc sna := by
  have ci : (nI i).toNatClampNeg = i := nI_clamp (by omega)
  have iv : vp_in (nI i) 32 := vp_in_nI hi (by omega)
  unfold wY_opener_24
  rw [ci]
  exact ⟨iv, br_c (fun h => h1 (Or.inl h)) (fun h => ⟨iv, br_c (fun h' => h1 (Or.inr h')) (fun h' => nm_e (h2 (fun h'' => h''.elim h h')))⟩)⟩
theorem yo_l {post : Int32 → Prop} : ∀ (f i d : Nat), i < f → i ≤ 32 → d + i < 100 → post (zo1 (zk ka i) d) → wY_opener_6 post ii cc nn ss ka xa ya za ce ita be rc pc sna f (nI d) (nI i + (-1)) := by
  intro f
  induction f with
  | zero => intro i d h; omega
  | succ f ih =>
    intro i d hf hi hd hp
    cases i with
    | zero => exact br_t (by decide) hp
    | succ i =>
      have ci : (nI i).toNatClampNeg = i := nI_clamp (by omega)
      have iv : vp_in (nI i) 32 := vp_in_nI (by omega) (by omega)
      rw [pk_m1]
      unfold wY_opener_6
      rw [ci]
      refine br_f (nI_pos (by omega)) ⟨iv, br_c (fun h => nm_r (nI_1 d) ?_) (fun h => ?_)⟩
      · refine yo_24 (by omega) (fun h' => absurd h' (zk_15 h)) (fun _ => ih i (d + 1) (by omega) (by omega) (by omega) ?_)
        rw [zk_e h] at hp
        unfold zo1 at hp ⊢
        rw [List.getElem?_tail] at hp
        exact hp
      · refine yo_24 (by omega) (fun h' => yo_46 (by omega) (fun h0 => ?_) (fun h0 => ih i (d - 1) (by omega) (by omega) (by omega) ?_)) (fun h' => ih i d (by omega) (by omega) (by omega) ?_)
        · rw [zk_o h', h0] at hp
          exact hp
        · rw [zk_o h'] at hp
          obtain ⟨d', rfl⟩ : ∃ d', d = d' + 1 := ⟨d - 1, by omega⟩
          exact hp
        · rw [zk_n h' h] at hp
          exact hp
def zhI (l : List Nat) : Int32 := match l with
  | [] => -1
  | o :: _ => nI o
theorem yo {post : Int32 → Prop} {p : Nat} (hp : p ≤ 32) (h : post (zhI (zk ka p))) : wpY_opener post (ii, cc, nn, ss, ka, xa, ya, za, ce, ita, be, rc, pc, sna) (nI p) := by
  unfold wpY_opener
  refine nm_r (show nI p - 1 = nI p + (-1) from Int32.sub_eq_add_neg (nI p) 1) ⟨p + 1, yo_l (p + 1) p 0 (by omega) hp (by omega) ?_⟩
  cases e : zk ka p with
  | nil => rw [e] at h; exact h
  | cons o l => rw [e] at h; exact h
theorem yc_51 {post : Int32 → Prop} {J : Int32 → Int32 → Prop} {x2 : Int32} {d i : Nat} (hi : i < 32) (hd : 0 < d ∨ ¬ ka i = 15)
    (h : J (nI (if ka i = 12 ∨ ka i = 14 then d + 1 else if ka i = 15 then d - 1 else d)) (nI (i + 1))) : wY_close_51 post J x2 (nI d) (nI i) ii cc nn ss ka xa ya za ce ita be rc pc sna := by
  have ci : (nI i).toNatClampNeg = i := nI_clamp (by omega)
  have iv : vp_in (nI i) 32 := vp_in_nI hi (by omega)
  have k75 : (ka i = 12 ∨ ka i = 14) → wY_close_75 post J x2 (nI d) (nI i) ii cc nn ss ka xa ya za ce ita be rc pc sna := by
    intro h1
    rw [if_pos h1] at h
    unfold wY_close_75
    refine nm_r (nI_1 d) ?_
    unfold wY_close_78
    rw [ci]
    have h15 : ¬ ka i = 15 := fun h => zk_15 h h1
    exact ⟨iv, br_f h15 (nm_r (nI_1 i) h)⟩
  unfold wY_close_51
  rw [ci]
  refine ⟨iv, br_c (fun h1 => k75 (Or.inl h1)) (fun h1 => ⟨iv, br_c (fun h2 => k75 (Or.inr h2)) (fun h2 => ?_)⟩)⟩
  rw [if_neg (fun h => h.elim h1 h2)] at h
  unfold wY_close_78
  rw [ci]
  refine ⟨iv, br_c (fun h5 => ?_) (fun h5 => ?_)⟩
  · rw [if_pos h5] at h
    have hd' : 0 < d := hd.elim id (fun h => absurd h5 h)
    obtain ⟨d', rfl⟩ : ∃ d', d = d' + 1 := ⟨d - 1, by omega⟩
    exact nm_r (pk_m1 d') (nm_r (nI_1 i) h)
  · rw [if_neg h5] at h
    exact nm_r (nI_1 i) h
theorem yc_l {post : Int32 → Prop} {n : Nat} {e : Bool} (hn : n ≤ 32) : ∀ (f r d i : Nat), r < f → i + r = n → d + r < 1000 → post (nI (zc ka e r d i)) → wY_close_7 post (zf e) ii cc (nI n) ss ka xa ya za ce ita be rc pc sna f (nI d) (nI i) := by
  intro f
  induction f with
  | zero => intro r d i h; omega
  | succ f ih =>
    intro r d i hf hr hd hp
    have ci : (nI i).toNatClampNeg = i := nI_clamp (by omega)
    unfold wY_close_7
    rw [ci]
    cases r with
    | zero =>
      have : i = n := by omega
      subst this
      exact br_t (nI_le (Nat.le_refl _) (by omega)) hp
    | succ r =>
      have iv : vp_in (nI i) 32 := vp_in_nI (by omega) (by omega)
      refine br_f (nI_ge (by omega) (by omega)) ?_
      rw [zc_s] at hp
      have go : ¬ (d = 0 ∧ (ka i = 15 ∨ (e = true ∧ ka i = 13))) → wY_close_51 post (wY_close_7 post (zf e) ii cc (nI n) ss ka xa ya za ce ita be rc pc sna f) (zf e) (nI d) (nI i) ii cc (nI n) ss ka xa ya za ce ita be rc pc sna := by
        intro c
        rw [if_neg c] at hp
        refine yc_51 (by omega) ?_ (ih r _ (i + 1) (by omega) (by omega) ?_ hp)
        · by_cases h5 : ka i = 15
          · left
            rcases Nat.eq_zero_or_pos d with h | h
            · exact absurd ⟨h, Or.inl h5⟩ c
            · exact h
          · exact Or.inr h5
        · split
          · omega
          · split <;> omega
      cases d with
      | zero =>
        refine br_t rfl ⟨iv, br_c (fun h5 => ?_) (fun h5 => ?_)⟩
        · rw [if_pos ⟨rfl, Or.inl h5⟩] at hp
          exact hp
        · cases e with
          | false => exact br_t zf_f (go (fun h => h.2.elim h5 (fun h' => absurd h'.1 (by decide))))
          | true =>
            refine br_f zf_t ⟨iv, br_c (fun h3 => ?_) (fun h3 => ?_)⟩
            · rw [if_pos ⟨rfl, Or.inr ⟨rfl, h3⟩⟩] at hp
              exact hp
            · exact go (fun h => h.2.elim h5 (fun h' => h3 h'.2))
      | succ d => exact br_f (nI_ne0 (by omega) (by omega)) (go (fun h => absurd h.1 (by omega)))
theorem yc {post : Int32 → Prop} {n o : Nat} {e : Bool} (hn : n ≤ 32) (ho : o < n) (h : post (nI (zq ka n e o))) : wpY_close post (ii, cc, (nI n), ss, ka, xa, ya, za, ce, ita, be, rc, pc, sna) (nI o) (zf e) := by
  unfold wpY_close
  exact nm_r (nI_1 o) ⟨n + 1, yc_l hn (n + 1) (n - (o + 1)) 0 (o + 1) (by omega) (by omega) (by omega) h⟩
theorem yc0 {post : Int32 → Prop} {n o : Nat} (hn : n ≤ 32) (ho : o < n) (h : post (nI (zq ka n false o))) : wpY_close post (ii, cc, (nI n), ss, ka, xa, ya, za, ce, ita, be, rc, pc, sna) (nI o) 0 := yc (e := false) hn ho h
theorem yc1 {post : Int32 → Prop} {n o : Nat} (hn : n ≤ 32) (ho : o < n) (h : post (nI (zq ka n true o))) : wpY_close post (ii, cc, (nI n), ss, ka, xa, ya, za, ce, ita, be, rc, pc, sna) (nI o) 1 := yc (e := true) hn ho h
theorem zn_s (P : Nat → Bool) (i : Nat) : zn P (i + 1) = zn P i + if P i = true then 1 else 0 := rfl
theorem ya_l {post : Int32 → Prop} {n a : Nat} {e : Bool} (hn : n ≤ 32) (ha : a ≤ n) (hp : post (nI (zar ka e a))) : ∀ (f i : Nat), i ≤ a → a - i < f → wY_around_5 post (nI a) (zf e) ii cc (nI n) ss ka xa ya za ce ita be rc pc sna f (nI (zn (zab ka n e a) i)) (nI i) := by
  intro f
  induction f with
  | zero => intro i h h'; omega
  | succ f ih =>
    intro i hi hf
    have hzn := zn_le (zab ka n e a) i
    have ci : (nI i).toNatClampNeg = i := nI_clamp (by omega)
    unfold wY_around_5
    rw [ci]
    by_cases hia : i = a
    · subst hia
      refine br_t (nI_le (Nat.le_refl _) (by omega)) ?_
      rw [zar_eq ha]
      exact hp
    · have iv : vp_in (nI i) 32 := vp_in_nI (by omega) (by omega)
      refine br_f (nI_ge (by omega) (by omega)) (yc0 hn (by omega) ⟨iv, ?_⟩)
      have hzb := zq_b (K := ka) (e := false) (show i < n by omega)
      have hs := zn_s (zab ka n e a) i
      have ihs := ih (i + 1) (by omega) (by omega)
      rw [hs] at ihs
      have k48 : zfl ka e i = true → wY_around_48 post (wY_around_5 post (nI a) (zf e) ii cc (nI n) ss ka xa ya za ce ita be rc pc sna f) (nI a) (zf e) (nI (zn (zab ka n e a) i)) (nI i) (nI (zq ka n false i)) ii cc (nI n) ss ka xa ya za ce ita be rc pc sna := by
        intro hfl
        unfold wY_around_48
        by_cases hq : zq ka n false i < a
        · have hz : ¬ zab ka n e a i = true := by
            unfold zab
            rw [hfl, Bool.true_and, decide_eq_false (by omega)]
            decide
          rw [if_neg hz] at ihs
          exact br_t (nI_lt hq (by omega)) (nm_r (nI_1 i) ihs)
        · have hz : zab ka n e a i = true := by
            unfold zab
            rw [hfl, Bool.true_and, decide_eq_true (by omega)]
          rw [if_pos hz] at ihs
          exact br_f (nI_nlt (by omega) (by omega)) (nm_r (nI_1 _) (nm_r (nI_1 i) ihs))
      have kn : ¬ zfl ka e i = true → wY_around_5 post (nI a) (zf e) ii cc (nI n) ss ka xa ya za ce ita be rc pc sna f (nI (zn (zab ka n e a) i)) (nI (i + 1)) := by
        intro hfl
        have hz : ¬ zab ka n e a i = true := by
          unfold zab
          rw [Bool.not_eq_true] at hfl
          rw [hfl, Bool.false_and]
          decide
        rw [if_neg hz] at ihs
        exact ihs
      refine br_c (fun h4 => k48 (decide_eq_true (Or.inl h4))) (fun h4 => ?_)
      cases e with
      | false => exact br_t zf_f (nm_r (nI_1 i) (kn (by rw [zfl_f, decide_eq_false h4]; decide)))
      | true =>
        refine br_f zf_t ⟨iv, br_c (fun h2 => k48 (decide_eq_true (Or.inr ⟨rfl, h2⟩))) (fun h2 => nm_r (nI_1 i) (kn ?_))⟩
        intro h
        rcases of_decide_eq_true h with h | h
        · exact h4 h
        · exact h2 h.2
theorem yar {post : Int32 → Prop} {n a : Nat} {e : Bool} (hn : n ≤ 32) (ha : a ≤ n) (hp : post (nI (zar ka e a))) : wpY_around post (ii, cc, (nI n), ss, ka, xa, ya, za, ce, ita, be, rc, pc, sna) (nI a) (zf e) := by
  unfold wpY_around
  exact ⟨a + 1, ya_l hn ha hp (a + 1) 0 (by omega) (by omega)⟩
theorem yar0 {post : Int32 → Prop} {n a : Nat} (hn : n ≤ 32) (ha : a ≤ n) (hp : post (nI (zar ka false a))) : wpY_around post (ii, cc, (nI n), ss, ka, xa, ya, za, ce, ita, be, rc, pc, sna) (nI a) 0 := yar (e := false) hn ha hp
theorem yar1 {post : Int32 → Prop} {n a : Nat} (hn : n ≤ 32) (ha : a ≤ n) (hp : post (nI (zar ka true a))) : wpY_around post (ii, cc, (nI n), ss, ka, xa, ya, za, ce, ita, be, rc, pc, sna) (nI a) 1 := yar (e := true) hn ha hp
theorem yn {post : Int32 → Prop} {n p : Nat} {j : Bool} (hS : zS ka n) (hp : p < n) (h : post (nI (zx ka n p j))) : wpY_next post (ii, cc, (nI n), ss, ka, xa, ya, za, ce, ita, be, rc, pc, sna) (nI p) (zf j) := by
  have hn := hS.2.2
  have ci : (nI p).toNatClampNeg = p := nI_clamp (by omega)
  have iv : vp_in (nI p) 32 := vp_in_nI (by omega) (by omega)
  unfold wpY_next
  refine yo (by omega) ?_
  rw [ci]
  refine ⟨iv, br_c (fun h3 => ?_) (fun h3 => ?_)⟩
  · obtain ⟨o, e1, e2, e3⟩ := (hS.1.2 p hp).2 h3
    have hm := zk_hd e1
    rw [zx_13 h3, hm.2.2.2, ← nI_1] at h
    rw [e1]
    exact yc0 hn (by omega) h
  · have k74 : ∀ b : Bool, (b = false ∨ (¬ ka p = 12 ∧ ¬ ka p = 14)) → post (nI (zx ka n p b)) → wY_next_74 post (nI p) (zf b) (zhI (zk ka p)) ii cc (nI n) ss ka xa ya za ce ita be rc pc sna := by
      intro b hb hpo
      unfold wY_next_74
      rw [ci]
      cases b with
      | false =>
        rw [zx_f h3, ← nI_1] at hpo
        exact br_t zf_f hpo
      | true =>
        have hb' : ¬ ka p = 12 ∧ ¬ ka p = 14 := hb.elim (fun h => absurd h (by decide)) id
        refine br_f zf_t ⟨iv, br_c (fun h5 => ?_) (fun h5 => ?_)⟩
        · obtain ⟨o, e1, e2, e3, e4⟩ := zk_ne ((hS.1.2 p hp).1 h5)
          rw [e1]
          have co : (nI o).toNatClampNeg = o := nI_clamp (by omega)
          show ((nI o < 0 → _) ∧ (¬ nI o < 0 → (vp_in (nI o) 32 ∧ ((ka (nI o).toNatClampNeg = 14 → _) ∧ (¬ ka (nI o).toNatClampNeg = 14 → _)))))
          rw [co]
          refine br_f (nI_pos (by omega)) ⟨vp_in_nI (by omega) (by omega), br_c (fun h4 => ?_) (fun h4 => ?_)⟩
          · rw [zx_15 h5 (by rw [e4]; exact h4), e4, ← nI_1] at hpo
            exact hpo
          · rw [zx_ot h3 hb'.1 hb'.2 (fun h => h4 (by rw [← e4]; exact h.2)), ← nI_1] at hpo
            exact hpo
        · rw [zx_ot h3 hb'.1 hb'.2 (fun h => h5 h.1), ← nI_1] at hpo
          exact hpo
    have k50 : (j = false ∨ ¬ ka p = 12) → wY_next_50 post (nI p) (zf j) (zhI (zk ka p)) ii cc (nI n) ss ka xa ya za ce ita be rc pc sna := by
      intro hj
      unfold wY_next_50
      rw [ci]
      cases j with
      | false => exact br_t zf_f (k74 false (Or.inl rfl) h)
      | true =>
        have hj' : ¬ ka p = 12 := hj.elim (fun h => absurd h (by decide)) id
        refine br_f zf_t ⟨iv, br_c (fun h4 => ?_) (fun h4 => k74 true (Or.inr ⟨hj', h4⟩) h)⟩
        rw [zx_14 h4, ← nI_1] at h
        exact yc0 hn hp h
    cases j with
    | false => exact br_t zf_f (k50 (Or.inl rfl))
    | true =>
      refine br_f zf_t ⟨iv, br_c (fun h2 => ?_) (fun h2 => k50 (Or.inr h2))⟩
      rw [zx_12 h2, ← nI_1] at h
      exact yc1 hn hp h
end YSC
end
section
/-! the relation -/
def zF (K xa ya za : Nat → Int32) (n : Nat) : Prop := ∀ p, p < n → (∃ k : Nat, k ≤ 16 ∧ K p = nI k) ∧ (∃ x : Nat, x < 8 ∧ xa p = nI x) ∧ (¬ K p = 0 → ∃ y : Nat, y < 8 ∧ ya p = nI y) ∧ (∃ z : Nat, z < 8 ∧ za p = nI z)
def zb1m (x : Int32) : Int32 := (1 : Int32) <<< (x &&& 31)
def zRd (k x y z : Int32) : Int32 :=
  let m1 : Int32 := if k < 2 then 0 else if 11 < k then 0 else 0 ||| zb1m y
  let m2 : Int32 := if k < 2 then m1 else if 9 < k then m1 else m1 ||| zb1m z
  if k = 11 ∨ k = 12 ∨ k = 14 then m2 ||| zb1m x else m2
def zWr (k x : Int32) : Int32 := if 10 < k then 0 else zb1m x
def zM (K xa ya za ra wa : Nat → Int32) (n : Nat) : Prop := ∀ p, p < n → ra p = zRd (K p) (xa p) (ya p) (za p) ∧ wa p = zWr (K p) (xa p)
/-- reads k, writes k -/
def zrd (K xa ya za : Nat → Int32) (p k : Nat) : Prop := (¬ K p < 2 ∧ ¬ 11 < K p ∧ ya p = nI k) ∨ (¬ K p < 2 ∧ ¬ 9 < K p ∧ za p = nI k) ∨ ((K p = 11 ∨ K p = 12 ∨ K p = 14) ∧ xa p = nI k)
def zwr (K xa : Nat → Int32) (p k : Nat) : Prop := ¬ 10 < K p ∧ xa p = nI k
/-- k is live on entry to p -/
def zLV (K xa ya za : Nat → Int32) (n k p : Nat) : Prop := ∀ S : Nat → Prop, (∀ q, q < n → zrd K xa ya za q k → S q) → (∀ q j, q < n → ¬ zwr K xa q k → S (zx K n q j) → S q) → S p
def zV (K xa ya za : Nat → Int32) (n : Nat) (va : Nat → Int32) : Prop := ∀ p, p ≤ n → ∀ k, k < 32 → (bt (va p) k = true ↔ zLV K xa ya za n k p)
/-- one item of one side, as X and Y keep it -/
def zE (K : Nat → Int32) (n s j : Nat) (pa ca da sa ita : Nat → Int32) : Prop :=
  (ita (s * 104 + j * 13 + 8) = pa (s * 8 + j) ∧ ita (s * 104 + j * 13 + 9) = ca ((s * 8 + j) * 2) ∧ ita (s * 104 + j * 13 + 10) = ca ((s * 8 + j) * 2 + 1) ∧
    ita (s * 104 + j * 13 + 11) = da (s * 8 + j) ∧ ita (s * 104 + j * 13 + 12) = sa (s * 8 + j)) ∧
  ∃ p a b : Nat, p ≤ n ∧ pa (s * 8 + j) = nI p ∧ ca ((s * 8 + j) * 2) = nI a ∧ ca ((s * 8 + j) * 2 + 1) = nI b ∧ zCV K a b p
/-- all pairs' races -/
def zp1 (it : Nat → Int32) (s i : Nat) : Nat → Int32
  | 0 => 0
  | j + 1 => if i = j then zp1 it s i j else zp1 it s i j ||| (it (s * 104 + i * 13 + 12) &&& (it (s * 104 + j * 13 + 11) ||| it (s * 104 + j * 13 + 12)))
def zpr (it : Nat → Int32) (s N : Nat) : Nat → Int32
  | 0 => 0
  | i + 1 => zpr it s N i ||| zp1 it s i N
def zP (N s : Nat) (ita rc : Nat → Int32) : Prop := rc s ||| zpr ita s N N = rc s
/-- a side that has begun -/
def zD (K : Nat → Int32) (n N s : Nat) (pa ca da sa ita rc : Nat → Int32) : Prop := (∀ j, j < N → zE K n s j pa ca da sa ita) ∧ zP N s ita rc
def zG2 (N : Nat) (ga ita : Nat → Int32) : Prop := ∀ j, j < N → ∀ k, k < 8 → ga (8 + j * 8 + k) = ita (208 + j * 13 + k)
/-- the kernel -/
def zKn (C n : Nat) (dd rr : Int32) (ka xa ya za ja la ra wa oa ea : Nat → Int32) : Prop :=
  n ≤ C ∧ C ≤ 32 ∧ zW ka n ∧ zT ka n ja la ∧ zF ka xa ya za n ∧ zM ka xa ya za ra wa n ∧ dd = nI (zk ka n).length ∧ rr = nI (zar ka false n) ∧ zO ka n oa ea (zk ka n)
def zSe (n : Nat) (ss : Int32) (ka xa ya za va : Nat → Int32) : Prop := (ss = 0 ∧ ∀ p, p < 33 → va p = 0) ∨ (ss = 1 ∧ zk ka n = [] ∧ zV ka xa ya za n va)
def zBe (n N : Nat) (ss : Int32) (ka be rc pa ca da sa ga ita : Nat → Int32) : Prop :=
  (¬ be 1 = 0 → ss = 1 ∧ zD ka n N 1 pa ca da sa ita rc) ∧ (¬ be 2 = 0 → ss = 1 ∧ zD ka n N 2 pa ca da sa ita rc ∧ zG2 N ga ita)
section REL
variable {ii cc nn ss dd rr : Int32} {ka xa ya za ja la ra wa va oa ea ce be rc pc pa ca da sa ga ta ita sna : Nat → Int32}
def i_Rel (k : Nat) (u : SX) (v : SY) : Prop := ∃ N C n : Nat, ∃ ss dd rr : Int32, ∃ ka xa ya za ja la ra wa va oa ea ce be rc pc pa ca da sa ga ta ita sna : Nat → Int32,
  u = ((nI N), (nI C), (nI n), ss, dd, rr, ka, xa, ya, za, ja, la, ra, wa, va, oa, ea, ce, be, rc, pc, pa, ca, da, sa, ga, ta) ∧ v = ((nI N), (nI C), (nI n), ss, ka, xa, ya, za, ce, ita, be, rc, pc, sna) ∧ (1 ≤ N ∧ N ≤ 8) ∧ zKn C n dd rr ka xa ya za ja la ra wa oa ea ∧ zSe n ss ka xa ya za va ∧ zBe n N ss ka be rc pa ca da sa ga ita
theorem zi {k N C n : Nat} (h1 : 1 ≤ N ∧ N ≤ 8) (h2 : zKn C n dd rr ka xa ya za ja la ra wa oa ea) (h3 : zSe n ss ka xa ya za va) (h4 : zBe n N ss ka be rc pa ca da sa ga ita) : i_Rel k ((nI N), (nI C), (nI n), ss, dd, rr, ka, xa, ya, za, ja, la, ra, wa, va, oa, ea, ce, be, rc, pc, pa, ca, da, sa, ga, ta) ((nI N), (nI C), (nI n), ss, ka, xa, ya, za, ce, ita, be, rc, pc, sna) :=
  ⟨N, C, n, ss, dd, rr, ka, xa, ya, za, ja, la, ra, wa, va, oa, ea, ce, be, rc, pc, pa, ca, da, sa, ga, ta, ita, sna, rfl, rfl, h1, h2, h3, h4⟩
theorem ze {k : Nat} {u : SX} {v : SY} {P : SX → SY → Prop} (I : i_Rel k u v)
    (h : ∀ (N C n : Nat) (ss dd rr : Int32) (ka xa ya za ja la ra wa va oa ea ce be rc pc pa ca da sa ga ta ita sna : Nat → Int32), (1 ≤ N ∧ N ≤ 8) → zKn C n dd rr ka xa ya za ja la ra wa oa ea → zSe n ss ka xa ya za va → zBe n N ss ka be rc pa ca da sa ga ita →
      P ((nI N), (nI C), (nI n), ss, dd, rr, ka, xa, ya, za, ja, la, ra, wa, va, oa, ea, ce, be, rc, pc, pa, ca, da, sa, ga, ta) ((nI N), (nI C), (nI n), ss, ka, xa, ya, za, ce, ita, be, rc, pc, sna)) : P u v :=
  Exists.elim I fun N I => Exists.elim I fun C I => Exists.elim I fun n I => Exists.elim I fun ss I => Exists.elim I fun dd I => Exists.elim I fun rr I =>
  Exists.elim I fun ka I => Exists.elim I fun xa I => Exists.elim I fun ya I => Exists.elim I fun za I => Exists.elim I fun ja I => Exists.elim I fun la I => Exists.elim I fun ra I => Exists.elim I fun wa I => Exists.elim I fun va I =>
  Exists.elim I fun oa I => Exists.elim I fun ea I => Exists.elim I fun ce I => Exists.elim I fun be I => Exists.elim I fun rc I => Exists.elim I fun pc I => Exists.elim I fun pa I => Exists.elim I fun ca I => Exists.elim I fun da I =>
  Exists.elim I fun sa I => Exists.elim I fun ga I => Exists.elim I fun ta I => Exists.elim I fun ita I => Exists.elim I fun sna I =>
  I.1.symm ▸ I.2.1.symm ▸ h N C n ss dd rr ka xa ya za ja la ra wa va oa ea ce be rc pc pa ca da sa ga ta ita sna I.2.2.1 I.2.2.2.1 I.2.2.2.2.1 I.2.2.2.2.2
theorem i_up {k : Nat} {u : SX} {v : SY} (h : i_Rel k u v) : i_Rel (k + 5) u v := h
end REL
end
section
/-! the methods without loops over the kernel -/
section SIM
variable {ii cc nn ss dd rr : Int32} {ka xa ya za ja la ra wa va oa ea ce be rc pc pa ca da sa ga ta ita sna : Nat → Int32}
theorem zi0 {k N C : Nat} (h1 : 1 ≤ N ∧ N ≤ 8) (hC : C ≤ 32) (hv : ∀ p, p < 33 → va p = 0) (hb1 : be 1 = 0) (hb2 : be 2 = 0) : i_Rel k ((nI N), (nI C), 0, 0, 0, 0, ka, xa, ya, za, ja, la, ra, wa, va, oa, ea, ce, be, rc, pc, pa, ca, da, sa, ga, ta) ((nI N), (nI C), 0, 0, ka, xa, ya, za, ce, ita, be, rc, pc, sna) := by
  refine zi (n := 0) (ss := 0) (dd := 0) (rr := 0) h1 ⟨Nat.zero_le _, hC, ⟨fun p hp => ?_, fun p hp => absurd hp (by omega)⟩, fun p hp => absurd hp (by omega), fun p hp => absurd hp (by omega), fun p hp => absurd hp (by omega), rfl, rfl, trivial⟩ (Or.inl ⟨rfl, hv⟩) ⟨fun h => absurd hb1 h, fun h => absurd hb2 h⟩
  have : p = 0 := by omega
  subst this
  exact ⟨Nat.zero_le _, Nat.zero_le _⟩
theorem zcl {x : Int32} {a b : Nat} {M : Int32} (hM : M.toInt = b) (ha : ∃ y : Int32, y.toInt = a ∧ y ≤ x) (h : x ≤ M) : ∃ N : Nat, a ≤ N ∧ N ≤ b ∧ x = nI N := by
  obtain ⟨y, hy, hyx⟩ := ha
  rw [Int32.le_iff_toInt_le, hy] at hyx
  rw [Int32.le_iff_toInt_le, hM] at h
  have h0 : ¬ x < 0 := by
    rw [Int32.lt_iff_toInt_lt, show (0 : Int32).toInt = 0 from rfl]; omega
  obtain ⟨j, hj, rfl⟩ := nI_of h0
  rw [nI_toInt hj] at hyx h
  exact ⟨j, by omega, by omega, rfl⟩
theorem i_vc0 (k0 : Int32) (k1 : Int32) : wpX_init (fun u => wpY_init (fun v => i_Rel 2 u v) k0 k1) k0 k1 := by
  have fin : ∀ (N C : Nat), (1 ≤ N ∧ N ≤ 8) → C ≤ 32 → i_Rel 2 ((nI N), (nI C), 0, 0, 0, 0, (fun _ => 0), (fun _ => 0), (fun _ => 0), (fun _ => 0), (fun _ => 0), (fun _ => 0), (fun _ => 0), (fun _ => 0), (fun _ => 0), (fun _ => 0), (fun _ => 0), (fun _ => 0), (fun _ => 0), (fun _ => 0), (fun _ => 0), (fun _ => 0), (fun _ => 0), (fun _ => 0), (fun _ => 0), (fun _ => 0), (fun _ => 0))
      ((nI N), (nI C), 0, 0, (fun _ => 0), (fun _ => 0), (fun _ => 0), (fun _ => 0), (fun _ => 0), (fun _ => 0), (fun _ => 0), (fun _ => 0), (fun _ => 0), (fun _ => 0)) :=
    fun N C h1 h2 => zi0 h1 h2 (fun _ _ => rfl) rfl rfl
  unfold wpX_init
  by_cases a1 : 1 ≤ k0
  · by_cases a2 : k0 ≤ 8
    · obtain ⟨N, n1, n2, rfl⟩ := zcl (a := 1) (b := 8) (M := 8) rfl ⟨1, rfl, a1⟩ a2
      refine br_t a1 (br_t a2 ?_)
      by_cases b1 : 8 ≤ k1
      · by_cases b2 : k1 ≤ 32
        · obtain ⟨C, c1, c2, rfl⟩ := zcl (a := 8) (b := 32) (M := 32) rfl ⟨8, rfl, b1⟩ b2
          exact br_t b1 (br_t b2 (br_t a1 (br_t a2 (br_t b1 (br_t b2 (fin N C ⟨n1, n2⟩ c2))))))
        · exact br_t b1 (br_f b2 (br_t a1 (br_t a2 (br_t b1 (br_f b2 (fin N 32 ⟨n1, n2⟩ (by omega)))))))
      · exact br_f b1 (br_t a1 (br_t a2 (br_f b1 (fin N 8 ⟨n1, n2⟩ (by omega)))))
    · refine br_t a1 (br_f a2 ?_)
      by_cases b1 : 8 ≤ k1
      · by_cases b2 : k1 ≤ 32
        · obtain ⟨C, c1, c2, rfl⟩ := zcl (a := 8) (b := 32) (M := 32) rfl ⟨8, rfl, b1⟩ b2
          exact br_t b1 (br_t b2 (br_t a1 (br_f a2 (br_t b1 (br_t b2 (fin 8 C (by omega) c2))))))
        · exact br_t b1 (br_f b2 (br_t a1 (br_f a2 (br_t b1 (br_f b2 (fin 8 32 (by omega) (by omega)))))))
      · exact br_f b1 (br_t a1 (br_f a2 (br_f b1 (fin 8 8 (by omega) (by omega)))))
  · refine br_f a1 ?_
    by_cases b1 : 8 ≤ k1
    · by_cases b2 : k1 ≤ 32
      · obtain ⟨C, c1, c2, rfl⟩ := zcl (a := 8) (b := 32) (M := 32) rfl ⟨8, rfl, b1⟩ b2
        exact br_t b1 (br_t b2 (br_f a1 (br_t b1 (br_t b2 (fin 1 C (by omega) c2)))))
      · exact br_t b1 (br_f b2 (br_f a1 (br_t b1 (br_f b2 (fin 1 32 (by omega) (by omega))))))
    · exact br_f b1 (br_f a1 (br_f b1 (fin 1 8 (by omega) (by omega))))
theorem zin {p : Int32} {n m : Nat} (h0 : ¬ p < 0) (h : p < nI n) (hn : n ≤ m) (hm : m < 2 ^ 31) : ∃ j : Nat, j < n ∧ p = nI j := by
  obtain ⟨j, hj, rfl⟩ := nI_of h0
  exact ⟨j, (nI_ltI hj (by omega)).mp h, rfl⟩
theorem i_vc_field {k : Nat} {u : SX} {v : SY} (I : i_Rel k u v) (hk : k + 5 ≤ 2562) (v1 : Int32) (v2 : Int32) : wpX_field (fun r => wpY_field (fun r' => r' = r ∧ i_Rel (k + 5) u v) v v1 v2) u v1 v2 := by
  refine ze (P := fun u v => wpX_field (fun r => wpY_field (fun r' => r' = r ∧ i_Rel (k + 5) u v) v v1 v2) u v1 v2) I ?_
  intro N C n ss dd rr ka xa ya za ja la ra wa va oa ea ce be rc pc pa ca da sa ga ta ita sna hN hK hS hB
  have R : i_Rel (k + 5) ((nI N), (nI C), (nI n), ss, dd, rr, ka, xa, ya, za, ja, la, ra, wa, va, oa, ea, ce, be, rc, pc, pa, ca, da, sa, ga, ta) ((nI N), (nI C), (nI n), ss, ka, xa, ya, za, ce, ita, be, rc, pc, sna) := zi hN hK hS hB
  by_cases a : v1 < 0
  · exact br_t a (br_t a ⟨rfl, R⟩)
  by_cases b : v1 < nI n
  · obtain ⟨j, hj, rfl⟩ := zin a b (show n ≤ 32 from Nat.le_trans hK.1 hK.2.1) (by omega)
    have b' : ¬ nI n ≤ nI j := Int32.not_le.mpr b
    have hn : n ≤ 32 := Nat.le_trans hK.1 hK.2.1
    have iv : vp_in (nI j) 32 := vp_in_nI (by omega) (by omega)
    by_cases c : v2 < 0
    · exact br_f a (br_t b (br_t c (br_f a (br_f b' (br_t c ⟨rfl, R⟩)))))
    by_cases d : 3 < v2
    · exact br_f a (br_t b (br_f c (br_t d (br_f a (br_f b' (br_f c (br_f (Int32.not_le.mpr d) ⟨rfl, R⟩)))))))
    have d' : v2 ≤ 3 := Int32.not_lt.mp d
    obtain ⟨m, hm, rfl⟩ := nI_of2 (n := 3) rfl c d'
    refine br_f a (br_t b (br_f c (br_f d ?_)))
    by_cases e0 : nI m = 0
    · exact br_t e0 ⟨iv, br_f a (br_f b' (br_f c (br_t d' (br_t e0 ⟨iv, rfl, R⟩))))⟩
    by_cases e1 : nI m = 1
    · exact br_f e0 (br_t e1 ⟨iv, br_f a (br_f b' (br_f c (br_t d' (br_f e0 (br_t e1 ⟨iv, rfl, R⟩)))))⟩)
    by_cases e2 : nI m = 2
    · exact br_f e0 (br_f e1 (br_t e2 ⟨iv, br_f a (br_f b' (br_f c (br_t d' (br_f e0 (br_f e1 (br_t e2 ⟨iv, rfl, R⟩))))))⟩))
    have e3 : nI m = 3 := by
      have h0 : m ≠ 0 := fun h => e0 (by rw [h]; rfl)
      have h1 : m ≠ 1 := fun h => e1 (by rw [h]; rfl)
      have h2 : m ≠ 2 := fun h => e2 (by rw [h]; rfl)
      have : m = 3 := by omega
      rw [this]; rfl
    exact br_f e0 (br_f e1 (br_f e2 (br_t e3 ⟨iv, br_f a (br_f b' (br_f c (br_t d' (br_f e0 (br_f e1 (br_f e2 ⟨iv, rfl, R⟩))))))⟩)))
  · exact br_f a (br_f b (br_f a (br_t (Int32.not_lt.mp b) ⟨rfl, R⟩)))
theorem i_vc_poke {k : Nat} {u : SX} {v : SY} (I : i_Rel k u v) (hk : k + 5 ≤ 2562) (v1 : Int32) (v2 : Int32) : wpX_poke (fun r u' => wpY_poke (fun r' v' => r' = r ∧ i_Rel (k + 5) u' v') v v1 v2) u v1 v2 := by
  refine ze (P := fun u v => wpX_poke (fun r u' => wpY_poke (fun r' v' => r' = r ∧ i_Rel (k + 5) u' v') v v1 v2) u v1 v2) I ?_
  intro N C n ss dd rr ka xa ya za ja la ra wa va oa ea ce be rc pc pa ca da sa ga ta ita sna hN hK hS hB
  have R : ∀ ce, i_Rel (k + 5) ((nI N), (nI C), (nI n), ss, dd, rr, ka, xa, ya, za, ja, la, ra, wa, va, oa, ea, ce, be, rc, pc, pa, ca, da, sa, ga, ta) ((nI N), (nI C), (nI n), ss, ka, xa, ya, za, ce, ita, be, rc, pc, sna) := fun ce => zi hN hK hS hB
  by_cases a : v1 < 0
  · exact br_t a (br_t a ⟨rfl, R _⟩)
  by_cases b : v1 ≤ 15
  · obtain ⟨m, hm, rfl⟩ := nI_of2 (n := 15) rfl a b
    have iv : vp_in (nI m) 48 := vp_in_nI (by omega) (by omega)
    exact br_f a (br_t b ⟨iv, nm_e (br_f a (br_t b ⟨iv, nm_e ⟨rfl, R _⟩⟩))⟩)
  · exact br_f a (br_f b (br_f a (br_f b ⟨rfl, R _⟩)))
theorem i_vc_memory {k : Nat} {u : SX} {v : SY} (I : i_Rel k u v) (hk : k + 5 ≤ 2562) (v1 : Int32) (v2 : Int32) : wpX_memory (fun r => wpY_memory (fun r' => r' = r ∧ i_Rel (k + 5) u v) v v1 v2) u v1 v2 := by
  refine ze (P := fun u v => wpX_memory (fun r => wpY_memory (fun r' => r' = r ∧ i_Rel (k + 5) u v) v v1 v2) u v1 v2) I ?_
  intro N C n ss dd rr ka xa ya za ja la ra wa va oa ea ce be rc pc pa ca da sa ga ta ita sna hN hK hS hB
  have R : i_Rel (k + 5) ((nI N), (nI C), (nI n), ss, dd, rr, ka, xa, ya, za, ja, la, ra, wa, va, oa, ea, ce, be, rc, pc, pa, ca, da, sa, ga, ta) ((nI N), (nI C), (nI n), ss, ka, xa, ya, za, ce, ita, be, rc, pc, sna) := zi hN hK hS hB
  by_cases a : v1 < 0
  · exact br_t a (br_t a ⟨rfl, R⟩)
  by_cases b : 2 < v1
  · exact br_f a (br_t b (br_f a (br_t b ⟨rfl, R⟩)))
  by_cases c : v2 < 0
  · exact br_f a (br_f b (br_t c (br_f a (br_f b (br_t c ⟨rfl, R⟩)))))
  by_cases d : v2 ≤ 15
  · obtain ⟨m, hm, rfl⟩ := nI_of2 (n := 2) rfl a (Int32.not_lt.mp b)
    obtain ⟨m2, hm2, rfl⟩ := nI_of2 (n := 15) rfl c d
    have iv : vp_in (nI m * 16 + nI m2) 48 := by
      rw [show nI m * 16 = nI (m * 16) from pk_mul m 16, nI_add]
      exact vp_in_nI (by omega) (by omega)
    exact br_f a (br_f b (br_f c (br_t d ⟨iv, br_f a (br_f b (br_f c (br_t d ⟨iv, rfl, R⟩)))⟩)))
  · exact br_f a (br_f b (br_f c (br_f d (br_f a (br_f b (br_f c (br_f d ⟨rfl, R⟩)))))))
theorem zrs {p : Int32} (h1 : ¬ p = 1) (h2 : ¬ p = 2) (h3 : ¬ p < 1) : ¬ p ≤ 2 := by
  intro h
  have h0 : ¬ p < 0 := by
    rw [Int32.lt_iff_toInt_lt] at h3 ⊢
    rw [show (1 : Int32).toInt = 1 from rfl] at h3
    rw [show (0 : Int32).toInt = 0 from rfl]; omega
  obtain ⟨j, hj, rfl⟩ := nI_of2 (n := 2) rfl h0 h
  have e0 : j ≠ 0 := fun h => h3 (by rw [h]; decide)
  have e1 : j ≠ 1 := fun h => h1 (by rw [h]; rfl)
  have e2 : j ≠ 2 := fun h => h2 (by rw [h]; rfl)
  omega
theorem i_vc_races {k : Nat} {u : SX} {v : SY} (I : i_Rel k u v) (hk : k + 5 ≤ 2562) (v1 : Int32) : wpX_races (fun r => wpY_races (fun r' => r' = r ∧ i_Rel (k + 5) u v) v v1) u v1 := by
  refine ze (P := fun u v => wpX_races (fun r => wpY_races (fun r' => r' = r ∧ i_Rel (k + 5) u v) v v1) u v1) I ?_
  intro N C n ss dd rr ka xa ya za ja la ra wa va oa ea ce be rc pc pa ca da sa ga ta ita sna hN hK hS hB
  have R : i_Rel (k + 5) ((nI N), (nI C), (nI n), ss, dd, rr, ka, xa, ya, za, ja, la, ra, wa, va, oa, ea, ce, be, rc, pc, pa, ca, da, sa, ga, ta) ((nI N), (nI C), (nI n), ss, ka, xa, ya, za, ce, ita, be, rc, pc, sna) := zi hN hK hS hB
  unfold wpX_races wpX_isRunSide
  dsimp only
  by_cases a : v1 = 1
  · subst a
    have iv : vp_in 1 3 := vp_in_nI (n := 1) (by omega) (by omega)
    exact br_t rfl (br_f (by decide) ⟨iv, br_f (by decide) (br_t (by decide) ⟨iv, rfl, R⟩)⟩)
  by_cases b : v1 = 2
  · subst b
    have iv : vp_in 2 3 := vp_in_nI (n := 2) (by omega) (by omega)
    exact br_f a (br_t rfl (br_f (by decide) ⟨iv, br_f (by decide) (br_t (by decide) ⟨iv, rfl, R⟩)⟩))
  refine br_f a (br_f b (br_t rfl ?_))
  by_cases c : v1 < 1
  · exact br_t c ⟨rfl, R⟩
  · exact br_f c (br_f (zrs a b c) ⟨rfl, R⟩)
theorem i_vc_passed {k : Nat} {u : SX} {v : SY} (I : i_Rel k u v) (hk : k + 5 ≤ 2562) (v1 : Int32) : wpX_passed (fun r => wpY_passed (fun r' => r' = r ∧ i_Rel (k + 5) u v) v v1) u v1 := by
  refine ze (P := fun u v => wpX_passed (fun r => wpY_passed (fun r' => r' = r ∧ i_Rel (k + 5) u v) v v1) u v1) I ?_
  intro N C n ss dd rr ka xa ya za ja la ra wa va oa ea ce be rc pc pa ca da sa ga ta ita sna hN hK hS hB
  have R : i_Rel (k + 5) ((nI N), (nI C), (nI n), ss, dd, rr, ka, xa, ya, za, ja, la, ra, wa, va, oa, ea, ce, be, rc, pc, pa, ca, da, sa, ga, ta) ((nI N), (nI C), (nI n), ss, ka, xa, ya, za, ce, ita, be, rc, pc, sna) := zi hN hK hS hB
  unfold wpX_passed wpX_isRunSide
  dsimp only
  by_cases a : v1 = 1
  · subst a
    have iv : vp_in 1 3 := vp_in_nI (n := 1) (by omega) (by omega)
    exact br_t rfl (br_f (by decide) ⟨iv, br_f (by decide) (br_t (by decide) ⟨iv, rfl, R⟩)⟩)
  by_cases b : v1 = 2
  · subst b
    have iv : vp_in 2 3 := vp_in_nI (n := 2) (by omega) (by omega)
    exact br_f a (br_t rfl (br_f (by decide) ⟨iv, br_f (by decide) (br_t (by decide) ⟨iv, rfl, R⟩)⟩))
  refine br_f a (br_f b (br_t rfl ?_))
  by_cases c : v1 < 1
  · exact br_t c ⟨rfl, R⟩
  · exact br_f c (br_f (zrs a b c) ⟨rfl, R⟩)
end SIM
end
section
/-! X's statement, kind by kind -/
section XEX
variable {ii cc nn ss dd rr : Int32} {ka xa ya za ja la ra wa va oa ea ce be rc pc pa ca da sa ga ta ita sna : Nat → Int32}
def zot (f : Nat → Int32) (j : Nat) : Nat → Int32
  | 0 => 0
  | o + 1 => if o = j then zot f j o else zot f j o ||| f o
theorem zsl (s j : Nat) : nI s * 8 + nI j = nI (s * 8 + j) := by
  rw [show nI s * 8 = nI (s * 8) from pk_mul s 8, nI_add]
theorem zsc (s j : Nat) : nI s * 16 + nI j = nI (s * 16 + j) := by
  rw [show nI s * 16 = nI (s * 16) from pk_mul s 16, nI_add]
theorem zcn {a : Nat} (h : a < 1000) : (nI a).toNatClampNeg = a := nI_clamp (by omega)
theorem zvi {a b : Nat} (h : a < b) (hb : b < 1000) : vp_in (nI a) b := vp_in_nI h (by omega)
theorem xso_l {post : Int32 → Prop} {s j N : Nat} (hs : s < 3) (hj : j < 8) (hN : N ≤ 8) (h : post (zot (fun o => sa (s * 8 + o)) j N)) :
    ∀ (f o : Nat), o ≤ N → N - o < f → wX_storedByOthers_5 post (nI s) (nI j) (nI N) cc nn ss dd rr ka xa ya za ja la ra wa va oa ea ce be rc pc pa ca da sa ga ta f (zot (fun o => sa (s * 8 + o)) j o) (nI o) := by
  intro f
  induction f with
  | zero => intro o h1 h2; omega
  | succ f ih =>
    intro o h1 h2
    unfold wX_storedByOthers_5
    by_cases e : o = N
    · subst e
      exact br_t (nI_le (Nat.le_refl _) (by omega)) h
    · refine br_f (nI_ge (by omega) (by omega)) ?_
      have ihs := ih (o + 1) (by omega) (by omega)
      by_cases e' : o = j
      · have hz : zot (fun o => sa (s * 8 + o)) j (o + 1) = zot (fun o => sa (s * 8 + o)) j o := if_pos e'
        rw [hz] at ihs
        exact br_t (by rw [e']) (nm_r (nI_1 o) ihs)
      · have hz : zot (fun o => sa (s * 8 + o)) j (o + 1) = zot (fun o => sa (s * 8 + o)) j o ||| sa (s * 8 + o) := if_neg e'
        rw [hz] at ihs
        rw [zsl, zcn (by omega)]
        exact br_f (fun h => e' ((nI_eq (by omega) (by omega)).mp h)) ⟨zvi (by omega) (by omega), nm_e (nm_r (nI_1 o) ihs)⟩
theorem xso {post : Int32 → Prop} {s j N : Nat} (hs : s < 3) (hj : j < 8) (hN : N ≤ 8) (h : post (zot (fun o => sa (s * 8 + o)) j N)) : wpX_storedByOthers post ((nI N), cc, nn, ss, dd, rr, ka, xa, ya, za, ja, la, ra, wa, va, oa, ea, ce, be, rc, pc, pa, ca, da, sa, ga, ta) (nI s) (nI j) := by
  unfold wpX_storedByOthers
  exact ⟨N + 1, xso_l hs hj hN h (N + 1) 0 (by omega) (by omega)⟩
theorem xlo_l {post : Int32 → Prop} {s j N : Nat} (hs : s < 3) (hj : j < 8) (hN : N ≤ 8) (h : post (zot (fun o => da (s * 8 + o)) j N)) :
    ∀ (f o : Nat), o ≤ N → N - o < f → wX_loadedByOthers_5 post (nI s) (nI j) (nI N) cc nn ss dd rr ka xa ya za ja la ra wa va oa ea ce be rc pc pa ca da sa ga ta f (zot (fun o => da (s * 8 + o)) j o) (nI o) := by
  intro f
  induction f with
  | zero => intro o h1 h2; omega
  | succ f ih =>
    intro o h1 h2
    unfold wX_loadedByOthers_5
    by_cases e : o = N
    · subst e
      exact br_t (nI_le (Nat.le_refl _) (by omega)) h
    · refine br_f (nI_ge (by omega) (by omega)) ?_
      have ihs := ih (o + 1) (by omega) (by omega)
      by_cases e' : o = j
      · have hz : zot (fun o => da (s * 8 + o)) j (o + 1) = zot (fun o => da (s * 8 + o)) j o := if_pos e'
        rw [hz] at ihs
        exact br_t (by rw [e']) (nm_r (nI_1 o) ihs)
      · have hz : zot (fun o => da (s * 8 + o)) j (o + 1) = zot (fun o => da (s * 8 + o)) j o ||| da (s * 8 + o) := if_neg e'
        rw [hz] at ihs
        rw [zsl, zcn (by omega)]
        exact br_f (fun h => e' ((nI_eq (by omega) (by omega)).mp h)) ⟨zvi (by omega) (by omega), nm_e (nm_r (nI_1 o) ihs)⟩
theorem xlo {post : Int32 → Prop} {s j N : Nat} (hs : s < 3) (hj : j < 8) (hN : N ≤ 8) (h : post (zot (fun o => da (s * 8 + o)) j N)) : wpX_loadedByOthers post ((nI N), cc, nn, ss, dd, rr, ka, xa, ya, za, ja, la, ra, wa, va, oa, ea, ce, be, rc, pc, pa, ca, da, sa, ga, ta) (nI s) (nI j) := by
  unfold wpX_loadedByOthers
  exact ⟨N + 1, xlo_l hs hj hN h (N + 1) 0 (by omega) (by omega)⟩
theorem xld {post : Int32 → SX → Prop} {s j N c : Nat} (hs : s < 3) (hj : j < 8) (hN : N ≤ 8) (hc : c < 16)
    (h : post (ce (s * 16 + c)) ((nI N), cc, nn, ss, dd, rr, ka, xa, ya, za, ja, la, ra, wa, va, oa, ea, ce, be, (upd rc s (rc s ||| (zb1m (nI c) &&& zot (fun o => sa (s * 8 + o)) j N))), pc, pa, ca, (upd da (s * 8 + j) (da (s * 8 + j) ||| zb1m (nI c))), sa, ga, ta)) :
    wpX_load post ((nI N), cc, nn, ss, dd, rr, ka, xa, ya, za, ja, la, ra, wa, va, oa, ea, ce, be, rc, pc, pa, ca, da, sa, ga, ta) (nI s) (nI j) (nI c) := by
  unfold wpX_load
  dsimp only
  rw [zsl, zsc, zcn (show s < 1000 by omega), zcn (show s * 8 + j < 1000 by omega), zcn (show s * 16 + c < 1000 by omega)]
  have i1 : vp_in (nI (s * 8 + j)) 24 := zvi (by omega) (by omega)
  have i2 : vp_in (nI s) 3 := zvi (by omega) (by omega)
  have i3 : vp_in (nI (s * 16 + c)) 48 := zvi (by omega) (by omega)
  exact nm_e ⟨i1, i1, nm_e ⟨i2, xso hs hj hN ⟨i2, nm_e ⟨i3, h⟩⟩⟩⟩
theorem xst {post : SX → Prop} {s j N c : Nat} {w : Int32} (hs : s < 3) (hj : j < 8) (hN : N ≤ 8) (hc : c < 16)
    (h : post ((nI N), cc, nn, ss, dd, rr, ka, xa, ya, za, ja, la, ra, wa, va, oa, ea, (upd ce (s * 16 + c) w), be, (upd rc s (rc s ||| (zb1m (nI c) &&& (zot (fun o => upd sa (s * 8 + j) (sa (s * 8 + j) ||| zb1m (nI c)) (s * 8 + o)) j N ||| zot (fun o => da (s * 8 + o)) j N)))), pc, pa, ca, da, (upd sa (s * 8 + j) (sa (s * 8 + j) ||| zb1m (nI c))), ga, ta)) :
    wpX_store post ((nI N), cc, nn, ss, dd, rr, ka, xa, ya, za, ja, la, ra, wa, va, oa, ea, ce, be, rc, pc, pa, ca, da, sa, ga, ta) (nI s) (nI j) (nI c) w := by
  unfold wpX_store
  dsimp only
  rw [zsl, zsc, zcn (show s < 1000 by omega), zcn (show s * 8 + j < 1000 by omega), zcn (show s * 16 + c < 1000 by omega)]
  have i1 : vp_in (nI (s * 8 + j)) 24 := zvi (by omega) (by omega)
  have i2 : vp_in (nI s) 3 := zvi (by omega) (by omega)
  have i3 : vp_in (nI (s * 16 + c)) 48 := zvi (by omega) (by omega)
  exact nm_e ⟨i1, i1, nm_e (xso hs hj hN (xlo hs hj hN (nm_e ⟨i2, i2, nm_e ⟨i3, nm_e h⟩⟩)))⟩
/-- what SET, ID and the operations give -/
def zv (k i c l r : Int32) : Int32 := if k = 0 then c else if k = 1 then i else if k = 2 then l + r else if k = 3 then l - r else if k = 4 then l * r else if k = 5 then l &&& r else if k = 6 then l ^^^ r
  else if k = 7 then l >>> ((r &&& 31) &&& 31) else if k = 8 then (if r ≤ l then 0 else 1) else (if l = r then 1 else 0)
theorem zni {k : Int32} {a b : Int32} (h : a < k) (hb : ¬ a < b) : ¬ k = b := fun e => hb (e ▸ h)
theorem zni' {k : Int32} {a b : Int32} (h : ¬ k < a) (hb : b < a) : ¬ k = b := fun e => h (e ▸ hb)
theorem xcb {post : Int32 → Prop} {k i c l r : Int32} (h1 : ¬ k < 2) (h2 : ¬ 9 < k) (h : post (zv k i c l r)) : wpX_combine post (ii, cc, nn, ss, dd, rr, ka, xa, ya, za, ja, la, ra, wa, va, oa, ea, ce, be, rc, pc, pa, ca, da, sa, ga, ta) k l r := by
  unfold zv at h
  rw [if_neg (zni' h1 (by decide)), if_neg (zni' h1 (by decide))] at h
  refine br_f h1 (br_c (fun h8 => ?_) (fun h8 => ?_))
  · rw [if_neg (zni h8 (by decide)), if_neg (zni h8 (by decide)), if_neg (zni h8 (by decide)), if_neg (zni h8 (by decide)), if_neg (zni h8 (by decide)), if_neg (zni h8 (by decide)), if_neg (zni h8 (by decide))] at h
    exact br_c (fun e => by rw [if_pos e] at h; exact h) (fun e => by rw [if_neg e] at h; exact h)
  · refine br_c (fun e => by rw [if_pos e] at h; exact h) (fun e => ?_)
    rw [if_neg e] at h
    refine br_c (fun e => by rw [if_pos e] at h; exact h) (fun e => ?_)
    rw [if_neg e] at h
    refine br_c (fun e => by rw [if_pos e] at h; exact h) (fun e => ?_)
    rw [if_neg e] at h
    refine br_c (fun e => by rw [if_pos e] at h; exact h) (fun e => ?_)
    rw [if_neg e] at h
    refine br_c (fun e => by rw [if_pos e] at h; exact h) (fun e => ?_)
    rw [if_neg e] at h
    refine br_c (fun e => by rw [if_pos e] at h; exact h) (fun e => ?_)
    rw [if_neg e] at h
    refine br_c (fun e => ?_) (fun _ => trivial)
    rw [if_pos e] at h
    exact br_c (fun e => by rw [if_pos e] at h; exact h) (fun e => by rw [if_neg e] at h; exact h)
theorem xre {post : Int32 → Prop} {p b y z : Nat} {i : Int32} (hp : p < 32) (hb : b ≤ 64) (h9 : ¬ 9 < ka p) (hy : ¬ ka p = 0 → y < 8 ∧ ya p = nI y) (hz : z < 8 ∧ za p = nI z)
    (h : post (zv (ka p) i (ya p) (ga (b + y)) (ga (b + z)))) (h0 : ¬ ka p < 0) : wpX_result post (ii, cc, nn, ss, dd, rr, ka, xa, ya, za, ja, la, ra, wa, va, oa, ea, ce, be, rc, pc, pa, ca, da, sa, ga, ta) i (nI b) (nI p) := by
  unfold wpX_result
  dsimp only
  rw [zcn (show p < 1000 by omega)]
  have i1 : vp_in (nI p) 32 := zvi hp (by omega)
  refine ⟨i1, nm_e (br_c (fun e => ⟨i1, ?_⟩) (fun e => br_c (fun e1 => ?_) (fun e1 => ?_)))⟩
  · unfold zv at h
    rw [if_pos e] at h
    exact h
  · unfold zv at h
    rw [if_neg e, if_pos e1] at h
    exact h
  · have hy' := hy e
    rw [hy'.2, hz.2, nI_add, nI_add, zcn (show b + y < 1000 by omega), zcn (show b + z < 1000 by omega)]
    have h2 : ¬ ka p < 2 := by
      intro hlt
      have h0' := Int32.not_lt.mp h0
      obtain ⟨m, hm, em⟩ := nI_of h0
      rw [em] at hlt e e1
      have : m < 2 := (nI_ltI hm (by omega)).mp hlt
      have e0 : m ≠ 0 := fun h => e (by rw [h]; rfl)
      have e1' : m ≠ 1 := fun h => e1 (by rw [h]; rfl)
      omega
    exact ⟨i1, zvi (by omega) (by omega), i1, zvi (by omega) (by omega), xcb (i := i) (c := ya p) h2 h9 h⟩
end XEX
end
section
section XE2
variable {ii cc nn ss dd rr : Int32} {ka xa ya za ja la ra wa va oa ea ce be rc pc pa ca da sa ga ta ita sna : Nat → Int32}
def zbs (s j : Nat) : Nat := if s = 1 then 0 else 8 + j * 8
theorem xex {post : SX → Prop} {s j : Nat} (hs : s = 1 ∨ s = 2) (h : wX_execute_23 post (nI s) (nI j) (nI (s * 8 + j)) (nI (zbs s j)) ii cc nn ss dd rr ka xa ya za ja la ra wa va oa ea ce be rc pc pa ca da sa ga ta) : wpX_execute post (ii, cc, nn, ss, dd, rr, ka, xa, ya, za, ja, la, ra, wa, va, oa, ea, ce, be, rc, pc, pa, ca, da, sa, ga, ta) (nI s) (nI j) := by
  unfold wpX_execute
  dsimp only
  refine nm_r (zsl s j) ?_
  rcases hs with hs | hs
  · subst hs
    exact br_t rfl h
  · subst hs
    refine br_f (by decide) ?_
    rw [show nI j * 8 = nI (j * 8) from pk_mul j 8, show (8 : Int32) + nI (j * 8) = nI (8 + j * 8) from nI_add 8 (j * 8)]
    exact h
section ONEK
variable {post : SX → Prop} {s j t b p x y z c N l : Nat}
theorem xe_alu (ht : t < 24) (hb : b ≤ 64) (hp : p < 32) (e : pa t = nI p) (h9 : ¬ 9 < ka p) (h0 : ¬ ka p < 0) (hx : x < 8 ∧ xa p = nI x) (hy : ¬ ka p = 0 → y < 8 ∧ ya p = nI y) (hz : z < 8 ∧ za p = nI z)
    (h : post (ii, cc, nn, ss, dd, rr, ka, xa, ya, za, ja, la, ra, wa, va, oa, ea, ce, be, rc, pc, (upd pa t (nI (p + 1))), ca, da, sa, (upd ga (b + x) (zv (ka p) (nI j) (ya p) (ga (b + y)) (ga (b + z)))), ta)) : wX_execute_23 post (nI s) (nI j) (nI t) (nI b) ii cc nn ss dd rr ka xa ya za ja la ra wa va oa ea ce be rc pc pa ca da sa ga ta := by
  unfold wX_execute_23
  rw [zcn (show t < 1000 by omega), e]
  refine And.intro (zvi ht (by omega)) (nm_e ?_)
  rw [zcn (show p < 1000 by omega), hx.2, nI_add b x, zcn (show b + x < 1000 by omega)]
  have i1 : vp_in (nI p) 32 := zvi hp (by omega)
  exact And.intro i1 (nm_e (nm_r (nI_1 p) (br_f h9 (And.intro i1 (xre hp hb h9 hy hz (And.intro (zvi (by omega) (by omega)) (nm_e (And.intro (zvi ht (by omega)) (nm_e h)))) h0)))))
theorem xe_load (hs : s < 3) (hj : j < 8) (hN : N ≤ 8) (et : t = s * 8 + j) (hb : b ≤ 64) (hp : p < 32) (e : pa t = nI p) (hk : ka p = 10) (hx : x < 8 ∧ xa p = nI x) (hy : y < 8 ∧ ya p = nI y) (hc : c < 16 ∧ ga (b + y) &&& 15 = nI c)
    (h : post ((nI N), cc, nn, ss, dd, rr, ka, xa, ya, za, ja, la, ra, wa, va, oa, ea, ce, be, (upd rc s (rc s ||| (zb1m (nI c) &&& zot (fun o => sa (s * 8 + o)) j N))), pc, (upd pa t (nI (p + 1))), ca, (upd da (s * 8 + j) (da (s * 8 + j) ||| zb1m (nI c))), sa, (upd ga (b + x) (ce (s * 16 + c))), ta)) : wX_execute_23 post (nI s) (nI j) (nI t) (nI b) (nI N) cc nn ss dd rr ka xa ya za ja la ra wa va oa ea ce be rc pc pa ca da sa ga ta := by
  have ht : t < 24 := by omega
  unfold wX_execute_23
  rw [zcn (show t < 1000 by omega), e]
  refine And.intro (zvi ht (by omega)) (nm_e ?_)
  rw [zcn (show p < 1000 by omega), hx.2, hy.2, nI_add b x, nI_add b y, zcn (show b + x < 1000 by omega), zcn (show b + y < 1000 by omega)]
  have i1 : vp_in (nI p) 32 := zvi hp (by omega)
  refine And.intro i1 (nm_r hk (nm_r (nI_1 p) (br_t (by decide) (br_t rfl (And.intro i1 (And.intro (zvi (by omega) (by omega)) (nm_r hc.2 (And.intro i1 ?_))))))))
  exact xld hs hj hN hc.1 (And.intro (zvi (by omega) (by omega)) (nm_e (And.intro (zvi ht (by omega)) (nm_e h))))
theorem xe_store (hs : s < 3) (hj : j < 8) (hN : N ≤ 8) (et : t = s * 8 + j) (hb : b ≤ 64) (hp : p < 32) (e : pa t = nI p) (hk : ka p = 11) (hx : x < 8 ∧ xa p = nI x) (hy : y < 8 ∧ ya p = nI y) (hc : c < 16 ∧ ga (b + x) &&& 15 = nI c)
    (h : post ((nI N), cc, nn, ss, dd, rr, ka, xa, ya, za, ja, la, ra, wa, va, oa, ea, (upd ce (s * 16 + c) (ga (b + y))), be, (upd rc s (rc s ||| (zb1m (nI c) &&& (zot (fun o => upd sa (s * 8 + j) (sa (s * 8 + j) ||| zb1m (nI c)) (s * 8 + o)) j N ||| zot (fun o => da (s * 8 + o)) j N)))), pc, (upd pa t (nI (p + 1))), ca, da, (upd sa (s * 8 + j) (sa (s * 8 + j) ||| zb1m (nI c))), ga, ta)) : wX_execute_23 post (nI s) (nI j) (nI t) (nI b) (nI N) cc nn ss dd rr ka xa ya za ja la ra wa va oa ea ce be rc pc pa ca da sa ga ta := by
  have ht : t < 24 := by omega
  unfold wX_execute_23
  rw [zcn (show t < 1000 by omega), e]
  refine And.intro (zvi ht (by omega)) (nm_e ?_)
  rw [zcn (show p < 1000 by omega), hx.2, hy.2, nI_add b x, nI_add b y, zcn (show b + x < 1000 by omega), zcn (show b + y < 1000 by omega)]
  have i1 : vp_in (nI p) 32 := zvi hp (by omega)
  refine And.intro i1 (nm_r hk (nm_r (nI_1 p) (br_t (by decide) (br_f (by decide) (br_t rfl (And.intro i1 (And.intro (zvi (by omega) (by omega)) (nm_r hc.2 (And.intro i1 (And.intro (zvi (by omega) (by omega)) ?_))))))))))
  exact xst hs hj hN hc.1 (And.intro (zvi ht (by omega)) (nm_e h))
/-- the way to branch -/
theorem xe_br (ht : t < 24) (hp : p < 32) (e : pa t = nI p) (h9 : 9 < ka p) (h10 : ¬ ka p = 10) (h11 : ¬ ka p = 11) (h : ∀ Q : Int32 → SX → Prop, (∀ r ca, post (ii, cc, nn, ss, dd, rr, ka, xa, ya, za, ja, la, ra, wa, va, oa, ea, ce, be, rc, pc, (upd pa t r), ca, da, sa, ga, ta) → Q r (ii, cc, nn, ss, dd, rr, ka, xa, ya, za, ja, la, ra, wa, va, oa, ea, ce, be, rc, pc, pa, ca, da, sa, ga, ta)) → wpX_branch Q (ii, cc, nn, ss, dd, rr, ka, xa, ya, za, ja, la, ra, wa, va, oa, ea, ce, be, rc, pc, pa, ca, da, sa, ga, ta) (nI t) (nI b) (nI p)) :
    wX_execute_23 post (nI s) (nI j) (nI t) (nI b) ii cc nn ss dd rr ka xa ya za ja la ra wa va oa ea ce be rc pc pa ca da sa ga ta := by
  unfold wX_execute_23
  rw [zcn (show t < 1000 by omega), e]
  refine And.intro (zvi ht (by omega)) (nm_e ?_)
  rw [zcn (show p < 1000 by omega)]
  have i1 : vp_in (nI p) 32 := zvi hp (by omega)
  exact And.intro i1 (nm_e (nm_r (nI_1 p) (br_t h9 (br_f h10 (br_f h11 (h _ (fun r ca hr => And.intro (zvi ht (by omega)) (nm_e hr))))))))
theorem xe_if (ht : t < 24) (hb : b ≤ 64) (hp : p < 32) (e : pa t = nI p) (hk : ka p = 12) (hx : x < 8 ∧ xa p = nI x)
    (h : post (ii, cc, nn, ss, dd, rr, ka, xa, ya, za, ja, la, ra, wa, va, oa, ea, ce, be, rc, pc, (upd pa t (if ga (b + x) = 0 then ja p else nI (p + 1))), ca, da, sa, ga, ta)) : wX_execute_23 post (nI s) (nI j) (nI t) (nI b) ii cc nn ss dd rr ka xa ya za ja la ra wa va oa ea ce be rc pc pa ca da sa ga ta := by
  refine xe_br ht hp e (by rw [hk]; decide) (by rw [hk]; decide) (by rw [hk]; decide) (fun Q hQ => ?_)
  unfold wpX_branch
  dsimp only
  rw [zcn (show p < 1000 by omega), hx.2, nI_add b x, zcn (show b + x < 1000 by omega)]
  have i1 : vp_in (nI p) 32 := zvi hp (by omega)
  refine And.intro i1 (nm_r hk (br_f (by decide) (br_f (by decide) (br_t rfl (And.intro i1 (And.intro (zvi (by omega) (by omega)) (br_c (fun h0 => ?_) (fun h0 => ?_))))))))
  · rw [if_pos h0] at h
    exact And.intro i1 (hQ _ _ h)
  · rw [if_neg h0] at h
    rw [nI_1 p]
    exact hQ _ _ h
theorem xe_else (ht : t < 24) (hp : p < 32) (e : pa t = nI p) (hk : ka p = 13)
    (h : post (ii, cc, nn, ss, dd, rr, ka, xa, ya, za, ja, la, ra, wa, va, oa, ea, ce, be, rc, pc, (upd pa t (ja p)), ca, da, sa, ga, ta)) : wX_execute_23 post (nI s) (nI j) (nI t) (nI b) ii cc nn ss dd rr ka xa ya za ja la ra wa va oa ea ce be rc pc pa ca da sa ga ta := by
  refine xe_br ht hp e (by rw [hk]; decide) (by rw [hk]; decide) (by rw [hk]; decide) (fun Q hQ => ?_)
  unfold wpX_branch
  dsimp only
  rw [zcn (show p < 1000 by omega)]
  have i1 : vp_in (nI p) 32 := zvi hp (by omega)
  exact And.intro i1 (nm_r hk (br_f (by decide) (br_f (by decide) (br_f (by decide) (br_t rfl (And.intro i1 (hQ _ _ h)))))))
/-- rounds -/
def zrn (w : Int32) : Nat := if 0 ≤ w then (if w ≤ 4 then w.toNatClampNeg else 4) else 0
theorem zrn_le (w : Int32) : zrn w ≤ 4 := by
  unfold zrn
  by_cases h0 : 0 ≤ w
  · rw [if_pos h0]
    by_cases h4 : w ≤ 4
    · rw [if_pos h4]
      obtain ⟨m, hm, rfl⟩ := nI_of2 (n := 4) rfl (Int32.not_lt.mpr h0) h4
      rw [zcn (by omega)]; exact hm
    · rw [if_neg h4]; exact Nat.le_refl _
  · rw [if_neg h0]; omega
theorem zrn_4 {w : Int32} (h0 : 0 ≤ w) (h4 : w ≤ 4) : w = nI (zrn w) := by
  unfold zrn
  rw [if_pos h0, if_pos h4]
  obtain ⟨m, hm, rfl⟩ := nI_of2 (n := 4) rfl (Int32.not_lt.mpr h0) h4
  rw [zcn (by omega)]
theorem xcl {post : Int32 → Prop} {w : Int32} (h : post (nI (zrn w))) : wpX_clamp post (ii, cc, nn, ss, dd, rr, ka, xa, ya, za, ja, la, ra, wa, va, oa, ea, ce, be, rc, pc, pa, ca, da, sa, ga, ta) w 0 4 := by
  refine br_c (fun h0 => br_c (fun h4 => ?_) (fun h4 => ?_)) (fun h0 => ?_)
  · rw [zrn_4 h0 h4]; exact h
  · unfold zrn at h
    rw [if_pos h0, if_neg h4] at h
    exact h
  · unfold zrn at h
    rw [if_neg h0] at h
    exact h
theorem xe_rep (ht : t < 24) (hb : b ≤ 64) (hp : p < 32) (hl : l < 2) (e : pa t = nI p) (hk : ka p = 14) (hx : x < 8 ∧ xa p = nI x) (el : la p = nI (l + 1))
    (h : post (ii, cc, nn, ss, dd, rr, ka, xa, ya, za, ja, la, ra, wa, va, oa, ea, ce, be, rc, pc, (upd pa t (if zrn (ga (b + x)) = 0 then ja p else nI (p + 1))), (upd ca (t * 2 + l) (nI (zrn (ga (b + x))))), da, sa, ga, ta)) : wX_execute_23 post (nI s) (nI j) (nI t) (nI b) ii cc nn ss dd rr ka xa ya za ja la ra wa va oa ea ce be rc pc pa ca da sa ga ta := by
  refine xe_br ht hp e (by rw [hk]; decide) (by rw [hk]; decide) (by rw [hk]; decide) (fun Q hQ => ?_)
  unfold wpX_branch
  dsimp only
  rw [zcn (show p < 1000 by omega), hx.2, nI_add b x, zcn (show b + x < 1000 by omega)]
  have i1 : vp_in (nI p) 32 := zvi hp (by omega)
  refine And.intro i1 (nm_r hk (br_f (by decide) (br_f (by decide) (br_f (by decide) (br_f (by decide) (br_t rfl (And.intro i1 (And.intro (zvi (by omega) (by omega)) ?_))))))))
  unfold wpX_enterRepeat
  dsimp only
  refine xcl ?_
  rw [zcn (show p < 1000 by omega), el, show nI t * 2 = nI (t * 2) from pk_mul t 2, nI_add, show t * 2 + (l + 1) = (t * 2 + l) + 1 by omega, nI_pred, zcn (show t * 2 + l < 1000 by omega)]
  have hle := zrn_le (ga (b + x))
  refine And.intro i1 (And.intro (zvi (by omega) (by omega)) (nm_e (br_c (fun h0 => And.intro i1 ?_) (fun h0 => ?_))))
  · have : zrn (ga (b + x)) = 0 := (nI_eq (by omega) (by omega)).mp h0
    rw [if_pos this] at h
    exact hQ _ _ h
  · have : ¬ zrn (ga (b + x)) = 0 := fun h => h0 (by rw [h]; rfl)
    rw [if_neg this] at h
    rw [nI_1 p]
    exact hQ _ _ h
theorem xe_end0 (ht : t < 24) (hp : p < 32) (e : pa t = nI p) (hk : ka p = 15) (el : la p = 0)
    (h : post (ii, cc, nn, ss, dd, rr, ka, xa, ya, za, ja, la, ra, wa, va, oa, ea, ce, be, rc, pc, (upd pa t (nI (p + 1))), ca, da, sa, ga, ta)) : wX_execute_23 post (nI s) (nI j) (nI t) (nI b) ii cc nn ss dd rr ka xa ya za ja la ra wa va oa ea ce be rc pc pa ca da sa ga ta := by
  refine xe_br ht hp e (by rw [hk]; decide) (by rw [hk]; decide) (by rw [hk]; decide) (fun Q hQ => ?_)
  unfold wpX_branch
  dsimp only
  rw [zcn (show p < 1000 by omega)]
  have i1 : vp_in (nI p) 32 := zvi hp (by omega)
  refine And.intro i1 (nm_r hk (br_f (by decide) (br_t (by decide) ?_)))
  unfold wpX_endBlock
  dsimp only
  rw [zcn (show p < 1000 by omega), nI_1 p]
  exact And.intro i1 (br_t el (hQ _ _ h))
theorem xe_end1 (ht : t < 24) (hp : p < 32) (hl : l < 2) (hc : c < 100) (e : pa t = nI p) (hk : ka p = 15) (el : la p = nI (l + 1)) (ec : ca (t * 2 + l) = nI (c + 1))
    (h : post (ii, cc, nn, ss, dd, rr, ka, xa, ya, za, ja, la, ra, wa, va, oa, ea, ce, be, rc, pc, (upd pa t (if c = 0 then nI (p + 1) else ja p)), (upd ca (t * 2 + l) (nI c)), da, sa, ga, ta)) : wX_execute_23 post (nI s) (nI j) (nI t) (nI b) ii cc nn ss dd rr ka xa ya za ja la ra wa va oa ea ce be rc pc pa ca da sa ga ta := by
  refine xe_br ht hp e (by rw [hk]; decide) (by rw [hk]; decide) (by rw [hk]; decide) (fun Q hQ => ?_)
  unfold wpX_branch
  dsimp only
  rw [zcn (show p < 1000 by omega)]
  have i1 : vp_in (nI p) 32 := zvi hp (by omega)
  refine And.intro i1 (nm_r hk (br_f (by decide) (br_t (by decide) ?_)))
  unfold wpX_endBlock
  dsimp only
  rw [zcn (show p < 1000 by omega), nI_1 p]
  refine And.intro i1 (br_f (by rw [el]; exact nI_ne0 (by omega) (by omega)) (And.intro i1 (nm_r (e' := nI (t * 2 + l)) ?_ ?_)))
  · rw [el, show nI t * 2 = nI (t * 2) from pk_mul t 2, nI_add, show t * 2 + (l + 1) = (t * 2 + l) + 1 by omega, nI_pred]
  · have i2 : vp_in (nI (t * 2 + l)) 48 := zvi (by omega) (by omega)
    rw [zcn (show t * 2 + l < 1000 by omega), ec, nI_pred]
    refine And.intro i2 (And.intro i2 (nm_e (And.intro i2 ?_)))
    rw [pk_us]
    refine br_c (fun h0 => ?_) (fun h0 => And.intro i1 ?_)
    · have : c = 0 := by
        have := (nI_leI (a := c) (b := 0) (by omega) (by omega)).mp h0
        omega
      rw [if_pos this] at h
      exact hQ _ _ h
    · have : ¬ c = 0 := fun h => h0 (by rw [h]; decide)
      rw [if_neg this] at h
      exact hQ _ _ h
end ONEK
end XE2
end
section
/-! Y's statement, kind by kind -/
section YEX
variable {ii cc nn ss dd rr : Int32} {ka xa ya za ja la ra wa va oa ea ce be rc pc pa ca da sa ga ta ita sna : Nat → Int32}
def zr1 (rc : Nat → Int32) (s : Nat) (v : Int32) : Nat → Int32 := upd rc s (rc s ||| v)
theorem zr1_c (rc : Nat → Int32) (s : Nat) (a v : Int32) : upd (zr1 rc s a) s (zr1 rc s a s ||| v) = zr1 rc s (a ||| v) := by
  funext i
  unfold zr1 upd
  by_cases h : i = s
  · rw [if_pos h, if_pos h, if_pos rfl, Int32.or_assoc]
  · rw [if_neg h, if_neg h, if_neg h]
theorem zr1_0 (rc : Nat → Int32) (s : Nat) : zr1 rc s 0 = rc := by
  funext i
  unfold zr1 upd
  by_cases h : i = s
  · rw [if_pos h, Int32.or_zero, h]
  · rw [if_neg h]
theorem zr1_e {rc : Nat → Int32} {s : Nat} {v : Int32} (h : rc s ||| v = rc s) : zr1 rc s v = rc := by
  funext i
  unfold zr1 upd
  by_cases h' : i = s
  · rw [if_pos h', h, h']
  · rw [if_neg h']
theorem zyb (s j : Nat) : nI s * 104 + nI j * 13 = nI (s * 104 + j * 13) := by
  rw [show nI s * 104 = nI (s * 104) from pk_mul s 104, show nI j * 13 = nI (j * 13) from pk_mul j 13, nI_add]
theorem z8 (a : Nat) : nI a + 8 = nI (a + 8) := nI_add a 8
theorem z9 (a : Nat) : nI a + 9 = nI (a + 9) := nI_add a 9
theorem z11 (a : Nat) : nI a + 11 = nI (a + 11) := nI_add a 11
theorem z12 (a : Nat) : nI a + 12 = nI (a + 12) := nI_add a 12
section RACE
variable {post : SY → Prop} {s N : Nat}
theorem yr_in {J : Int32 → (Nat → Int32) → (Nat → Int32) → (Nat → Int32) → (Nat → Int32) → (Nat → Int32) → (Nat → Int32) → (Nat → Int32) → (Nat → Int32) → (Nat → Int32) → (Nat → Int32) → Prop} {i : Nat} {A : Int32} (hs : s < 3) (hN : N ≤ 8) (hi : i < N)
    (h : J (nI (i + 1)) ka xa ya za ce ita be (zr1 rc s (A ||| zp1 ita s i N)) pc sna) : ∀ (f j : Nat), j ≤ N → N - j < f → wY_execute_619 post J (nI s) (nI i) (nI N) cc nn ss f (nI j) ka xa ya za ce ita be (zr1 rc s (A ||| zp1 ita s i j)) pc sna := by
  intro f
  induction f with
  | zero => intro j h1 h2; omega
  | succ f ih =>
    intro j h1 h2
    unfold wY_execute_619
    by_cases e : j = N
    · subst e
      exact br_t (nI_le (Nat.le_refl _) (by omega)) (nm_r (nI_1 i) h)
    · refine br_f (nI_ge (by omega) (by omega)) (nm_r (zyb s j) ?_)
      have ihs := ih (j + 1) (by omega) (by omega)
      by_cases e' : i = j
      · have hz : zp1 ita s i (j + 1) = zp1 ita s i j := if_pos e'
        rw [hz] at ihs
        exact br_t (by rw [e']) (nm_r (nI_1 j) ihs)
      · have hz : zp1 ita s i (j + 1) = zp1 ita s i j ||| (ita (s * 104 + i * 13 + 12) &&& (ita (s * 104 + j * 13 + 11) ||| ita (s * 104 + j * 13 + 12))) := if_neg e'
        rw [hz, ← Int32.or_assoc, ← zr1_c] at ihs
        refine br_f (fun h => e' ((nI_eq (by omega) (by omega)).mp h)) ?_
        rw [zyb s i, z12, z12, z11, zcn (show s < 1000 by omega), zcn (show s * 104 + i * 13 + 12 < 1000 by omega), zcn (show s * 104 + j * 13 + 11 < 1000 by omega), zcn (show s * 104 + j * 13 + 12 < 1000 by omega)]
        have i2 : vp_in (nI s) 3 := zvi (by omega) (by omega)
        exact And.intro i2 (And.intro (zvi (by omega) (by omega)) (And.intro (zvi (by omega) (by omega)) (And.intro (zvi (by omega) (by omega)) (And.intro i2 (nm_e (nm_r (nI_1 j) ihs))))))
theorem yr_out (hs : s < 3) (hN : N ≤ 8) (h : post ((nI N), cc, nn, ss, ka, xa, ya, za, ce, ita, be, (zr1 rc s (zpr ita s N N)), pc, sna)) : ∀ (f i : Nat), i ≤ N → N - i < f → wY_execute_607 post (nI s) (nI N) cc nn ss f (nI i) ka xa ya za ce ita be (zr1 rc s (zpr ita s N i)) pc sna := by
  intro f
  induction f with
  | zero => intro i h1 h2; omega
  | succ f ih =>
    intro i h1 h2
    unfold wY_execute_607
    by_cases e : i = N
    · subst e
      exact br_t (nI_le (Nat.le_refl _) (by omega)) h
    · refine br_f (nI_ge (by omega) (by omega)) ⟨N + 1, ?_⟩
      have ihs := ih (i + 1) (by omega) (by omega)
      have hz : zpr ita s N (i + 1) = zpr ita s N i ||| zp1 ita s i N := rfl
      rw [hz] at ihs
      have := yr_in (post := post) (cc := cc) (nn := nn) (ss := ss) (J := wY_execute_607 post (nI s) (nI N) cc nn ss f) (A := zpr ita s N i) hs hN (show i < N by omega) ihs (N + 1) 0 (by omega) (by omega)
      rw [show zp1 ita s i 0 = 0 from rfl, Int32.or_zero] at this
      exact this
theorem y587 {n p j : Nat} {g : Bool} (hS : zS ka n) (hp : p < n) (hs : s < 3) (hN : N ≤ 8) (hj : j < 8) (h : post ((nI N), cc, (nI n), ss, ka, xa, ya, za, ce, (upd ita (s * 104 + j * 13 + 8) (nI (zx ka n p g))), be, (zr1 rc s (zpr (upd ita (s * 104 + j * 13 + 8) (nI (zx ka n p g))) s N N)), pc, sna)) :
    wY_execute_587 post (nI s) (nI (s * 104 + j * 13)) (nI p) (zf g) (nI N) cc (nI n) ss ka xa ya za ce ita be rc pc sna := by
  unfold wY_execute_587
  refine yn hS hp ?_
  rw [z8, zcn (show s * 104 + j * 13 + 8 < 1000 by omega)]
  refine And.intro (zvi (by omega) (by omega)) (nm_e ⟨N + 1, ?_⟩)
  have := yr_out (post := post) (nn := nI n) (cc := cc) (ss := ss) (ka := ka) (xa := xa) (ya := ya) (za := za) (ce := ce) (be := be) (pc := pc) (sna := sna) (rc := rc) (ita := upd ita (s * 104 + j * 13 + 8) (nI (zx ka n p g))) hs hN h (N + 1) 0 (by omega) (by omega)
  rw [show zpr (upd ita (s * 104 + j * 13 + 8) (nI (zx ka n p g))) s N 0 = 0 from rfl, zr1_0] at this
  exact this
theorem y587_0 {n p j : Nat} (hS : zS ka n) (hp : p < n) (hs : s < 3) (hN : N ≤ 8) (hj : j < 8) (h : post ((nI N), cc, (nI n), ss, ka, xa, ya, za, ce, (upd ita (s * 104 + j * 13 + 8) (nI (zx ka n p false))), be, (zr1 rc s (zpr (upd ita (s * 104 + j * 13 + 8) (nI (zx ka n p false))) s N N)), pc, sna)) :
    wY_execute_587 post (nI s) (nI (s * 104 + j * 13)) (nI p) 0 (nI N) cc (nI n) ss ka xa ya za ce ita be rc pc sna := y587 (g := false) hS hp hs hN hj h
theorem y587_1 {n p j : Nat} (hS : zS ka n) (hp : p < n) (hs : s < 3) (hN : N ≤ 8) (hj : j < 8) (h : post ((nI N), cc, (nI n), ss, ka, xa, ya, za, ce, (upd ita (s * 104 + j * 13 + 8) (nI (zx ka n p true))), be, (zr1 rc s (zpr (upd ita (s * 104 + j * 13 + 8) (nI (zx ka n p true))) s N N)), pc, sna)) :
    wY_execute_587 post (nI s) (nI (s * 104 + j * 13)) (nI p) 1 (nI N) cc (nI n) ss ka xa ya za ce ita be rc pc sna := y587 (g := true) hS hp hs hN hj h
end RACE
section YK
variable {post : SY → Prop} {s N n p j x y z c l o : Nat}
/-- into the kinds -/
theorem ye_in (hs : s < 3) (hj : j < 8) (hp : p < 32) (e : ita (s * 104 + j * 13 + 8) = nI p) (hx : x < 8 ∧ xa p = nI x) (hy : ¬ ka p = 0 → y < 8 ∧ ya p = nI y) {w : Int32} (hw : w = if ka p = 0 then ya p else ita (s * 104 + j * 13 + y))
    (h : wY_execute_66 post (nI s) (nI j) (nI (s * 104 + j * 13)) (nI p) (nI (s * 104 + j * 13 + x)) w ii cc nn ss ka xa ya za ce ita be rc pc sna) : wpY_execute post (ii, cc, nn, ss, ka, xa, ya, za, ce, ita, be, rc, pc, sna) (nI s) (nI j) := by
  unfold wpY_execute
  dsimp only
  refine nm_r (zyb s j) ?_
  rw [z8, zcn (show s * 104 + j * 13 + 8 < 1000 by omega), e]
  refine And.intro (zvi (by omega) (by omega)) (nm_e ?_)
  rw [zcn (show p < 1000 by omega), hx.2, nI_add]
  have i1 : vp_in (nI p) 32 := zvi hp (by omega)
  refine And.intro i1 (nm_e (And.intro i1 (br_c (fun e0 => And.intro i1 ?_) (fun e0 => And.intro i1 ?_))))
  · rw [if_pos e0] at hw
    rw [← hw]
    exact h
  · have hy' := hy e0
    rw [if_neg e0] at hw
    rw [hy'.2, nI_add, zcn (show s * 104 + j * 13 + y < 1000 by omega), ← hw]
    exact And.intro (zvi (by omega) (by omega)) h
end YK
end YEX
end
section
section YE2
variable {ii cc nn ss dd rr : Int32} {ka xa ya za ja la ra wa va oa ea ce be rc pc pa ca da sa ga ta ita sna : Nat → Int32}
variable {post : SY → Prop} {s N n p j x y z c l o B : Nat} {w : Int32}
theorem zv_w {k i cst l r w : Int32} (hw : w = if k = 0 then cst else l) : zv k i cst l r = zv k i w w r := by
  unfold zv
  by_cases h : k = 0
  · rw [if_pos h] at hw
    rw [if_pos h, if_pos h, hw]
  · rw [if_neg h] at hw
    rw [if_neg h, if_neg h, hw]
theorem z10 {k : Nat} (hk : k ≤ 16) (h9 : ¬ 9 < nI k) : k ≤ 9 := by
  rcases Nat.lt_or_ge 9 k with h | h
  · exact absurd (nI_lt (a := 9) h (by omega)) h9
  · exact h
theorem y66_alu (hB : B + 13 ≤ 312) (hp : p < 32) {m : Nat} (hm : m ≤ 16 ∧ ka p = nI m) (h9 : ¬ 9 < ka p) (hx : x < 8) (hz : z < 8 ∧ za p = nI z)
    (h : wY_execute_587 post (nI s) (nI B) (nI p) 0 ii cc nn ss ka xa ya za ce (upd ita (B + x) (zv (ka p) (nI j) w w (ita (B + z)))) be rc pc sna) :
    wY_execute_66 post (nI s) (nI j) (nI B) (nI p) (nI (B + x)) w ii cc nn ss ka xa ya za ce ita be rc pc sna := by
  have h0 : ¬ ka p < 0 := by rw [hm.2]; exact nI_pos (by omega)
  have h15 : ¬ 15 < ka p := by
    have := z10 hm.1 (hm.2 ▸ h9)
    rw [hm.2]; exact nI_nlt (b := m) (a := 15) (by omega) (by omega)
  have i1 : vp_in (nI p) 32 := zvi hp (by omega)
  have iv : vp_in (nI (B + x)) 312 := zvi (by omega) (by omega)
  unfold wY_execute_66 wY_execute_306 wY_execute_328
  rw [zcn (show p < 1000 by omega), hz.2, nI_add B z, zcn (show B + z < 1000 by omega), zcn (show B + x < 1000 by omega)]
  refine And.intro i1 (And.intro (zvi (by omega) (by omega)) (nm_e (And.intro i1 (nm_e (br_f h0 (br_f h15 ?_))))))
  unfold zv at h
  refine br_c (fun e => by rw [if_pos e] at h; exact And.intro iv (nm_e h)) (fun e0 => ?_)
  rw [if_neg e0] at h
  refine br_c (fun e => by rw [if_pos e] at h; exact And.intro iv (nm_e h)) (fun e1 => ?_)
  rw [if_neg e1] at h
  refine br_c (fun e => by rw [if_pos e] at h; exact And.intro iv (nm_e h)) (fun e2 => ?_)
  rw [if_neg e2] at h
  refine br_c (fun e => by rw [if_pos e] at h; exact And.intro iv (nm_e h)) (fun e3 => ?_)
  rw [if_neg e3] at h
  refine br_c (fun e => by rw [if_pos e] at h; exact And.intro iv (nm_e h)) (fun e4 => ?_)
  rw [if_neg e4] at h
  refine br_c (fun e => by rw [if_pos e] at h; exact And.intro iv (nm_e h)) (fun e5 => ?_)
  rw [if_neg e5] at h
  refine br_c (fun e => by rw [if_pos e] at h; exact And.intro iv (nm_e h)) (fun e6 => ?_)
  rw [if_neg e6] at h
  refine br_c (fun e => by rw [if_pos e] at h; exact And.intro iv (nm_e h)) (fun e7 => ?_)
  rw [if_neg e7] at h
  refine br_c (fun e => ?_) (fun e8 => ?_)
  · rw [if_pos e] at h
    exact br_c (fun e' => by rw [if_pos e'] at h; exact And.intro iv (nm_e h)) (fun e' => by rw [if_neg e'] at h; exact And.intro iv (nm_e h))
  rw [if_neg e8] at h
  refine br_c (fun e => ?_) (fun e9 => ?_)
  · exact br_c (fun e' => by rw [if_pos e'] at h; exact And.intro iv (nm_e h)) (fun e' => by rw [if_neg e'] at h; exact And.intro iv (nm_e h))
  exfalso
  have hm9 := z10 hm.1 (hm.2 ▸ h9)
  rw [hm.2] at e0 e1 e2 e3 e4 e5 e6 e7 e8 e9
  have g0 : m ≠ 0 := fun h => e0 (by rw [h]; rfl)
  have g1 : m ≠ 1 := fun h => e1 (by rw [h]; rfl)
  have g2 : m ≠ 2 := fun h => e2 (by rw [h]; rfl)
  have g3 : m ≠ 3 := fun h => e3 (by rw [h]; rfl)
  have g4 : m ≠ 4 := fun h => e4 (by rw [h]; rfl)
  have g5 : m ≠ 5 := fun h => e5 (by rw [h]; rfl)
  have g6 : m ≠ 6 := fun h => e6 (by rw [h]; rfl)
  have g7 : m ≠ 7 := fun h => e7 (by rw [h]; rfl)
  have g8 : m ≠ 8 := fun h => e8 (by rw [h]; rfl)
  have g9 : m ≠ 9 := fun h => e9 (by rw [h]; rfl)
  omega
theorem y66_load (hs : s < 3) (hB : B + 13 ≤ 312) (hp : p < 32) (hk : ka p = 10) (hx : x < 8) (hz : z < 8 ∧ za p = nI z) (hc : c < 16 ∧ w &&& 15 = nI c)
    (h : wY_execute_587 post (nI s) (nI B) (nI p) 0 ii cc nn ss ka xa ya za ce (upd (upd ita (B + x) (ce (s * 16 + c))) (B + 11) (ita (B + 11) ||| zb1m (nI c))) be rc pc sna) :
    wY_execute_66 post (nI s) (nI j) (nI B) (nI p) (nI (B + x)) w ii cc nn ss ka xa ya za ce ita be rc pc sna := by
  have i1 : vp_in (nI p) 32 := zvi hp (by omega)
  have iv : vp_in (nI (B + x)) 312 := zvi (by omega) (by omega)
  have i11 : vp_in (nI (B + 11)) 312 := zvi (by omega) (by omega)
  unfold wY_execute_66
  rw [zcn (show p < 1000 by omega), hz.2, nI_add B z, zcn (show B + z < 1000 by omega), zcn (show B + x < 1000 by omega), hc.2, zsc, z11, zcn (show s * 16 + c < 1000 by omega), zcn (show B + 11 < 1000 by omega)]
  refine And.intro i1 (And.intro (zvi (by omega) (by omega)) (nm_e (And.intro i1 (nm_r hk (br_f (by decide) (br_f (by decide) ?_))))))
  refine br_f (by decide) (br_f (by decide) (br_f (by decide) (br_f (by decide) (br_f (by decide) (br_f (by decide) (br_f (by decide) (br_f (by decide) (br_f (by decide) (br_f (by decide) (br_t rfl ?_))))))))))
  refine And.intro (zvi (by omega) (by omega)) (And.intro iv (nm_e (And.intro i11 (And.intro i11 ?_))))
  rw [pk_un (show B + 11 ≠ B + x by omega)]
  exact nm_e h
theorem y66_store (hs : s < 3) (hB : B + 13 ≤ 312) (hp : p < 32) (hk : ka p = 11) (hx : x < 8) (hz : z < 8 ∧ za p = nI z) (hc : c < 16 ∧ ita (B + x) &&& 15 = nI c)
    (h : wY_execute_587 post (nI s) (nI B) (nI p) 0 ii cc nn ss ka xa ya za (upd ce (s * 16 + c) w) (upd ita (B + 12) (ita (B + 12) ||| zb1m (nI c))) be rc pc sna) :
    wY_execute_66 post (nI s) (nI j) (nI B) (nI p) (nI (B + x)) w ii cc nn ss ka xa ya za ce ita be rc pc sna := by
  have i1 : vp_in (nI p) 32 := zvi hp (by omega)
  have iv : vp_in (nI (B + x)) 312 := zvi (by omega) (by omega)
  have i12 : vp_in (nI (B + 12)) 312 := zvi (by omega) (by omega)
  unfold wY_execute_66
  rw [zcn (show p < 1000 by omega), hz.2, nI_add B z, zcn (show B + z < 1000 by omega), zcn (show B + x < 1000 by omega), hc.2, zsc, z12, zcn (show s * 16 + c < 1000 by omega), zcn (show B + 12 < 1000 by omega)]
  refine And.intro i1 (And.intro (zvi (by omega) (by omega)) (nm_e (And.intro i1 (nm_r hk (br_f (by decide) (br_f (by decide) ?_))))))
  refine br_f (by decide) (br_f (by decide) (br_f (by decide) (br_f (by decide) (br_f (by decide) (br_f (by decide) (br_f (by decide) (br_f (by decide) (br_f (by decide) (br_f (by decide) (br_f (by decide) (br_t rfl ?_)))))))))))
  exact And.intro iv (And.intro (zvi (by omega) (by omega)) (nm_e (And.intro i12 (And.intro iv (And.intro i12 (nm_e h))))))
theorem y66_if (hB : B + 13 ≤ 312) (hp : p < 32) (hk : ka p = 12) (hx : x < 8) (hz : z < 8 ∧ za p = nI z)
    (h : wY_execute_587 post (nI s) (nI B) (nI p) (if ita (B + x) = 0 then 1 else 0) ii cc nn ss ka xa ya za ce ita be rc pc sna) :
    wY_execute_66 post (nI s) (nI j) (nI B) (nI p) (nI (B + x)) w ii cc nn ss ka xa ya za ce ita be rc pc sna := by
  have i1 : vp_in (nI p) 32 := zvi hp (by omega)
  have iv : vp_in (nI (B + x)) 312 := zvi (by omega) (by omega)
  unfold wY_execute_66 wY_execute_440
  rw [zcn (show p < 1000 by omega), hz.2, nI_add B z, zcn (show B + z < 1000 by omega), zcn (show B + x < 1000 by omega)]
  refine And.intro i1 (And.intro (zvi (by omega) (by omega)) (nm_e (And.intro i1 (nm_r hk (br_f (by decide) (br_f (by decide) ?_))))))
  refine br_f (by decide) (br_f (by decide) (br_f (by decide) (br_f (by decide) (br_f (by decide) (br_f (by decide) (br_f (by decide) (br_f (by decide) (br_f (by decide) (br_f (by decide) (br_f (by decide) (br_f (by decide) (br_t rfl ?_))))))))))))
  exact And.intro iv (br_c (fun e => by rw [if_pos e] at h; exact h) (fun e => by rw [if_neg e] at h; exact h))
theorem y66_else (hB : B + 13 ≤ 312) (hp : p < 32) (hk : ka p = 13) (hz : z < 8 ∧ za p = nI z)
    (h : wY_execute_587 post (nI s) (nI B) (nI p) 0 ii cc nn ss ka xa ya za ce ita be rc pc sna) :
    wY_execute_66 post (nI s) (nI j) (nI B) (nI p) (nI (B + x)) w ii cc nn ss ka xa ya za ce ita be rc pc sna := by
  have i1 : vp_in (nI p) 32 := zvi hp (by omega)
  unfold wY_execute_66
  rw [zcn (show p < 1000 by omega), hz.2, nI_add B z, zcn (show B + z < 1000 by omega)]
  refine And.intro i1 (And.intro (zvi (by omega) (by omega)) (nm_e (And.intro i1 (nm_r hk (br_f (by decide) (br_f (by decide) ?_))))))
  exact br_f (by decide) (br_f (by decide) (br_f (by decide) (br_f (by decide) (br_f (by decide) (br_f (by decide) (br_f (by decide) (br_f (by decide) (br_f (by decide) (br_f (by decide) (br_f (by decide) (br_f (by decide) (br_f (by decide) (br_t rfl h)))))))))))))
theorem y66_rep (hS : zS ka n) (hB : B + 13 ≤ 312) (hp : p < n) (hk : ka p = 14) (hx : x < 8) (hz : z < 8 ∧ za p = nI z)
    (h : wY_execute_587 post (nI s) (nI B) (nI p) (if zrn (ita (B + x)) = 0 then 1 else 0) ii cc (nI n) ss ka xa ya za ce (upd ita (B + 9 + zar ka false p) (nI (zrn (ita (B + x))))) be rc pc sna) :
    wY_execute_66 post (nI s) (nI j) (nI B) (nI p) (nI (B + x)) w ii cc (nI n) ss ka xa ya za ce ita be rc pc sna := by
  have hn := hS.2.2
  have hl := (hS.1.1 p (by omega)).2
  have hle := zrn_le (ita (B + x))
  have i1 : vp_in (nI p) 32 := zvi (by omega) (by omega)
  have iv : vp_in (nI (B + x)) 312 := zvi (by omega) (by omega)
  have k481 : wY_execute_481 post (nI s) (nI B) (nI p) (nI (zrn (ita (B + x)))) ii cc (nI n) ss ka xa ya za ce ita be rc pc sna := by
    unfold wY_execute_481 wY_execute_512
    refine yar0 hn (by omega) ?_
    rw [z9, nI_add, zcn (show B + 9 + zar ka false p < 1000 by omega)]
    refine And.intro (zvi (by omega) (by omega)) (nm_e (br_c (fun e => ?_) (fun e => ?_)))
    · rw [if_pos ((nI_eq (b := 0) (by omega) (by omega)).mp e)] at h
      exact h
    · rw [if_neg (fun h => e (by rw [h]; rfl))] at h
      exact h
  unfold wY_execute_66
  rw [zcn (show p < 1000 by omega), hz.2, nI_add B z, zcn (show B + z < 1000 by omega), zcn (show B + x < 1000 by omega)]
  refine And.intro i1 (And.intro (zvi (by omega) (by omega)) (nm_e (And.intro i1 (nm_r hk (br_f (by decide) (br_f (by decide) ?_))))))
  refine br_f (by decide) (br_f (by decide) (br_f (by decide) (br_f (by decide) (br_f (by decide) (br_f (by decide) (br_f (by decide) (br_f (by decide) (br_f (by decide) (br_f (by decide) (br_f (by decide) (br_f (by decide) (br_f (by decide) (br_f (by decide) (br_t rfl ?_))))))))))))))
  refine And.intro iv (br_c (fun e0 => And.intro iv (br_c (fun e4 => And.intro iv ?_) (fun e4 => ?_))) (fun e0 => ?_))
  · have e := zrn_4 e0 e4
    rw [← e] at k481
    exact k481
  · have e : zrn (ita (B + x)) = 4 := by unfold zrn; rw [if_pos e0, if_neg e4]
    rw [e] at k481
    exact k481
  · have e : zrn (ita (B + x)) = 0 := by unfold zrn; rw [if_neg e0]
    rw [e] at k481
    exact k481
theorem y66_end0 (hS : zS ka n) (hB : B + 13 ≤ 312) (hp : p < n) (hk : ka p = 15) (hz : z < 8 ∧ za p = nI z) (ho : zk ka p = o :: zk ka o) (h12 : ka o = 12)
    (h : wY_execute_587 post (nI s) (nI B) (nI p) 0 ii cc (nI n) ss ka xa ya za ce ita be rc pc sna) :
    wY_execute_66 post (nI s) (nI j) (nI B) (nI p) (nI (B + x)) w ii cc (nI n) ss ka xa ya za ce ita be rc pc sna := by
  have hn := hS.2.2
  have hm := zk_hd ho
  have i1 : vp_in (nI p) 32 := zvi (by omega) (by omega)
  unfold wY_execute_66
  rw [zcn (show p < 1000 by omega), hz.2, nI_add B z, zcn (show B + z < 1000 by omega)]
  refine And.intro i1 (And.intro (zvi (by omega) (by omega)) (nm_e (And.intro i1 (nm_r hk (br_f (by decide) (br_f (by decide) ?_))))))
  refine br_f (by decide) (br_f (by decide) (br_f (by decide) (br_f (by decide) (br_f (by decide) (br_f (by decide) (br_f (by decide) (br_f (by decide) (br_f (by decide) (br_f (by decide) (br_f (by decide) (br_f (by decide) (br_f (by decide) (br_f (by decide) (br_f (by decide) (br_t rfl ?_)))))))))))))))
  refine yo (by omega) ?_
  rw [ho]
  show ((nI o < 0 → _) ∧ (¬ nI o < 0 → (vp_in (nI o) 32 ∧ ((ka (nI o).toNatClampNeg = 14 → _) ∧ (¬ ka (nI o).toNatClampNeg = 14 → _)))))
  rw [zcn (show o < 1000 by omega)]
  exact br_f (nI_pos (by omega)) (And.intro (zvi (by omega) (by omega)) (br_f (by rw [h12]; decide) h))
theorem y66_end1 (hS : zS ka n) (hB : B + 13 ≤ 312) (hp : p < n) (hk : ka p = 15) (hz : z < 8 ∧ za p = nI z) (ho : zk ka p = o :: zk ka o) (h14 : ka o = 14) (hc : c < 100) (ec : ita (B + 9 + zar ka false o) = nI (c + 1))
    (h : wY_execute_587 post (nI s) (nI B) (nI p) (if c = 0 then 0 else 1) ii cc (nI n) ss ka xa ya za ce (upd ita (B + 9 + zar ka false o) (nI c)) be rc pc sna) :
    wY_execute_66 post (nI s) (nI j) (nI B) (nI p) (nI (B + x)) w ii cc (nI n) ss ka xa ya za ce ita be rc pc sna := by
  have hn := hS.2.2
  have hm := zk_hd ho
  have hl := (hS.1.1 o (by omega)).2
  have i1 : vp_in (nI p) 32 := zvi (by omega) (by omega)
  unfold wY_execute_66
  rw [zcn (show p < 1000 by omega), hz.2, nI_add B z, zcn (show B + z < 1000 by omega)]
  refine And.intro i1 (And.intro (zvi (by omega) (by omega)) (nm_e (And.intro i1 (nm_r hk (br_f (by decide) (br_f (by decide) ?_))))))
  refine br_f (by decide) (br_f (by decide) (br_f (by decide) (br_f (by decide) (br_f (by decide) (br_f (by decide) (br_f (by decide) (br_f (by decide) (br_f (by decide) (br_f (by decide) (br_f (by decide) (br_f (by decide) (br_f (by decide) (br_f (by decide) (br_f (by decide) (br_t rfl ?_)))))))))))))))
  refine yo (by omega) ?_
  rw [ho]
  show ((nI o < 0 → _) ∧ (¬ nI o < 0 → (vp_in (nI o) 32 ∧ ((ka (nI o).toNatClampNeg = 14 → _) ∧ (¬ ka (nI o).toNatClampNeg = 14 → _)))))
  rw [zcn (show o < 1000 by omega)]
  refine br_f (nI_pos (by omega)) (And.intro (zvi (by omega) (by omega)) (br_t h14 (yar0 hn (by omega) ?_)))
  refine nm_r (e' := nI (B + 9 + zar ka false o)) (by rw [z9, nI_add]) ?_
  have iv : vp_in (nI (B + 9 + zar ka false o)) 312 := zvi (by omega) (by omega)
  rw [zcn (show B + 9 + zar ka false o < 1000 by omega), ec, nI_pred]
  refine And.intro iv (And.intro iv (nm_e (And.intro iv ?_)))
  rw [pk_us]
  unfold wY_execute_582
  refine br_c (fun e => ?_) (fun e => ?_)
  · have : c = 0 := by
      have := (nI_leI (a := c) (b := 0) (by omega) (by omega)).mp e
      omega
    rw [if_pos this] at h
    exact h
  · have : ¬ c = 0 := fun h => e (by rw [h]; decide)
    rw [if_neg this] at h
    exact h
end YE2
end
section
/-! races by bits -/
theorem b_1 {k : Nat} (hk : k < 32) : bt 1 k = decide (k = 0) := (by decide +kernel : ∀ k, k < 32 → bt 1 k = decide (k = 0)) k hk
theorem b_1m {c b : Nat} (hc : c < 32) (hb : b < 32) : bt (zb1m (nI c)) b = true ↔ b = c := by
  unfold zb1m
  rw [b_shl c hc 1 hb]
  by_cases h : c ≤ b
  · rw [decide_eq_true h, Bool.true_and, b_1 (by omega), decide_eq_true_eq]
    omega
  · rw [decide_eq_false h, Bool.false_and]
    constructor
    · intro h; exact absurd h (by decide)
    · intro h; omega
theorem b_zot {f : Nat → Int32} {j b : Nat} : ∀ m : Nat, bt (zot f j m) b = true ↔ ∃ o, o < m ∧ o ≠ j ∧ bt (f o) b = true := by
  intro m
  induction m with
  | zero =>
    show bt 0 b = true ↔ _
    rw [b_0]
    constructor
    · intro h; exact absurd h (by decide)
    · intro ⟨o, h, _⟩; omega
  | succ m ih =>
    by_cases e : m = j
    · have hz : zot f j (m + 1) = zot f j m := if_pos e
      rw [hz, ih]
      constructor
      · intro ⟨o, h1, h2⟩; exact ⟨o, by omega, h2⟩
      · intro ⟨o, h1, h2⟩; exact ⟨o, by omega, h2⟩
    · have hz : zot f j (m + 1) = zot f j m ||| f m := if_neg e
      rw [hz, b_or, Bool.or_eq_true, ih]
      constructor
      · intro h
        rcases h with ⟨o, h1, h2⟩ | h
        · exact ⟨o, by omega, h2⟩
        · exact ⟨m, by omega, e, h⟩
      · intro ⟨o, h1, h2, h3⟩
        by_cases e' : o = m
        · right; rw [← e']; exact h3
        · left; exact ⟨o, by omega, h2, h3⟩
def zpb (it : Nat → Int32) (s i j b : Nat) : Prop := i ≠ j ∧ bt (it (s * 104 + i * 13 + 12)) b = true ∧ (bt (it (s * 104 + j * 13 + 11)) b = true ∨ bt (it (s * 104 + j * 13 + 12)) b = true)
theorem b_zp1 {it : Nat → Int32} {s i b : Nat} : ∀ m : Nat, bt (zp1 it s i m) b = true ↔ ∃ j, j < m ∧ zpb it s i j b := by
  intro m
  induction m with
  | zero =>
    show bt 0 b = true ↔ _
    rw [b_0]
    constructor
    · intro h; exact absurd h (by decide)
    · intro ⟨o, h, _⟩; omega
  | succ m ih =>
    by_cases e : i = m
    · have hz : zp1 it s i (m + 1) = zp1 it s i m := if_pos e
      rw [hz, ih]
      constructor
      · intro ⟨o, h1, h2⟩; exact ⟨o, by omega, h2⟩
      · intro ⟨o, h1, h2⟩
        have := h2.1
        exact ⟨o, by omega, h2⟩
    · have hz : zp1 it s i (m + 1) = zp1 it s i m ||| (it (s * 104 + i * 13 + 12) &&& (it (s * 104 + m * 13 + 11) ||| it (s * 104 + m * 13 + 12))) := if_neg e
      rw [hz, b_or, Bool.or_eq_true, ih, b_and, b_or, Bool.and_eq_true, Bool.or_eq_true]
      constructor
      · intro h
        rcases h with ⟨o, h1, h2⟩ | h
        · exact ⟨o, by omega, h2⟩
        · exact ⟨m, by omega, e, h⟩
      · intro ⟨o, h1, h2⟩
        by_cases e' : o = m
        · right; rw [← e']; exact h2.2
        · left; exact ⟨o, by omega, h2⟩
theorem b_zpr {it : Nat → Int32} {s N b : Nat} : ∀ m : Nat, bt (zpr it s N m) b = true ↔ ∃ i j, i < m ∧ j < N ∧ zpb it s i j b := by
  intro m
  induction m with
  | zero =>
    show bt 0 b = true ↔ _
    rw [b_0]
    constructor
    · intro h; exact absurd h (by decide)
    · intro ⟨o, _, h, _⟩; omega
  | succ m ih =>
    show bt (zpr it s N m ||| zp1 it s m N) b = true ↔ _
    rw [b_or, Bool.or_eq_true, ih, b_zp1]
    constructor
    · intro h
      rcases h with ⟨i, j, h1, h2⟩ | ⟨j, h1, h2⟩
      · exact ⟨i, j, by omega, h2⟩
      · exact ⟨m, j, by omega, h1, h2⟩
    · intro ⟨i, j, h1, h2⟩
      by_cases e' : i = m
      · right; rw [← e']; exact ⟨j, h2⟩
      · left; exact ⟨i, j, by omega, h2⟩
theorem zP_b {N s : Nat} {ita rc : Nat → Int32} (h : zP N s ita rc) {b : Nat} (hb : bt (zpr ita s N N) b = true) : bt (rc s) b = true := by
  unfold zP at h
  rw [← h, b_or, hb, Bool.or_true]
theorem zP_n {N s : Nat} {ita rc : Nat → Int32} : zP N s ita (zr1 rc s (zpr ita s N N)) := by
  unfold zP zr1
  rw [pk_us, Int32.or_assoc, Int32.or_self]
/-- the masks of loads and stores stay -/
theorem zpr_s {N s : Nat} {ita ita' rc : Nat → Int32} (h : zP N s ita rc) (h11 : ∀ i, i < N → ita' (s * 104 + i * 13 + 11) = ita (s * 104 + i * 13 + 11)) (h12 : ∀ i, i < N → ita' (s * 104 + i * 13 + 12) = ita (s * 104 + i * 13 + 12)) : rc = zr1 rc s (zpr ita' s N N) := by
  refine (zr1_e ?_).symm
  apply b_ext
  intro b hb
  rw [b_or]
  cases e : bt (zpr ita' s N N) b with
  | false => rw [Bool.or_false]
  | true =>
    rw [Bool.or_true]
    refine (zP_b h ?_).symm
    obtain ⟨i, j, h1, h2, h3, h4, h5⟩ := (b_zpr N).mp e
    rw [h12 i h1] at h4
    rw [h12 j h2, h11 j h2] at h5
    exact (b_zpr N).mpr ⟨i, j, h1, h2, h3, h4, h5⟩
theorem zbool {x y : Bool} (h : x = true ↔ y = true) : x = y := by
  cases x <;> cases y
  · rfl
  · exact absurd (h.mpr rfl) (by decide)
  · exact absurd (h.mp rfl) (by decide)
  · rfl
theorem zpr_l {N s j c : Nat} {ita ita' rc f : Nat → Int32} (hc : c < 32) (hj : j < N) (h : zP N s ita rc)
    (h11 : ∀ i, i < N → i ≠ j → ita' (s * 104 + i * 13 + 11) = ita (s * 104 + i * 13 + 11)) (h11j : ita' (s * 104 + j * 13 + 11) = ita (s * 104 + j * 13 + 11) ||| zb1m (nI c))
    (h12 : ∀ i, i < N → ita' (s * 104 + i * 13 + 12) = ita (s * 104 + i * 13 + 12)) (hf : ∀ o, o < N → o ≠ j → f o = ita (s * 104 + o * 13 + 12)) : upd rc s (rc s ||| (zb1m (nI c) &&& zot f j N)) = zr1 rc s (zpr ita' s N N) := by
  unfold zr1
  congr 1
  apply b_ext
  intro b hb
  apply zbool
  rw [b_or, b_or, b_and, Bool.or_eq_true, Bool.or_eq_true, Bool.and_eq_true, b_1m hc hb, b_zot N, b_zpr N]
  constructor
  · intro h1
    rcases h1 with h1 | ⟨h1, o, h2, h3, h4⟩
    · exact Or.inl h1
    · right
      rw [hf o h2 h3] at h4
      refine ⟨o, j, h2, hj, h3, by rw [h12 o h2]; exact h4, Or.inl ?_⟩
      rw [h11j, b_or, (b_1m hc hb).mpr h1, Bool.or_true]
  · intro h1
    rcases h1 with h1 | ⟨i, k, h2, h3, h4, h5, h6⟩
    · exact Or.inl h1
    · rw [h12 i h2] at h5
      rw [h12 k h3] at h6
      by_cases ek : k = j
      · rw [ek, h11j, b_or, Bool.or_eq_true, b_1m hc hb] at h6
        rcases h6 with (h6 | h6) | h6
        · exact Or.inl (zP_b h ((b_zpr N).mpr ⟨i, j, h2, hj, by omega, h5, Or.inl h6⟩))
        · right
          exact ⟨h6, i, h2, by omega, by rw [hf i h2 (by omega)]; exact h5⟩
        · exact Or.inl (zP_b h ((b_zpr N).mpr ⟨i, j, h2, hj, by omega, h5, Or.inr h6⟩))
      · rw [h11 k h3 ek] at h6
        exact Or.inl (zP_b h ((b_zpr N).mpr ⟨i, k, h2, h3, h4, h5, h6⟩))
theorem zpr_w {N s j c : Nat} {ita ita' rc f g : Nat → Int32} (hc : c < 32) (hj : j < N) (h : zP N s ita rc)
    (h12 : ∀ i, i < N → i ≠ j → ita' (s * 104 + i * 13 + 12) = ita (s * 104 + i * 13 + 12)) (h12j : ita' (s * 104 + j * 13 + 12) = ita (s * 104 + j * 13 + 12) ||| zb1m (nI c))
    (h11 : ∀ i, i < N → ita' (s * 104 + i * 13 + 11) = ita (s * 104 + i * 13 + 11)) (hf : ∀ o, o < N → o ≠ j → f o = ita (s * 104 + o * 13 + 12)) (hg : ∀ o, o < N → o ≠ j → g o = ita (s * 104 + o * 13 + 11)) :
    upd rc s (rc s ||| (zb1m (nI c) &&& (zot f j N ||| zot g j N))) = zr1 rc s (zpr ita' s N N) := by
  unfold zr1
  congr 1
  apply b_ext
  intro b hb
  apply zbool
  rw [b_or, b_or, b_and, b_or, Bool.or_eq_true, Bool.or_eq_true, Bool.and_eq_true, Bool.or_eq_true, b_1m hc hb, b_zot N, b_zot N, b_zpr N]
  have hj12 : b = c → bt (ita' (s * 104 + j * 13 + 12)) b = true := fun h1 => by rw [h12j, b_or, (b_1m hc hb).mpr h1, Bool.or_true]
  constructor
  · intro h1
    rcases h1 with h1 | ⟨h1, ⟨o, h2, h3, h4⟩ | ⟨o, h2, h3, h4⟩⟩
    · exact Or.inl h1
    · right
      rw [hf o h2 h3] at h4
      exact ⟨j, o, hj, h2, fun e => h3 e.symm, hj12 h1, Or.inr (by rw [h12 o h2 h3]; exact h4)⟩
    · right
      rw [hg o h2 h3] at h4
      exact ⟨j, o, hj, h2, fun e => h3 e.symm, hj12 h1, Or.inl (by rw [h11 o h2]; exact h4)⟩
  · intro h1
    rcases h1 with h1 | ⟨i, k, h2, h3, h4, h5, h6⟩
    · exact Or.inl h1
    · rw [h11 k h3] at h6
      by_cases ei : i = j
      · have hkj : k ≠ j := by omega
        rw [h12 k h3 hkj] at h6
        rw [ei, h12j, b_or, Bool.or_eq_true, b_1m hc hb] at h5
        rcases h5 with h5 | h5
        · exact Or.inl (zP_b h ((b_zpr N).mpr ⟨j, k, hj, h3, by omega, h5, h6⟩))
        · right
          refine ⟨h5, ?_⟩
          rcases h6 with h6 | h6
          · exact Or.inr ⟨k, h3, hkj, by rw [hg k h3 hkj]; exact h6⟩
          · exact Or.inl ⟨k, h3, hkj, by rw [hf k h3 hkj]; exact h6⟩
      · rw [h12 i h2 ei] at h5
        by_cases ek : k = j
        · rw [ek, h12j, b_or, Bool.or_eq_true, b_1m hc hb] at h6
          rcases h6 with h6 | h6 | h6
          · exact Or.inl (zP_b h ((b_zpr N).mpr ⟨i, j, h2, hj, by omega, h5, Or.inl h6⟩))
          · exact Or.inl (zP_b h ((b_zpr N).mpr ⟨i, j, h2, hj, by omega, h5, Or.inr h6⟩))
          · right
            exact ⟨h6, Or.inl ⟨i, h2, ei, by rw [hf i h2 ei]; exact h5⟩⟩
        · rw [h12 k h3 ek] at h6
          exact Or.inl (zP_b h ((b_zpr N).mpr ⟨i, k, h2, h3, h4, h5, h6⟩))
end
section
/-! one statement on both sides -/
def zFr (s j : Nat) (pa ca da sa ga rc ita pa' ca' da' sa' ga' rc' ita' : Nat → Int32) : Prop :=
  (∀ t, t ≠ s * 8 + j → pa' t = pa t ∧ da' t = da t ∧ sa' t = sa t) ∧ (∀ t, t ≠ (s * 8 + j) * 2 → t ≠ (s * 8 + j) * 2 + 1 → ca' t = ca t) ∧
  (∀ t, t < zbs s j ∨ zbs s j + 8 ≤ t → ga' t = ga t) ∧ (∀ t, t < s * 104 + j * 13 ∨ s * 104 + j * 13 + 13 ≤ t → ita' t = ita t) ∧ (∀ t, t ≠ s → rc' t = rc t)
theorem zFr_r {s j : Nat} {pa ca da sa ga rc ita : Nat → Int32} : zFr s j pa ca da sa ga rc ita pa ca da sa ga rc ita :=
  ⟨fun _ _ => ⟨rfl, rfl, rfl⟩, fun _ _ _ => rfl, fun _ _ => rfl, fun _ _ => rfl, fun _ _ => rfl⟩
theorem zFr_t {s j : Nat} {pa ca da sa ga rc ita pa' ca' da' sa' ga' rc' ita' pa'' ca'' da'' sa'' ga'' rc'' ita'' : Nat → Int32} (h : zFr s j pa ca da sa ga rc ita pa' ca' da' sa' ga' rc' ita') (h' : zFr s j pa' ca' da' sa' ga' rc' ita' pa'' ca'' da'' sa'' ga'' rc'' ita'') :
    zFr s j pa ca da sa ga rc ita pa'' ca'' da'' sa'' ga'' rc'' ita'' := by
  refine ⟨fun t ht => ?_, fun t h1 h2 => ?_, fun t ht => ?_, fun t ht => ?_, fun t ht => ?_⟩
  · have a := h.1 t ht
    have b := h'.1 t ht
    exact ⟨b.1.trans a.1, b.2.1.trans a.2.1, b.2.2.trans a.2.2⟩
  · exact (h'.2.1 t h1 h2).trans (h.2.1 t h1 h2)
  · exact (h'.2.2.1 t ht).trans (h.2.2.1 t ht)
  · exact (h'.2.2.2.1 t ht).trans (h.2.2.2.1 t ht)
  · exact (h'.2.2.2.2 t ht).trans (h.2.2.2.2 t ht)
/-- an item's place and counters, and its variables as far as A asks -/
def zIt (A : Nat → Nat → Prop) (K : Nat → Int32) (n s j : Nat) (pa ca ga ita : Nat → Int32) (p a b : Nat) : Prop :=
  p ≤ n ∧ pa (s * 8 + j) = nI p ∧ ca ((s * 8 + j) * 2) = nI a ∧ ca ((s * 8 + j) * 2 + 1) = nI b ∧ zCV K a b p ∧ ∀ k, k < 8 → A p k → ga (zbs s j + k) = ita (s * 104 + j * 13 + k)
def zA (A : Nat → Nat → Prop) (K xa ya za : Nat → Int32) (n : Nat) : Prop :=
  (∀ p, p < n → ∀ k, k < 8 → zrd K xa ya za p k → A p k) ∧ (∀ p, p < n → ∀ k, k < 8 → ∀ g : Bool, A (zx K n p g) k → zwr K xa p k ∨ A p k)
def zHy (A : Nat → Nat → Prop) (s j N n p a b : Nat) (ka xa ya za ja la rc pa ca da sa ga ita : Nat → Int32) : Prop :=
  zS ka n ∧ zT ka n ja la ∧ zF ka xa ya za n ∧ (s = 1 ∨ s = 2) ∧ j < N ∧ N ≤ 8 ∧ zD ka n N s pa ca da sa ita rc ∧ p < n ∧ zIt A ka n s j pa ca ga ita p a b ∧ zA A ka xa ya za n
section STP
variable {ii cc nn ss dd rr : Int32} {ka xa ya za ja la ra wa va oa ea ce be rc pc pa ca da sa ga ta ita sna : Nat → Int32}
def zOut (A : Nat → Nat → Prop) (s j N n p a b : Nat) (cc ss dd rr : Int32) (ka xa ya za ja la ra wa va oa ea ce be rc pc pa ca da sa ga ta ita sna : Nat → Int32) : Prop :=
  ∃ pa' ca' da' sa' ga' ce' rc' ita' : Nat → Int32, ∃ p' a' b' : Nat, zFr s j pa ca da sa ga rc ita pa' ca' da' sa' ga' rc' ita' ∧ zD ka n N s pa' ca' da' sa' ita' rc' ∧ zIt A ka n s j pa' ca' ga' ita' p' a' b' ∧ zmu ka n a' b' p' < zmu ka n a b p ∧
    (∀ post : SX → Prop, post ((nI N), cc, (nI n), ss, dd, rr, ka, xa, ya, za, ja, la, ra, wa, va, oa, ea, ce', be, rc', pc, pa', ca', da', sa', ga', ta) → wpX_execute post ((nI N), cc, (nI n), ss, dd, rr, ka, xa, ya, za, ja, la, ra, wa, va, oa, ea, ce, be, rc, pc, pa, ca, da, sa, ga, ta) (nI s) (nI j)) ∧
    (∀ post : SY → Prop, post ((nI N), cc, (nI n), ss, ka, xa, ya, za, ce', ita', be, rc', pc, sna) → wpY_execute post ((nI N), cc, (nI n), ss, ka, xa, ya, za, ce, ita, be, rc, pc, sna) (nI s) (nI j))
theorem zE_fr {K : Nat → Int32} {n s j i N : Nat} {pa ca da sa ga rc ita pa' ca' da' sa' ga' rc' ita' : Nat → Int32} (hf : zFr s j pa ca da sa ga rc ita pa' ca' da' sa' ga' rc' ita') (hij : i ≠ j) (hi : i < 8) (hj : j < 8) (h : zE K n s i pa ca da sa ita) : zE K n s i pa' ca' da' sa' ita' := by
  obtain ⟨⟨e1, e2, e3, e4, e5⟩, p, a, b, h1, h2, h3, h4, h5⟩ := h
  have f1 := hf.1 (s * 8 + i) (by omega)
  have f2 := hf.2.1 ((s * 8 + i) * 2) (by omega) (by omega)
  have f3 := hf.2.1 ((s * 8 + i) * 2 + 1) (by omega) (by omega)
  have fi : ∀ w, w < 13 → ita' (s * 104 + i * 13 + w) = ita (s * 104 + i * 13 + w) := fun w hw => hf.2.2.2.1 _ (by omega)
  refine ⟨⟨?_, ?_, ?_, ?_, ?_⟩, p, a, b, h1, by rw [f1.1]; exact h2, by rw [f2]; exact h3, by rw [f3]; exact h4, h5⟩
  · rw [fi 8 (by omega), f1.1]; exact e1
  · rw [fi 9 (by omega), f2]; exact e2
  · rw [fi 10 (by omega), f3]; exact e3
  · rw [fi 11 (by omega), f1.2.1]; exact e4
  · rw [fi 12 (by omega), f1.2.2]; exact e5
theorem ex_fin {A : Nat → Nat → Prop} {s j N n p a b p' a' b' : Nat} {ca' da' sa' ga' ce' rcX ita' : Nat → Int32} (H : zHy A s j N n p a b ka xa ya za ja la rc pa ca da sa ga ita)
    (i8 : ita' (s * 104 + j * 13 + 8) = nI p') (i9 : ita' (s * 104 + j * 13 + 9) = ca' ((s * 8 + j) * 2)) (i10 : ita' (s * 104 + j * 13 + 10) = ca' ((s * 8 + j) * 2 + 1)) (i11 : ita' (s * 104 + j * 13 + 11) = da' (s * 8 + j)) (i12 : ita' (s * 104 + j * 13 + 12) = sa' (s * 8 + j))
    (fd : ∀ t, t ≠ s * 8 + j → da' t = da t ∧ sa' t = sa t) (fc : ∀ t, t ≠ (s * 8 + j) * 2 → t ≠ (s * 8 + j) * 2 + 1 → ca' t = ca t) (fg : ∀ t, t < zbs s j ∨ zbs s j + 8 ≤ t → ga' t = ga t) (fi : ∀ t, t < s * 104 + j * 13 ∨ s * 104 + j * 13 + 13 ≤ t → ita' t = ita t)
    (hp' : p' ≤ n) (ea' : ca' ((s * 8 + j) * 2) = nI a') (eb' : ca' ((s * 8 + j) * 2 + 1) = nI b') (hcv : zCV ka a' b' p' ∧ zmu ka n a' b' p' < zmu ka n a b p) (hv : ∀ k, k < 8 → A p' k → ga' (zbs s j + k) = ita' (s * 104 + j * 13 + k)) (hrc : rcX = zr1 rc s (zpr ita' s N N))
    (hX : ∀ post : SX → Prop, post ((nI N), cc, (nI n), ss, dd, rr, ka, xa, ya, za, ja, la, ra, wa, va, oa, ea, ce', be, rcX, pc, (upd pa (s * 8 + j) (nI p')), ca', da', sa', ga', ta) → wpX_execute post ((nI N), cc, (nI n), ss, dd, rr, ka, xa, ya, za, ja, la, ra, wa, va, oa, ea, ce, be, rc, pc, pa, ca, da, sa, ga, ta) (nI s) (nI j))
    (hY : ∀ post : SY → Prop, post ((nI N), cc, (nI n), ss, ka, xa, ya, za, ce', ita', be, (zr1 rc s (zpr ita' s N N)), pc, sna) → wpY_execute post ((nI N), cc, (nI n), ss, ka, xa, ya, za, ce, ita, be, rc, pc, sna) (nI s) (nI j)) : zOut A s j N n p a b cc ss dd rr ka xa ya za ja la ra wa va oa ea ce be rc pc pa ca da sa ga ta ita sna := by
  obtain ⟨hS, hT, hF, hs, hj, hN, hD, hp, hI, hA⟩ := H
  have hfr : zFr s j pa ca da sa ga rc ita (upd pa (s * 8 + j) (nI p')) ca' da' sa' ga' (zr1 rc s (zpr ita' s N N)) ita' :=
    ⟨fun t ht => ⟨pk_un ht, fd t ht⟩, fc, fg, fi, fun t ht => pk_un ht⟩
  rw [hrc] at hX
  refine ⟨upd pa (s * 8 + j) (nI p'), ca', da', sa', ga', ce', zr1 rc s (zpr ita' s N N), ita', p', a', b', hfr, ⟨fun i hi => ?_, zP_n⟩, ⟨hp', pk_us, ea', eb', hcv.1, hv⟩, hcv.2, hX, hY⟩
  by_cases e : i = j
  · subst e
    exact ⟨⟨by rw [i8, pk_us], i9, i10, i11, i12⟩, p', a', b', hp', pk_us, ea', eb', hcv.1⟩
  · exact zE_fr (N := N) hfr e (by omega) (by omega) (hD.1 i hi)
theorem zv_eq {k i c l r l' r' : Int32} (h0 : ¬ k < 0) (h : ¬ k < 2 → l = l' ∧ r = r') : zv k i c l r = zv k i c l' r' := by
  by_cases h2 : k < 2
  · obtain ⟨m, hm, em⟩ := nI_of h0
    rw [em] at h2 ⊢
    have : m < 2 := (nI_ltI hm (by omega)).mp h2
    have e : m = 0 ∨ m = 1 := by omega
    rcases e with e | e <;> rw [e] <;> rfl
  · rw [(h h2).1, (h h2).2]
section KIN
variable {A : Nat → Nat → Prop} {s j N n p a b m : Nat}
theorem zbs_le (hs : s = 1 ∨ s = 2) (hj : j < 8) : zbs s j ≤ 64 := by
  unfold zbs
  split <;> omega
theorem ex_alu (H : zHy A s j N n p a b ka xa ya za ja la rc pa ca da sa ga ita) (hm : m ≤ 9) (em : ka p = nI m) : zOut A s j N n p a b cc ss dd rr ka xa ya za ja la ra wa va oa ea ce be rc pc pa ca da sa ga ta ita sna := by
  have H' := H
  obtain ⟨hS, hT, hF, hs, hj, hN, hD, hp, ⟨hi1, hi2, hi3, hi4, hi5, hi6⟩, hA⟩ := H'
  have hn := hS.2.2
  obtain ⟨_, ⟨x, hx, ex⟩, hy, ⟨z, hz, ez⟩⟩ := hF p hp
  obtain ⟨y, hy8, hy'⟩ : ∃ y, y < 8 ∧ (¬ ka p = 0 → y < 8 ∧ ya p = nI y) := by
    by_cases h0 : ka p = 0
    · exact ⟨0, by omega, fun h => absurd h0 h⟩
    · obtain ⟨y, h1, h2⟩ := hy h0
      exact ⟨y, h1, fun _ => ⟨h1, h2⟩⟩
  have hE := hD.1 j hj
  have h9 : ¬ 9 < ka p := by rw [em]; exact nI_nlt (b := m) (a := 9) (by omega) (by omega)
  have h0 : ¬ ka p < 0 := by rw [em]; exact nI_pos (by omega)
  have ne : ∀ q : Nat, q < 32 → m ≠ q → ¬ ka p = nI q := fun q hq h => by rw [em]; intro e; exact h ((nI_eq (by omega) (by omega)).mp e)
  have h13 : ¬ ka p = 13 := ne 13 (by omega) (by omega)
  have hb := zbs_le (s := s) (j := j) hs (by omega)
  have hval : zv (ka p) (nI j) (ya p) (ga (zbs s j + y)) (ga (zbs s j + z)) = zv (ka p) (nI j) (ya p) (ita (s * 104 + j * 13 + y)) (ita (s * 104 + j * 13 + z)) := by
    refine zv_eq h0 (fun h2 => ?_)
    have hk0 : ¬ ka p = 0 := fun e => h2 (by rw [e]; decide)
    have h11 : ¬ 11 < ka p := by rw [em]; exact nI_nlt (b := m) (a := 11) (by omega) (by omega)
    exact ⟨hi6 y hy8 (hA.1 p hp y hy8 (Or.inl ⟨h2, h11, (hy' hk0).2⟩)), hi6 z hz (hA.1 p hp z hz (Or.inr (Or.inl ⟨h2, h9, ez⟩)))⟩
  have hI := hE.1
  refine ex_fin (p' := p + 1) (a' := a) (b' := b) (ca' := ca) (da' := da) (sa' := sa) (ce' := ce) (rcX := rc) (ga' := upd ga (zbs s j + x) (zv (ka p) (nI j) (ya p) (ga (zbs s j + y)) (ga (zbs s j + z))))
    (ita' := upd (upd ita (s * 104 + j * 13 + x) (zv (ka p) (nI j) (ya p) (ita (s * 104 + j * 13 + y)) (ita (s * 104 + j * 13 + z)))) (s * 104 + j * 13 + 8) (nI (p + 1))) H
    pk_us ?_ ?_ ?_ ?_ (fun _ _ => ⟨rfl, rfl⟩) (fun _ _ _ => rfl) (fun t ht => pk_un (by omega)) (fun t ht => ?_) (by omega) hi3 hi4 ?_ (fun k hk hAk => ?_) ?_ (fun post h => ?_) (fun post h => ?_)
  · rw [pk_un (by omega), pk_un (by omega)]; exact hI.2.1
  · rw [pk_un (by omega), pk_un (by omega)]; exact hI.2.2.1
  · rw [pk_un (by omega), pk_un (by omega)]; exact hI.2.2.2.1
  · rw [pk_un (by omega), pk_un (by omega)]; exact hI.2.2.2.2
  · rw [pk_un (by omega), pk_un (by omega)]
  · exact zC_f (zrl_p (ne 14 (by omega) (by omega)) (ne 15 (by omega) (by omega))) (by omega) hp hi5
  · rw [pk_un (j := s * 104 + j * 13 + k) (by omega)]
    by_cases ek : k = x
    · rw [ek, pk_us, pk_us, hval]
    · rw [pk_un (by omega), pk_un (by omega)]
      refine hi6 k hk ?_
      have := hA.2 p hp k hk false (by rw [zx_f h13]; exact hAk)
      rcases this with h | h
      · exfalso
        have := h.2
        rw [ex] at this
        exact ek ((nI_eq (by omega) (by omega)).mp this).symm
      · exact h
  · refine zpr_s hD.2 (fun i hi => ?_) (fun i hi => ?_)
    · rw [pk_un (by omega), pk_un (by omega)]
    · rw [pk_un (by omega), pk_un (by omega)]
  · exact xex hs (xe_alu (by omega) hb (by omega) hi2 h9 h0 ⟨hx, ex⟩ hy' ⟨hz, ez⟩ h)
  · refine ye_in (by omega) (by omega) (by omega) (by rw [hI.1, hi2]) ⟨hx, ex⟩ hy' rfl (y66_alu (by omega) (by omega) ⟨by omega, em⟩ h9 hx ⟨hz, ez⟩ (y587_0 hS hp (by omega) hN (by omega) ?_))
    rw [zx_f h13, ← zv_w rfl]
    exact h
end KIN
end STP
end
section
section KI2
variable {ii cc nn ss dd rr : Int32} {ka xa ya za ja la ra wa va oa ea ce be rc pc pa ca da sa ga ta ita sna : Nat → Int32}
variable {A : Nat → Nat → Prop} {s j N n p a b : Nat}
theorem zand15 (x : Int32) : ∃ c : Nat, c < 16 ∧ x &&& 15 = nI c := pk_andE x 4 (by decide)
theorem ex_load (H : zHy A s j N n p a b ka xa ya za ja la rc pa ca da sa ga ita) (hk : ka p = 10) : zOut A s j N n p a b cc ss dd rr ka xa ya za ja la ra wa va oa ea ce be rc pc pa ca da sa ga ta ita sna := by
  have H' := H
  obtain ⟨hS, hT, hF, hs, hj, hN, hD, hp, ⟨hi1, hi2, hi3, hi4, hi5, hi6⟩, hA⟩ := H'
  have hn := hS.2.2
  obtain ⟨_, ⟨x, hx, ex⟩, hy, ⟨z, hz, ez⟩⟩ := hF p hp
  obtain ⟨y, hy8, ey⟩ := hy (by rw [hk]; decide)
  have hI := (hD.1 j hj).1
  have h13 : ¬ ka p = 13 := by rw [hk]; decide
  have hb := zbs_le (s := s) (j := j) hs (by omega)
  have hyv : ga (zbs s j + y) = ita (s * 104 + j * 13 + y) := hi6 y hy8 (hA.1 p hp y hy8 (Or.inl ⟨by rw [hk]; decide, by rw [hk]; decide, ey⟩))
  obtain ⟨c, hc, ec⟩ := zand15 (ga (zbs s j + y))
  refine ex_fin (p' := p + 1) (a' := a) (b' := b) (ca' := ca) (da' := upd da (s * 8 + j) (da (s * 8 + j) ||| zb1m (nI c))) (sa' := sa) (ce' := ce) (rcX := upd rc s (rc s ||| (zb1m (nI c) &&& zot (fun o => sa (s * 8 + o)) j N))) (ga' := upd ga (zbs s j + x) (ce (s * 16 + c)))
    (ita' := upd (upd (upd ita (s * 104 + j * 13 + x) (ce (s * 16 + c))) (s * 104 + j * 13 + 11) (ita (s * 104 + j * 13 + 11) ||| zb1m (nI c))) (s * 104 + j * 13 + 8) (nI (p + 1))) H
    pk_us ?_ ?_ ?_ ?_ (fun t ht => ⟨pk_un ht, rfl⟩) (fun _ _ _ => rfl) (fun t ht => pk_un (by omega)) (fun t ht => ?_) (by omega) hi3 hi4 ?_ (fun k hk' hAk => ?_) ?_ (fun post h => ?_) (fun post h => ?_)
  · rw [pk_un (by omega), pk_un (by omega), pk_un (by omega)]; exact hI.2.1
  · rw [pk_un (by omega), pk_un (by omega), pk_un (by omega)]; exact hI.2.2.1
  · rw [pk_un (by omega), pk_us, pk_us, hI.2.2.2.1]
  · rw [pk_un (by omega), pk_un (by omega), pk_un (by omega)]; exact hI.2.2.2.2
  · rw [pk_un (by omega), pk_un (by omega), pk_un (by omega)]
  · exact zC_f (zrl_p (by rw [hk]; decide) (by rw [hk]; decide)) (by omega) hp hi5
  · rw [pk_un (j := s * 104 + j * 13 + k) (by omega), pk_un (j := s * 104 + j * 13 + k) (by omega)]
    by_cases ek : k = x
    · rw [ek, pk_us, pk_us]
    · rw [pk_un (by omega), pk_un (by omega)]
      refine hi6 k hk' ?_
      have := hA.2 p hp k hk' false (by rw [zx_f h13]; exact hAk)
      rcases this with h | h
      · exfalso
        have := h.2
        rw [ex] at this
        exact ek ((nI_eq (by omega) (by omega)).mp this).symm
      · exact h
  · refine zpr_l (by omega) hj hD.2 (fun i hi hij => ?_) ?_ (fun i hi => ?_) (fun o ho _ => ((hD.1 o ho).1.2.2.2.2).symm)
    · rw [pk_un (by omega), pk_un (by omega), pk_un (by omega)]
    · rw [pk_un (by omega), pk_us]
    · rw [pk_un (by omega), pk_un (by omega), pk_un (by omega)]
  · exact xex hs (xe_load (by omega) (by omega) hN rfl hb (by omega) hi2 hk ⟨hx, ex⟩ ⟨hy8, ey⟩ ⟨hc, ec⟩ h)
  · refine ye_in (by omega) (by omega) (by omega) (by rw [hI.1, hi2]) ⟨hx, ex⟩ (fun _ => ⟨hy8, ey⟩) rfl (y66_load (by omega) (by omega) (by omega) hk hx ⟨hz, ez⟩ ⟨hc, ?_⟩ (y587_0 hS hp (by omega) hN (by omega) ?_))
    · rw [if_neg (by rw [hk]; decide), ← hyv]; exact ec
    · rw [zx_f h13]
      exact h
theorem ex_store (H : zHy A s j N n p a b ka xa ya za ja la rc pa ca da sa ga ita) (hk : ka p = 11) : zOut A s j N n p a b cc ss dd rr ka xa ya za ja la ra wa va oa ea ce be rc pc pa ca da sa ga ta ita sna := by
  have H' := H
  obtain ⟨hS, hT, hF, hs, hj, hN, hD, hp, ⟨hi1, hi2, hi3, hi4, hi5, hi6⟩, hA⟩ := H'
  have hn := hS.2.2
  obtain ⟨_, ⟨x, hx, ex⟩, hy, ⟨z, hz, ez⟩⟩ := hF p hp
  obtain ⟨y, hy8, ey⟩ := hy (by rw [hk]; decide)
  have hI := (hD.1 j hj).1
  have h13 : ¬ ka p = 13 := by rw [hk]; decide
  have hb := zbs_le (s := s) (j := j) hs (by omega)
  have hyv : ga (zbs s j + y) = ita (s * 104 + j * 13 + y) := hi6 y hy8 (hA.1 p hp y hy8 (Or.inl ⟨by rw [hk]; decide, by rw [hk]; decide, ey⟩))
  have hxv : ga (zbs s j + x) = ita (s * 104 + j * 13 + x) := hi6 x hx (hA.1 p hp x hx (Or.inr (Or.inr ⟨Or.inl hk, ex⟩)))
  obtain ⟨c, hc, ec⟩ := zand15 (ga (zbs s j + x))
  refine ex_fin (p' := p + 1) (a' := a) (b' := b) (ca' := ca) (da' := da) (sa' := upd sa (s * 8 + j) (sa (s * 8 + j) ||| zb1m (nI c))) (ce' := upd ce (s * 16 + c) (ga (zbs s j + y))) (rcX := upd rc s (rc s ||| (zb1m (nI c) &&& (zot (fun o => upd sa (s * 8 + j) (sa (s * 8 + j) ||| zb1m (nI c)) (s * 8 + o)) j N ||| zot (fun o => da (s * 8 + o)) j N)))) (ga' := ga)
    (ita' := upd (upd ita (s * 104 + j * 13 + 12) (ita (s * 104 + j * 13 + 12) ||| zb1m (nI c))) (s * 104 + j * 13 + 8) (nI (p + 1))) H
    pk_us ?_ ?_ ?_ ?_ (fun t ht => ⟨rfl, pk_un ht⟩) (fun _ _ _ => rfl) (fun t ht => rfl) (fun t ht => ?_) (by omega) hi3 hi4 ?_ (fun k hk' hAk => ?_) ?_ (fun post h => ?_) (fun post h => ?_)
  · rw [pk_un (by omega), pk_un (by omega)]; exact hI.2.1
  · rw [pk_un (by omega), pk_un (by omega)]; exact hI.2.2.1
  · rw [pk_un (by omega), pk_un (by omega)]; exact hI.2.2.2.1
  · rw [pk_un (by omega), pk_us, pk_us, hI.2.2.2.2]
  · rw [pk_un (by omega), pk_un (by omega)]
  · exact zC_f (zrl_p (by rw [hk]; decide) (by rw [hk]; decide)) (by omega) hp hi5
  · rw [pk_un (j := s * 104 + j * 13 + k) (by omega), pk_un (j := s * 104 + j * 13 + k) (by omega)]
    refine hi6 k hk' ?_
    have := hA.2 p hp k hk' false (by rw [zx_f h13]; exact hAk)
    rcases this with h | h
    · exfalso
      have := h.1
      rw [hk] at this
      exact this (by decide)
    · exact h
  · refine zpr_w (by omega) hj hD.2 (fun i hi hij => ?_) ?_ (fun i hi => ?_) (fun o ho hoj => ?_) (fun o ho _ => ((hD.1 o ho).1.2.2.2.1).symm)
    · rw [pk_un (by omega), pk_un (by omega)]
    · rw [pk_un (by omega), pk_us]
    · rw [pk_un (by omega), pk_un (by omega)]
    · show upd sa (s * 8 + j) (sa (s * 8 + j) ||| zb1m (nI c)) (s * 8 + o) = _
      rw [pk_un (by omega)]
      exact ((hD.1 o ho).1.2.2.2.2).symm
  · exact xex hs (xe_store (by omega) (by omega) hN rfl hb (by omega) hi2 hk ⟨hx, ex⟩ ⟨hy8, ey⟩ ⟨hc, ec⟩ h)
  · refine ye_in (by omega) (by omega) (by omega) (by rw [hI.1, hi2]) ⟨hx, ex⟩ (fun _ => ⟨hy8, ey⟩) rfl (y66_store (by omega) (by omega) (by omega) hk hx ⟨hz, ez⟩ ⟨hc, ?_⟩ (y587_0 hS hp (by omega) hN (by omega) ?_))
    · rw [← hxv]; exact ec
    · rw [zx_f h13, if_neg (by rw [hk]; decide), ← hyv]
      exact h
/-- control statements that touch only the place -/
theorem ex_ctl (H : zHy A s j N n p a b ka xa ya za ja la rc pa ca da sa ga ita) {g : Bool} (hw : ¬ zwr ka xa p 0 ∧ 10 < ka p) (hc : zCV ka a b (zx ka n p g) ∧ zmu ka n a b (zx ka n p g) < zmu ka n a b p)
    (hX : ∀ post : SX → Prop, post ((nI N), cc, (nI n), ss, dd, rr, ka, xa, ya, za, ja, la, ra, wa, va, oa, ea, ce, be, rc, pc, (upd pa (s * 8 + j) (nI (zx ka n p g))), ca, da, sa, ga, ta) → wpX_execute post ((nI N), cc, (nI n), ss, dd, rr, ka, xa, ya, za, ja, la, ra, wa, va, oa, ea, ce, be, rc, pc, pa, ca, da, sa, ga, ta) (nI s) (nI j))
    (hY : ∀ post : SY → Prop, wY_execute_587 post (nI s) (nI (s * 104 + j * 13)) (nI p) (zf g) (nI N) cc (nI n) ss ka xa ya za ce ita be rc pc sna → wpY_execute post ((nI N), cc, (nI n), ss, ka, xa, ya, za, ce, ita, be, rc, pc, sna) (nI s) (nI j)) : zOut A s j N n p a b cc ss dd rr ka xa ya za ja la ra wa va oa ea ce be rc pc pa ca da sa ga ta ita sna := by
  have H' := H
  obtain ⟨hS, hT, hF, hs, hj, hN, hD, hp, ⟨hi1, hi2, hi3, hi4, hi5, hi6⟩, hA⟩ := H'
  have hI := (hD.1 j hj).1
  refine ex_fin (p' := zx ka n p g) (a' := a) (b' := b) (ca' := ca) (da' := da) (sa' := sa) (ce' := ce) (rcX := rc) (ga' := ga)
    (ita' := upd ita (s * 104 + j * 13 + 8) (nI (zx ka n p g))) H
    pk_us ?_ ?_ ?_ ?_ (fun t ht => ⟨rfl, rfl⟩) (fun _ _ _ => rfl) (fun t ht => rfl) (fun t ht => ?_) (zx_le hS hp g) hi3 hi4 hc (fun k hk' hAk => ?_) ?_ hX (fun post h => hY post (y587 hS hp (by omega) hN (by omega) h))
  · rw [pk_un (by omega)]; exact hI.2.1
  · rw [pk_un (by omega)]; exact hI.2.2.1
  · rw [pk_un (by omega)]; exact hI.2.2.2.1
  · rw [pk_un (by omega)]; exact hI.2.2.2.2
  · rw [pk_un (by omega)]
  · rw [pk_un (j := s * 104 + j * 13 + k) (by omega)]
    refine hi6 k hk' ?_
    rcases hA.2 p hp k hk' g hAk with h | h
    · exact absurd hw.2 h.1
    · exact h
  · refine zpr_s hD.2 (fun i hi => ?_) (fun i hi => ?_)
    · rw [pk_un (by omega)]
    · rw [pk_un (by omega)]
theorem ex_if (H : zHy A s j N n p a b ka xa ya za ja la rc pa ca da sa ga ita) (hk : ka p = 12) : zOut A s j N n p a b cc ss dd rr ka xa ya za ja la ra wa va oa ea ce be rc pc pa ca da sa ga ta ita sna := by
  have H' := H
  obtain ⟨hS, hT, hF, hs, hj, hN, hD, hp, ⟨hi1, hi2, hi3, hi4, hi5, hi6⟩, hA⟩ := H'
  have hn := hS.2.2
  obtain ⟨_, ⟨x, hx, ex⟩, hy, ⟨z, hz, ez⟩⟩ := hF p hp
  obtain ⟨y, hy8, ey⟩ := hy (by rw [hk]; decide)
  have hI := (hD.1 j hj).1
  have h13 : ¬ ka p = 13 := by rw [hk]; decide
  have h10 : 10 < ka p := by rw [hk]; decide
  have hb := zbs_le (s := s) (j := j) hs (by omega)
  have hxv : ga (zbs s j + x) = ita (s * 104 + j * 13 + x) := hi6 x hx (hA.1 p hp x hx (Or.inr (Or.inr ⟨Or.inr (Or.inl hk), ex⟩)))
  have hJ : ja p = nI (zx ka n p true) := by
    rw [(hT p hp).1]
    rcases zJ_c hS hp with h | h
    · exact absurd h.1 h13
    · rcases h.2.2 with h | h
      · exact h
      · exfalso
        have := h.1
        unfold zJ zt at this
        rw [if_neg (by rw [hk]; decide), if_pos hk, if_pos (zq_se hS (Or.inl hk) hp true)] at this
        exact nI_pos (n := zq ka n true p + 1) (by have := (zq_b (K := ka) (e := true) hp).2; omega) (this ▸ (by decide))
  by_cases h0 : ga (zbs s j + x) = 0
  · refine ex_ctl (g := true) H ⟨fun h => h.1 h10, h10⟩ ?_ (fun post h => ?_) (fun post h => ?_)
    · rw [zx_12 hk]
      have := zq_b (K := ka) (e := true) hp
      exact zC_f (zrl_12 hS hp hk) (by omega) hp hi5
    · refine xex hs (xe_if (by omega) hb (by omega) hi2 hk ⟨hx, ex⟩ ?_)
      rw [if_pos h0, hJ]
      exact h
    · refine ye_in (by omega) (by omega) (by omega) (by rw [hI.1, hi2]) ⟨hx, ex⟩ (fun _ => ⟨hy8, ey⟩) rfl (y66_if (by omega) (by omega) hk hx ⟨hz, ez⟩ ?_)
      rw [← hxv, if_pos h0]
      exact h
  · refine ex_ctl (g := false) H ⟨fun h => h.1 h10, h10⟩ ?_ (fun post h => ?_) (fun post h => ?_)
    · rw [zx_f h13]
      exact zC_f (zrl_p (by rw [hk]; decide) (by rw [hk]; decide)) (by omega) hp hi5
    · refine xex hs (xe_if (by omega) hb (by omega) hi2 hk ⟨hx, ex⟩ ?_)
      rw [if_neg h0, ← zx_f h13]
      exact h
    · refine ye_in (by omega) (by omega) (by omega) (by rw [hI.1, hi2]) ⟨hx, ex⟩ (fun _ => ⟨hy8, ey⟩) rfl (y66_if (by omega) (by omega) hk hx ⟨hz, ez⟩ ?_)
      rw [← hxv, if_neg h0]
      exact h
theorem ex_else (H : zHy A s j N n p a b ka xa ya za ja la rc pa ca da sa ga ita) (hk : ka p = 13) : zOut A s j N n p a b cc ss dd rr ka xa ya za ja la ra wa va oa ea ce be rc pc pa ca da sa ga ta ita sna := by
  have H' := H
  obtain ⟨hS, hT, hF, hs, hj, hN, hD, hp, ⟨hi1, hi2, hi3, hi4, hi5, hi6⟩, hA⟩ := H'
  have hn := hS.2.2
  obtain ⟨_, ⟨x, hx, ex⟩, hy, ⟨z, hz, ez⟩⟩ := hF p hp
  obtain ⟨y, hy8, ey⟩ := hy (by rw [hk]; decide)
  have hI := (hD.1 j hj).1
  have h10 : 10 < ka p := by rw [hk]; decide
  have hJ : ja p = nI (zx ka n p false) := by
    rw [(hT p hp).1]
    rcases zJ_c hS hp with h | h
    · rw [h.2.1, h.2.2]
    · exact absurd hk h.1
  refine ex_ctl (g := false) H ⟨fun h => h.1 h10, h10⟩ ?_ (fun post h => ?_) (fun post h => ?_)
  · rw [zx_13 hk]
    have := zrl_13 hS hp hk
    exact zC_f this.1 this.2 hp hi5
  · refine xex hs (xe_else (by omega) (by omega) hi2 hk ?_)
    rw [hJ]
    exact h
  · exact ye_in (by omega) (by omega) (by omega) (by rw [hI.1, hi2]) ⟨hx, ex⟩ (fun _ => ⟨hy8, ey⟩) rfl (y66_else (by omega) (by omega) hk ⟨hz, ez⟩ h)
/-- .. and a counter -/
theorem ex_cnt (H : zHy A s j N n p a b ka xa ya za ja la rc pa ca da sa ga ita) {g : Bool} {l c : Nat} (hl : l < 2) (h10 : 10 < ka p) (hc : zCV ka (za1 l c a) (zb1 l c b) (zx ka n p g) ∧ zmu ka n (za1 l c a) (zb1 l c b) (zx ka n p g) < zmu ka n a b p)
    (hX : ∀ post : SX → Prop, post ((nI N), cc, (nI n), ss, dd, rr, ka, xa, ya, za, ja, la, ra, wa, va, oa, ea, ce, be, rc, pc, (upd pa (s * 8 + j) (nI (zx ka n p g))), (upd ca ((s * 8 + j) * 2 + l) (nI c)), da, sa, ga, ta) → wpX_execute post ((nI N), cc, (nI n), ss, dd, rr, ka, xa, ya, za, ja, la, ra, wa, va, oa, ea, ce, be, rc, pc, pa, ca, da, sa, ga, ta) (nI s) (nI j))
    (hY : ∀ post : SY → Prop, wY_execute_587 post (nI s) (nI (s * 104 + j * 13)) (nI p) (zf g) (nI N) cc (nI n) ss ka xa ya za ce (upd ita (s * 104 + j * 13 + 9 + l) (nI c)) be rc pc sna → wpY_execute post ((nI N), cc, (nI n), ss, ka, xa, ya, za, ce, ita, be, rc, pc, sna) (nI s) (nI j)) : zOut A s j N n p a b cc ss dd rr ka xa ya za ja la ra wa va oa ea ce be rc pc pa ca da sa ga ta ita sna := by
  have H' := H
  obtain ⟨hS, hT, hF, hs, hj, hN, hD, hp, ⟨hi1, hi2, hi3, hi4, hi5, hi6⟩, hA⟩ := H'
  have hI := (hD.1 j hj).1
  have hl2 : l = 0 ∨ l = 1 := by omega
  refine ex_fin (p' := zx ka n p g) (a' := za1 l c a) (b' := zb1 l c b) (ca' := upd ca ((s * 8 + j) * 2 + l) (nI c)) (da' := da) (sa' := sa) (ce' := ce) (rcX := rc) (ga' := ga)
    (ita' := upd (upd ita (s * 104 + j * 13 + 9 + l) (nI c)) (s * 104 + j * 13 + 8) (nI (zx ka n p g))) H
    pk_us ?_ ?_ ?_ ?_ (fun t ht => ⟨rfl, rfl⟩) (fun t _ _ => pk_un (by omega)) (fun t ht => rfl) (fun t ht => ?_) (zx_le hS hp g) ?_ ?_ hc (fun k hk' hAk => ?_) ?_ hX (fun post h => hY post (y587 hS hp (by omega) hN (by omega) h))
  · rw [pk_un (by omega)]
    rcases hl2 with e | e <;> subst e
    · rw [pk_us]; exact pk_us.symm
    · rw [pk_un (by omega), pk_un (by omega)]; exact hI.2.1
  · rw [pk_un (by omega)]
    rcases hl2 with e | e <;> subst e
    · rw [pk_un (by omega), pk_un (by omega)]; exact hI.2.2.1
    · rw [pk_us]; exact pk_us.symm
  · rw [pk_un (by omega), pk_un (by omega)]; exact hI.2.2.2.1
  · rw [pk_un (by omega), pk_un (by omega)]; exact hI.2.2.2.2
  · rw [pk_un (by omega), pk_un (by omega)]
  · rcases hl2 with e | e <;> subst e
    · exact pk_us
    · rw [pk_un (by omega)]; exact hi3
  · rcases hl2 with e | e <;> subst e
    · rw [pk_un (by omega)]; exact hi4
    · exact pk_us
  · rw [pk_un (j := s * 104 + j * 13 + k) (by omega), pk_un (j := s * 104 + j * 13 + k) (by omega)]
    refine hi6 k hk' ?_
    rcases hA.2 p hp k hk' g hAk with h | h
    · exact absurd h10 h.1
    · exact h
  · refine zpr_s hD.2 (fun i hi => ?_) (fun i hi => ?_)
    · rw [pk_un (by omega), pk_un (by omega)]
    · rw [pk_un (by omega), pk_un (by omega)]
theorem zJ_n {K : Nat → Int32} (hS : zS K n) (hp : p < n) (hk : K p = 14 ∨ (K p = 15 ∧ K (zh K p) = 14)) : zJ K n p = nI (zx K n p true) := by
  unfold zJ zt
  rcases hk with hk | hk
  · rw [if_pos hk, if_pos (zq_se hS (Or.inr hk) hp false), zx_14 hk]
  · rw [if_neg (by rw [hk.1]; decide), if_neg (by rw [hk.1]; decide), if_neg (by rw [hk.1]; decide), if_pos hk, zx_15 hk.1 hk.2]
theorem ex_rep (H : zHy A s j N n p a b ka xa ya za ja la rc pa ca da sa ga ita) (hk : ka p = 14) : zOut A s j N n p a b cc ss dd rr ka xa ya za ja la ra wa va oa ea ce be rc pc pa ca da sa ga ta ita sna := by
  have H' := H
  obtain ⟨hS, hT, hF, hs, hj, hN, hD, hp, ⟨hi1, hi2, hi3, hi4, hi5, hi6⟩, hA⟩ := H'
  have hn := hS.2.2
  obtain ⟨_, ⟨x, hx, ex⟩, hy, ⟨z, hz, ez⟩⟩ := hF p hp
  obtain ⟨y, hy8, ey⟩ := hy (by rw [hk]; decide)
  have hI := (hD.1 j hj).1
  have h13 : ¬ ka p = 13 := by rw [hk]; decide
  have h10 : 10 < ka p := by rw [hk]; decide
  have hb := zbs_le (s := s) (j := j) hs (by omega)
  have hxv : ga (zbs s j + x) = ita (s * 104 + j * 13 + x) := hi6 x hx (hA.1 p hp x hx (Or.inr (Or.inr ⟨Or.inr (Or.inr hk), ex⟩)))
  have hJ : ja p = nI (zx ka n p true) := by rw [(hT p hp).1, zJ_n hS hp (Or.inl hk)]
  have hL : la p = nI (zar ka false p + 1) := by
    rw [(hT p hp).2]
    unfold zL
    rw [if_pos hk]
  have hl : zar ka false p < 2 := by
    have := (hS.1.1 (p + 1) (by omega)).2
    rw [zar_o hk] at this
    omega
  have hle := zrn_le (ga (zbs s j + x))
  by_cases h0 : zrn (ga (zbs s j + x)) = 0
  · refine ex_cnt (g := true) (l := zar ka false p) (c := zrn (ga (zbs s j + x))) H hl h10 ?_ (fun post h => ?_) (fun post h => ?_)
    · rw [zx_14 hk, h0]
      exact zC_s hS hk hp hi5
    · refine xex hs (xe_rep (by omega) hb (by omega) hl hi2 hk ⟨hx, ex⟩ hL ?_)
      rw [if_pos h0, hJ]
      exact h
    · refine ye_in (by omega) (by omega) (by omega) (by rw [hI.1, hi2]) ⟨hx, ex⟩ (fun _ => ⟨hy8, ey⟩) rfl (y66_rep hS (by omega) hp hk hx ⟨hz, ez⟩ ?_)
      rw [← hxv, if_pos h0]
      exact h
  · refine ex_cnt (g := false) (l := zar ka false p) (c := zrn (ga (zbs s j + x))) H hl h10 ?_ (fun post h => ?_) (fun post h => ?_)
    · rw [zx_f h13]
      exact zC_o hS.1 hk hp hi5 (by omega) hle
    · refine xex hs (xe_rep (by omega) hb (by omega) hl hi2 hk ⟨hx, ex⟩ hL ?_)
      rw [if_neg h0, ← zx_f (n := n) h13]
      exact h
    · refine ye_in (by omega) (by omega) (by omega) (by rw [hI.1, hi2]) ⟨hx, ex⟩ (fun _ => ⟨hy8, ey⟩) rfl (y66_rep hS (by omega) hp hk hx ⟨hz, ez⟩ ?_)
      rw [← hxv, if_neg h0]
      exact h
theorem ex_end (H : zHy A s j N n p a b ka xa ya za ja la rc pa ca da sa ga ita) (hk : ka p = 15) : zOut A s j N n p a b cc ss dd rr ka xa ya za ja la ra wa va oa ea ce be rc pc pa ca da sa ga ta ita sna := by
  have H' := H
  obtain ⟨hS, hT, hF, hs, hj, hN, hD, hp, ⟨hi1, hi2, hi3, hi4, hi5, hi6⟩, hA⟩ := H'
  have hn := hS.2.2
  obtain ⟨_, ⟨x, hx, ex⟩, hy, ⟨z, hz, ez⟩⟩ := hF p hp
  obtain ⟨y, hy8, ey⟩ := hy (by rw [hk]; decide)
  have hI := (hD.1 j hj).1
  have h13 : ¬ ka p = 13 := by rw [hk]; decide
  have h12 : ¬ ka p = 12 := by rw [hk]; decide
  have h14 : ¬ ka p = 14 := by rw [hk]; decide
  have h10 : 10 < ka p := by rw [hk]; decide
  obtain ⟨o, ho, ho1, ho2, ho3⟩ := zk_ne ((hS.1.2 p hp).1 hk)
  have hL := (hT p hp).2
  unfold zL at hL
  rw [if_neg h14] at hL
  by_cases h4 : ka o = 14
  · have hand : ka p = 15 ∧ ka (zh ka p) = 14 := ⟨hk, by rw [ho3]; exact h4⟩
    rw [if_pos hand] at hL
    have hJ : ja p = nI (zx ka n p true) := by rw [(hT p hp).1, zJ_n hS hp (Or.inr hand)]
    obtain ⟨c1, c2, c3, c4⟩ := zC_c hk ho h4 hS.1 hp hi5
    rw [c1] at hL
    obtain ⟨c, hc⟩ : ∃ c, c + 1 = if zar ka false o = 0 then a else b := ⟨(if zar ka false o = 0 then a else b) - 1, by omega⟩
    have hca : ca ((s * 8 + j) * 2 + zar ka false o) = nI (c + 1) ∧ ita (s * 104 + j * 13 + 9 + zar ka false o) = nI (c + 1) := by
      rw [hc]
      have : zar ka false o = 0 ∨ zar ka false o = 1 := by omega
      rcases this with e | e
      · rw [e]
        exact ⟨hi3, hI.2.1.trans hi3⟩
      · rw [e, if_neg (by decide)]
        exact ⟨hi4, hI.2.2.1.trans hi4⟩
    by_cases h0 : c = 0
    · refine ex_cnt (g := false) (l := zar ka false o) (c := c) H (by omega) h10 ?_ (fun post h => ?_) (fun post h => ?_)
      · rw [zx_f h13, h0]
        exact zC_x hk ho h4 hS.1 hp hi5
      · refine xex hs (xe_end1 (by omega) (by omega) (by omega) (by omega) hi2 hk hL hca.1 ?_)
        rw [if_pos h0, ← zx_f (n := n) h13]
        exact h
      · refine ye_in (by omega) (by omega) (by omega) (by rw [hI.1, hi2]) ⟨hx, ex⟩ (fun _ => ⟨hy8, ey⟩) rfl (y66_end1 hS (by omega) hp hk ⟨hz, ez⟩ ho h4 (by omega) hca.2 ?_)
        rw [if_pos h0]
        exact h
    · refine ex_cnt (g := true) (l := zar ka false o) (c := c) H (by omega) h10 ?_ (fun post h => ?_) (fun post h => ?_)
      · rw [zx_15 hand.1 hand.2, ho3]
        exact zC_l hk ho h4 hS.1 hp hi5 hc (by omega)
      · refine xex hs (xe_end1 (by omega) (by omega) (by omega) (by omega) hi2 hk hL hca.1 ?_)
        rw [if_neg h0, hJ]
        exact h
      · refine ye_in (by omega) (by omega) (by omega) (by rw [hI.1, hi2]) ⟨hx, ex⟩ (fun _ => ⟨hy8, ey⟩) rfl (y66_end1 hS (by omega) hp hk ⟨hz, ez⟩ ho h4 (by omega) hca.2 ?_)
        rw [if_neg h0]
        exact h
  · have h2 : ka o = 12 := ho2.elim id (fun h => absurd h h4)
    rw [if_neg (fun h => h4 (by rw [← ho3]; exact h.2))] at hL
    refine ex_ctl (g := false) H ⟨fun h => h.1 h10, h10⟩ ?_ (fun post h => ?_) (fun post h => ?_)
    · rw [zx_f h13]
      exact zC_f (zrl_e12 hk ho h2) (by omega) hp hi5
    · refine xex hs (xe_end0 (by omega) (by omega) hi2 hk hL ?_)
      rw [← zx_f (n := n) h13]
      exact h
    · exact ye_in (by omega) (by omega) (by omega) (by rw [hI.1, hi2]) ⟨hx, ex⟩ (fun _ => ⟨hy8, ey⟩) rfl (y66_end0 hS (by omega) hp hk ⟨hz, ez⟩ ho h2 h)
/-- a running item's statement -/
theorem ex (H : zHy A s j N n p a b ka xa ya za ja la rc pa ca da sa ga ita) (hr : ¬ ka p = 16) : zOut A s j N n p a b cc ss dd rr ka xa ya za ja la ra wa va oa ea ce be rc pc pa ca da sa ga ta ita sna := by
  have H' := H
  obtain ⟨hS, hT, hF, hs, hj, hN, hD, hp, hI, hA⟩ := H'
  obtain ⟨⟨m, hm, em⟩, _⟩ := hF p hp
  have h16 : m ≠ 16 := fun e => hr (by rw [em, e]; rfl)
  rcases Nat.lt_or_ge m 10 with h | h
  · exact ex_alu H (by omega) em
  · have : m = 10 ∨ m = 11 ∨ m = 12 ∨ m = 13 ∨ m = 14 ∨ m = 15 := by omega
    rcases this with e | e | e | e | e | e <;> rw [e] at em
    · exact ex_load H em
    · exact ex_store H em
    · exact ex_if H em
    · exact ex_else H em
    · exact ex_rep H em
    · exact ex_end H em
end KI2
end
section
/-! an item runs on -/
def zrun (K : Nat → Int32) (n p : Nat) : Prop := p < n ∧ ¬ K p = 16
def zH0 (A : Nat → Nat → Prop) (s j N n p a b : Nat) (ka xa ya za ja la rc pa ca da sa ga ita : Nat → Int32) : Prop :=
  zS ka n ∧ zT ka n ja la ∧ zF ka xa ya za n ∧ (s = 1 ∨ s = 2) ∧ j < N ∧ N ≤ 8 ∧ zD ka n N s pa ca da sa ita rc ∧ zIt A ka n s j pa ca ga ita p a b ∧ zA A ka xa ya za n
section ADV
variable {ii cc nn ss dd rr : Int32} {ka xa ya za ja la ra wa va oa ea ce be rc pc pa ca da sa ga ta ita sna : Nat → Int32}
theorem xrun1 {post : Int32 → Prop} {n t p : Nat} (hn : n ≤ 32) (ht : t < 24) (e : pa t = nI p) (hr : zrun ka n p) (h : post 1) : wpX_isRunning post (ii, cc, (nI n), ss, dd, rr, ka, xa, ya, za, ja, la, ra, wa, va, oa, ea, ce, be, rc, pc, pa, ca, da, sa, ga, ta) (nI t) := by
  have hp := hr.1
  unfold wpX_isRunning
  dsimp only
  rw [zcn (show t < 1000 by omega), e]
  refine And.intro (zvi ht (by omega)) (nm_e ?_)
  rw [zcn (show p < 1000 by omega)]
  exact br_f (nI_ge hp (by omega)) (And.intro (zvi (by omega) (by omega)) (br_f hr.2 h))
theorem xrun0 {post : Int32 → Prop} {n t p : Nat} (hn : n ≤ 32) (ht : t < 24) (hp : p ≤ n) (e : pa t = nI p) (hr : ¬ zrun ka n p) (h : post 0) : wpX_isRunning post (ii, cc, (nI n), ss, dd, rr, ka, xa, ya, za, ja, la, ra, wa, va, oa, ea, ce, be, rc, pc, pa, ca, da, sa, ga, ta) (nI t) := by
  unfold wpX_isRunning
  dsimp only
  rw [zcn (show t < 1000 by omega), e]
  refine And.intro (zvi ht (by omega)) (nm_e ?_)
  rw [zcn (show p < 1000 by omega)]
  by_cases hpn : p < n
  · exact br_f (nI_ge hpn (by omega)) (And.intro (zvi (by omega) (by omega)) (br_t (Classical.byContradiction (fun h => hr ⟨hpn, h⟩)) h))
  · exact br_t (nI_le (by omega) (by omega)) h
def zAv (A : Nat → Nat → Prop) (s j N n p a b M i : Nat) (cx cy : Int32) (cc ss dd rr : Int32) (ka xa ya za ja la ra wa va oa ea ce be rc pc pa ca da sa ga ta ita sna : Nat → Int32) : Prop :=
  ∃ pa' ca' da' sa' ga' ce' rc' ita' : Nat → Int32, ∃ p' a' b' k : Nat, zFr s j pa ca da sa ga rc ita pa' ca' da' sa' ga' rc' ita' ∧ zD ka n N s pa' ca' da' sa' ita' rc' ∧ zIt A ka n s j pa' ca' ga' ita' p' a' b' ∧ zmu ka n a' b' p' ≤ zmu ka n a b p ∧
    (cx = 512 → cy = 1000 → ¬ zrun ka n p') ∧
    (∀ (f : Nat) (post : Int32 → SX → Prop), M < f → post (nI k) ((nI N), cc, (nI n), ss, dd, rr, ka, xa, ya, za, ja, la, ra, wa, va, oa, ea, ce', be, rc', pc, pa', ca', da', sa', ga', ta) → wX_advance_14 post (nI s) (nI j) cx (nI (s * 8 + j)) f (nI i) (nI i) (nI N) cc (nI n) ss dd rr ka xa ya za ja la ra wa va oa ea ce be rc pc pa ca da sa ga ta) ∧
    (∀ (f : Nat) (post : Int32 → SY → Prop), M < f → post (nI k) ((nI N), cc, (nI n), ss, ka, xa, ya, za, ce', ita', be, rc', pc, sna) → wY_go_3 post (nI s) (nI j) cy f (nI i) (nI N) cc (nI n) ss ka xa ya za ce ita be rc pc sna)
theorem y72 {post : Int32 → SY → Prop} {i : Nat} {cy : Int32} (hi : i < 1000) (h1 : cy ≤ nI i) (h2 : i = 0 ∨ nI i ≤ cy) (h : post (nI i) (ii, cc, nn, ss, ka, xa, ya, za, ce, ita, be, rc, pc, sna)) : wY_go_72 post cy ii cc nn ss ka xa ya za ce ita be rc pc sna := by
  unfold wY_go_72
  refine br_c (fun h0 => ?_) (fun h0 => ?_)
  · have : cy = nI i := by
      rcases h2 with h2 | h2
      · subst h2
        exact Int32.le_antisymm h1 h0
      · exact Int32.le_antisymm h1 h2
    rw [this]
    exact h
  · rcases h2 with h2 | h2
    · subst h2
      exact h
    · exact absurd (Int32.le_trans (nI_pos' (by omega)) h2) h0
theorem zle_s {cy : Int32} {i : Nat} (hi : i < 1000) (h : ¬ cy ≤ nI i) : nI (i + 1) ≤ cy := by
  have h1 := Int32.not_le.mp h
  rw [Int32.lt_iff_toInt_lt, nI_toInt (by omega)] at h1
  rw [Int32.le_iff_toInt_le, nI_toInt (by omega)]
  omega
theorem adv_l {A : Nat → Nat → Prop} {s j N n : Nat} {cx cy : Int32} (hxy : cx = cy ∨ (cx = 512 ∧ cy = 1000)) :
    ∀ (M i p a b : Nat) (ce rc pa ca da sa ga ita : Nat → Int32), zH0 A s j N n p a b ka xa ya za ja la rc pa ca da sa ga ita → zmu ka n a b p ≤ M → M + i ≤ 512 → (i = 0 ∨ nI i ≤ cy) → zAv A s j N n p a b M i cx cy cc ss dd rr ka xa ya za ja la ra wa va oa ea ce be rc pc pa ca da sa ga ta ita sna := by
  have stop : ∀ (M i p a b : Nat) (ce rc pa ca da sa ga ita : Nat → Int32), zH0 A s j N n p a b ka xa ya za ja la rc pa ca da sa ga ita → M + i ≤ 512 → (i = 0 ∨ nI i ≤ cy) → ¬ zrun ka n p → zAv A s j N n p a b M i cx cy cc ss dd rr ka xa ya za ja la ra wa va oa ea ce be rc pc pa ca da sa ga ta ita sna := by
    intro M i p a b ce rc pa ca da sa ga ita H hMi hcy hr
    obtain ⟨hS, hT, hF, hs, hj, hN, hD, hI, hA⟩ := H
    have hn := hS.2.2
    have hI' := hI
    obtain ⟨hi1, hi2, hi3, hi4, hi5, hi6⟩ := hI'
    have h8 := (hD.1 j hj).1.1
    refine ⟨pa, ca, da, sa, ga, ce, rc, ita, p, a, b, i, zFr_r, hD, hI, Nat.le_refl _, fun _ _ => hr, fun f post hf h => ?_, fun f post hf h => ?_⟩
    · cases f with
      | zero => omega
      | succ f =>
        unfold wX_advance_14
        refine br_c (fun _ => h) (fun h1 => br_c (fun _ => h) (fun h2 => ?_))
        exact xrun0 hn (by omega) hi1 hi2 hr (br_t rfl h)
    · cases f with
      | zero => omega
      | succ f =>
        unfold wY_go_3
        refine br_c (fun h1 => y72 (by omega) h1 hcy h) (fun h1 => br_f (nI_ge (a := i) (b := 1000) (by omega) (by omega)) ?_)
        rw [zyb, z8, zcn (show s * 104 + j * 13 + 8 < 1000 by omega), h8, hi2]
        refine And.intro (zvi (by omega) (by omega)) (nm_e ?_)
        rw [zcn (show p < 1000 by omega)]
        by_cases hpn : p < n
        · exact br_f (nI_ge hpn (by omega)) (And.intro (zvi (by omega) (by omega)) (br_t (Classical.byContradiction (fun h => hr ⟨hpn, h⟩)) h))
        · exact br_t (nI_le (by omega) (by omega)) h
  intro M
  induction M with
  | zero =>
    intro i p a b ce rc pa ca da sa ga ita H hmu hMi hcy
    refine stop 0 i p a b ce rc pa ca da sa ga ita H hMi hcy (fun hr => ?_)
    obtain ⟨hS, hT, hF, hs, hj, hN, hD, hI, hA⟩ := H
    obtain ⟨pa', ca', da', sa', ga', ce', rc', ita', p', a', b', o1, o2, o3, o4, o5, o6⟩ := ex (ra := ra) (wa := wa) (va := va) (oa := oa) (ea := ea) (ce := ce) (be := be) (pc := pc) (ta := ta) (sna := sna) (cc := cc) (ss := ss) (dd := dd) (rr := rr) ⟨hS, hT, hF, hs, hj, hN, hD, hr.1, hI, hA⟩ hr.2
    omega
  | succ M ih =>
    intro i p a b ce rc pa ca da sa ga ita H hmu hMi hcy
    by_cases hr : zrun ka n p
    · have H' := H
      obtain ⟨hS, hT, hF, hs, hj, hN, hD, hI, hA⟩ := H'
      have hn := hS.2.2
      have hI' := hI
      obtain ⟨hi1, hi2, hi3, hi4, hi5, hi6⟩ := hI'
      have h8 := (hD.1 j hj).1.1
      have h512 : ¬ (512 : Int32) ≤ nI i := nI_ge (a := i) (b := 512) (by omega) (by omega)
      by_cases hc : cx ≤ nI i
      · have hxy' : cx = cy := by
          rcases hxy with h | h
          · exact h
          · exact absurd (h.1 ▸ hc) h512
        refine ⟨pa, ca, da, sa, ga, ce, rc, ita, p, a, b, i, zFr_r, hD, hI, Nat.le_refl _, fun e1 e2 => ?_, fun f post hf h => ?_, fun f post hf h => ?_⟩
        · rw [e1, e2] at hxy'
          exact absurd hxy' (by decide)
        · cases f with
          | zero => omega
          | succ f =>
            unfold wX_advance_14
            exact br_f h512 (br_t hc h)
        · cases f with
          | zero => omega
          | succ f =>
            unfold wY_go_3
            exact br_t (hxy' ▸ hc) (y72 (by omega) (hxy' ▸ hc) hcy h)
      · have hcy' : ¬ cy ≤ nI i := by
          rcases hxy with h | h
          · rw [← h]; exact hc
          · rw [h.2]; exact nI_ge (a := i) (b := 1000) (by omega) (by omega)
        obtain ⟨pa', ca', da', sa', ga', ce', rc', ita', p', a', b', o1, o2, o3, o4, o5, o6⟩ := ex (ra := ra) (wa := wa) (va := va) (oa := oa) (ea := ea) (ce := ce) (be := be) (pc := pc) (ta := ta) (sna := sna) (cc := cc) (ss := ss) (dd := dd) (rr := rr) ⟨hS, hT, hF, hs, hj, hN, hD, hr.1, hI, hA⟩ hr.2
        obtain ⟨pa'', ca'', da'', sa'', ga'', ce'', rc'', ita'', p'', a'', b'', k, q1, q2, q3, q4, q5, q6, q7⟩ := ih (i + 1) p' a' b' ce' rc' pa' ca' da' sa' ga' ita' ⟨hS, hT, hF, hs, hj, hN, o2, o3, hA⟩ (by omega) (by omega) (Or.inr (zle_s (by omega) hcy'))
        refine ⟨pa'', ca'', da'', sa'', ga'', ce'', rc'', ita'', p'', a'', b'', k, zFr_t o1 q1, q2, q3, by omega, q5, fun f post hf h => ?_, fun f post hf h => ?_⟩
        · cases f with
          | zero => omega
          | succ f =>
            unfold wX_advance_14
            refine br_f h512 (br_f hc (xrun1 hn (by omega) hi2 hr (br_f (by decide) (o5 _ ?_))))
            exact nm_r (nI_1 i) (nm_r (nI_1 i) (q6 f post (by omega) h))
        · cases f with
          | zero => omega
          | succ f =>
            unfold wY_go_3
            refine br_f hcy' (br_f (nI_ge (a := i) (b := 1000) (by omega) (by omega)) ?_)
            rw [zyb, z8, zcn (show s * 104 + j * 13 + 8 < 1000 by omega), h8, hi2]
            refine And.intro (zvi (by omega) (by omega)) (nm_e ?_)
            rw [zcn (show p < 1000 by omega)]
            refine br_f (nI_ge hr.1 (by omega)) (And.intro (zvi (by have := hr.1; omega) (by omega)) (br_f hr.2 (o6 _ ?_)))
            exact nm_r (nI_1 i) (q7 f post (by omega) h)
    · exact stop (M + 1) i p a b ce rc pa ca da sa ga ita H hMi hcy hr
def zAd (A : Nat → Nat → Prop) (s j N n p a b : Nat) (cx cy : Int32) (cc ss dd rr : Int32) (ka xa ya za ja la ra wa va oa ea ce be rc pc pa ca da sa ga ta ita sna : Nat → Int32) : Prop :=
  ∃ pa' ca' da' sa' ga' ce' rc' ita' : Nat → Int32, ∃ p' a' b' k : Nat, zFr s j pa ca da sa ga rc ita pa' ca' da' sa' ga' rc' ita' ∧ zD ka n N s pa' ca' da' sa' ita' rc' ∧ zIt A ka n s j pa' ca' ga' ita' p' a' b' ∧ zmu ka n a' b' p' ≤ zmu ka n a b p ∧
    (cx = 512 → cy = 1000 → ¬ zrun ka n p') ∧
    (∀ (post : Int32 → SX → Prop), post (nI k) ((nI N), cc, (nI n), ss, dd, rr, ka, xa, ya, za, ja, la, ra, wa, va, oa, ea, ce', be, rc', pc, pa', ca', da', sa', ga', ta) → wpX_advance post ((nI N), cc, (nI n), ss, dd, rr, ka, xa, ya, za, ja, la, ra, wa, va, oa, ea, ce, be, rc, pc, pa, ca, da, sa, ga, ta) (nI s) (nI j) cx) ∧
    (∀ (post : Int32 → SY → Prop), post (nI k) ((nI N), cc, (nI n), ss, ka, xa, ya, za, ce', ita', be, rc', pc, sna) → wpY_go post ((nI N), cc, (nI n), ss, ka, xa, ya, za, ce, ita, be, rc, pc, sna) (nI s) (nI j) cy)
theorem adv {A : Nat → Nat → Prop} {s j N n p a b : Nat} {cx cy : Int32} (hxy : cx = cy ∨ (cx = 512 ∧ cy = 1000)) (H : zH0 A s j N n p a b ka xa ya za ja la rc pa ca da sa ga ita) : zAd A s j N n p a b cx cy cc ss dd rr ka xa ya za ja la ra wa va oa ea ce be rc pc pa ca da sa ga ta ita sna := by
  have H' := H
  obtain ⟨hS, hT, hF, hs, hj, hN, hD, hI, hA⟩ := H'
  have hb := zmu_bd (n := n) (a := a) (b := b) (p := p) hS.1 hI.2.2.2.2.1.1 hI.2.2.2.2.1.2.1 hS.2.2
  obtain ⟨pa', ca', da', sa', ga', ce', rc', ita', p', a', b', k, q1, q2, q3, q4, q5, q6, q7⟩ := adv_l (ra := ra) (wa := wa) (va := va) (oa := oa) (ea := ea) (be := be) (pc := pc) (ta := ta) (sna := sna) (cc := cc) (ss := ss) (dd := dd) (rr := rr) hxy 512 0 p a b ce rc pa ca da sa ga ita H hb (by omega) (Or.inl rfl)
  refine ⟨pa', ca', da', sa', ga', ce', rc', ita', p', a', b', k, q1, q2, q3, q4, q5, fun post h => ?_, fun post h => ?_⟩
  · unfold wpX_advance
    dsimp only
    exact nm_r (zsl s j) ⟨513, q6 513 post (by omega) h⟩
  · unfold wpY_go
    exact ⟨513, q7 513 post (by omega) h⟩
end ADV
end
section
/-! step and look -/
theorem zpr_cg {it it' : Nat → Int32} {s N : Nat} (h11 : ∀ i, i < N → it' (s * 104 + i * 13 + 11) = it (s * 104 + i * 13 + 11)) (h12 : ∀ i, i < N → it' (s * 104 + i * 13 + 12) = it (s * 104 + i * 13 + 12)) : zpr it' s N N = zpr it s N N := by
  apply b_ext
  intro b hb
  apply zbool
  rw [b_zpr N, b_zpr N]
  constructor
  · intro ⟨i, j, h1, h2, h3, h4, h5⟩
    rw [h12 i h1] at h4
    rw [h12 j h2, h11 j h2] at h5
    exact ⟨i, j, h1, h2, h3, h4, h5⟩
  · intro ⟨i, j, h1, h2, h3, h4, h5⟩
    rw [← h12 i h1] at h4
    rw [← h12 j h2, ← h11 j h2] at h5
    exact ⟨i, j, h1, h2, h3, h4, h5⟩
/-- a side whose entries stay -/
theorem zD_cg {K : Nat → Int32} {n N s : Nat} {pa ca da sa rc ita pa' ca' da' sa' rc' ita' : Nat → Int32} (hp : ∀ i, i < N → pa' (s * 8 + i) = pa (s * 8 + i) ∧ da' (s * 8 + i) = da (s * 8 + i) ∧ sa' (s * 8 + i) = sa (s * 8 + i) ∧ ca' ((s * 8 + i) * 2) = ca ((s * 8 + i) * 2) ∧ ca' ((s * 8 + i) * 2 + 1) = ca ((s * 8 + i) * 2 + 1))
    (hi : ∀ i, i < N → ∀ w, 8 ≤ w → w < 13 → ita' (s * 104 + i * 13 + w) = ita (s * 104 + i * 13 + w)) (hr : rc' s = rc s) (h : zD K n N s pa ca da sa ita rc) : zD K n N s pa' ca' da' sa' ita' rc' := by
  refine ⟨fun i hiN => ?_, ?_⟩
  · obtain ⟨⟨e1, e2, e3, e4, e5⟩, p, a, b, h1, h2, h3, h4, h5⟩ := h.1 i hiN
    obtain ⟨f1, f2, f3, f4, f5⟩ := hp i hiN
    have fi := hi i hiN
    refine ⟨⟨?_, ?_, ?_, ?_, ?_⟩, p, a, b, h1, by rw [f1]; exact h2, by rw [f4]; exact h3, by rw [f5]; exact h4, h5⟩
    · rw [fi 8 (by omega) (by omega), f1]; exact e1
    · rw [fi 9 (by omega) (by omega), f4]; exact e2
    · rw [fi 10 (by omega) (by omega), f5]; exact e3
    · rw [fi 11 (by omega) (by omega), f2]; exact e4
    · rw [fi 12 (by omega) (by omega), f3]; exact e5
  · have := h.2
    unfold zP at this ⊢
    rw [hr, zpr_cg (fun i hi' => hi i hi' 11 (by omega) (by omega)) (fun i hi' => hi i hi' 12 (by omega) (by omega))]
    exact this
theorem zD_fr {K : Nat → Int32} {n N s s' j : Nat} {pa ca da sa ga rc ita pa' ca' da' sa' ga' rc' ita' : Nat → Int32} (hf : zFr s j pa ca da sa ga rc ita pa' ca' da' sa' ga' rc' ita') (hs : s' ≠ s) (hj : j < 8) (hN : N ≤ 8) (h : zD K n N s' pa ca da sa ita rc) : zD K n N s' pa' ca' da' sa' ita' rc' := by
  refine zD_cg (fun i hi => ?_) (fun i hi w h1 h2 => hf.2.2.2.1 _ (by omega)) (hf.2.2.2.2 s' hs) h
  have f1 := hf.1 (s' * 8 + i) (by omega)
  exact ⟨f1.1, f1.2.1, f1.2.2, hf.2.1 _ (by omega) (by omega), hf.2.1 _ (by omega) (by omega)⟩
section VST
variable {ii cc nn ss dd rr : Int32} {ka xa ya za ja la ra wa va oa ea ce be rc pc pa ca da sa ga ta ita sna : Nat → Int32}
theorem xir0 {post : Int32 → Prop} {p0 : Int32} (hb : be 2 = 0) (h : post (-11)) : wpX_itemRefusal post (ii, cc, nn, ss, dd, rr, ka, xa, ya, za, ja, la, ra, wa, va, oa, ea, ce, be, rc, pc, pa, ca, da, sa, ga, ta) p0 := br_t hb h
theorem xir1 {post : Int32 → Prop} {p0 : Int32} (hb : ¬ be 2 = 0) (h0 : p0 < 0) (h : post (-10)) : wpX_itemRefusal post (ii, cc, nn, ss, dd, rr, ka, xa, ya, za, ja, la, ra, wa, va, oa, ea, ce, be, rc, pc, pa, ca, da, sa, ga, ta) p0 := br_f hb (br_t h0 h)
theorem xir2 {post : Int32 → Prop} {p0 : Int32} (hb : ¬ be 2 = 0) (h0 : ¬ p0 < 0) (h1 : ¬ p0 < ii) (h : post (-10)) : wpX_itemRefusal post (ii, cc, nn, ss, dd, rr, ka, xa, ya, za, ja, la, ra, wa, va, oa, ea, ce, be, rc, pc, pa, ca, da, sa, ga, ta) p0 := br_f hb (br_f h0 (br_f h1 h))
theorem xir3 {post : Int32 → Prop} {p0 : Int32} (hb : ¬ be 2 = 0) (h0 : ¬ p0 < 0) (h1 : p0 < ii) (h : post 0) : wpX_itemRefusal post (ii, cc, nn, ss, dd, rr, ka, xa, ya, za, ja, la, ra, wa, va, oa, ea, ce, be, rc, pc, pa, ca, da, sa, ga, ta) p0 := br_f hb (br_f h0 (br_t h1 h))
theorem zA_T {K xa ya za : Nat → Int32} {n : Nat} : zA (fun _ _ => True) K xa ya za n := ⟨fun _ _ _ _ _ => trivial, fun _ _ _ _ _ _ => Or.inr trivial⟩
theorem zIt_2 {K : Nat → Int32} {n N j : Nat} (hD : zD K n N 2 pa ca da sa ita rc) (hG : zG2 N ga ita) (hj : j < N) : ∃ p a b, zIt (fun _ _ => True) K n 2 j pa ca ga ita p a b := by
  obtain ⟨_, p, a, b, h1, h2, h3, h4, h5⟩ := hD.1 j hj
  exact ⟨p, a, b, h1, h2, h3, h4, h5, fun k hk _ => hG j hj k hk⟩
theorem zG2_s {A : Nat → Nat → Prop} {K : Nat → Int32} {n N j p a b : Nat} {pa' ca' da' sa' ga' rc' ita' : Nat → Int32} (hf : zFr 2 j pa ca da sa ga rc ita pa' ca' da' sa' ga' rc' ita') (hN : N ≤ 8) (hj : j < N) (hA : ∀ p k, A p k) (hI : zIt A K n 2 j pa' ca' ga' ita' p a b) (hG : zG2 N ga ita) : zG2 N ga' ita' := by
  intro i hi k hk
  by_cases e : i = j
  · subst e
    exact hI.2.2.2.2.2 k hk (hA _ _)
  · have hz : zbs 2 j = 8 + j * 8 := rfl
    have h1 : ga' (8 + i * 8 + k) = ga (8 + i * 8 + k) := hf.2.2.1 _ (by rw [hz]; omega)
    have h2 : ita' (208 + i * 13 + k) = ita (208 + i * 13 + k) := hf.2.2.2.1 _ (by omega)
    rw [h1, h2]
    exact hG i hi k hk
theorem zse1 {n : Nat} (h : zSe n ss ka xa ya za va) (h1 : ss = 1) : zk ka n = [] ∧ zV ka xa ya za n va := by
  rcases h with h | h
  · rw [h.1] at h1
    exact absurd h1 (by decide)
  · exact h.2
theorem i_vc_step {k : Nat} {u : SX} {v : SY} (I : i_Rel k u v) (hk : k + 5 ≤ 2562) (v1 : Int32) (v2 : Int32) : wpX_step (fun r u' => wpY_step (fun r' v' => r' = r ∧ i_Rel (k + 5) u' v') v v1 v2) u v1 v2 := by
  refine ze (P := fun u v => wpX_step (fun r u' => wpY_step (fun r' v' => r' = r ∧ i_Rel (k + 5) u' v') v v1 v2) u v1 v2) I ?_
  intro N C n ss dd rr ka xa ya za ja la ra wa va oa ea ce be rc pc pa ca da sa ga ta ita sna hN hK hS hB
  have R : i_Rel (k + 5) ((nI N), (nI C), (nI n), ss, dd, rr, ka, xa, ya, za, ja, la, ra, wa, va, oa, ea, ce, be, rc, pc, pa, ca, da, sa, ga, ta) ((nI N), (nI C), (nI n), ss, ka, xa, ya, za, ce, ita, be, rc, pc, sna) := zi hN hK hS hB
  unfold wpX_step
  dsimp only
  by_cases b2 : be 2 = 0
  · exact xir0 b2 (br_f (by decide) (br_t b2 ⟨rfl, R⟩))
  by_cases h0 : v1 < 0
  · exact xir1 b2 h0 (br_f (by decide) (br_f b2 (br_t h0 ⟨rfl, R⟩)))
  by_cases h1 : v1 < nI N
  · obtain ⟨j, hj, rfl⟩ := zin h0 h1 hN.2 (by omega)
    refine xir3 b2 h0 h1 (br_t rfl ?_)
    obtain ⟨e1, hD, hG⟩ := hB.2 b2
    have hV := zse1 hS e1
    obtain ⟨p, a, b, hI⟩ := zIt_2 hD hG hj
    obtain ⟨pa', ca', da', sa', ga', ce', rc', ita', p', a', b', kk, q1, q2, q3, q4, q5, q6, q7⟩ := adv (cx := v2) (cy := v2) (ra := ra) (wa := wa) (va := va) (oa := oa) (ea := ea) (ce := ce) (be := be) (pc := pc) (ta := ta) (sna := sna) (cc := nI C) (ss := ss) (dd := dd) (rr := rr) (Or.inl rfl)
      (show zH0 (fun _ _ => True) 2 j N n p a b ka xa ya za ja la rc pa ca da sa ga ita from ⟨⟨hK.2.2.1, hV.1, Nat.le_trans hK.1 hK.2.1⟩, hK.2.2.2.1, hK.2.2.2.2.1, Or.inr rfl, hj, hN.2, hD, hI, zA_T⟩)
    refine q6 _ ?_
    refine br_f b2 (br_f h0 (br_t h1 (q7 _ ?_)))
    refine ⟨rfl, zi hN hK hS ⟨fun b1 => ⟨e1, ?_⟩, fun _ => ⟨e1, q2, zG2_s q1 hN.2 hj (fun _ _ => trivial) q3 hG⟩⟩⟩
    exact zD_fr q1 (by omega) (by omega) hN.2 (hB.1 b1).2
  · exact xir2 b2 h0 h1 (br_f (by decide) (br_f b2 (br_f h0 (br_f h1 ⟨rfl, R⟩))))
theorem i_vc_look {k : Nat} {u : SX} {v : SY} (I : i_Rel k u v) (hk : k + 5 ≤ 2562) (v1 : Int32) (v2 : Int32) : wpX_look (fun r => wpY_look (fun r' => r' = r ∧ i_Rel (k + 5) u v) v v1 v2) u v1 v2 := by
  refine ze (P := fun u v => wpX_look (fun r => wpY_look (fun r' => r' = r ∧ i_Rel (k + 5) u v) v v1 v2) u v1 v2) I ?_
  intro N C n ss dd rr ka xa ya za ja la ra wa va oa ea ce be rc pc pa ca da sa ga ta ita sna hN hK hS hB
  have R : i_Rel (k + 5) ((nI N), (nI C), (nI n), ss, dd, rr, ka, xa, ya, za, ja, la, ra, wa, va, oa, ea, ce, be, rc, pc, pa, ca, da, sa, ga, ta) ((nI N), (nI C), (nI n), ss, ka, xa, ya, za, ce, ita, be, rc, pc, sna) := zi hN hK hS hB
  unfold wpX_look
  dsimp only
  by_cases b2 : be 2 = 0
  · exact xir0 b2 (br_f (by decide) (br_t b2 ⟨rfl, R⟩))
  by_cases h0 : v1 < 0
  · exact xir1 b2 h0 (br_f (by decide) (br_f b2 (br_t h0 ⟨rfl, R⟩)))
  by_cases h1 : v1 < nI N
  · obtain ⟨j, hj, rfl⟩ := zin h0 h1 hN.2 (by omega)
    have hN8 := hN.2
    refine xir3 b2 h0 h1 (br_t rfl (nm_r (show (16 : Int32) + nI j = nI (16 + j) from nI_add 16 j) ?_))
    obtain ⟨e1, hD, hG⟩ := hB.2 b2
    obtain ⟨hE, _⟩ := hD.1 j hj
    have yb : ∀ w : Nat, (208 : Int32) + nI j * 13 + nI w = nI (208 + j * 13 + w) := fun w => by
      rw [show nI j * 13 = nI (j * 13) from pk_mul j 13, show (208 : Int32) + nI (j * 13) = nI (208 + j * 13) from nI_add 208 (j * 13), nI_add]
    have xb : ∀ w : Nat, (8 : Int32) + nI j * 8 + nI w = nI (8 + j * 8 + w) := fun w => by
      rw [show nI j * 8 = nI (j * 8) from pk_mul j 8, show (8 : Int32) + nI (j * 8) = nI (8 + j * 8) from nI_add 8 (j * 8), nI_add]
    unfold wpX_isVariable
    dsimp only
    by_cases c0 : v2 < 0
    · exact br_t c0 (br_t rfl (br_t (Int32.lt_trans c0 (by decide)) (br_f b2 (br_f h0 (br_t h1 (br_t c0 ⟨rfl, R⟩))))))
    by_cases c12 : v2 ≤ 12
    · obtain ⟨w, hw, rfl⟩ := nI_of2 (n := 12) rfl c0 c12
      have iy : vp_in (nI (208 + j * 13 + w)) 312 := zvi (by omega) (by omega)
      have hY : ∀ r : Int32, ita (208 + j * 13 + w) = r → wpY_look (fun r' => r' = r ∧ i_Rel (k + 5) ((nI N), (nI C), (nI n), ss, dd, rr, ka, xa, ya, za, ja, la, ra, wa, va, oa, ea, ce, be, rc, pc, pa, ca, da, sa, ga, ta) ((nI N), (nI C), (nI n), ss, ka, xa, ya, za, ce, ita, be, rc, pc, sna)) ((nI N), (nI C), (nI n), ss, ka, xa, ya, za, ce, ita, be, rc, pc, sna) (nI j) (nI w) := by
        intro r hr
        refine br_f b2 (br_f h0 (br_t h1 (br_f c0 (br_t c12 ?_))))
        rw [yb, zcn (by omega)]
        exact ⟨iy, hr, R⟩
      refine br_f c0 ?_
      by_cases c7 : 7 < nI w
      · have hw8 : 8 ≤ w := by
          have := (nI_ltI (a := 7) (b := w) (by omega) (by omega)).mp c7
          omega
        refine br_t c7 (br_t rfl (br_f (nI_nlt (a := w) (b := 8) hw8 (by omega)) (br_f (nI_nlt (a := 12) (b := w) hw (by omega)) ?_)))
        have : w = 8 ∨ w = 9 ∨ w = 10 ∨ w = 11 ∨ w = 12 := by omega
        rw [zcn (show 16 + j < 1000 by omega), show nI (16 + j) * 2 = nI ((16 + j) * 2) from pk_mul (16 + j) 2, nI_1, zcn (show (16 + j) * 2 < 1000 by omega), zcn (show (16 + j) * 2 + 1 < 1000 by omega)]
        have i1 : vp_in (nI (16 + j)) 24 := zvi (by omega) (by omega)
        rcases this with e | e | e | e | e <;> subst e
        · exact br_t rfl ⟨i1, hY _ hE.1⟩
        · exact br_f (by decide) (br_t rfl ⟨zvi (by omega) (by omega), hY _ hE.2.1⟩)
        · exact br_f (by decide) (br_f (by decide) (br_t rfl ⟨zvi (by omega) (by omega), hY _ hE.2.2.1⟩))
        · exact br_f (by decide) (br_f (by decide) (br_f (by decide) (br_t rfl ⟨i1, hY _ hE.2.2.2.1⟩)))
        · exact br_f (by decide) (br_f (by decide) (br_f (by decide) (br_f (by decide) (br_t rfl ⟨i1, hY _ hE.2.2.2.2⟩))))
      · have hw8 : w < 8 := by
          rcases Nat.lt_or_ge w 8 with h | h
          · exact h
          · exact absurd (nI_lt (a := 7) (b := w) (by omega) (by omega)) c7
        refine br_f c7 (br_f (by decide) ?_)
        rw [xb, zcn (by omega)]
        exact ⟨zvi (by omega) (by omega), hY _ (hG j hj w hw8).symm⟩
    · have c12' : 12 < v2 := Int32.not_le.mp c12
      refine br_f c0 (br_t (Int32.lt_trans (by decide) c12') (br_t rfl (br_f (fun h => c12 (Int32.le_trans (Int32.le_of_lt h) (by decide))) (br_t c12' ?_))))
      exact br_f b2 (br_f h0 (br_t h1 (br_f c0 (br_f c12 ⟨rfl, R⟩))))
  · exact xir2 b2 h0 h1 (br_f (by decide) (br_f b2 (br_f h0 (br_f h1 ⟨rfl, R⟩))))
end VST
end
section
/-! the group's state, and passing a barrier -/
def zPl (pa : Nat → Int32) (s i : Nat) : Nat := (pa (s * 8 + i)).toNatClampNeg
def zGS (K : Nat → Int32) (n N : Nat) (P : Nat → Nat) (r : Int32) : Prop :=
  (r = 1 ∧ ∃ i, i < N ∧ zrun K n (P i)) ∨ (r = 2 ∧ ∀ i, i < N → P i = P 0 ∧ P i < n ∧ K (P i) = 16) ∨ (r = 3 ∧ ∀ i, i < N → P i = n) ∨ (r = 4 ∧ ∀ i, i < N → ¬ zrun K n (P i))
theorem zPl_e {K : Nat → Int32} {n N s : Nat} {pa ca da sa ita rc : Nat → Int32} (h : zD K n N s pa ca da sa ita rc) (hn : n ≤ 32) {i : Nat} (hi : i < N) : pa (s * 8 + i) = nI (zPl pa s i) ∧ zPl pa s i ≤ n ∧ ita (s * 104 + i * 13 + 8) = nI (zPl pa s i) ∧
    ∃ a b, ca ((s * 8 + i) * 2) = nI a ∧ ca ((s * 8 + i) * 2 + 1) = nI b ∧ zCV K a b (zPl pa s i) := by
  obtain ⟨⟨e1, e2, e3, e4, e5⟩, p, a, b, h1, h2, h3, h4, h5⟩ := h.1 i hi
  have : zPl pa s i = p := by
    unfold zPl
    rw [h2, zcn (by omega)]
  rw [this]
  exact ⟨h2, h1, e1.trans h2, a, b, h3, h4, h5⟩
section GRP
variable {ii cc nn ss dd rr : Int32} {ka xa ya za ja la ra wa va oa ea ce be rc pc pa ca da sa ga ta ita sna : Nat → Int32}
theorem y82 {post : Int32 → Prop} {J : Int32 → Int32 → Int32 → Prop} {s i p q : Nat} {x2 x3 : Int32} (hs : s < 3) (e0 : ita (s * 104 + 8) = nI q) (hp : p ≤ 32) (hq : q ≤ 32) (h1 : p = q → J x2 x3 (nI (i + 1))) (h2 : p ≠ q → J x2 0 (nI (i + 1))) : wY_state_82 post J (nI s) x2 x3 (nI i) (nI p) ii cc nn ss ka xa ya za ce ita be rc pc sna := by
  unfold wY_state_82
  rw [show nI s * 104 = nI (s * 104) from pk_mul s 104, z8, zcn (show s * 104 + 8 < 1000 by omega), e0]
  refine And.intro (zvi (by omega) (by omega)) (br_c (fun e => nm_r (nI_1 i) (h1 ((nI_eq (by omega) (by omega)).mp e))) (fun e => nm_r (nI_1 i) (h2 (fun h => e (by rw [h])))))
theorem gs_l {s n N : Nat} (hS : n ≤ 32) (hs : s < 3) (hN : 1 ≤ N ∧ N ≤ 8) (hD : zD ka n N s pa ca da sa ita rc) :
    ∀ (d i fin : Nat) (x3 : Int32), i + d = N → (∀ i', i' < i → ¬ zrun ka n (zPl pa s i')) →
      ((x3 = 1 ∧ (∀ i', i' < i → zPl pa s i' = zPl pa s 0) ∧ fin = if zPl pa s 0 < n then 0 else i) ∨ (x3 = 0 ∧ 0 < i ∧ fin < i)) →
      ∃ r, zGS ka n N (zPl pa s) r ∧ (∀ (f : Nat) (post : Int32 → Prop), d < f → post r → wX_groupState_15 post (nI s) (nI (zPl pa s 0)) (nI N) cc (nI n) ss dd rr ka xa ya za ja la ra wa va oa ea ce be rc pc pa ca da sa ga ta f x3 (nI i)) ∧
        (∀ (f : Nat) (post : Int32 → Prop), d < f → post r → wY_state_18 post (nI s) (nI N) cc (nI n) ss ka xa ya za ce ita be rc pc sna f (nI fin) x3 (nI i)) := by
  have h0 := zPl_e hD hS (i := 0) (by omega)
  intro d
  induction d with
  | zero =>
    intro i fin x3 hi hnr hst
    have hi' : i = N := by omega
    subst hi'
    rcases hst with ⟨e3, h1, h2⟩ | ⟨e3, h1, h2⟩
    · by_cases hp0 : zPl pa s 0 < n
      · rw [if_pos hp0] at h2
        refine ⟨2, Or.inr (Or.inl ⟨rfl, fun i' hi' => ⟨h1 i' hi', by rw [h1 i' hi']; exact hp0, Classical.byContradiction (fun h => hnr i' hi' ⟨by rw [h1 i' hi']; exact hp0, h⟩)⟩⟩), fun f post hf h => ?_, fun f post hf h => ?_⟩
        · cases f with
          | zero => omega
          | succ f =>
            unfold wX_groupState_15
            exact br_t (nI_le (Nat.le_refl _) (by omega)) (br_f (by rw [e3]; decide) (br_t (nI_lt hp0 (by omega)) h))
        · cases f with
          | zero => omega
          | succ f =>
            unfold wY_state_18
            subst h2
            exact br_t (nI_le (Nat.le_refl _) (by omega)) (br_f (fun e => absurd ((nI_eq (by omega) (by omega)).mp e) (by omega)) (br_t rfl (br_f (by rw [e3]; decide) h)))
      · rw [if_neg hp0] at h2
        refine ⟨3, Or.inr (Or.inr (Or.inl ⟨rfl, fun i' hi' => ?_⟩)), fun f post hf h => ?_, fun f post hf h => ?_⟩
        · rw [h1 i' hi']
          have := h0.2.1
          omega
        · cases f with
          | zero => omega
          | succ f =>
            unfold wX_groupState_15
            exact br_t (nI_le (Nat.le_refl _) (by omega)) (br_f (by rw [e3]; decide) (br_f (nI_nlt (by omega) (by have := h0.2.1; omega)) h))
        · cases f with
          | zero => omega
          | succ f =>
            unfold wY_state_18
            subst h2
            exact br_t (nI_le (Nat.le_refl _) (by omega)) (br_t rfl h)
    · refine ⟨4, Or.inr (Or.inr (Or.inr ⟨rfl, hnr⟩)), fun f post hf h => ?_, fun f post hf h => ?_⟩
      · cases f with
        | zero => omega
        | succ f =>
          unfold wX_groupState_15
          exact br_t (nI_le (Nat.le_refl _) (by omega)) (br_t e3 h)
      · cases f with
        | zero => omega
        | succ f =>
          unfold wY_state_18
          exact br_t (nI_le (Nat.le_refl _) (by omega)) (br_f (fun e => absurd ((nI_eq (by omega) (by omega)).mp e) (by omega)) (br_c (fun _ => br_t e3 h) (fun _ => h)))
  | succ d ih =>
    intro i fin x3 hi hnr hst
    have hiN : i < N := by omega
    have hfin : fin ≤ i := by
      rcases hst with h | h
      · have := h.2.2
        split at this <;> omega
      · omega
    obtain ⟨g1, g2, g3, _⟩ := zPl_e hD hS hiN
    by_cases hr : zrun ka n (zPl pa s i)
    · refine ⟨1, Or.inl ⟨rfl, i, hiN, hr⟩, fun f post hf h => ?_, fun f post hf h => ?_⟩
      · cases f with
        | zero => omega
        | succ f =>
          unfold wX_groupState_15
          exact br_f (nI_ge hiN (by omega)) (nm_r (zsl s i) (xrun1 hS (by omega) g1 hr (br_f (by decide) h)))
      · cases f with
        | zero => omega
        | succ f =>
          unfold wY_state_18
          refine br_f (nI_ge hiN (by omega)) ?_
          rw [zyb, z8, zcn (show s * 104 + i * 13 + 8 < 1000 by omega), g3]
          refine And.intro (zvi (by omega) (by omega)) (nm_e ?_)
          rw [zcn (show zPl pa s i < 1000 by omega)]
          exact br_f (nI_ge hr.1 (by omega)) (And.intro (zvi (by have := hr.1; omega) (by omega)) (br_f hr.2 h))
    · -- on to the next item
      have hnr' : ∀ i', i' < i + 1 → ¬ zrun ka n (zPl pa s i') := fun i' h => by
        by_cases e : i' = i
        · rw [e]; exact hr
        · exact hnr i' (by omega)
      have nst : ∃ fin' : Nat, ∃ x3' : Int32, (fin' = if zPl pa s i < n then fin else fin + 1) ∧ (zPl pa s i = zPl pa s 0 → x3' = x3) ∧ (zPl pa s i ≠ zPl pa s 0 → x3' = 0) ∧
          ((x3' = 1 ∧ (∀ i', i' < i + 1 → zPl pa s i' = zPl pa s 0) ∧ fin' = if zPl pa s 0 < n then 0 else i + 1) ∨ (x3' = 0 ∧ 0 < i + 1 ∧ fin' < i + 1)) := by
        by_cases e : zPl pa s i = zPl pa s 0
        · refine ⟨if zPl pa s i < n then fin else fin + 1, x3, rfl, fun _ => rfl, fun h => absurd e h, ?_⟩
          rcases hst with ⟨e3, h1, h2⟩ | ⟨e3, h1, h2⟩
          · refine Or.inl ⟨e3, fun i' h => ?_, ?_⟩
            · by_cases e' : i' = i
              · rw [e']; exact e
              · exact h1 i' (by omega)
            · rw [e]
              by_cases hp0 : zPl pa s 0 < n
              · rw [if_pos hp0] at h2
                rw [if_pos hp0, if_pos hp0, h2]
              · rw [if_neg hp0] at h2
                rw [if_neg hp0, if_neg hp0, h2]
          · refine Or.inr ⟨e3, by omega, ?_⟩
            split <;> omega
        · refine ⟨if zPl pa s i < n then fin else fin + 1, 0, rfl, fun h => absurd h e, fun _ => rfl, Or.inr ⟨rfl, by omega, ?_⟩⟩
          rcases hst with ⟨e3, h1, h2⟩ | ⟨e3, h1, h2⟩
          · have hi0 : i ≠ 0 := fun h => e (by rw [h])
            by_cases hp0 : zPl pa s 0 < n
            · rw [if_pos hp0] at h2
              split <;> omega
            · have : zPl pa s i < n := by
                have := h0.2.1
                omega
              rw [if_pos this]
              omega
          · split <;> omega
      obtain ⟨fin', x3', n1, n2, n3, n4⟩ := nst
      obtain ⟨r, r1, r2, r3⟩ := ih (i + 1) fin' x3' (by omega) hnr' n4
      refine ⟨r, r1, fun f post hf h => ?_, fun f post hf h => ?_⟩
      · cases f with
        | zero => omega
        | succ f =>
          have r2' := r2 f post (by omega) h
          unfold wX_groupState_15
          refine br_f (nI_ge hiN (by omega)) (nm_r (zsl s i) (xrun0 hS (by omega) g2 g1 hr (br_t rfl ?_)))
          rw [zcn (show s * 8 + i < 1000 by omega), g1]
          refine And.intro (zvi (by omega) (by omega)) (br_c (fun e => nm_r (nI_1 i) ?_) (fun e => nm_r (nI_1 i) ?_))
          · rw [n2 ((nI_eq (by omega) (by have := h0.2.1; omega)).mp e)] at r2'
            exact r2'
          · rw [n3 (fun h => e (by rw [h]))] at r2'
            exact r2'
      · cases f with
        | zero => omega
        | succ f =>
          have r3' := r3 f post (by omega) h
          have k70 : wY_state_70 post (wY_state_18 post (nI s) (nI N) cc (nI n) ss ka xa ya za ce ita be rc pc sna f) (nI s) (nI fin) x3 (nI i) (nI (zPl pa s i)) (nI N) cc (nI n) ss ka xa ya za ce ita be rc pc sna := by
            unfold wY_state_70
            have e0 : ita (s * 104 + 8) = nI (zPl pa s 0) := h0.2.2.1
            refine br_c (fun hlt => ?_) (fun hge => nm_r (nI_1 fin) ?_)
            · rw [if_pos ((nI_ltI (by omega) (by omega)).mp hlt)] at n1
              rw [n1] at r3'
              exact y82 hs e0 (by omega) (by have := h0.2.1; omega) (fun e => by rw [n2 e] at r3'; exact r3') (fun e => by rw [n3 e] at r3'; exact r3')
            · rw [if_neg (fun h => hge (nI_lt h (by omega)))] at n1
              rw [n1] at r3'
              exact y82 hs e0 (by omega) (by have := h0.2.1; omega) (fun e => by rw [n2 e] at r3'; exact r3') (fun e => by rw [n3 e] at r3'; exact r3')
          unfold wY_state_18
          refine br_f (nI_ge hiN (by omega)) ?_
          rw [zyb, z8, zcn (show s * 104 + i * 13 + 8 < 1000 by omega), g3]
          refine And.intro (zvi (by omega) (by omega)) (nm_e ?_)
          rw [zcn (show zPl pa s i < 1000 by omega)]
          by_cases hpn : zPl pa s i < n
          · exact br_f (nI_ge hpn (by omega)) (And.intro (zvi (by omega) (by omega)) (br_t (Classical.byContradiction (fun h => hr ⟨hpn, h⟩)) k70))
          · exact br_t (nI_le (by omega) (by omega)) k70
theorem gs {s n N : Nat} (hn : n ≤ 32) (hs : s = 1 ∨ s = 2) (hN : 1 ≤ N ∧ N ≤ 8) (hb : ¬ be s = 0) (hD : zD ka n N s pa ca da sa ita rc) :
    ∃ r, zGS ka n N (zPl pa s) r ∧ (∀ (post : Int32 → Prop), post r → wpX_groupState post ((nI N), cc, (nI n), ss, dd, rr, ka, xa, ya, za, ja, la, ra, wa, va, oa, ea, ce, be, rc, pc, pa, ca, da, sa, ga, ta) (nI s)) ∧ (∀ (post : Int32 → Prop), post r → wpY_state post ((nI N), cc, (nI n), ss, ka, xa, ya, za, ce, ita, be, rc, pc, sna) (nI s)) := by
  obtain ⟨r, r1, r2, r3⟩ := gs_l (cc := cc) (ss := ss) (dd := dd) (rr := rr) (xa := xa) (ya := ya) (za := za) (ja := ja) (la := la) (ra := ra) (wa := wa) (va := va) (oa := oa) (ea := ea) (ce := ce) (be := be) (pc := pc) (ga := ga) (ta := ta) (sna := sna) hn (by omega) hN hD N 0 0 1 (by omega) (fun i' h => absurd h (by omega)) (Or.inl ⟨rfl, fun i' h => absurd h (by omega), by split <;> rfl⟩)
  have h0 := zPl_e hD hn (i := 0) (by omega)
  refine ⟨r, r1, fun post h => ?_, fun post h => ?_⟩
  · unfold wpX_groupState
    dsimp only
    rw [show nI s * 8 = nI (s * 8) from pk_mul s 8, zcn (show s * 8 < 1000 by omega)]
    exact And.intro (zvi (by omega) (by omega)) (nm_r h0.1 ⟨N + 1, r2 (N + 1) post (by omega) h⟩)
  · unfold wpY_state
    dsimp only
    rw [zcn (show s < 1000 by omega)]
    exact And.intro (zvi (by omega) (by omega)) (br_f hb ⟨N + 1, r3 (N + 1) post (by omega) h⟩)
theorem zst {p : Int32} (h0 : ¬ p = 0) (h1 : ¬ p = 1) (h2 : ¬ p = 2) (h3 : ¬ p < 0) : ¬ p ≤ 2 := by
  refine zrs h1 h2 (fun h => ?_)
  obtain ⟨j, hj, rfl⟩ := nI_of h3
  have : j < 1 := (nI_ltI (b := 1) hj (by omega)).mp h
  exact h0 (by rw [show j = 0 by omega]; rfl)
theorem i_vc_status {k : Nat} {u : SX} {v : SY} (I : i_Rel k u v) (hk : k + 5 ≤ 2562) (v1 : Int32) : wpX_status (fun r => wpY_status (fun r' => r' = r ∧ i_Rel (k + 5) u v) v v1) u v1 := by
  refine ze (P := fun u v => wpX_status (fun r => wpY_status (fun r' => r' = r ∧ i_Rel (k + 5) u v) v v1) u v1) I ?_
  intro N C n ss dd rr ka xa ya za ja la ra wa va oa ea ce be rc pc pa ca da sa ga ta ita sna hN hK hS hB
  have R : i_Rel (k + 5) ((nI N), (nI C), (nI n), ss, dd, rr, ka, xa, ya, za, ja, la, ra, wa, va, oa, ea, ce, be, rc, pc, pa, ca, da, sa, ga, ta) ((nI N), (nI C), (nI n), ss, ka, xa, ya, za, ce, ita, be, rc, pc, sna) := zi hN hK hS hB
  have hn : n ≤ 32 := Nat.le_trans hK.1 hK.2.1
  unfold wpX_status
  dsimp only
  by_cases a0 : v1 = 0
  · subst a0
    exact br_t rfl (br_c (fun e => br_f (by decide) (br_t (by decide) (br_t rfl (br_t e ⟨rfl, R⟩)))) (fun e => br_f (by decide) (br_t (by decide) (br_t rfl (br_f e ⟨rfl, R⟩)))))
  refine br_f a0 ?_
  by_cases a1 : v1 = 1
  · subst a1
    refine br_t rfl (br_f (by decide) (And.intro (vp_in_nI (n := 1) (by omega) (by omega)) ?_))
    refine br_c (fun e => br_f (by decide) (br_t (by decide) (br_f a0 ?_))) (fun e => ?_)
    · unfold wpY_state
      exact And.intro (vp_in_nI (n := 1) (by omega) (by omega)) (br_t e ⟨rfl, R⟩)
    · obtain ⟨r, r1, r2, r3⟩ := gs (cc := nI C) (ss := ss) (dd := dd) (rr := rr) (xa := xa) (ya := ya) (za := za) (ja := ja) (la := la) (ra := ra) (wa := wa) (va := va) (oa := oa) (ea := ea) (ce := ce) (be := be) (pc := pc) (ga := ga) (ta := ta) (sna := sna) hn (Or.inl rfl) hN e (hB.1 e).2
      exact r2 _ (br_f (by decide) (br_t (by decide) (br_f a0 (r3 _ ⟨rfl, R⟩))))
  by_cases a2 : v1 = 2
  · subst a2
    refine br_f (by decide) (br_t rfl (br_f (by decide) (And.intro (vp_in_nI (n := 2) (by omega) (by omega)) ?_)))
    refine br_c (fun e => br_f (by decide) (br_t (by decide) (br_f a0 ?_))) (fun e => ?_)
    · unfold wpY_state
      exact And.intro (vp_in_nI (n := 2) (by omega) (by omega)) (br_t e ⟨rfl, R⟩)
    · obtain ⟨r, r1, r2, r3⟩ := gs (cc := nI C) (ss := ss) (dd := dd) (rr := rr) (xa := xa) (ya := ya) (za := za) (ja := ja) (la := la) (ra := ra) (wa := wa) (va := va) (oa := oa) (ea := ea) (ce := ce) (be := be) (pc := pc) (ga := ga) (ta := ta) (sna := sna) hn (Or.inr rfl) hN e (hB.2 e).2.1
      exact r2 _ (br_f (by decide) (br_t (by decide) (br_f a0 (r3 _ ⟨rfl, R⟩))))
  refine br_f a1 (br_f a2 (br_t rfl ?_))
  by_cases c : v1 < 0
  · exact br_t c ⟨rfl, R⟩
  · exact br_f c (br_f (zst a0 a1 a2 c) ⟨rfl, R⟩)
end GRP
end
section
/-! passing a barrier -/
def zpP (pa : Nat → Int32) (s : Nat) : Nat → Nat → Int32
  | 0 => pa
  | i + 1 => upd (zpP pa s i) (s * 8 + i) (zpP pa s i (s * 8 + i) + 1)
def zp0 (pa : Nat → Int32) (s : Nat) : Nat → Nat → Int32
  | 0 => pa
  | i + 1 => upd (zp0 pa s i) (s * 8 + i) 0
def zpI (it : Nat → Int32) (s : Nat) : Nat → Nat → Int32
  | 0 => it
  | i + 1 => upd (upd (upd (zpI it s i) (s * 104 + i * 13 + 8) (zpI it s i (s * 104 + i * 13 + 8) + 1)) (s * 104 + i * 13 + 11) 0) (s * 104 + i * 13 + 12) 0
theorem zpP_v {pa : Nat → Int32} {s : Nat} : ∀ (m t : Nat), zpP pa s m t = if s * 8 ≤ t ∧ t < s * 8 + m then pa t + 1 else pa t := by
  intro m
  induction m with
  | zero => intro t; rw [if_neg (by omega)]; rfl
  | succ m ih =>
    intro t
    show upd (zpP pa s m) (s * 8 + m) (zpP pa s m (s * 8 + m) + 1) t = _
    by_cases e : t = s * 8 + m
    · rw [e, pk_us, ih, if_neg (by omega), if_pos (by omega)]
    · rw [pk_un e, ih]
      by_cases h : s * 8 ≤ t ∧ t < s * 8 + m
      · rw [if_pos h, if_pos (by omega)]
      · rw [if_neg h, if_neg (by omega)]
theorem zp0_v {pa : Nat → Int32} {s : Nat} : ∀ (m t : Nat), zp0 pa s m t = if s * 8 ≤ t ∧ t < s * 8 + m then 0 else pa t := by
  intro m
  induction m with
  | zero => intro t; rw [if_neg (by omega)]; rfl
  | succ m ih =>
    intro t
    show upd (zp0 pa s m) (s * 8 + m) 0 t = _
    by_cases e : t = s * 8 + m
    · rw [e, pk_us, if_pos (by omega)]
    · rw [pk_un e, ih]
      by_cases h : s * 8 ≤ t ∧ t < s * 8 + m
      · rw [if_pos h, if_pos (by omega)]
      · rw [if_neg h, if_neg (by omega)]
theorem zpI_n {it : Nat → Int32} {s : Nat} : ∀ (m t : Nat), (∀ i, i < m → t ≠ s * 104 + i * 13 + 8 ∧ t ≠ s * 104 + i * 13 + 11 ∧ t ≠ s * 104 + i * 13 + 12) → zpI it s m t = it t := by
  intro m
  induction m with
  | zero => intro t _; rfl
  | succ m ih =>
    intro t h
    have h' := h m (by omega)
    show upd (upd (upd (zpI it s m) _ _) _ 0) _ 0 t = _
    rw [pk_un h'.2.2, pk_un h'.2.1, pk_un h'.1]
    exact ih t (fun i hi => h i (by omega))
theorem zpI_v {it : Nat → Int32} {s : Nat} : ∀ (m i : Nat), i < m → zpI it s m (s * 104 + i * 13 + 8) = it (s * 104 + i * 13 + 8) + 1 ∧ zpI it s m (s * 104 + i * 13 + 11) = 0 ∧ zpI it s m (s * 104 + i * 13 + 12) = 0 := by
  intro m
  induction m with
  | zero => intro i h; omega
  | succ m ih =>
    intro i h
    show upd (upd (upd (zpI it s m) _ _) _ 0) _ 0 _ = _ ∧ upd (upd (upd (zpI it s m) _ _) _ 0) _ 0 _ = _ ∧ upd (upd (upd (zpI it s m) _ _) _ 0) _ 0 _ = _
    by_cases e : i = m
    · subst e
      refine ⟨?_, ?_, ?_⟩
      · rw [pk_un (by omega), pk_un (by omega), pk_us, zpI_n i _ (fun i' hi' => by omega)]
      · rw [pk_un (by omega), pk_us]
      · rw [pk_us]
    · have ihs := ih i (by omega)
      refine ⟨?_, ?_, ?_⟩
      · rw [pk_un (by omega), pk_un (by omega), pk_un (by omega)]; exact ihs.1
      · rw [pk_un (by omega), pk_un (by omega), pk_un (by omega)]; exact ihs.2.1
      · rw [pk_un (by omega), pk_un (by omega), pk_un (by omega)]; exact ihs.2.2
section PAS
variable {ii cc nn ss dd rr : Int32} {ka xa ya za ja la ra wa va oa ea ce be rc pc pa ca da sa ga ta ita sna : Nat → Int32}
theorem xpass {post : SX → Prop} {s N : Nat} (hs : s < 3) (hN : N ≤ 8) (h : post ((nI N), cc, nn, ss, dd, rr, ka, xa, ya, za, ja, la, ra, wa, va, oa, ea, ce, be, rc, (upd pc s (pc s + 1)), (zpP pa s N), ca, (zp0 da s N), (zp0 sa s N), ga, ta)) : wpX_pass post ((nI N), cc, nn, ss, dd, rr, ka, xa, ya, za, ja, la, ra, wa, va, oa, ea, ce, be, rc, pc, pa, ca, da, sa, ga, ta) (nI s) := by
  have key : ∀ (f i : Nat), i ≤ N → N - i < f → wX_pass_2 post (nI s) (nI N) cc nn ss dd rr f (nI i) ka xa ya za ja la ra wa va oa ea ce be rc pc (zpP pa s i) ca (zp0 da s i) (zp0 sa s i) ga ta := by
    intro f
    induction f with
    | zero => intro i h1 h2; omega
    | succ f ih =>
      intro i h1 h2
      unfold wX_pass_2
      by_cases e : i = N
      · subst e
        rw [zcn (show s < 1000 by omega)]
        have i2 : vp_in (nI s) 3 := zvi (by omega) (by omega)
        exact br_t (nI_le (Nat.le_refl _) (by omega)) (And.intro i2 (And.intro i2 (nm_e h)))
      · have ihs := ih (i + 1) (by omega) (by omega)
        refine br_f (nI_ge (by omega) (by omega)) (nm_r (zsl s i) ?_)
        rw [zcn (show s * 8 + i < 1000 by omega)]
        have i1 : vp_in (nI (s * 8 + i)) 24 := zvi (by omega) (by omega)
        exact And.intro i1 (And.intro i1 (nm_e (And.intro i1 (nm_e (And.intro i1 (nm_e (nm_r (nI_1 i) ihs)))))))
  unfold wpX_pass
  exact ⟨N + 1, key (N + 1) 0 (by omega) (by omega)⟩
theorem ypass {post : SY → Prop} {s N : Nat} (hs : s < 3) (hN : N ≤ 8) (h : post ((nI N), cc, nn, ss, ka, xa, ya, za, ce, (zpI ita s N), be, rc, (upd pc s (pc s + 1)), sna)) : wpY_pass post ((nI N), cc, nn, ss, ka, xa, ya, za, ce, ita, be, rc, pc, sna) (nI s) := by
  have key : ∀ (f i : Nat), i ≤ N → N - i < f → wY_pass_2 post (nI s) (nI N) cc nn ss f (nI i) ka xa ya za ce (zpI ita s i) be rc pc sna := by
    intro f
    induction f with
    | zero => intro i h1 h2; omega
    | succ f ih =>
      intro i h1 h2
      unfold wY_pass_2
      by_cases e : i = N
      · subst e
        rw [zcn (show s < 1000 by omega)]
        have i2 : vp_in (nI s) 3 := zvi (by omega) (by omega)
        exact br_t (nI_le (Nat.le_refl _) (by omega)) (And.intro i2 (And.intro i2 (nm_e h)))
      · have ihs := ih (i + 1) (by omega) (by omega)
        refine br_f (nI_ge (by omega) (by omega)) (nm_r (zyb s i) ?_)
        rw [z8, z11, z12, zcn (show s * 104 + i * 13 + 8 < 1000 by omega), zcn (show s * 104 + i * 13 + 11 < 1000 by omega), zcn (show s * 104 + i * 13 + 12 < 1000 by omega)]
        exact And.intro (zvi (by omega) (by omega)) (And.intro (zvi (by omega) (by omega)) (nm_e (And.intro (zvi (by omega) (by omega)) (nm_e (And.intro (zvi (by omega) (by omega)) (nm_e (nm_r (nI_1 i) ihs)))))))
  unfold wpY_pass
  exact ⟨N + 1, key (N + 1) 0 (by omega) (by omega)⟩
theorem zpr_0 {it : Nat → Int32} {s N : Nat} (h : ∀ i, i < N → it (s * 104 + i * 13 + 12) = 0) : zpr it s N N = 0 := by
  apply b_ext
  intro b hb
  rw [b_0]
  cases e : bt (zpr it s N N) b with
  | false => rfl
  | true =>
    obtain ⟨i, j, h1, h2, h3, h4, h5⟩ := (b_zpr N).mp e
    rw [h i h1, b_0] at h4
    exact absurd h4 (by decide)
/-- behind the barrier -/
theorem zD_ps {s N n : Nat} (hs : s < 3) (hN : N ≤ 8) (hn : n ≤ 32) (hD : zD ka n N s pa ca da sa ita rc) (hh : ∀ i, i < N → zPl pa s i < n ∧ ka (zPl pa s i) = 16) :
    zD ka n N s (zpP pa s N) ca (zp0 da s N) (zp0 sa s N) (zpI ita s N) rc ∧ (∀ i, i < N → zPl (zpP pa s N) s i = zPl pa s i + 1) := by
  have hpl : ∀ i, i < N → zpP pa s N (s * 8 + i) = nI (zPl pa s i + 1) := fun i hi => by
    rw [zpP_v, if_pos (by omega), (zPl_e hD hn hi).1, nI_1]
  refine ⟨⟨fun i hi => ?_, ?_⟩, fun i hi => ?_⟩
  · obtain ⟨g1, g2, g3, a, b, g4, g5, g6⟩ := zPl_e hD hn hi
    have hE := (hD.1 i hi).1
    have hv := zpI_v (it := ita) (s := s) N i hi
    have h16 := (hh i hi).2
    have hlt := (hh i hi).1
    refine ⟨⟨?_, ?_, ?_, ?_, ?_⟩, zPl pa s i + 1, a, b, by omega, hpl i hi, g4, g5, ?_⟩
    · rw [hv.1, hpl i hi, g3, nI_1]
    · rw [zpI_n N _ (fun i' hi' => by omega)]; exact hE.2.1
    · rw [zpI_n N _ (fun i' hi' => by omega)]; exact hE.2.2.1
    · rw [hv.2.1, zp0_v, if_pos (by omega)]
    · rw [hv.2.2, zp0_v, if_pos (by omega)]
    · exact (zC_f (n := n) (zrl_p (by rw [h16]; decide) (by rw [h16]; decide)) (by omega) hlt g6).1
  · unfold zP
    rw [zpr_0 (fun i hi => (zpI_v N i hi).2.2), Int32.or_zero]
  · show (zpP pa s N (s * 8 + i)).toNatClampNeg = _
    have := (hh i hi).1
    rw [hpl i hi, zcn (by omega)]
/-- another side isn't touched -/
theorem zD_po {s s' N n : Nat} (hs : s' ≠ s) (hN : N ≤ 8) (hD : zD ka n N s' pa ca da sa ita rc) : zD ka n N s' (zpP pa s N) ca (zp0 da s N) (zp0 sa s N) (zpI ita s N) rc := by
  refine zD_cg (fun i hi => ⟨?_, ?_, ?_, rfl, rfl⟩) (fun i hi w h1 h2 => zpI_n N _ (fun i' hi' => by omega)) rfl hD
  · rw [zpP_v, if_neg (by omega)]
  · rw [zp0_v, if_neg (by omega)]
  · rw [zp0_v, if_neg (by omega)]
theorem zpI_g {s j N k : Nat} (hk : k < 8) : zpI ita s N (s * 104 + j * 13 + k) = ita (s * 104 + j * 13 + k) := zpI_n N _ (fun i' hi' => by omega)
theorem i_vc_release {k : Nat} {u : SX} {v : SY} (I : i_Rel k u v) (hk : k + 5 ≤ 2562) : wpX_release (fun r u' => wpY_release (fun r' v' => r' = r ∧ i_Rel (k + 5) u' v') v) u := by
  refine ze (P := fun u v => wpX_release (fun r u' => wpY_release (fun r' v' => r' = r ∧ i_Rel (k + 5) u' v') v) u) I ?_
  intro N C n ss dd rr ka xa ya za ja la ra wa va oa ea ce be rc pc pa ca da sa ga ta ita sna hN hK hS hB
  have R : i_Rel (k + 5) ((nI N), (nI C), (nI n), ss, dd, rr, ka, xa, ya, za, ja, la, ra, wa, va, oa, ea, ce, be, rc, pc, pa, ca, da, sa, ga, ta) ((nI N), (nI C), (nI n), ss, ka, xa, ya, za, ce, ita, be, rc, pc, sna) := zi hN hK hS hB
  have hn : n ≤ 32 := Nat.le_trans hK.1 hK.2.1
  unfold wpX_release
  dsimp only
  refine br_c (fun e => br_t e ⟨rfl, R⟩) (fun e => ?_)
  obtain ⟨e1, hD, hG⟩ := hB.2 e
  obtain ⟨r, r1, r2, r3⟩ := gs (cc := nI C) (ss := ss) (dd := dd) (rr := rr) (xa := xa) (ya := ya) (za := za) (ja := ja) (la := la) (ra := ra) (wa := wa) (va := va) (oa := oa) (ea := ea) (ce := ce) (be := be) (pc := pc) (ga := ga) (ta := ta) (sna := sna) hn (Or.inr rfl) hN e hD
  refine r2 _ (br_c (fun h2 => ?_) (fun h2 => ?_))
  · have hh : ∀ i, i < N → zPl pa 2 i < n ∧ ka (zPl pa 2 i) = 16 := by
      rw [h2] at r1
      rcases r1 with h | h | h | h
      · exact absurd h.1 (by decide)
      · exact fun i hi => (h.2 i hi).2
      · exact absurd h.1 (by decide)
      · exact absurd h.1 (by decide)
    refine xpass (s := 2) (by omega) hN.2 ?_
    refine br_f e (r3 _ (br_t h2 (ypass (s := 2) (by omega) hN.2 ?_)))
    refine ⟨rfl, zi hN hK hS ⟨fun b1 => ⟨e1, zD_po (by omega) hN.2 (hB.1 b1).2⟩, fun _ => ⟨e1, (zD_ps (by omega) hN.2 hn hD hh).1, fun i hi kk hkk => ?_⟩⟩⟩
    rw [show (208 : Nat) + i * 13 + kk = 2 * 104 + i * 13 + kk by omega, zpI_g hkk]
    exact hG i hi kk hkk
  · exact br_f e (r3 _ (br_f h2 ⟨rfl, R⟩))
end PAS
end
section
/-! clear, start, begin -/
def zfi (g : Nat → Int32) (v : Int32) : Nat → Nat → Int32
  | 0 => g
  | i + 1 => upd (zfi g v i) i v
theorem zfi_v {g : Nat → Int32} {v : Int32} : ∀ (m t : Nat), zfi g v m t = if t < m then v else g t := by
  intro m
  induction m with
  | zero => intro t; rw [if_neg (by omega)]; rfl
  | succ m ih =>
    intro t
    show upd (zfi g v m) m v t = _
    by_cases e : t = m
    · rw [e, pk_us, if_pos (by omega)]
    · rw [pk_un e, ih]
      by_cases h : t < m
      · rw [if_pos h, if_pos (by omega)]
      · rw [if_neg h, if_neg (by omega)]
def zcp (g : Nat → Int32) (s : Nat) : Nat → Nat → Int32
  | 0 => g
  | i + 1 => upd (zcp g s i) (s * 16 + i) (zcp g s i i)
def zcc (g : Nat → Int32) (s : Nat) : Nat → Nat → Int32
  | 0 => g
  | i + 1 => upd (upd (zcc g s i) ((s * 8 + i) * 2) 0) ((s * 8 + i) * 2 + 1) 0
theorem zcc_v {g : Nat → Int32} {s : Nat} : ∀ (m t : Nat), zcc g s m t = if s * 16 ≤ t ∧ t < s * 16 + 2 * m then 0 else g t := by
  intro m
  induction m with
  | zero => intro t; rw [if_neg (by omega)]; rfl
  | succ m ih =>
    intro t
    show upd (upd (zcc g s m) ((s * 8 + m) * 2) 0) ((s * 8 + m) * 2 + 1) 0 t = _
    by_cases e : t = (s * 8 + m) * 2 + 1
    · rw [e, pk_us, if_pos (by omega)]
    · rw [pk_un e]
      by_cases e' : t = (s * 8 + m) * 2
      · rw [e', pk_us, if_pos (by omega)]
      · rw [pk_un e', ih]
        by_cases h : s * 16 ≤ t ∧ t < s * 16 + 2 * m
        · rw [if_pos h, if_pos (by omega)]
        · rw [if_neg h, if_neg (by omega)]
def zsh (g : Nat → Int32) (o : Nat) : Nat → Nat → Int32
  | 0 => g
  | i + 1 => upd (zsh g o i) (o + i) 0
theorem zsh_v {g : Nat → Int32} {o : Nat} : ∀ (m t : Nat), zsh g o m t = if o ≤ t ∧ t < o + m then 0 else g t := by
  intro m
  induction m with
  | zero => intro t; rw [if_neg (by omega)]; rfl
  | succ m ih =>
    intro t
    show upd (zsh g o m) (o + m) 0 t = _
    by_cases e : t = o + m
    · rw [e, pk_us, if_pos (by omega)]
    · rw [pk_un e, ih]
      by_cases h : o ≤ t ∧ t < o + m
      · rw [if_pos h, if_pos (by omega)]
      · rw [if_neg h, if_neg (by omega)]
theorem zvb0 : vp_nar .boolean 0 = 0 := by decide
theorem zvb1 : vp_nar .boolean 1 = 1 := by decide
section STA
variable {ii cc nn ss dd rr : Int32} {ka xa ya za ja la ra wa va oa ea ce be rc pc pa ca da sa ga ta ita sna : Nat → Int32}
theorem xclear {post : SX → Prop} (h : post (ii, cc, 0, 0, 0, 0, ka, xa, ya, za, ja, la, ra, wa, (zfi va 0 33), oa, ea, (zfi ce 0 48), (zfi be (vp_nar .boolean 0) 3), (zfi rc 0 3), (zfi pc 0 3), pa, ca, da, sa, ga, ta)) : wpX_clear post (ii, cc, nn, ss, dd, rr, ka, xa, ya, za, ja, la, ra, wa, va, oa, ea, ce, be, rc, pc, pa, ca, da, sa, ga, ta) := by
  have k64 : ∀ (f i : Nat), i ≤ 3 → 3 - i < f → wX_clear_64 post ii cc 0 0 0 0 f (nI i) ka xa ya za ja la ra wa (zfi va 0 33) oa ea (zfi ce 0 48) (zfi be (vp_nar .boolean 0) i) (zfi rc 0 i) (zfi pc 0 i) pa ca da sa ga ta := by
    intro f
    induction f with
    | zero => intro i h1 h2; omega
    | succ f ih =>
      intro i h1 h2
      unfold wX_clear_64
      by_cases e : i = 3
      · subst e
        exact br_t (by decide) h
      · have ihs := ih (i + 1) (by omega) (by omega)
        refine br_f (nI_ge (a := i) (b := 3) (by omega) (by omega)) ?_
        rw [zcn (show i < 1000 by omega)]
        have i1 : vp_in (nI i) 3 := zvi (by omega) (by omega)
        exact And.intro i1 (nm_e (And.intro i1 (nm_e (And.intro i1 (nm_e (nm_r (nI_1 i) ihs))))))
  have k43 : ∀ (f i : Nat), i ≤ 48 → 48 - i < f → wX_clear_43 post ii cc 0 0 0 0 f (nI i) ka xa ya za ja la ra wa (zfi va 0 33) oa ea (zfi ce 0 i) be rc pc pa ca da sa ga ta := by
    intro f
    induction f with
    | zero => intro i h1 h2; omega
    | succ f ih =>
      intro i h1 h2
      unfold wX_clear_43
      by_cases e : i = 48
      · subst e
        exact br_t (by decide) ⟨4, k64 4 0 (by omega) (by omega)⟩
      · have ihs := ih (i + 1) (by omega) (by omega)
        refine br_f (nI_ge (a := i) (b := 48) (by omega) (by omega)) ?_
        rw [zcn (show i < 1000 by omega)]
        exact And.intro (zvi (by omega) (by omega)) (nm_e (nm_r (nI_1 i) ihs))
  have k22 : ∀ (f i : Nat), i ≤ 33 → 33 - i < f → wX_clear_22 post ii cc 0 0 0 0 f (nI i) ka xa ya za ja la ra wa (zfi va 0 i) oa ea ce be rc pc pa ca da sa ga ta := by
    intro f
    induction f with
    | zero => intro i h1 h2; omega
    | succ f ih =>
      intro i h1 h2
      unfold wX_clear_22
      by_cases e : i = 33
      · subst e
        exact br_t (by decide) ⟨49, k43 49 0 (by omega) (by omega)⟩
      · have ihs := ih (i + 1) (by omega) (by omega)
        refine br_f (nI_ge (a := i) (b := 33) (by omega) (by omega)) ?_
        rw [zcn (show i < 1000 by omega)]
        exact And.intro (zvi (by omega) (by omega)) (nm_e (nm_r (nI_1 i) ihs))
  unfold wpX_clear
  exact ⟨34, k22 34 0 (by omega) (by omega)⟩
theorem yclear {post : SY → Prop} (h : post (ii, cc, 0, 0, ka, xa, ya, za, (zfi ce 0 48), (zfi ita 0 312), (zfi be (vp_nar .boolean 0) 3), (zfi rc 0 3), (zfi pc 0 3), sna)) : wpY_clear post (ii, cc, nn, ss, ka, xa, ya, za, ce, ita, be, rc, pc, sna) := by
  have k64 : ∀ (f i : Nat), i ≤ 3 → 3 - i < f → wY_clear_55 post ii cc 0 0 f (nI i) ka xa ya za (zfi ce 0 48) (zfi ita 0 312) (zfi be (vp_nar .boolean 0) i) (zfi rc 0 i) (zfi pc 0 i) sna := by
    intro f
    induction f with
    | zero => intro i h1 h2; omega
    | succ f ih =>
      intro i h1 h2
      unfold wY_clear_55
      by_cases e : i = 3
      · subst e
        exact br_t (by decide) h
      · have ihs := ih (i + 1) (by omega) (by omega)
        refine br_f (nI_ge (a := i) (b := 3) (by omega) (by omega)) ?_
        rw [zcn (show i < 1000 by omega)]
        have i1 : vp_in (nI i) 3 := zvi (by omega) (by omega)
        exact And.intro i1 (nm_e (And.intro i1 (nm_e (And.intro i1 (nm_e (nm_r (nI_1 i) ihs))))))
  have k43 : ∀ (f i : Nat), i ≤ 312 → 312 - i < f → wY_clear_33 post ii cc 0 0 f (nI i) ka xa ya za (zfi ce 0 48) (zfi ita 0 i) be rc pc sna := by
    intro f
    induction f with
    | zero => intro i h1 h2; omega
    | succ f ih =>
      intro i h1 h2
      unfold wY_clear_33
      by_cases e : i = 312
      · subst e
        exact br_t (by decide) ⟨4, k64 4 0 (by omega) (by omega)⟩
      · have ihs := ih (i + 1) (by omega) (by omega)
        refine br_f (nI_ge (a := i) (b := 312) (by omega) (by omega)) ?_
        rw [zcn (show i < 1000 by omega)]
        exact And.intro (zvi (by omega) (by omega)) (nm_e (nm_r (nI_1 i) ihs))
  have k22 : ∀ (f i : Nat), i ≤ 48 → 48 - i < f → wY_clear_12 post ii cc 0 0 f (nI i) ka xa ya za (zfi ce 0 i) ita be rc pc sna := by
    intro f
    induction f with
    | zero => intro i h1 h2; omega
    | succ f ih =>
      intro i h1 h2
      unfold wY_clear_12
      by_cases e : i = 48
      · subst e
        exact br_t (by decide) ⟨313, k43 313 0 (by omega) (by omega)⟩
      · have ihs := ih (i + 1) (by omega) (by omega)
        refine br_f (nI_ge (a := i) (b := 48) (by omega) (by omega)) ?_
        rw [zcn (show i < 1000 by omega)]
        exact And.intro (zvi (by omega) (by omega)) (nm_e (nm_r (nI_1 i) ihs))
  unfold wpY_clear
  exact ⟨49, k22 49 0 (by omega) (by omega)⟩
theorem i_vc_clear {k : Nat} {u : SX} {v : SY} (I : i_Rel k u v) (hk : k + 5 ≤ 2562) : wpX_clear (fun u' => wpY_clear (fun v' => i_Rel (k + 5) u' v') v) u := by
  refine ze (P := fun u v => wpX_clear (fun u' => wpY_clear (fun v' => i_Rel (k + 5) u' v') v) u) I ?_
  intro N C n ss dd rr ka xa ya za ja la ra wa va oa ea ce be rc pc pa ca da sa ga ta ita sna hN hK hS hB
  refine xclear (yclear (zi0 hN hK.2.1 (fun p hp => ?_) ?_ ?_))
  · rw [zfi_v, if_pos hp]
  · rw [zfi_v, if_pos (by omega), zvb0]
  · rw [zfi_v, if_pos (by omega), zvb0]
theorem xstart {post : SX → Prop} {s : Nat} (hs : s < 3) (h : post (ii, cc, nn, ss, dd, rr, ka, xa, ya, za, ja, la, ra, wa, va, oa, ea, (zcp ce s 16), (upd be s (vp_nar .boolean 1)), (upd rc s 0), (upd pc s 0), (zp0 pa s 8), (zcc ca s 8), (zp0 da s 8), (zp0 sa s 8), ga, ta)) : wpX_start post (ii, cc, nn, ss, dd, rr, ka, xa, ya, za, ja, la, ra, wa, va, oa, ea, ce, be, rc, pc, pa, ca, da, sa, ga, ta) (nI s) := by
  have e8 : nI s * 8 = nI (s * 8) := pk_mul s 8
  have k57 : ∀ (f i : Nat), i ≤ 8 → 8 - i < f → wX_start_57 post (nI s) ii cc nn ss dd rr f (nI (s * 8 + i)) ka xa ya za ja la ra wa va oa ea (zcp ce s 16) (upd be s (vp_nar .boolean 1)) (upd rc s 0) (upd pc s 0) (zp0 pa s i) (zcc ca s i) (zp0 da s i) (zp0 sa s i) ga ta := by
    intro f
    induction f with
    | zero => intro i h1 h2; omega
    | succ f ih =>
      intro i h1 h2
      unfold wX_start_57
      rw [e8, z8]
      by_cases e : i = 8
      · subst e
        exact br_t (nI_le (Nat.le_refl _) (by omega)) h
      · have ihs := ih (i + 1) (by omega) (by omega)
        refine br_f (nI_ge (by omega) (by omega)) ?_
        rw [show nI (s * 8 + i) * 2 = nI ((s * 8 + i) * 2) from pk_mul (s * 8 + i) 2, nI_1 ((s * 8 + i) * 2), zcn (show s * 8 + i < 1000 by omega), zcn (show (s * 8 + i) * 2 < 1000 by omega), zcn (show (s * 8 + i) * 2 + 1 < 1000 by omega)]
        have i1 : vp_in (nI (s * 8 + i)) 24 := zvi (by omega) (by omega)
        exact And.intro i1 (nm_e (And.intro (zvi (by omega) (by omega)) (nm_e (And.intro (zvi (by omega) (by omega)) (nm_e (And.intro i1 (nm_e (And.intro i1 (nm_e (nm_r (nI_1 (s * 8 + i)) ihs))))))))))
  have k23 : ∀ (f i : Nat), i ≤ 16 → 16 - i < f → wX_start_23 post (nI s) ii cc nn ss dd rr f (nI i) ka xa ya za ja la ra wa va oa ea (zcp ce s i) (upd be s (vp_nar .boolean 1)) (upd rc s 0) (upd pc s 0) pa ca da sa ga ta := by
    intro f
    induction f with
    | zero => intro i h1 h2; omega
    | succ f ih =>
      intro i h1 h2
      unfold wX_start_23
      by_cases e : i = 16
      · subst e
        exact br_t (by decide) (nm_r e8 ⟨9, k57 9 0 (by omega) (by omega)⟩)
      · have ihs := ih (i + 1) (by omega) (by omega)
        refine br_f (nI_ge (a := i) (b := 16) (by omega) (by omega)) ?_
        rw [zsc, zcn (show i < 1000 by omega), zcn (show s * 16 + i < 1000 by omega)]
        exact And.intro (zvi (by omega) (by omega)) (And.intro (zvi (by omega) (by omega)) (nm_e (nm_r (nI_1 i) ihs)))
  unfold wpX_start
  dsimp only
  rw [zcn (show s < 1000 by omega)]
  have i2 : vp_in (nI s) 3 := zvi (by omega) (by omega)
  exact And.intro i2 (nm_e (And.intro i2 (nm_e (And.intro i2 (nm_e ⟨17, k23 17 0 (by omega) (by omega)⟩)))))
theorem ystart {post : SY → Prop} {s : Nat} (hs : s < 3) (h : post (ii, cc, nn, ss, ka, xa, ya, za, (zcp ce s 16), (zsh ita (s * 104) 104), (upd be s (vp_nar .boolean 1)), (upd rc s 0), (upd pc s 0), sna)) : wpY_start post (ii, cc, nn, ss, ka, xa, ya, za, ce, ita, be, rc, pc, sna) (nI s) := by
  have e8 : nI s * 104 = nI (s * 104) := pk_mul s 104
  have k57 : ∀ (f i : Nat), i ≤ 104 → 104 - i < f → wY_start_33 post (nI s) ii cc nn ss f (nI i) ka xa ya za (zcp ce s 16) (zsh ita (s * 104) i) be rc pc sna := by
    intro f
    induction f with
    | zero => intro i h1 h2; omega
    | succ f ih =>
      intro i h1 h2
      unfold wY_start_33
      rw [e8, nI_add]
      by_cases e : i = 104
      · subst e
        have i2 : vp_in (nI s) 3 := zvi (by omega) (by omega)
        rw [zcn (show s < 1000 by omega)]
        exact br_t (by decide) (And.intro i2 (nm_e (And.intro i2 (nm_e (And.intro i2 (nm_e h))))))
      · have ihs := ih (i + 1) (by omega) (by omega)
        refine br_f (nI_ge (a := i) (b := 104) (by omega) (by omega)) ?_
        rw [zcn (show s * 104 + i < 1000 by omega)]
        exact And.intro (zvi (by omega) (by omega)) (nm_e (nm_r (nI_1 i) ihs))
  have k23 : ∀ (f i : Nat), i ≤ 16 → 16 - i < f → wY_start_2 post (nI s) ii cc nn ss f (nI i) ka xa ya za (zcp ce s i) ita be rc pc sna := by
    intro f
    induction f with
    | zero => intro i h1 h2; omega
    | succ f ih =>
      intro i h1 h2
      unfold wY_start_2
      by_cases e : i = 16
      · subst e
        exact br_t (by decide) ⟨105, k57 105 0 (by omega) (by omega)⟩
      · have ihs := ih (i + 1) (by omega) (by omega)
        refine br_f (nI_ge (a := i) (b := 16) (by omega) (by omega)) ?_
        rw [zsc, zcn (show i < 1000 by omega), zcn (show s * 16 + i < 1000 by omega)]
        exact And.intro (zvi (by omega) (by omega)) (And.intro (zvi (by omega) (by omega)) (nm_e (nm_r (nI_1 i) ihs)))
  unfold wpY_start
  exact ⟨17, k23 17 0 (by omega) (by omega)⟩
/-- a side that has just been started -/
theorem zD_0 {s N n : Nat} (hN : N ≤ 8) : zD ka n N s (zp0 pa s 8) (zcc ca s 8) (zp0 da s 8) (zp0 sa s 8) (zsh ita (s * 104) 104) (upd rc s 0) := by
  refine ⟨fun i hi => ⟨⟨?_, ?_, ?_, ?_, ?_⟩, 0, 0, 0, Nat.zero_le _, ?_, ?_, ?_, ?_⟩, ?_⟩
  · rw [zsh_v, if_pos (by omega), zp0_v, if_pos (by omega)]
  · rw [zsh_v, if_pos (by omega), zcc_v, if_pos (by omega)]
  · rw [zsh_v, if_pos (by omega), zcc_v, if_pos (by omega)]
  · rw [zsh_v, if_pos (by omega), zp0_v, if_pos (by omega)]
  · rw [zsh_v, if_pos (by omega), zp0_v, if_pos (by omega)]
  · rw [zp0_v, if_pos (by omega)]; rfl
  · rw [zcc_v, if_pos (by omega)]; rfl
  · rw [zcc_v, if_pos (by omega)]; rfl
  · refine ⟨by omega, by omega, fun h => ?_, fun h => ?_⟩
    · exact absurd h (by show ¬ 1 ≤ 0; omega)
    · exact absurd h (by show ¬ 2 ≤ 0; omega)
  · unfold zP
    rw [zpr_0 (fun i hi => by rw [zsh_v, if_pos (by omega)]), Int32.or_zero]
theorem zD_so {s s' N n : Nat} (hs : s' ≠ s) (hN : N ≤ 8) (hD : zD ka n N s' pa ca da sa ita rc) : zD ka n N s' (zp0 pa s 8) (zcc ca s 8) (zp0 da s 8) (zp0 sa s 8) (zsh ita (s * 104) 104) (upd rc s 0) := by
  refine zD_cg (fun i hi => ⟨?_, ?_, ?_, ?_, ?_⟩) (fun i hi w h1 h2 => by rw [zsh_v, if_neg (by omega)]) (pk_un hs) hD
  · rw [zp0_v, if_neg (by omega)]
  · rw [zp0_v, if_neg (by omega)]
  · rw [zp0_v, if_neg (by omega)]
  · rw [zcc_v, if_neg (by omega)]
  · rw [zcc_v, if_neg (by omega)]
theorem zss {n : Nat} (h : zSe n ss ka xa ya za va) (h0 : ¬ ss = 0) : ss = 1 := by
  rcases h with h | h
  · exact absurd h.1 h0
  · exact h.1
theorem i_vc_begin {k : Nat} {u : SX} {v : SY} (I : i_Rel k u v) (hk : k + 5 ≤ 2562) : wpX_begin (fun r u' => wpY_begin (fun r' v' => r' = r ∧ i_Rel (k + 5) u' v') v) u := by
  refine ze (P := fun u v => wpX_begin (fun r u' => wpY_begin (fun r' v' => r' = r ∧ i_Rel (k + 5) u' v') v) u) I ?_
  intro N C n ss dd rr ka xa ya za ja la ra wa va oa ea ce be rc pc pa ca da sa ga ta ita sna hN hK hS hB
  have R : i_Rel (k + 5) ((nI N), (nI C), (nI n), ss, dd, rr, ka, xa, ya, za, ja, la, ra, wa, va, oa, ea, ce, be, rc, pc, pa, ca, da, sa, ga, ta) ((nI N), (nI C), (nI n), ss, ka, xa, ya, za, ce, ita, be, rc, pc, sna) := zi hN hK hS hB
  unfold wpX_begin
  dsimp only
  refine br_c (fun e => br_t e ⟨rfl, R⟩) (fun e => ?_)
  have e1 := zss hS e
  refine xstart (s := 2) (by omega) ?_
  have fin : wpY_begin (fun r' v' => r' = 0 ∧ i_Rel (k + 5) ((nI N), (nI C), (nI n), ss, dd, rr, ka, xa, ya, za, ja, la, ra, wa, va, oa, ea, (zcp ce 2 16), (upd be 2 (vp_nar .boolean 1)), (upd rc 2 0), (upd pc 2 0), (zp0 pa 2 8), (zcc ca 2 8), (zp0 da 2 8), (zp0 sa 2 8), (zsh ga 8 64), ta) v') ((nI N), (nI C), (nI n), ss, ka, xa, ya, za, ce, ita, be, rc, pc, sna) := by
    refine br_f e (ystart (s := 2) (by omega) ?_)
    refine ⟨rfl, zi hN hK hS ⟨fun b1 => ⟨e1, zD_so (by omega) hN.2 (hB.1 ?_).2⟩, fun _ => ⟨e1, zD_0 hN.2, fun i hi kk hkk => ?_⟩⟩⟩
    · rw [pk_un (by omega)] at b1
      exact b1
    · have := hN.2
      rw [zsh_v, if_pos (by omega), zsh_v, if_pos (by omega)]
  have key : ∀ (f i : Nat), i ≤ 64 → 64 - i < f → wX_begin_18 (fun r u' => wpY_begin (fun r' v' => r' = r ∧ i_Rel (k + 5) u' v') ((nI N), (nI C), (nI n), ss, ka, xa, ya, za, ce, ita, be, rc, pc, sna)) (nI N) (nI C) (nI n) ss dd rr f (nI (8 + i)) ka xa ya za ja la ra wa va oa ea (zcp ce 2 16) (upd be 2 (vp_nar .boolean 1)) (upd rc 2 0) (upd pc 2 0) (zp0 pa 2 8) (zcc ca 2 8) (zp0 da 2 8) (zp0 sa 2 8) (zsh ga 8 i) ta := by
    intro f
    induction f with
    | zero => intro i h1 h2; omega
    | succ f ih =>
      intro i h1 h2
      unfold wX_begin_18
      by_cases e : i = 64
      · subst e
        exact br_t (by decide) fin
      · have ihs := ih (i + 1) (by omega) (by omega)
        refine br_f (nI_ge (a := 8 + i) (b := 72) (by omega) (by omega)) ?_
        rw [zcn (show 8 + i < 1000 by omega)]
        exact And.intro (zvi (by omega) (by omega)) (nm_e (nm_r (nI_1 (8 + i)) ihs))
  exact ⟨65, key 65 0 (by omega) (by omega)⟩
end STA
end
section
/-! liveness: X's sweeps -/
def zaf (K ja va : Nat → Int32) (p : Nat) : Int32 := if ja p < 0 then (if K p = 13 then 0 else va (p + 1)) else (if K p = 13 then 0 else va (p + 1)) ||| va (ja p).toNatClampNeg
def zFv (K ja ra wa va : Nat → Int32) (p : Nat) : Int32 := ra p ||| (zaf K ja va p &&& (wa p ^^^ (-1)))
theorem nIe {a b : Nat} (ha : a < 1000) (hb : b < 1000) : nI a = nI b ↔ a = b := nI_eq (by omega) (by omega)
theorem b_Rd {K xa ya za : Nat → Int32} {n p k : Nat} (hF : zF K xa ya za n) (hp : p < n) (hk : k < 32) : bt (zRd (K p) (xa p) (ya p) (za p)) k = true ↔ zrd K xa ya za p k := by
  obtain ⟨_, ⟨x, hx, ex⟩, hy, ⟨z, hz, ez⟩⟩ := hF p hp
  have by1 : ¬ K p < 2 → (bt (zb1m (ya p)) k = true ↔ ya p = nI k) := fun h => by
    obtain ⟨y, hy8, ey⟩ := hy (fun e => h (by rw [e]; decide))
    rw [ey, b_1m (by omega) hk, nIe (by omega) (by omega)]
    exact eq_comm
  have bz1 : bt (zb1m (za p)) k = true ↔ za p = nI k := by
    rw [ez, b_1m (by omega) hk, nIe (by omega) (by omega)]
    exact eq_comm
  have bx1 : bt (zb1m (xa p)) k = true ↔ xa p = nI k := by
    rw [ex, b_1m (by omega) hk, nIe (by omega) (by omega)]
    exact eq_comm
  unfold zRd zrd
  dsimp only
  have hb0 : bt 0 k = false := b_0 k
  by_cases c2 : K p < 2
  · have n3 : ¬ (K p = 11 ∨ K p = 12 ∨ K p = 14) := by
      intro h
      rcases h with h | h | h <;> rw [h] at c2 <;> exact absurd c2 (by decide)
    rw [if_pos c2, if_pos c2, if_neg n3, hb0]
    simp [c2, n3]
  · have by2 := by1 c2
    rw [if_neg c2, if_neg c2]
    by_cases c11 : 11 < K p
    · have c9 : 9 < K p := Int32.lt_trans (by decide) c11
      rw [if_pos c11, if_pos c9]
      by_cases c3 : K p = 11 ∨ K p = 12 ∨ K p = 14
      · rw [if_pos c3, b_or, hb0, Bool.false_or, bx1]
        simp [c11, c9, c3]
      · rw [if_neg c3, hb0]
        simp [c11, c9, c3]
    · rw [if_neg c11]
      by_cases c9 : 9 < K p
      · rw [if_pos c9]
        by_cases c3 : K p = 11 ∨ K p = 12 ∨ K p = 14
        · rw [if_pos c3, b_or, b_or, hb0, Bool.false_or, Bool.or_eq_true, by2, bx1]
          simp [c2, c11, c9, c3]
        · rw [if_neg c3, b_or, hb0, Bool.false_or, by2]
          simp [c2, c11, c9, c3]
      · rw [if_neg c9]
        have n3 : ¬ (K p = 11 ∨ K p = 12 ∨ K p = 14) := by
          intro h
          rcases h with h | h | h <;> rw [h] at c9 <;> exact absurd c9 (by decide)
        rw [if_neg n3, b_or, b_or, hb0, Bool.false_or, Bool.or_eq_true, by2, bz1]
        simp [c2, c11, c9, n3]
theorem b_Wr {K xa ya za : Nat → Int32} {n p k : Nat} (hF : zF K xa ya za n) (hp : p < n) (hk : k < 32) : bt (zWr (K p) (xa p)) k = true ↔ zwr K xa p k := by
  obtain ⟨_, ⟨x, hx, ex⟩, hy, ⟨z, hz, ez⟩⟩ := hF p hp
  unfold zWr zwr
  by_cases c : 10 < K p
  · rw [if_pos c, b_0]
    simp [c]
  · rw [if_neg c, ex, b_1m (by omega) hk, nIe (by omega) (by omega)]
    simp [c]
    exact eq_comm
theorem b_nt {x : Int32} {k : Nat} (hk : k < 32) : bt (x ^^^ (-1)) k = true ↔ ¬ bt x k = true := by
  rw [b_xor, b_m1 k hk]
  cases bt x k <;> decide
section LIV
variable {K xa ya za ja la ra wa va : Nat → Int32} {n : Nat}
def zKs (K xa ya za ja la ra wa : Nat → Int32) (n : Nat) : Prop := zS K n ∧ zT K n ja la ∧ zF K xa ya za n ∧ zM K xa ya za ra wa n
theorem b_af (h : zKs K xa ya za ja la ra wa n) {p k : Nat} (hp : p < n) : bt (zaf K ja va p) k = true ↔ ∃ g, bt (va (zx K n p g)) k = true := by
  obtain ⟨hS, hT, hF, hM⟩ := h
  have hn := hS.2.2
  have hx := zx_le hS hp true
  have hJ := (hT p hp).1
  unfold zaf
  rcases zJ_c hS hp with ⟨c1, c2, c3⟩ | ⟨c1, c2, c3⟩
  · rw [hJ, c2, if_neg (nI_pos (by omega)), if_pos c1, zcn (by omega), b_or, b_0, Bool.false_or]
    constructor
    · intro h; exact ⟨true, h⟩
    · intro ⟨g, h⟩
      cases g with
      | false => rw [c3] at h; exact h
      | true => exact h
  · rcases c3 with c3 | ⟨c3, c4⟩
    · rw [hJ, c3, if_neg (nI_pos (by omega)), if_neg c1, zcn (by omega), b_or, Bool.or_eq_true]
      constructor
      · intro h
        rcases h with h | h
        · exact ⟨false, by rw [c2]; exact h⟩
        · exact ⟨true, h⟩
      · intro ⟨g, h⟩
        cases g with
        | false => rw [c2] at h; exact Or.inl h
        | true => exact Or.inr h
    · rw [hJ, c3, if_pos (by decide), if_neg c1]
      constructor
      · intro h; exact ⟨false, by rw [c2]; exact h⟩
      · intro ⟨g, h⟩
        cases g with
        | false => rw [c2] at h; exact h
        | true => rw [c4] at h; exact h
theorem b_Fv (h : zKs K xa ya za ja la ra wa n) {p k : Nat} (hp : p < n) (hk : k < 32) : bt (zFv K ja ra wa va p) k = true ↔ zrd K xa ya za p k ∨ ((∃ g, bt (va (zx K n p g)) k = true) ∧ ¬ zwr K xa p k) := by
  have hM := h.2.2.2 p hp
  unfold zFv
  rw [b_or, b_and, Bool.or_eq_true, Bool.and_eq_true, b_nt hk, b_af h hp, hM.1, hM.2, b_Rd h.2.2.1 hp hk, b_Wr h.2.2.1 hp hk]
theorem zLV_8 (hF : zF K xa ya za n) {k p : Nat} (hk : k < 32) (h : zLV K xa ya za n k p) : k < 8 := by
  rcases Nat.lt_or_ge k 8 with h8 | h8
  · exact h8
  · exfalso
    refine h (fun _ => False) (fun q hq hr => ?_) (fun _ _ _ _ h => h)
    obtain ⟨_, ⟨x, hx, ex⟩, hy, ⟨z, hz, ez⟩⟩ := hF q hq
    rcases hr with ⟨h1, h2, h3⟩ | ⟨h1, h2, h3⟩ | ⟨h1, h3⟩
    · obtain ⟨y, hy8, ey⟩ := hy (fun e => h1 (by rw [e]; decide))
      rw [ey, nIe (by omega) (by omega)] at h3
      omega
    · rw [ez, nIe (by omega) (by omega)] at h3
      omega
    · rw [ex, nIe (by omega) (by omega)] at h3
      omega
theorem zLV_n {k p : Nat} (hp : ¬ p < n) : ¬ zLV K xa ya za n k p := fun h => hp (h (fun q => q < n) (fun q hq _ => hq) (fun q _ hq _ _ => hq))
theorem zLV_r {k p : Nat} (hp : p < n) (h : zrd K xa ya za p k) : zLV K xa ya za n k p := fun _ h1 _ => h1 p hp h
theorem zLV_s {k p : Nat} {g : Bool} (hp : p < n) (hw : ¬ zwr K xa p k) (h : zLV K xa ya za n k (zx K n p g)) : zLV K xa ya za n k p := fun S h1 h2 => h2 p g hp hw (h S h1 h2)
/-- between the sweeps' writes -/
def zIv (K xa ya za ja ra wa : Nat → Int32) (n : Nat) (va : Nat → Int32) : Prop := (∀ p, p ≤ n → ∀ k, k < 32 → bt (va p) k = true → zLV K xa ya za n k p) ∧ (∀ p, p < n → ∀ k, k < 32 → bt (va p) k = true → bt (zFv K ja ra wa va p) k = true)
def zct (va : Nat → Int32) (n : Nat) : Nat := zsum (fun p => zn (fun k => bt (va p) k) 8) n
theorem zn_lt {P Q : Nat → Bool} {q : Nat} : ∀ m : Nat, (∀ k, k < m → P k = true → Q k = true) → q < m → Q q = true → ¬ P q = true → zn P m < zn Q m := by
  have le : ∀ m : Nat, (∀ k, k < m → P k = true → Q k = true) → zn P m ≤ zn Q m := by
    intro m
    induction m with
    | zero => intro _; exact Nat.le_refl _
    | succ m ih =>
      intro h
      have h1 := ih (fun k hk => h k (by omega))
      rw [zn_s, zn_s]
      by_cases hp : P m = true
      · rw [if_pos hp, if_pos (h m (by omega) hp)]; omega
      · rw [if_neg hp]; omega
  intro m
  induction m with
  | zero => intro _ h; omega
  | succ m ih =>
    intro h hq h1 h2
    rw [zn_s, zn_s]
    by_cases e : q = m
    · subst e
      rw [if_pos h1, if_neg h2]
      have := le q (fun k hk => h k (by omega))
      omega
    · have h3 := ih (fun k hk => h k (by omega)) (by omega) h1 h2
      by_cases hp : P m = true
      · rw [if_pos hp, if_pos (h m (by omega) hp)]; omega
      · rw [if_neg hp]; omega
theorem zct_le : zct va n ≤ 8 * n := zsum_bd n (fun q _ => zn_le _ 8)
theorem zIv_u (h : zKs K xa ya za ja la ra wa n) (hI : zIv K xa ya za ja ra wa n va) {p : Nat} (hp : p < n) (hne : ¬ zFv K ja ra wa va p = va p) :
    zIv K xa ya za ja ra wa n (upd va p (zFv K ja ra wa va p)) ∧ zct va n < zct (upd va p (zFv K ja ra wa va p)) n := by
  have sub : ∀ q k, k < 32 → bt (va q) k = true → bt (upd va p (zFv K ja ra wa va p) q) k = true := by
    intro q k hk hb
    by_cases e : q = p
    · subst e
      rw [pk_us]
      exact hI.2 q hp k hk hb
    · rw [pk_un e]; exact hb
  have i1 : ∀ q, q ≤ n → ∀ k, k < 32 → bt (upd va p (zFv K ja ra wa va p) q) k = true → zLV K xa ya za n k q := by
    intro q hq k hk hb
    by_cases e : q = p
    · subst e
      rw [pk_us, b_Fv h hp hk] at hb
      rcases hb with hb | ⟨⟨g, hb⟩, hw⟩
      · exact zLV_r hp hb
      · exact zLV_s (g := g) hp hw (hI.1 _ (zx_le h.1 hp g) k hk hb)
    · rw [pk_un e] at hb
      exact hI.1 q hq k hk hb
  have mono : ∀ q, q < n → ∀ k, k < 32 → bt (zFv K ja ra wa va q) k = true → bt (zFv K ja ra wa (upd va p (zFv K ja ra wa va p)) q) k = true := by
    intro q hq k hk hb
    rw [b_Fv h hq hk] at hb ⊢
    rcases hb with hb | ⟨⟨g, hb⟩, hw⟩
    · exact Or.inl hb
    · exact Or.inr ⟨⟨g, sub _ k hk hb⟩, hw⟩
  refine ⟨⟨i1, fun q hq k hk hb => mono q hq k hk ?_⟩, ?_⟩
  · by_cases e : q = p
    · subst e
      rw [pk_us] at hb
      exact hb
    · rw [pk_un e] at hb
      exact hI.2 q hq k hk hb
  · have hex : ∃ k, k < 32 ∧ bt (zFv K ja ra wa va p) k = true ∧ ¬ bt (va p) k = true := by
      refine Classical.byContradiction (fun hno => hne ?_)
      apply b_ext
      intro k hk
      apply zbool
      constructor
      · intro hb
        exact Classical.byContradiction (fun h' => hno ⟨k, hk, hb, h'⟩)
      · intro hb
        exact hI.2 p hp k hk hb
    obtain ⟨k, hk, hb1, hb2⟩ := hex
    have hk8 : k < 8 := zLV_8 h.2.2.1 hk (i1 p (by omega) k hk (by rw [pk_us]; exact hb1))
    refine zsum_lt (p := p) n hp (fun q hq => ?_) ?_
    · by_cases e : q = p
      · refine Nat.le_of_lt ?_
        rw [e]
        exact zn_lt (q := k) 8 (fun k' hk' hb => sub p k' (by omega) hb) hk8 (by rw [pk_us]; exact hb1) hb2
      · rw [pk_un e]; exact Nat.le_refl _
    · exact zn_lt (q := k) 8 (fun k' hk' hb => sub p k' (by omega) hb) hk8 (by rw [pk_us]; exact hb1) hb2
theorem zIv_V (h : zKs K xa ya za ja la ra wa n) (hI : zIv K xa ya za ja ra wa n va) (hfix : ∀ p, p < n → zFv K ja ra wa va p = va p) : zV K xa ya za n va := by
  intro p hp k hk
  refine ⟨hI.1 p hp k hk, fun hL => ?_⟩
  refine hL (fun q => bt (va q) k = true) (fun q hq hr => ?_) (fun q g hq hw hs => ?_)
  · rw [← hfix q hq, b_Fv h hq hk]
    exact Or.inl hr
  · rw [← hfix q hq, b_Fv h hq hk]
    exact Or.inr ⟨⟨g, hs⟩, hw⟩
theorem zIv_0 (h0 : ∀ p, p < 33 → va p = 0) (hn : n ≤ 32) : zIv K xa ya za ja ra wa n va := by
  refine ⟨fun p hp k hk hb => ?_, fun p hp k hk hb => ?_⟩
  · rw [h0 p (by omega), b_0] at hb
    exact absurd hb (by decide)
  · rw [h0 p (by omega), b_0] at hb
    exact absurd hb (by decide)
end LIV
end
section
/-! seal -/
section SEA
variable {ii cc nn ss dd rr : Int32} {ka xa ya za ja la ra wa va oa ea ce be rc pc pa ca da sa ga ta ita sna : Nat → Int32}
theorem xla {post : Int32 → Prop} {p : Nat} (hp : p < 32) (hj : ja p < 0 ∨ ∃ t : Nat, t ≤ 32 ∧ ja p = nI t) (h : post (zaf ka ja va p)) : wpX_liveAfter post (ii, cc, nn, ss, dd, rr, ka, xa, ya, za, ja, la, ra, wa, va, oa, ea, ce, be, rc, pc, pa, ca, da, sa, ga, ta) (nI p) := by
  have i1 : vp_in (nI p) 32 := zvi hp (by omega)
  have k23 : ∀ z : Int32, post (if ja p < 0 then z else z ||| va (ja p).toNatClampNeg) → wX_liveAfter_23 post (nI p) z ii cc nn ss dd rr ka xa ya za ja la ra wa va oa ea ce be rc pc pa ca da sa ga ta := by
    intro z hz
    unfold wX_liveAfter_23
    rw [zcn (show p < 1000 by omega)]
    rcases hj with hj | ⟨t, ht, hj⟩
    · rw [if_pos hj] at hz
      exact And.intro i1 (br_t hj hz)
    · have hn : ¬ ja p < 0 := by rw [hj]; exact nI_pos (by omega)
      rw [if_neg hn] at hz
      refine And.intro i1 (br_f hn (And.intro i1 (And.intro ?_ (nm_e hz))))
      rw [hj]
      exact zvi (by omega) (by omega)
  unfold wpX_liveAfter
  dsimp only
  rw [zcn (show p < 1000 by omega), nI_1, zcn (show p + 1 < 1000 by omega)]
  unfold zaf at h
  refine And.intro i1 (br_c (fun e => k23 0 ?_) (fun e => And.intro (zvi (by omega) (by omega)) (k23 _ ?_)))
  · rw [if_pos e] at h
    exact h
  · rw [if_neg e] at h
    exact h
theorem zja {K ja la : Nat → Int32} {n p : Nat} (hS : zS K n) (hT : zT K n ja la) (hp : p < n) : ja p < 0 ∨ ∃ t : Nat, t ≤ 32 ∧ ja p = nI t := by
  have hn := hS.2.2
  have hx := zx_le hS hp true
  rw [(hT p hp).1]
  rcases zJ_c hS hp with ⟨c1, c2, c3⟩ | ⟨c1, c2, c3⟩
  · exact Or.inr ⟨_, by omega, c2⟩
  · rcases c3 with c3 | ⟨c3, c4⟩
    · exact Or.inr ⟨_, by omega, c3⟩
    · left
      rw [c3]; decide
theorem fl_in {post : SX → Prop} {n sw c0 : Nat} {J : Int32 → Int32 → (Nat → Int32) → (Nat → Int32) → (Nat → Int32) → (Nat → Int32) → (Nat → Int32) → (Nat → Int32) → (Nat → Int32) → (Nat → Int32) → (Nat → Int32) → (Nat → Int32) → (Nat → Int32) → (Nat → Int32) → (Nat → Int32) → (Nat → Int32) → (Nat → Int32) → (Nat → Int32) → (Nat → Int32) → (Nat → Int32) → (Nat → Int32) → (Nat → Int32) → (Nat → Int32) → Prop}
    (h : zKs ka xa ya za ja la ra wa n)
    (hJ : ∀ x1 va, zIv ka xa ya za ja ra wa n va → ((x1 = 0 ∧ ∀ p, p < n → zFv ka ja ra wa va p = va p) ∨ (x1 = 1 ∧ c0 < zct va n)) → J x1 (nI (sw + 1)) ka xa ya za ja la ra wa va oa ea ce be rc pc pa ca da sa ga ta) :
    ∀ (f i : Nat) (x1 : Int32) (va : Nat → Int32), i < f → i ≤ n → zIv ka xa ya za ja ra wa n va → ((x1 = 0 ∧ c0 = zct va n ∧ ∀ p, i ≤ p → p < n → zFv ka ja ra wa va p = va p) ∨ (x1 = 1 ∧ c0 < zct va n)) →
      wX_findLive_24 post J (nI sw) ii cc (nI n) ss dd rr f x1 (nI i + (-1)) ka xa ya za ja la ra wa va oa ea ce be rc pc pa ca da sa ga ta := by
  have hn := h.1.2.2
  intro f
  induction f with
  | zero => intro i x1 va h1; omega
  | succ f ih =>
    intro i x1 va h1 h2 hI hst
    cases i with
    | zero =>
      refine br_t (by decide) (nm_r (nI_1 sw) (hJ x1 va hI ?_))
      rcases hst with ⟨a, b, c⟩ | hst
      · exact Or.inl ⟨a, fun p hp => c p (by omega) hp⟩
      · exact Or.inr hst
    | succ i =>
      rw [pk_m1]
      unfold wX_findLive_24
      rw [zcn (show i < 1000 by omega)]
      have i1 : vp_in (nI i) 32 := zvi (by omega) (by omega)
      have i2 : vp_in (nI i) 33 := zvi (by omega) (by omega)
      refine br_f (nI_pos (by omega)) (And.intro i1 (xla (by omega) (zja h.1 h.2.1 (by omega)) (And.intro i1 (nm_r (show _ = zFv ka ja ra wa va i from rfl) (And.intro i2 (br_c (fun e => nm_e ?_) (fun e => And.intro i2 (nm_e (nm_e ?_)))))))))
      · refine ih i x1 va (by omega) (by omega) hI ?_
        rcases hst with ⟨a, b, c⟩ | hst
        · refine Or.inl ⟨a, b, fun p hp1 hp2 => ?_⟩
          by_cases e' : p = i
          · rw [e']; exact e
          · exact c p (by omega) hp2
        · exact Or.inr hst
      · have hu := zIv_u h hI (show i < n by omega) e
        refine ih i 1 (upd va i (zFv ka ja ra wa va i)) (by omega) (by omega) hu.1 (Or.inr ⟨rfl, ?_⟩)
        rcases hst with ⟨a, b, c⟩ | hst
        · omega
        · omega
theorem fl_out {post : SX → Prop} {n : Nat} (h : zKs ka xa ya za ja la ra wa n) (hp : ∀ va, zV ka xa ya za n va → post (ii, cc, (nI n), ss, dd, rr, ka, xa, ya, za, ja, la, ra, wa, va, oa, ea, ce, be, rc, pc, pa, ca, da, sa, ga, ta)) :
    ∀ (f sw : Nat) (x1 : Int32) (va : Nat → Int32), 257 - sw < f → sw ≤ 257 → zIv ka xa ya za ja ra wa n va → ((x1 = 0 ∧ ∀ p, p < n → zFv ka ja ra wa va p = va p) ∨ (x1 = 1 ∧ sw ≤ zct va n)) →
      wX_findLive_4 post ii cc (nI n) ss dd rr f x1 (nI sw) ka xa ya za ja la ra wa va oa ea ce be rc pc pa ca da sa ga ta := by
  have hn := h.1.2.2
  intro f
  induction f with
  | zero => intro sw x1 va h1; omega
  | succ f ih =>
    intro sw x1 va h1 h2 hI hst
    have hle := zct_le (va := va) (n := n)
    unfold wX_findLive_4
    rcases hst with ⟨a, b⟩ | ⟨a, b⟩
    · have hpo := hp va (zIv_V h hI b)
      exact br_c (fun _ => hpo) (fun _ => br_t a hpo)
    · refine br_f (nI_nlt (a := 256) (b := sw) (by omega) (by omega)) (br_f (by rw [a]; decide) ?_)
      refine nm_r (show nI n - 1 = nI n + (-1) from Int32.sub_eq_add_neg (nI n) 1) ⟨n + 1, ?_⟩
      refine fl_in (c0 := zct va n) h (fun x1' va' hI' hst' => ?_) (n + 1) n 0 va (by omega) (Nat.le_refl _) hI (Or.inl ⟨rfl, rfl, fun p h1 h2 => by omega⟩)
      refine ih (sw + 1) x1' va' (by omega) (by omega) hI' ?_
      rcases hst' with h' | h'
      · exact Or.inl h'
      · exact Or.inr ⟨h'.1, by omega⟩
theorem xfl {post : SX → Prop} {n : Nat} (h : zKs ka xa ya za ja la ra wa n) (h0 : ∀ p, p < 33 → va p = 0) (hp : ∀ va, zV ka xa ya za n va → post (ii, cc, (nI n), ss, dd, rr, ka, xa, ya, za, ja, la, ra, wa, va, oa, ea, ce, be, rc, pc, pa, ca, da, sa, ga, ta)) : wpX_findLive post (ii, cc, (nI n), ss, dd, rr, ka, xa, ya, za, ja, la, ra, wa, va, oa, ea, ce, be, rc, pc, pa, ca, da, sa, ga, ta) := by
  unfold wpX_findLive
  exact ⟨258, fl_out h hp 258 0 1 va (by omega) (by omega) (zIv_0 h0 h.1.2.2) (Or.inr ⟨rfl, by omega⟩)⟩
theorem i_vc_seal {k : Nat} {u : SX} {v : SY} (I : i_Rel k u v) (hk : k + 5 ≤ 2562) : wpX_seal (fun r u' => wpY_seal (fun r' v' => r' = r ∧ i_Rel (k + 5) u' v') v) u := by
  refine ze (P := fun u v => wpX_seal (fun r u' => wpY_seal (fun r' v' => r' = r ∧ i_Rel (k + 5) u' v') v) u) I ?_
  intro N C n ss dd rr ka xa ya za ja la ra wa va oa ea ce be rc pc pa ca da sa ga ta ita sna hN hK hS hB
  have R : i_Rel (k + 5) ((nI N), (nI C), (nI n), ss, dd, rr, ka, xa, ya, za, ja, la, ra, wa, va, oa, ea, ce, be, rc, pc, pa, ca, da, sa, ga, ta) ((nI N), (nI C), (nI n), ss, ka, xa, ya, za, ce, ita, be, rc, pc, sna) := zi hN hK hS hB
  have hn : n ≤ 32 := Nat.le_trans hK.1 hK.2.1
  have hlen := (hK.2.2.1.1 n (Nat.le_refl _)).1
  have hdd := hK.2.2.2.2.2.2.1
  unfold wpX_seal
  dsimp only
  refine br_c (fun e => ?_) (fun e => br_f e ⟨rfl, R⟩)
  have hv0 : ∀ p, p < 33 → va p = 0 := by
    rcases hS with h | h
    · exact h.2
    · rw [e] at h
      exact absurd h.1 (by decide)
  have hb1 : be 1 = 0 := Classical.byContradiction (fun h => by
    have := (hB.1 h).1
    rw [e] at this
    exact absurd this (by decide))
  have hb2 : be 2 = 0 := Classical.byContradiction (fun h => by
    have := (hB.2 h).1
    rw [e] at this
    exact absurd this (by decide))
  by_cases hz : zk ka n = []
  · have hd0 : dd ≤ 0 := by
      rw [hdd, hz]
      decide
    refine br_t hd0 (xfl (la := la) ⟨⟨hK.2.2.1, hz, hn⟩, hK.2.2.2.1, hK.2.2.2.2.1, hK.2.2.2.2.2.1⟩ hv0 (fun va' hV => ?_))
    refine br_t e (yo (by omega) ?_)
    rw [hz]
    exact br_t (by decide) ⟨rfl, zi hN hK (Or.inr ⟨rfl, hz, hV⟩) ⟨fun h => absurd hb1 h, fun h => absurd hb2 h⟩⟩
  · obtain ⟨o, ho, ho1, ho2, ho3⟩ := zk_ne hz
    have hd0 : ¬ dd ≤ 0 := by
      rw [hdd]
      refine nI_nle ?_ (by omega)
      rw [ho]
      exact Nat.zero_lt_succ _
    refine br_f hd0 (br_t e (yo (by omega) ?_))
    rw [ho]
    exact br_f (nI_pos (n := o) (by omega)) ⟨rfl, R⟩
end SEA
end
section
/-! Y's path search -/
section CAR
variable {ii cc nn ss dd rr : Int32} {ka xa ya za ja la ra wa va oa ea ce be rc pc pa ca da sa ga ta ita sna : Nat → Int32}
theorem yrd {post : Int32 → Prop} {p k : Nat} (hp : p < 32) (h1 : zrd ka xa ya za p k → post 1) (h0 : ¬ zrd ka xa ya za p k → post 0) : wpY_reads post (ii, cc, nn, ss, ka, xa, ya, za, ce, ita, be, rc, pc, sna) (nI p) (nI k) := by
  have i1 : vp_in (nI p) 32 := zvi hp (by omega)
  have k66 : (¬ (¬ ka p < 2 ∧ ¬ 11 < ka p ∧ ya p = nI k)) → (¬ ((ka p = 11 ∨ ka p = 12 ∨ ka p = 14) ∧ xa p = nI k)) → wY_reads_66 post (nI p) (nI k) (ka p) ii cc nn ss ka xa ya za ce ita be rc pc sna := by
    intro n1 n3
    unfold wY_reads_66
    rw [zcn (show p < 1000 by omega)]
    refine br_c (fun c2 => h0 (fun h => h.elim n1 (fun h => h.elim (fun h => h.1 c2) n3))) (fun c2 => br_c (fun c9 => h0 (fun h => h.elim n1 (fun h => h.elim (fun h => h.2.1 c9) n3))) (fun c9 => And.intro i1 (br_c (fun e => h1 (Or.inr (Or.inl ⟨c2, c9, e⟩))) (fun e => h0 (fun h => h.elim n1 (fun h => h.elim (fun h => e h.2.2) n3))))))
  have k43 : (¬ ((ka p = 11 ∨ ka p = 12 ∨ ka p = 14) ∧ xa p = nI k)) → wY_reads_43 post (nI p) (nI k) (ka p) ii cc nn ss ka xa ya za ce ita be rc pc sna := by
    intro n3
    unfold wY_reads_43
    rw [zcn (show p < 1000 by omega)]
    exact br_c (fun c2 => k66 (fun h => h.1 c2) n3) (fun c2 => br_c (fun c11 => k66 (fun h => h.2.1 c11) n3) (fun c11 => And.intro i1 (br_c (fun e => h1 (Or.inl ⟨c2, c11, e⟩)) (fun e => k66 (fun h => e h.2.2) n3))))
  unfold wpY_reads
  dsimp only
  rw [zcn (show p < 1000 by omega)]
  refine And.intro i1 (nm_e (br_c (fun c11 => k43 (fun h => ?_)) (fun c11 => And.intro i1 (br_c (fun e => ?_) (fun e => k43 (fun h => e h.2))))))
  · rcases h.1 with h | h | h <;> rw [h] at c11 <;> exact absurd c11 (by decide)
  · exact br_c (fun e1 => h1 (Or.inr (Or.inr ⟨Or.inl e1, e⟩))) (fun e1 => br_c (fun e2 => h1 (Or.inr (Or.inr ⟨Or.inr (Or.inl e2), e⟩))) (fun e2 => br_c (fun e3 => h1 (Or.inr (Or.inr ⟨Or.inr (Or.inr e3), e⟩))) (fun e3 => k43 (fun h => h.1.elim e1 (fun h => h.elim e2 e3)))))
def zcl2 (K xa ya za : Nat → Int32) (n k : Nat) (sna : Nat → Int32) : Prop := ∀ p, p < n → ¬ sna p = 0 → ¬ zrd K xa ya za p k ∧ (¬ zwr K xa p k → ∀ g, ¬ sna (zx K n p g) = 0)
def zun (sna : Nat → Int32) (n : Nat) : Nat := zn (fun p => decide (sna p = 0)) n
def zZ (K xa ya za : Nat → Int32) (n k st : Nat) (sna : Nat → Int32) : Prop := (∀ t, t < 34 → ¬ sna t = 0 → zLV K xa ya za n k t → zLV K xa ya za n k st) ∧ ¬ sna st = 0
/-- within a round, places below p dealt with -/
def zRo (K xa ya za : Nat → Int32) (n k r u0 p : Nat) (sna : Nat → Int32) : Prop :=
  zcl2 K xa ya za n k sna ∨ (u0 + r + 1 ≤ n ∧ (zun sna n < u0 ∨ (zun sna n = u0 ∧ ∀ q, q < p → ¬ sna q = 0 → ¬ zrd K xa ya za q k ∧ (¬ zwr K xa q k → ∀ g, ¬ sna (zx K n q g) = 0))))
theorem zun_le {sna sna' : Nat → Int32} {n : Nat} (h : ∀ t, ¬ sna t = 0 → ¬ sna' t = 0) : zun sna' n ≤ zun sna n ∧ (zun sna' n = zun sna n → ∀ q, q < n → ¬ sna' q = 0 → ¬ sna q = 0) := by
  have hs : ∀ k, k < n → decide (sna' k = 0) = true → decide (sna k = 0) = true := by
    intro k _ hk
    have := of_decide_eq_true hk
    exact decide_eq_true (Classical.byContradiction (fun h' => h k h' this))
  have hlt : ∀ q, q < n → ¬ sna' q = 0 → sna q = 0 → zun sna' n < zun sna n := fun q hq h1 h2 => zn_lt (q := q) n hs hq (decide_eq_true h2) (fun h => h1 (of_decide_eq_true h))
  refine ⟨?_, fun e q hq h1 h2 => ?_⟩
  · by_cases hex : ∃ q, q < n ∧ ¬ sna' q = 0 ∧ sna q = 0
    · obtain ⟨q, h1, h2, h3⟩ := hex
      exact Nat.le_of_lt (hlt q h1 h2 h3)
    · refine Nat.le_of_eq (zn_cg n (fun i hi => ?_))
      by_cases h1 : sna i = 0
      · have : sna' i = 0 := Classical.byContradiction (fun h' => hex ⟨i, hi, h', h1⟩)
        rw [decide_eq_true h1, decide_eq_true this]
      · rw [decide_eq_false h1, decide_eq_false (h i h1)]
  · have := hlt q hq h1 h2
    omega
theorem zmk {f : Nat → Int32} {a b : Nat} : (∀ t, ¬ f t = 0 → ¬ upd (upd f a (vp_nar .boolean 1)) b (vp_nar .boolean 1) t = 0) ∧ ¬ upd (upd f a (vp_nar .boolean 1)) b (vp_nar .boolean 1) a = 0 ∧ ¬ upd (upd f a (vp_nar .boolean 1)) b (vp_nar .boolean 1) b = 0 ∧ (∀ t, ¬ upd (upd f a (vp_nar .boolean 1)) b (vp_nar .boolean 1) t = 0 → t = a ∨ t = b ∨ ¬ f t = 0) := by
  rw [zvb1]
  have h1 : ¬ (1 : Int32) = 0 := by decide
  have hv : ∀ t, upd (upd f a 1) b 1 t = if t = b then 1 else if t = a then 1 else f t := fun t => rfl
  refine ⟨fun t ht => ?_, ?_, ?_, fun t ht => ?_⟩
  · rw [hv]
    split
    · exact h1
    · split
      · exact h1
      · exact ht
  · rw [hv, if_pos (c := a = a) rfl]
    split <;> exact h1
  · rw [hv, if_pos rfl]; exact h1
  · rw [hv] at ht
    by_cases e1 : t = b
    · exact Or.inr (Or.inl e1)
    · by_cases e2 : t = a
      · exact Or.inl e2
      · rw [if_neg e1, if_neg e2] at ht
        exact Or.inr (Or.inr ht)
theorem zRo_m {n k st r u0 p : Nat} (hS : zS ka n) (hZ : zZ ka xa ya za n k st sna) (hR : zRo ka xa ya za n k r u0 p sna) (hp : p < n) (hs : ¬ sna p = 0) (hr : ¬ zrd ka xa ya za p k) (hw : ¬ zwr ka xa p k) :
    zZ ka xa ya za n k st (upd (upd sna (zx ka n p false) (vp_nar .boolean 1)) (zx ka n p true) (vp_nar .boolean 1)) ∧ zRo ka xa ya za n k r u0 (p + 1) (upd (upd sna (zx ka n p false) (vp_nar .boolean 1)) (zx ka n p true) (vp_nar .boolean 1)) := by
  have hn := hS.2.2
  obtain ⟨m1, m2, m3, m4⟩ := zmk (f := sna) (a := zx ka n p false) (b := zx ka n p true)
  generalize upd (upd sna (zx ka n p false) (vp_nar .boolean 1)) (zx ka n p true) (vp_nar .boolean 1) = sna' at m1 m2 m3 m4
  have mg : ∀ g, ¬ sna' (zx ka n p g) = 0 := fun g => by cases g <;> assumption
  refine ⟨⟨fun t ht h hL => ?_, m1 st hZ.2⟩, ?_⟩
  · rcases m4 t h with e | e | e
    · rw [e] at hL
      exact hZ.1 p (by omega) hs (zLV_s hp hw hL)
    · rw [e] at hL
      exact hZ.1 p (by omega) hs (zLV_s hp hw hL)
    · exact hZ.1 t ht e hL
  · rcases hR with hC | ⟨hu, hR⟩
    · left
      intro q hq hsq
      have hsq' : ¬ sna q = 0 := by
        rcases m4 q hsq with e | e | e
        · rw [e]; exact (hC p hp hs).2 hw false
        · rw [e]; exact (hC p hp hs).2 hw true
        · exact e
      exact ⟨(hC q hq hsq').1, fun h g => m1 _ ((hC q hq hsq').2 h g)⟩
    · right
      refine ⟨hu, ?_⟩
      obtain ⟨l1, l2⟩ := zun_le (n := n) m1
      rcases hR with hR | ⟨hR1, hR2⟩
      · exact Or.inl (by omega)
      · by_cases e : zun sna' n = zun sna n
        · refine Or.inr ⟨by omega, fun q hq hsq => ?_⟩
          have hsq' := l2 e q (by omega) hsq
          by_cases eq : q = p
          · rw [eq]; exact ⟨hr, fun _ => mg⟩
          · have := hR2 q (by omega) hsq'
            exact ⟨this.1, fun h g => m1 _ (this.2 h g)⟩
        · exact Or.inl (by omega)
theorem zRo_s {n k r u0 p : Nat} (hR : zRo ka xa ya za n k r u0 p sna) (h : ¬ sna p = 0 → ¬ zrd ka xa ya za p k ∧ zwr ka xa p k) : zRo ka xa ya za n k r u0 (p + 1) sna := by
  rcases hR with hC | ⟨hu, hR⟩
  · exact Or.inl hC
  · refine Or.inr ⟨hu, ?_⟩
    rcases hR with hR | ⟨hR1, hR2⟩
    · exact Or.inl hR
    · refine Or.inr ⟨hR1, fun q hq hsq => ?_⟩
      by_cases eq : q = p
      · subst eq
        exact ⟨(h hsq).1, fun hw => absurd (h hsq).2 hw⟩
      · exact hR2 q (by omega) hsq
section SRCH
variable {post : Int32 → SY → Prop} {n k st : Nat}
theorem yic_in {r u0 : Nat} {J : Int32 → (Nat → Int32) → (Nat → Int32) → (Nat → Int32) → (Nat → Int32) → (Nat → Int32) → (Nat → Int32) → (Nat → Int32) → (Nat → Int32) → (Nat → Int32) → (Nat → Int32) → Prop} (hS : zS ka n) (h1 : zLV ka xa ya za n k st → ∀ sna, post 1 (ii, cc, (nI n), ss, ka, xa, ya, za, ce, ita, be, rc, pc, sna))
    (hJ : ∀ sna, zZ ka xa ya za n k st sna → zRo ka xa ya za n k r u0 n sna → J (nI (r + 1)) ka xa ya za ce ita be rc pc sna) :
    ∀ (f p : Nat) (sna : Nat → Int32), n - p < f → p ≤ n → zZ ka xa ya za n k st sna → zRo ka xa ya za n k r u0 p sna → wY_isCarried_45 post J (nI k) (nI r) ii cc (nI n) ss f (nI p) ka xa ya za ce ita be rc pc sna := by
  have hn := hS.2.2
  intro f
  induction f with
  | zero => intro p sna h; omega
  | succ f ih =>
    intro p sna hf hp hZ hR
    unfold wY_isCarried_45
    by_cases e : p = n
    · subst e
      exact br_t (nI_le (Nat.le_refl _) (by omega)) (nm_r (nI_1 r) (hJ sna hZ hR))
    · refine br_f (nI_ge (by omega) (by omega)) ?_
      rw [zcn (show p < 1000 by omega)]
      have i1 : vp_in (nI p) 32 := zvi (by omega) (by omega)
      have i2 : vp_in (nI p) 34 := zvi (by omega) (by omega)
      refine And.intro i2 (br_c (fun es => ?_) (fun es => ?_))
      · unfold wY_isCarried_76
        rw [zcn (show p < 1000 by omega)]
        exact And.intro i2 (br_t es (nm_r (nI_1 p) (ih (p + 1) sna (by omega) (by omega) hZ (zRo_s hR (fun h => absurd es h)))))
      · refine yrd (by omega) (fun hr => br_f (by decide) (h1 (hZ.1 p (by omega) es (zLV_r (by omega) hr)) sna)) (fun hr => br_t rfl ?_)
        have k109 : ¬ zwr ka xa p k → wY_isCarried_109 post J (wY_isCarried_45 post J (nI k) (nI r) ii cc (nI n) ss f) (nI k) (nI r) (nI p) ii cc (nI n) ss ka xa ya za ce ita be rc pc sna := by
          intro hw
          have hm := zRo_m hS hZ hR (by omega) es hr hw
          have x1 := zx_le hS (show p < n by omega) false
          have x2 := zx_le hS (show p < n by omega) true
          unfold wY_isCarried_109
          refine yn (j := false) hS (by omega) (yn (j := true) hS (by omega) ?_)
          rw [zcn (show zx ka n p false < 1000 by omega), zcn (show zx ka n p true < 1000 by omega)]
          exact And.intro (zvi (by omega) (by omega)) (nm_e (And.intro (zvi (by omega) (by omega)) (nm_e (nm_r (nI_1 p) (ih (p + 1) _ (by omega) (by omega) hm.1 hm.2)))))
        unfold wY_isCarried_76
        rw [zcn (show p < 1000 by omega)]
        refine And.intro i2 (br_f es (And.intro i1 (br_c (fun h10 => k109 (fun h => h.1 h10)) (fun h10 => And.intro i1 (br_c (fun ex => nm_r (nI_1 p) ?_) (fun ex => k109 (fun h => ex h.2)))))))
        exact ih (p + 1) sna (by omega) (by omega) hZ (zRo_s hR (fun _ => ⟨hr, h10, ex⟩))
theorem yic_out (hS : zS ka n) (h1 : zLV ka xa ya za n k st → ∀ sna, post 1 (ii, cc, (nI n), ss, ka, xa, ya, za, ce, ita, be, rc, pc, sna)) (h0 : ¬ zLV ka xa ya za n k st → ∀ sna, post 0 (ii, cc, (nI n), ss, ka, xa, ya, za, ce, ita, be, rc, pc, sna)) :
    ∀ (f r : Nat) (sna : Nat → Int32), n - r < f → r ≤ n → zZ ka xa ya za n k st sna → (zcl2 ka xa ya za n k sna ∨ zun sna n + r + 1 ≤ n) → wY_isCarried_34 post (nI k) ii cc (nI n) ss f (nI r) ka xa ya za ce ita be rc pc sna := by
  have hn := hS.2.2
  intro f
  induction f with
  | zero => intro r sna h; omega
  | succ f ih =>
    intro r sna hf hr hZ hC
    unfold wY_isCarried_34
    by_cases e : r = n
    · have hC' : zcl2 ka xa ya za n k sna := hC.elim id (fun h => by omega)
      rw [e]
      refine br_t (nI_le (Nat.le_refl _) (by omega)) (h0 (fun hL => ?_) sna)
      exact hL (fun t => sna t = 0) (fun q hq hrd => Classical.byContradiction (fun hs => (hC' q hq hs).1 hrd)) (fun q g hq hw hs => Classical.byContradiction (fun hs' => (hC' q hq hs').2 hw g hs)) |> hZ.2
    · refine br_f (nI_ge (by omega) (by omega)) ⟨n + 1, ?_⟩
      refine yic_in (u0 := zun sna n) hS h1 (fun sna' hZ' hR' => ?_) (n + 1) 0 sna (by omega) (by omega) hZ ?_
      · refine ih (r + 1) sna' (by omega) (by omega) hZ' ?_
        rcases hR' with h | ⟨h, h' | ⟨_, h'⟩⟩
        · exact Or.inl h
        · exact Or.inr (by omega)
        · exact Or.inl (fun p hp hs => h' p hp hs)
      · rcases hC with h | h
        · exact Or.inl h
        · exact Or.inr ⟨by omega, Or.inr ⟨rfl, fun q hq => by omega⟩⟩
theorem yic {b : Nat} (hS : zS ka n) (hb : b < n) (h1 : zLV ka xa ya za n k (b + 1) → ∀ sna, post 1 (ii, cc, (nI n), ss, ka, xa, ya, za, ce, ita, be, rc, pc, sna)) (h0 : ¬ zLV ka xa ya za n k (b + 1) → ∀ sna, post 0 (ii, cc, (nI n), ss, ka, xa, ya, za, ce, ita, be, rc, pc, sna)) : wpY_isCarried post (ii, cc, (nI n), ss, ka, xa, ya, za, ce, ita, be, rc, pc, sna) (nI b) (nI k) := by
  have hn := hS.2.2
  have key : ∀ (f i : Nat) (sna : Nat → Int32), 34 - i < f → i ≤ 34 → (∀ t, t < i → (¬ sna t = 0 ↔ t = b + 1)) → wY_isCarried_2 post (nI b) (nI k) ii cc (nI n) ss f (nI i) ka xa ya za ce ita be rc pc sna := by
    intro f
    induction f with
    | zero => intro i sna h; omega
    | succ f ih =>
      intro i sna hf hi hst
      unfold wY_isCarried_2
      by_cases e : i = 34
      · subst e
        refine br_t (by decide) ⟨n + 1, yic_out hS h1 h0 (n + 1) 0 sna (by omega) (by omega) ⟨fun t ht hs hL => ?_, (hst (b + 1) (by omega)).mpr rfl⟩ ?_⟩
        · rw [(hst t ht).mp hs] at hL; exact hL
        · by_cases hbn : b + 1 < n
          · right
            have : zun sna n < zn (fun _ => true) n := zn_lt (q := b + 1) n (fun _ _ _ => rfl) hbn rfl (fun h => (hst (b + 1) (by omega)).mpr rfl (of_decide_eq_true h))
            have := zn_le (fun _ => true) n
            omega
          · left
            intro p hp hs
            have := (hst p (by omega)).mp hs
            omega
      · refine br_f (nI_ge (a := i) (b := 34) (by omega) (by omega)) ?_
        rw [zcn (show i < 1000 by omega), nI_1 b]
        have i2 : vp_in (nI i) 34 := zvi (by omega) (by omega)
        refine br_c (fun eb => And.intro i2 (nm_e (nm_r (nI_1 i) (ih (i + 1) _ (by omega) (by omega) (fun t ht => ?_))))) (fun eb => And.intro i2 (nm_e (nm_r (nI_1 i) (ih (i + 1) _ (by omega) (by omega) (fun t ht => ?_)))))
        · have eb' := (nIe (by omega) (by omega)).mp eb
          by_cases et : t = i
          · rw [et, pk_us, zvb1]
            exact ⟨fun _ => eb', fun _ => by decide⟩
          · rw [pk_un et]
            exact hst t (by omega)
        · have eb' : ¬ i = b + 1 := fun h => eb (by rw [h])
          by_cases et : t = i
          · rw [et, pk_us, zvb0]
            exact ⟨fun h => absurd rfl h, fun h => absurd h eb'⟩
          · rw [pk_un et]
            exact hst t (by omega)
  unfold wpY_isCarried
  exact ⟨35, key 35 0 sna (by omega) (by omega) (fun t ht => absurd ht (by omega))⟩
end SRCH
end CAR
end
section
/-! carried, disturb -/
section DIS
variable {ii cc nn ss dd rr : Int32} {ka xa ya za ja la ra wa va oa ea ce be rc pc pa ca da sa ga ta ita sna : Nat → Int32}
theorem xbar1 {post : Int32 → Prop} {n p : Nat} (hn : n ≤ 32) (hp : p < n) (h16 : ka p = 16) (h : post 1) : wpX_isBarrier post (ii, cc, (nI n), ss, dd, rr, ka, xa, ya, za, ja, la, ra, wa, va, oa, ea, ce, be, rc, pc, pa, ca, da, sa, ga, ta) (nI p) := by
  unfold wpX_isBarrier
  dsimp only
  rw [zcn (show p < 1000 by omega)]
  exact br_f (nI_pos (by omega)) (br_f (nI_ge hp (by omega)) (And.intro (zvi (by omega) (by omega)) (br_t h16 h)))
theorem xbar0 {post : Int32 → Prop} {n : Nat} {p0 : Int32} (hn : n ≤ 32) (h0 : ∀ p : Nat, p0 = nI p → p < n → ¬ ka p = 16) (h : post 0) : wpX_isBarrier post (ii, cc, (nI n), ss, dd, rr, ka, xa, ya, za, ja, la, ra, wa, va, oa, ea, ce, be, rc, pc, pa, ca, da, sa, ga, ta) p0 := by
  unfold wpX_isBarrier
  dsimp only
  refine br_c (fun _ => h) (fun hpos => br_c (fun _ => h) (fun hlt => ?_))
  obtain ⟨p, hp, rfl⟩ := zin hpos (Int32.not_le.mp hlt) hn (by omega)
  rw [zcn (show p < 1000 by omega)]
  exact And.intro (zvi (by omega) (by omega)) (br_f (h0 p rfl hp) h)
theorem b_tst {m : Int32} {k : Nat} (hk : k < 32) : (m >>> (nI k &&& 31)) &&& 1 = 0 ↔ ¬ bt m k = true := by
  have e0 : bt ((m >>> (nI k &&& 31)) &&& 1) 0 = bt m k := by
    rw [b_and, b_sshr k hk m (by omega), if_pos (by omega), b_1 (by omega)]
    simp
  constructor
  · intro h hb
    rw [h, b_0] at e0
    rw [hb] at e0
    exact absurd e0 (by decide)
  · intro h
    apply b_ext
    intro i hi
    rw [b_0]
    by_cases ei : i = 0
    · rw [ei, e0]
      cases e : bt m k with
      | false => rfl
      | true => exact absurd e h
    · rw [b_and, b_1 hi, decide_eq_false ei, Bool.and_false]
theorem i_vc_carried {k : Nat} {u : SX} {v : SY} (I : i_Rel k u v) (hk : k + 5 ≤ 2562) (v1 : Int32) : wpX_carried (fun r => wpY_carried (fun r' v' => r' = r ∧ i_Rel (k + 5) u v') v v1) u v1 := by
  refine ze (P := fun u v => wpX_carried (fun r => wpY_carried (fun r' v' => r' = r ∧ i_Rel (k + 5) u v') v v1) u v1) I ?_
  intro N C n ss dd rr ka xa ya za ja la ra wa va oa ea ce be rc pc pa ca da sa ga ta ita sna hN hK hS hB
  have R : ∀ sna, i_Rel (k + 5) ((nI N), (nI C), (nI n), ss, dd, rr, ka, xa, ya, za, ja, la, ra, wa, va, oa, ea, ce, be, rc, pc, pa, ca, da, sa, ga, ta) ((nI N), (nI C), (nI n), ss, ka, xa, ya, za, ce, ita, be, rc, pc, sna) := fun sna => zi hN hK hS hB
  have hn : n ≤ 32 := Nat.le_trans hK.1 hK.2.1
  unfold wpX_carried
  dsimp only
  refine br_c (fun e => br_t e ⟨rfl, R _⟩) (fun e => ?_)
  have hV := zse1 hS (zss hS e)
  by_cases hbar : ∃ p : Nat, v1 = nI p ∧ p < n ∧ ka p = 16
  · obtain ⟨p, rfl, hp, h16⟩ := hbar
    refine xbar1 hn hp h16 (br_f (by decide) ?_)
    rw [nI_1, zcn (show p + 1 < 1000 by omega)]
    refine And.intro (zvi (by omega) (by omega)) ?_
    refine br_f e (br_f (nI_pos (by omega)) (br_f (nI_ge hp (by omega)) ?_))
    rw [zcn (show p < 1000 by omega)]
    refine And.intro (zvi (by omega) (by omega)) (br_t h16 ⟨9, ?_⟩)
    have key : ∀ (f i : Nat) (x2 : Int32) (sna : Nat → Int32), 8 - i < f → i ≤ 8 → (∀ t, t < 32 → (bt x2 t = true ↔ t < i ∧ zLV ka xa ya za n t (p + 1))) →
        wY_carried_40 (fun r' v' => r' = va (p + 1) ∧ i_Rel (k + 5) ((nI N), (nI C), (nI n), ss, dd, rr, ka, xa, ya, za, ja, la, ra, wa, va, oa, ea, ce, be, rc, pc, pa, ca, da, sa, ga, ta) v') (nI p) f x2 (nI i) (nI N) (nI C) (nI n) ss ka xa ya za ce ita be rc pc sna := by
      intro f
      induction f with
      | zero => intro i x2 sna h; omega
      | succ f ih =>
        intro i x2 sna hf hi hb
        unfold wY_carried_40
        by_cases e8 : i = 8
        · subst e8
          refine br_t (by decide) ⟨?_, R _⟩
          apply b_ext
          intro t ht
          apply zbool
          rw [hb t ht, hV.2 (p + 1) (by omega) t ht]
          exact ⟨fun h => h.2, fun h => ⟨zLV_8 hK.2.2.2.2.1 ht h, h⟩⟩
        · refine br_f (nI_ge (a := i) (b := 8) (by omega) (by omega)) (yic ⟨hK.2.2.1, hV.1, hn⟩ hp (fun hL sna' => ?_) (fun hL sna' => ?_))
          · refine br_f (by decide) (nm_r (show _ = x2 ||| zb1m (nI i) from rfl) (nm_r (nI_1 i) (ih (i + 1) _ sna' (by omega) (by omega) (fun t ht => ?_))))
            rw [b_or, Bool.or_eq_true, hb t ht, b_1m (by omega) ht]
            constructor
            · intro h
              rcases h with h | h
              · exact ⟨by omega, h.2⟩
              · rw [h]; exact ⟨by omega, hL⟩
            · intro h
              by_cases et : t = i
              · exact Or.inr et
              · exact Or.inl ⟨by omega, h.2⟩
          · refine br_t rfl (nm_r (nI_1 i) (ih (i + 1) x2 sna' (by omega) (by omega) (fun t ht => ?_)))
            rw [hb t ht]
            constructor
            · intro h; exact ⟨by omega, h.2⟩
            · intro h
              by_cases et : t = i
              · rw [et] at h; exact absurd h.2 hL
              · exact ⟨by omega, h.2⟩
    refine key 9 0 0 sna (by omega) (by omega) (fun t ht => ?_)
    rw [b_0]
    constructor
    · intro h; exact absurd h (by decide)
    · intro h; omega
  · refine xbar0 hn (fun p hp1 hp2 h16 => hbar ⟨p, hp1, hp2, h16⟩) (br_t rfl ?_)
    refine br_f e (br_c (fun _ => ⟨rfl, R _⟩) (fun hpos => br_c (fun _ => ⟨rfl, R _⟩) (fun hlt => ?_)))
    obtain ⟨p, hp, rfl⟩ := zin hpos (Int32.not_le.mp hlt) hn (by omega)
    rw [zcn (show p < 1000 by omega)]
    exact And.intro (zvi (by omega) (by omega)) (br_f (fun h16 => hbar ⟨p, rfl, hp, h16⟩) ⟨rfl, R _⟩)
theorem i_vc_disturb {k : Nat} {u : SX} {v : SY} (I : i_Rel k u v) (hk : k + 5 ≤ 2562) (v1 : Int32) (v2 : Int32) (v3 : Int32) : wpX_disturb (fun r u' => wpY_disturb (fun r' v' => r' = r ∧ i_Rel (k + 5) u' v') v v1 v2 v3) u v1 v2 v3 := by
  refine ze (P := fun u v => wpX_disturb (fun r u' => wpY_disturb (fun r' v' => r' = r ∧ i_Rel (k + 5) u' v') v v1 v2 v3) u v1 v2 v3) I ?_
  intro N C n ss dd rr ka xa ya za ja la ra wa va oa ea ce be rc pc pa ca da sa ga ta ita sna hN hK hS hB
  have R : ∀ sna, i_Rel (k + 5) ((nI N), (nI C), (nI n), ss, dd, rr, ka, xa, ya, za, ja, la, ra, wa, va, oa, ea, ce, be, rc, pc, pa, ca, da, sa, ga, ta) ((nI N), (nI C), (nI n), ss, ka, xa, ya, za, ce, ita, be, rc, pc, sna) := fun sna => zi hN hK hS hB
  have hn : n ≤ 32 := Nat.le_trans hK.1 hK.2.1
  unfold wpX_disturb
  dsimp only
  by_cases b2 : be 2 = 0
  · exact xir0 b2 (br_f (by decide) (br_t b2 ⟨rfl, R _⟩))
  by_cases h0 : v1 < 0
  · exact xir1 b2 h0 (br_f (by decide) (br_f b2 (br_t h0 ⟨rfl, R _⟩)))
  by_cases h1 : v1 < nI N
  · obtain ⟨j, hj, rfl⟩ := zin h0 h1 hN.2 (by omega)
    have hN8 := hN.2
    refine xir3 b2 h0 h1 (br_t rfl ?_)
    obtain ⟨e1, hD, hG⟩ := hB.2 b2
    have hV := zse1 hS e1
    obtain ⟨g1, g2, g3, _⟩ := zPl_e hD hn hj
    unfold wpX_isVariable
    dsimp only
    by_cases c0 : v2 < 0
    · exact br_t c0 (br_t rfl (br_f b2 (br_f h0 (br_t h1 (br_t c0 ⟨rfl, R _⟩)))))
    by_cases c7 : 7 < v2
    · exact br_f c0 (br_t c7 (br_t rfl (br_f b2 (br_f h0 (br_t h1 (br_f c0 (br_f (Int32.not_le.mpr c7) ⟨rfl, R _⟩)))))))
    have c7' : v2 ≤ 7 := Int32.not_lt.mp c7
    obtain ⟨w, hw, rfl⟩ := nI_of2 (n := 7) rfl c0 c7'
    refine br_f c0 (br_f c7 (br_f (by decide) ?_))
    rw [show (16 : Int32) + nI j = nI (16 + j) from nI_add 16 j, zcn (show 16 + j < 1000 by omega), show nI j * 8 = nI (j * 8) from pk_mul j 8, show (8 : Int32) + nI (j * 8) = nI (8 + j * 8) from nI_add 8 (j * 8), nI_add, zcn (show 8 + j * 8 + w < 1000 by omega)]
    refine And.intro (zvi (by omega) (by omega)) (nm_r (e' := nI (zPl pa 2 j)) g1 ?_)
    have hY : ∀ {post : Int32 → SY → Prop}, (¬ (zPl pa 2 j < n ∧ ka (zPl pa 2 j) = 16) → post (-13) ((nI N), (nI C), (nI n), ss, ka, xa, ya, za, ce, ita, be, rc, pc, sna)) → (zPl pa 2 j < n ∧ ka (zPl pa 2 j) = 16 → zLV ka xa ya za n w (zPl pa 2 j + 1) → ∀ sna, post (-14) ((nI N), (nI C), (nI n), ss, ka, xa, ya, za, ce, ita, be, rc, pc, sna)) →
        (zPl pa 2 j < n ∧ ka (zPl pa 2 j) = 16 → ¬ zLV ka xa ya za n w (zPl pa 2 j + 1) → ∀ sna, post 0 ((nI N), (nI C), (nI n), ss, ka, xa, ya, za, ce, (upd ita (208 + j * 13 + w) v3), be, rc, pc, sna)) → wpY_disturb post ((nI N), (nI C), (nI n), ss, ka, xa, ya, za, ce, ita, be, rc, pc, sna) (nI j) (nI w) v3 := by
      intro post p1 p2 p3
      refine br_f b2 (br_f h0 (br_t h1 (br_f c0 (br_t c7' ?_))))
      refine nm_r (e' := nI (208 + j * 13)) (by rw [show nI j * 13 = nI (j * 13) from pk_mul j 13, show (208 : Int32) + nI (j * 13) = nI (208 + j * 13) from nI_add 208 (j * 13)]) ?_
      rw [z8, zcn (show 208 + j * 13 + 8 < 1000 by omega), nI_add, zcn (show 208 + j * 13 + w < 1000 by omega)]
      refine And.intro (zvi (by omega) (by omega)) (nm_r (e' := nI (zPl pa 2 j)) g3 ?_)
      rw [zcn (show zPl pa 2 j < 1000 by omega)]
      refine br_c (fun hge => p1 (fun h => absurd hge (nI_ge h.1 (by omega)))) (fun hlt => ?_)
      have hlt' : zPl pa 2 j < n := (nI_ltI (by omega) (by omega)).mp (Int32.not_le.mp hlt)
      refine And.intro (zvi (by omega) (by omega)) (br_c (fun h16 => ?_) (fun h16 => p1 (fun h => h16 h.2)))
      exact yic ⟨hK.2.2.1, hV.1, hn⟩ hlt' (fun hL sna => br_f (by decide) (p2 ⟨hlt', h16⟩ hL sna)) (fun hL sna => br_t rfl (And.intro (zvi (by omega) (by omega)) (nm_e (p3 ⟨hlt', h16⟩ hL sna))))
    by_cases hbar : zPl pa 2 j < n ∧ ka (zPl pa 2 j) = 16
    · refine xbar1 hn hbar.1 hbar.2 (br_f (by decide) ?_)
      rw [nI_1, zcn (show zPl pa 2 j + 1 < 1000 by omega)]
      refine And.intro (zvi (by omega) (by omega)) ?_
      have hb := hV.2 (zPl pa 2 j + 1) (by omega) w (by omega)
      refine br_c (fun et => And.intro (zvi (by omega) (by omega)) (nm_e (hY (fun h => absurd hbar h) (fun _ hL => absurd (hb.mpr hL) ((b_tst (by omega)).mp et)) (fun _ _ sna => ⟨rfl, ?_⟩)))) (fun et => hY (fun h => absurd hbar h) (fun _ _ sna => ⟨rfl, R _⟩) (fun _ hL => absurd ((b_tst (by omega)).mpr (fun h => hL (hb.mp h))) et))
      refine zi hN hK hS ⟨fun b1 => ⟨e1, zD_cg (fun i hi => ⟨rfl, rfl, rfl, rfl, rfl⟩) (fun i hi w' h1 h2 => pk_un (by omega)) rfl (hB.1 b1).2⟩, fun _ => ⟨e1, zD_cg (fun i hi => ⟨rfl, rfl, rfl, rfl, rfl⟩) (fun i hi w' h1 h2 => pk_un (by omega)) rfl hD, fun i hi kk hkk => ?_⟩⟩
      by_cases ei : i = j ∧ kk = w
      · rw [ei.1, ei.2, pk_us, pk_us]
      · rw [pk_un (by omega), pk_un (by omega)]
        exact hG i hi kk hkk
    · refine xbar0 hn (fun p hp1 hp2 h16 => hbar ?_) (br_t rfl (hY (fun _ => ⟨rfl, R _⟩) (fun h => absurd h hbar) (fun h => absurd h hbar)))
      have := (nIe (by omega) (by omega)).mp hp1
      rw [this]
      exact ⟨hp2, h16⟩
  · exact xir2 b2 h0 h1 (br_f (by decide) (br_f b2 (br_f h0 (br_f h1 ⟨rfl, R _⟩))))
end DIS
end
section
/-! emit: X's tables grow -/
section LNK
variable {ii cc nn ss dd rr : Int32} {ka xa ya za ja la ra wa va oa ea ce be rc pc pa ca da sa ga ta ita sna : Nat → Int32}
theorem xna {post : SX → Prop} {n : Nat} (hn : n < 32) (h : post (ii, cc, nn, ss, dd, rr, ka, xa, ya, za, ja, la, (upd ra n (zRd (ka n) (xa n) (ya n) (za n))), (upd wa n (zWr (ka n) (xa n))), va, oa, ea, ce, be, rc, pc, pa, ca, da, sa, ga, ta)) : wpX_noteAccess post (ii, cc, nn, ss, dd, rr, ka, xa, ya, za, ja, la, ra, wa, va, oa, ea, ce, be, rc, pc, pa, ca, da, sa, ga, ta) (nI n) := by
  have i1 : vp_in (nI n) 32 := zvi hn (by omega)
  have k76 : ∀ m : Int32, m = zRd (ka n) (xa n) (ya n) (za n) → wX_noteAccess_76 post (nI n) (ka n) m ii cc nn ss dd rr ka xa ya za ja la ra wa va oa ea ce be rc pc pa ca da sa ga ta := by
    intro m em
    unfold wX_noteAccess_76
    rw [zcn (show n < 1000 by omega)]
    unfold zWr at h
    refine And.intro i1 (nm_r (by rw [em]) (br_c (fun c => And.intro i1 (nm_e ?_)) (fun c => And.intro i1 (And.intro i1 (nm_e ?_)))))
    · rw [if_pos c] at h; exact h
    · rw [if_neg c] at h; exact h
  have k47 : ∀ m : Int32, (if ka n = 11 ∨ ka n = 12 ∨ ka n = 14 then m ||| zb1m (xa n) else m) = zRd (ka n) (xa n) (ya n) (za n) → wX_noteAccess_47 post (nI n) (ka n) m ii cc nn ss dd rr ka xa ya za ja la ra wa va oa ea ce be rc pc pa ca da sa ga ta := by
    intro m em
    have k65 : (ka n = 11 ∨ ka n = 12 ∨ ka n = 14) → wX_noteAccess_65 post (nI n) (ka n) m ii cc nn ss dd rr ka xa ya za ja la ra wa va oa ea ce be rc pc pa ca da sa ga ta := by
      intro c
      rw [if_pos c] at em
      unfold wX_noteAccess_65
      rw [zcn (show n < 1000 by omega)]
      exact And.intro i1 (nm_e (k76 _ em))
    unfold wX_noteAccess_47
    refine br_c (fun c => k65 (Or.inl c)) (fun c1 => br_c (fun c => k65 (Or.inr (Or.inl c))) (fun c2 => br_c (fun c => k65 (Or.inr (Or.inr c))) (fun c3 => k76 m ?_)))
    rw [if_neg (fun h => h.elim c1 (fun h => h.elim c2 c3))] at em
    exact em
  have k28 : ∀ m : Int32, m = (if ka n < 2 then 0 else if 11 < ka n then 0 else 0 ||| zb1m (ya n)) → wX_noteAccess_28 post (nI n) (ka n) m ii cc nn ss dd rr ka xa ya za ja la ra wa va oa ea ce be rc pc pa ca da sa ga ta := by
    intro m em
    unfold wX_noteAccess_28 wpX_usesZ
    dsimp only
    rw [zcn (show n < 1000 by omega)]
    refine br_c (fun c2 => br_t rfl (k47 m ?_)) (fun c2 => br_c (fun c9 => br_t rfl (k47 m ?_)) (fun c9 => br_f (by decide) (And.intro i1 (nm_e (k47 _ ?_)))))
    · unfold zRd
      dsimp only
      rw [← em, if_pos (c := ka n < 2) c2]
    · unfold zRd
      dsimp only
      rw [← em, if_neg (c := ka n < 2) c2, if_pos (c := 9 < ka n) c9]
    · unfold zRd
      dsimp only
      rw [← em, if_neg (c := ka n < 2) c2, if_neg (c := 9 < ka n) c9]
      rfl
  unfold wpX_noteAccess wpX_usesY
  dsimp only
  rw [zcn (show n < 1000 by omega)]
  refine And.intro i1 (nm_e (br_c (fun c2 => br_t rfl (k28 0 ?_)) (fun c2 => br_c (fun c11 => br_t rfl (k28 0 ?_)) (fun c11 => br_f (by decide) (And.intro i1 (nm_e (k28 _ ?_)))))))
  · rw [if_pos c2]
  · rw [if_neg c2, if_pos c11]
  · rw [if_neg c2, if_neg c11]; rfl
/-- what linkBlock leaves -/
def zLk (K' : Nat → Int32) (n : Nat) (dd rr : Int32) (ja la oa ea : Nat → Int32) : Prop :=
  dd = nI (zk K' (n + 1)).length ∧ rr = nI (zar K' false (n + 1)) ∧ zT K' (n + 1) ja la ∧ zO K' (n + 1) oa ea (zk K' (n + 1))
theorem xlk {K : Nat → Int32} {n : Nat} (hn : n < 32) (hK : ∀ i, i < n → ka i = K i) (hW : zW K n) (hT : zT K n ja la) (hO : zO K n oa ea (zk K n)) (hG : zG K n (ka n)) (jn : ja n = -1) (ln : la n = 0) :
    ∃ dd' rr' : Int32, ∃ ja' la' oa' ea' : Nat → Int32, zLk ka n dd' rr' ja' la' oa' ea' ∧ ∀ post : SX → Prop, post (ii, cc, nn, ss, dd', rr', ka, xa, ya, za, ja', la', ra, wa, va, oa', ea', ce, be, rc, pc, pa, ca, da, sa, ga, ta) → wpX_linkBlock post (ii, cc, nn, ss, (nI (zk K n).length), (nI (zar K false n)), ka, xa, ya, za, ja, la, ra, wa, va, oa, ea, ce, be, rc, pc, pa, ca, da, sa, ga, ta) (nI n) := by
  have i1 : vp_in (nI n) 32 := zvi hn (by omega)
  have hlen := (hW.1 n (Nat.le_refl _))
  have hzk : ∀ p, p ≤ n → zk ka p = zk K p := fun p hp => zk_cg p (fun i hi => hK i (by omega))
  have hza : zar ka false n = zar K false n := zar_cg hK (Nat.le_refl _) false
  have hmem : ∀ o, o ∈ zk K n → o < n ∧ (K o = 12 ∨ K o = 14) := fun o ho => ⟨zk_lt n o ho, zk_op n o ho⟩
  by_cases c12 : ka n = 12
  · have hl4 := hG.2.2.1 (Or.inl c12)
    have hk1 : zk ka (n + 1) = n :: zk K n := by rw [zk_o (Or.inl c12), hzk n (Nat.le_refl _)]
    refine ⟨nI ((zk K n).length + 1), nI (zar K false n), ja, la, upd oa (zk K n).length (nI n), upd ea (zk K n).length (-1), ⟨by rw [hk1]; rfl, by rw [zar_i c12, hza], ?_, ?_⟩, fun post h => ?_⟩
    · exact zT_a hK hW hT (by rw [c12]; decide) (by rw [c12]; decide) (fun _ _ => rfl) (fun _ _ => rfl) jn (by rw [ln, if_neg (by rw [c12]; decide)])
    · rw [hk1]
      refine ⟨pk_us, fun _ => ?_, zO_k hK _ (fun o ho => ⟨(hmem o ho).1, (hmem o ho).2, zl_ot (by rw [c12]; decide) (by rw [c12]; decide)⟩) (fun i hi => ⟨pk_un (by omega), pk_un (by omega)⟩) hO⟩
      rw [pk_us, zq_new, if_neg (Nat.lt_irrefl _)]
    · unfold wpX_linkBlock wX_linkBlock_19 wpX_openBlock
      dsimp only
      rw [zcn (show n < 1000 by omega), zcn (show (zk K n).length < 1000 by omega)]
      have i2 : vp_in (nI (zk K n).length) 4 := zvi (by omega) (by omega)
      exact And.intro i1 (nm_r c12 (br_t rfl (And.intro i2 (nm_e (And.intro i2 (nm_e (nm_r (nI_1 _) (And.intro i1 (br_f (by rw [c12]; decide) h)))))))))
  by_cases c14 : ka n = 14
  · have hl4 := hG.2.2.1 (Or.inr c14)
    have hr2 := hG.2.2.2 c14
    have hk1 : zk ka (n + 1) = n :: zk K n := by rw [zk_o (Or.inr c14), hzk n (Nat.le_refl _)]
    refine ⟨nI ((zk K n).length + 1), nI (zar K false n + 1), ja, upd la n (nI (zar K false n + 1)), upd oa (zk K n).length (nI n), upd ea (zk K n).length (-1), ⟨by rw [hk1]; rfl, by rw [zar_o c14, hza], ?_, ?_⟩, fun post h => ?_⟩
    · exact zT_a hK hW hT (by rw [c14]; decide) (by rw [c14]; decide) (fun _ _ => rfl) (fun i hi => pk_un (by omega)) jn (by rw [pk_us, if_pos c14])
    · rw [hk1]
      refine ⟨pk_us, fun h12 => absurd h12 c12, zO_k hK _ (fun o ho => ⟨(hmem o ho).1, (hmem o ho).2, zl_ot (by rw [c14]; decide) (by rw [c14]; decide)⟩) (fun i hi => ⟨pk_un (by omega), pk_un (by omega)⟩) hO⟩
    · unfold wpX_linkBlock wX_linkBlock_19 wpX_openBlock
      dsimp only
      rw [zcn (show n < 1000 by omega), zcn (show (zk K n).length < 1000 by omega)]
      have i2 : vp_in (nI (zk K n).length) 4 := zvi (by omega) (by omega)
      exact And.intro i1 (nm_r c14 (br_f (by decide) (br_t rfl (And.intro i2 (nm_e (And.intro i2 (nm_e (nm_r (nI_1 _) (And.intro i1 (br_t c14 (nm_r (nI_1 _) (And.intro i1 (nm_e h)))))))))))))
  by_cases c13 : ka n = 13
  · obtain ⟨o, e1, e2, e3⟩ := hG.2.1 c13
    have hm := zk_hd e1
    have hk1 : zk ka (n + 1) = o :: zk K o := by rw [zk_n (by rw [c13]; decide) (by rw [c13]; decide), hzk n (Nat.le_refl _), e1]
    rw [e1] at hO hlen hmem
    have hO' := hO
    obtain ⟨o1, o2, o3⟩ := hO'
    rw [List.length_cons] at hlen
    have hz : zl ka true o n := ⟨by rw [hzk n (Nat.le_refl _), e1, hzk o (by omega)], Or.inr ⟨rfl, c13⟩⟩
    refine ⟨nI (zk K n).length, nI (zar K false n), upd ja o (nI (n + 1)), la, oa, upd ea (zk K o).length (nI n), ⟨by rw [hk1, e1], by rw [zar_n (by rw [c13]; decide) (by rw [c13]; decide), hza], ?_, ?_⟩, fun post h => ?_⟩
    · exact zT_b hK hW hT c13 e1 e2 e3 (fun i hi hio => pk_un hio) (fun _ _ => rfl) pk_us (by rw [pk_un (by omega)]; exact jn) ln
    · rw [hk1]
      refine ⟨o1, fun _ => ?_, zO_k hK _ (fun o' ho' => ⟨(hmem o' (List.mem_cons_of_mem _ ho')).1, (hmem o' (List.mem_cons_of_mem _ ho')).2, fun hz' => ?_⟩) (fun i hi => ⟨rfl, pk_un (by omega)⟩) o3⟩
      · rw [pk_us, zq_c hK hm.2.2.1 hm.2.1 e3 hz, if_pos (by omega)]
      · have h1 := (zl_hd hK hz').2
        rw [e1] at h1
        have h2 := zk_lt o o' ho'
        have h3 := (List.cons.inj h1).1
        omega
    · rw [e1] at h ⊢
      unfold wpX_linkBlock
      dsimp only
      rw [List.length_cons, nI_pred, zcn (show n < 1000 by omega), zcn (show (zk K o).length < 1000 by omega), o1, zcn (show o < 1000 by omega), nI_1 n]
      have i2 : vp_in (nI (zk K o).length) 4 := zvi (by omega) (by omega)
      exact And.intro i1 (nm_r c13 (br_f (by decide) (br_f (by decide) (br_t rfl (And.intro i2 (nm_e (And.intro i2 (And.intro (zvi (by omega) (by omega)) (nm_e h)))))))))
  by_cases c15 : ka n = 15
  · obtain ⟨o, e1, e2, e3, e4⟩ := zk_ne (hG.1 c15)
    have hm := zk_hd e1
    have hk1 : zk ka (n + 1) = zk K o := by rw [zk_e c15, hzk n (Nat.le_refl _), e1]; rfl
    have e1' : zk ka n = o :: zk ka o := by rw [hzk n (Nat.le_refl _), e1, hzk o (by omega)]
    have hae := zar_e c15 e1'
    rw [hza, hK o e2, zar_cg hK (show o ≤ n by omega) false] at hae
    rw [e1] at hO hlen hmem
    have hO' := hO
    obtain ⟨o1, o2, o3⟩ := hO'
    rw [List.length_cons] at hlen
    have htl : zO ka (n + 1) oa ea (zk K o) := zO_k hK _ (fun o' ho' => ⟨(hmem o' (List.mem_cons_of_mem _ ho')).1, (hmem o' (List.mem_cons_of_mem _ ho')).2, fun hz' => by
      have h1 := (zl_hd hK hz').2
      rw [e1] at h1
      have h2 := zk_lt o o' ho'
      have h3 := (List.cons.inj h1).1
      omega⟩) (fun i hi => ⟨rfl, rfl⟩) o3
    have i2 : vp_in (nI (zk K o).length) 4 := zvi (by omega) (by omega)
    have i3 : vp_in (nI o) 32 := zvi (by omega) (by omega)
    by_cases h4 : K o = 14
    · rw [if_pos h4] at hae
      refine ⟨nI (zk K o).length, nI (zar K false o), upd (upd ja o (nI (n + 1))) n (nI (o + 1)), upd la n (la o), oa, ea, ⟨by rw [hk1], by rw [hae.1], ?_, by rw [hk1]; exact htl⟩, fun post h => ?_⟩
      · exact zT_c hK hW hT c15 e1 h4 (fun i hi hio => by rw [pk_un (by omega), pk_un hio]) (fun i hi => pk_un (by omega)) (by rw [pk_un (by omega), pk_us]) pk_us pk_us
      · rw [e1]
        unfold wpX_linkBlock wpX_closeBlock
        dsimp only
        rw [zcn (show n < 1000 by omega)]
        refine And.intro i1 (nm_r c15 (br_f (by decide) (br_f (by decide) (br_f (by decide) (br_t rfl (nm_r (e' := nI (zk K o).length) (by rw [List.length_cons, nI_pred]) ?_))))))
        rw [zcn (show (zk K o).length < 1000 by omega)]
        refine And.intro i2 (nm_r o1 ?_)
        rw [zcn (show o < 1000 by omega), nI_1 n, nI_1 o, hae.2, nI_pred]
        exact And.intro i3 (br_t (by rw [hK o e2]; exact h4) (And.intro i3 (nm_e (And.intro i1 (nm_e (And.intro i3 (And.intro i1 (nm_e (nm_e h)))))))))
    · have h2 : K o = 12 := e3.elim id (fun h => absurd h h4)
      rw [if_neg h4] at hae
      have o2' := o2 h2
      have hrr : nI (zar K false n) = nI (zar ka false (n + 1)) := by rw [hae.1, hae.2, Nat.add_zero]
      by_cases hx : zq K n true o < n
      · rw [if_pos hx] at o2'
        refine ⟨nI (zk K o).length, nI (zar K false n), upd ja (zq K n true o) (nI (n + 1)), la, oa, ea, ⟨by rw [hk1], hrr, ?_, by rw [hk1]; exact htl⟩, fun post h => ?_⟩
        · exact zT_d hK hW hT c15 e1 h2 hx (fun i hi hio => pk_un hio) (fun i hi => rfl) pk_us (by rw [pk_un (by omega)]; exact jn) ln
        · rw [e1]
          unfold wpX_linkBlock wpX_closeBlock
          dsimp only
          rw [zcn (show n < 1000 by omega)]
          refine And.intro i1 (nm_r c15 (br_f (by decide) (br_f (by decide) (br_f (by decide) (br_t rfl (nm_r (e' := nI (zk K o).length) (by rw [List.length_cons, nI_pred]) ?_))))))
          rw [zcn (show (zk K o).length < 1000 by omega), o2']
          refine And.intro i2 (nm_r o1 ?_)
          rw [zcn (show o < 1000 by omega), zcn (show zq K n true o < 1000 by omega), nI_1 n]
          exact And.intro i3 (br_f (by rw [hK o e2]; exact h4) (And.intro i2 (br_f (nI_pos (by omega)) (And.intro i2 (And.intro (zvi (by omega) (by omega)) (nm_e h))))))
      · rw [if_neg hx] at o2'
        refine ⟨nI (zk K o).length, nI (zar K false n), upd ja o (nI (n + 1)), la, oa, ea, ⟨by rw [hk1], hrr, ?_, by rw [hk1]; exact htl⟩, fun post h => ?_⟩
        · exact zT_e hK hW hT c15 e1 h2 hx (fun i hi hio => pk_un hio) (fun i hi => rfl) pk_us (by rw [pk_un (by omega)]; exact jn) ln
        · rw [e1]
          unfold wpX_linkBlock wpX_closeBlock
          dsimp only
          rw [zcn (show n < 1000 by omega)]
          refine And.intro i1 (nm_r c15 (br_f (by decide) (br_f (by decide) (br_f (by decide) (br_t rfl (nm_r (e' := nI (zk K o).length) (by rw [List.length_cons, nI_pred]) ?_))))))
          rw [zcn (show (zk K o).length < 1000 by omega), o2']
          refine And.intro i2 (nm_r o1 ?_)
          rw [zcn (show o < 1000 by omega), nI_1 n]
          exact And.intro i3 (br_f (by rw [hK o e2]; exact h4) (And.intro i2 (br_t (by decide) (And.intro i3 (nm_e h)))))
  · have nop : ¬ (ka n = 12 ∨ ka n = 14) := fun h => h.elim c12 c14
    have hk1 : zk ka (n + 1) = zk K n := by rw [zk_n nop c15, hzk n (Nat.le_refl _)]
    refine ⟨nI (zk K n).length, nI (zar K false n), ja, la, oa, ea, ⟨by rw [hk1], by rw [zar_n nop c15, hza], ?_, ?_⟩, fun post h => ?_⟩
    · exact zT_a hK hW hT c13 c15 (fun _ _ => rfl) (fun _ _ => rfl) jn (by rw [ln, if_neg c14])
    · rw [hk1]
      exact zO_k hK _ (fun o ho => ⟨(hmem o ho).1, (hmem o ho).2, zl_ot c13 c15⟩) (fun i hi => ⟨rfl, rfl⟩) hO
    · unfold wpX_linkBlock
      dsimp only
      rw [zcn (show n < 1000 by omega)]
      exact And.intro i1 (nm_e (br_f c12 (br_f c14 (br_f c13 (br_f c15 h)))))
end LNK
end
section
/-! emit -/
def zvr (x : Int32) : Prop := ¬ x < 0 ∧ ¬ 7 < x
def zhx (k : Int32) : Prop := k ≤ 12 ∨ k = 14
def zhy (k : Int32) : Prop := ¬ k < 2 ∧ ¬ 11 < k
def zhz (k : Int32) : Prop := ¬ k < 2 ∧ ¬ 9 < k
def zft (k x y z : Int32) : Prop := (zhx k → zvr x) ∧ (zhy k → zvr y) ∧ (zhz k → zvr z)
def zBN (K : Nat → Int32) (n : Nat) (k : Int32) : Prop := (k = 15 ∧ zk K n = []) ∨ (k = 13 ∧ ¬ ∃ o, zk K n = o :: zk K o ∧ K o = 12 ∧ ¬ zq K n true o < n)
def zTD (K : Nat → Int32) (n : Nat) (k : Int32) : Prop := ((k = 12 ∨ k = 14) ∧ ¬ (zk K n).length < 4) ∨ (k = 14 ∧ ¬ zar K false n < 2)
section EMI
variable {ii cc nn ss dd rr : Int32} {ka xa ya za ja la ra wa va oa ea ce be rc pc pa ca da sa ga ta ita sna : Nat → Int32}
theorem xiv {post : Int32 → Prop} {x : Int32} (h1 : zvr x → post 1) (h0 : ¬ zvr x → post 0) : wpX_isVariable post (ii, cc, nn, ss, dd, rr, ka, xa, ya, za, ja, la, ra, wa, va, oa, ea, ce, be, rc, pc, pa, ca, da, sa, ga, ta) x :=
  br_c (fun a => h0 (fun h => h.1 a)) (fun a => br_c (fun b => h0 (fun h => h.2 b)) (fun b => h1 ⟨a, b⟩))
theorem xux {post : Int32 → Prop} {k : Int32} (h1 : zhx k → post 1) (h0 : ¬ zhx k → post 0) : wpX_usesX post (ii, cc, nn, ss, dd, rr, ka, xa, ya, za, ja, la, ra, wa, va, oa, ea, ce, be, rc, pc, pa, ca, da, sa, ga, ta) k :=
  br_c (fun a => h1 (Or.inl a)) (fun a => br_c (fun b => h1 (Or.inr b)) (fun b => h0 (fun h => h.elim a b)))
theorem xuy {post : Int32 → Prop} {k : Int32} (h1 : zhy k → post 1) (h0 : ¬ zhy k → post 0) : wpX_usesY post (ii, cc, nn, ss, dd, rr, ka, xa, ya, za, ja, la, ra, wa, va, oa, ea, ce, be, rc, pc, pa, ca, da, sa, ga, ta) k :=
  br_c (fun a => h0 (fun h => h.1 a)) (fun a => br_c (fun b => h0 (fun h => h.2 b)) (fun b => h1 ⟨a, b⟩))
theorem xuz {post : Int32 → Prop} {k : Int32} (h1 : zhz k → post 1) (h0 : ¬ zhz k → post 0) : wpX_usesZ post (ii, cc, nn, ss, dd, rr, ka, xa, ya, za, ja, la, ra, wa, va, oa, ea, ce, be, rc, pc, pa, ca, da, sa, ga, ta) k :=
  br_c (fun a => h0 (fun h => h.1 a)) (fun a => br_c (fun b => h0 (fun h => h.2 b)) (fun b => h1 ⟨a, b⟩))
theorem n10 : ¬ (1 : Int32) = 0 := by decide
theorem xof {post : Int32 → Prop} {k x y z : Int32} (h1 : zft k x y z → post 1) (h0 : ¬ zft k x y z → post 0) : wpX_operandsFit post (ii, cc, nn, ss, dd, rr, ka, xa, ya, za, ja, la, ra, wa, va, oa, ea, ce, be, rc, pc, pa, ca, da, sa, ga, ta) k x y z := by
  have k36 : (zhx k → zvr x) → (zhy k → zvr y) → wX_operandsFit_36 post k z ii cc nn ss dd rr ka xa ya za ja la ra wa va oa ea ce be rc pc pa ca da sa ga ta := by
    intro a b
    unfold wX_operandsFit_36
    refine xuz (fun c => br_f n10 (xiv (fun d => br_f n10 (h1 ⟨a, b, fun _ => d⟩)) (fun d => br_t rfl (h0 (fun h => d (h.2.2 c)))))) (fun c => br_t rfl (h1 ⟨a, b, fun h => absurd h c⟩))
  have k18 : (zhx k → zvr x) → wX_operandsFit_18 post k y z ii cc nn ss dd rr ka xa ya za ja la ra wa va oa ea ce be rc pc pa ca da sa ga ta := by
    intro a
    unfold wX_operandsFit_18
    refine xuy (fun c => br_f n10 (xiv (fun d => br_f n10 (k36 a (fun _ => d))) (fun d => br_t rfl (h0 (fun h => d (h.2.1 c)))))) (fun c => br_t rfl (k36 a (fun h => absurd h c)))
  unfold wpX_operandsFit
  exact xux (fun c => br_f n10 (xiv (fun d => br_f n10 (k18 (fun _ => d))) (fun d => br_t rfl (h0 (fun h => d (h.1 c)))))) (fun c => br_t rfl (k18 (fun h => absurd h c)))
theorem xnr {post : Int32 → Prop} {k : Int32} {n : Nat} (hn : n ≤ 32) (hW : zW ka n) (hO : zO ka n oa ea (zk ka n)) (hok : zG ka n k → post 0) (hbn : zBN ka n k → post (-6)) (htd : zTD ka n k → post (-7)) :
    wpX_nestRefusal post (ii, cc, nn, ss, (nI (zk ka n).length), (nI (zar ka false n)), ka, xa, ya, za, ja, la, ra, wa, va, oa, ea, ce, be, rc, pc, pa, ca, da, sa, ga, ta) k := by
  have hlen := hW.1 n (Nat.le_refl _)
  have e4 : nI (zk ka n).length < 4 ↔ (zk ka n).length < 4 := nI_ltI (b := 4) (by omega) (by omega)
  have e2 : nI (zar ka false n) < 2 ↔ zar ka false n < 2 := nI_ltI (b := 2) (by omega) (by omega)
  have e0 : nI (zk ka n).length = 0 ↔ zk ka n = [] := by
    rw [← nI_0, nIe (by omega) (by omega)]
    exact List.length_eq_zero_iff
  have k55 : (k = 15 → zk ka n ≠ []) → (k = 13 → ∃ o, zk ka n = o :: zk ka o ∧ ka o = 12 ∧ ¬ zq ka n true o < n) → (k = 12 ∨ k = 14 → (zk ka n).length < 4) → wX_nestRefusal_55 post k ii cc nn ss (nI (zk ka n).length) (nI (zar ka false n)) ka xa ya za ja la ra wa va oa ea ce be rc pc pa ca da sa ga ta := by
    intro a b c
    unfold wX_nestRefusal_55
    refine br_c (fun d => br_c (fun e => hok ⟨a, b, c, fun _ => e2.mp e⟩) (fun e => htd (Or.inr ⟨d, fun h => e (e2.mpr h)⟩))) (fun d => hok ⟨a, b, c, fun h => absurd h d⟩)
  have k32 : (k = 15 → zk ka n ≠ []) → (k = 13 → ∃ o, zk ka n = o :: zk ka o ∧ ka o = 12 ∧ ¬ zq ka n true o < n) → wX_nestRefusal_32 post k ii cc nn ss (nI (zk ka n).length) (nI (zar ka false n)) ka xa ya za ja la ra wa va oa ea ce be rc pc pa ca da sa ga ta := by
    intro a b
    unfold wX_nestRefusal_32 wX_nestRefusal_44
    refine br_c (fun c => br_c (fun d => k55 a b (fun _ => e4.mp d)) (fun d => htd (Or.inl ⟨Or.inl c, fun h => d (e4.mpr h)⟩))) (fun c => br_c (fun c' => br_c (fun d => k55 a b (fun _ => e4.mp d)) (fun d => htd (Or.inl ⟨Or.inr c', fun h => d (e4.mpr h)⟩))) (fun c' => k55 a b (fun h => absurd h (fun h => h.elim c c'))))
  have k16 : (k = 15 → zk ka n ≠ []) → wX_nestRefusal_16 post k ii cc nn ss (nI (zk ka n).length) (nI (zar ka false n)) ka xa ya za ja la ra wa va oa ea ce be rc pc pa ca da sa ga ta := by
    intro a
    unfold wX_nestRefusal_16
    refine br_c (fun c => ?_) (fun c => k32 a (fun h => absurd h c))
    unfold wpX_elseAllowed
    dsimp only
    refine br_c (fun d => br_t rfl (hbn (Or.inr ⟨c, fun ⟨o, h, _⟩ => ?_⟩))) (fun d => ?_)
    · rw [e0.mp d] at h
      exact absurd h (by intro h; cases h)
    · obtain ⟨o, ho, ho1, ho2, ho3⟩ := zk_ne (fun h => d (e0.mpr h))
      have hO' := hO
      rw [ho] at hO'
      obtain ⟨o1, o2, o3⟩ := hO'
      have hlen' := hlen.1
      rw [ho, List.length_cons] at hlen'
      have i2 : vp_in (nI (zk ka o).length) 4 := zvi (by omega) (by omega)
      have ed : nI (zk ka n).length - 1 = nI (zk ka o).length := by rw [ho, List.length_cons, nI_pred]
      rw [ed, zcn (show (zk ka o).length < 1000 by omega), o1, zcn (show o < 1000 by omega)]
      refine And.intro i2 (And.intro (zvi (by omega) (by omega)) (br_c (fun h12 => And.intro i2 ?_) (fun h12 => br_t rfl (hbn (Or.inr ⟨c, fun ⟨o', h, h', _⟩ => ?_⟩)))))
      · have o2' := o2 h12
        by_cases hx : zq ka n true o < n
        · rw [if_pos hx] at o2'
          refine br_t (by rw [o2']; exact nI_pos' (by omega)) (br_t rfl (hbn (Or.inr ⟨c, fun ⟨o', h, _, h''⟩ => ?_⟩)))
          rw [ho] at h
          rw [← (List.cons.inj h).1] at h''
          exact h'' hx
        · rw [if_neg hx] at o2'
          exact br_f (by rw [o2']; decide) (br_f n10 (k32 a (fun _ => ⟨o, ho, h12, hx⟩)))
      · rw [ho] at h
        rw [← (List.cons.inj h).1] at h'
        exact h12 h'
  unfold wpX_nestRefusal
  exact br_c (fun c => br_c (fun d => hbn (Or.inl ⟨c, e0.mp d⟩)) (fun d => k16 (fun _ h => d (e0.mpr h)))) (fun c => k16 (fun h => absurd h c))
/-- the operands as they are kept -/
theorem x99 {post : Int32 → SX → Prop} {k x y z : Int32} {n : Nat} {xv yv wv : Int32} (hn : n < 32) (hxv : xv = xv) (hyv : (k = 0 ∨ zhy k → yv = y) ∧ (¬ (k = 0 ∨ zhy k) → yv = 0)) (hzv : (zhz k → wv = z) ∧ (¬ zhz k → wv = 0))
    (h : wX_emit_144 post (nI n) wv (nI n) ii cc nn ss dd rr ka (upd xa n xv) (upd ya n yv) za ja la ra wa va oa ea ce be rc pc pa ca da sa ga ta) : wX_emit_99 post k y z (nI n) xv (nI n) ii cc nn ss dd rr ka xa ya za ja la ra wa va oa ea ce be rc pc pa ca da sa ga ta := by
  have i1 : vp_in (nI n) 32 := zvi hn (by omega)
  have k123 : wX_emit_123 post k z (nI n) yv (nI n) ii cc nn ss dd rr ka (upd xa n xv) ya za ja la ra wa va oa ea ce be rc pc pa ca da sa ga ta := by
    unfold wX_emit_123
    rw [zcn (show n < 1000 by omega)]
    refine And.intro i1 (nm_e (xuz (fun c => br_f n10 ?_) (fun c => br_t rfl ?_)))
    · rw [← hzv.1 c]; exact h
    · rw [← hzv.2 c]; exact h
  unfold wX_emit_99
  rw [zcn (show n < 1000 by omega)]
  refine And.intro i1 (nm_e (br_c (fun c => ?_) (fun c => xuy (fun d => br_f n10 ?_) (fun d => br_t rfl ?_))))
  · unfold wX_emit_118
    rw [← hyv.1 (Or.inl c)]; exact k123
  · unfold wX_emit_118
    rw [← hyv.1 (Or.inr d)]; exact k123
  · have e := hyv.2 (fun h => h.elim c d)
    rw [e] at k123
    exact k123
theorem y284 {post : Int32 → SY → Prop} {k x y z x6 x7 : Int32} {n : Nat} {xv yv wv : Int32} (hn : n < 32) (h6 : (zhy k → x6 = 1) ∧ (¬ zhy k → x6 = 0)) (h7 : (zhz k → x7 = 1) ∧ (¬ zhz k → x7 = 0)) (hyv : (k = 0 ∨ zhy k → yv = y) ∧ (¬ (k = 0 ∨ zhy k) → yv = 0)) (hzv : (zhz k → wv = z) ∧ (¬ zhz k → wv = 0))
    (h : post (nI n) (ii, cc, (nI (n + 1)), ss, ka, (upd xa n xv), (upd ya n yv), (upd za n wv), ce, ita, be, rc, pc, sna)) : wY_emit_284 post k y z x6 x7 xv (nI n) ii cc (nI n) ss ka xa ya za ce ita be rc pc sna := by
  have i1 : vp_in (nI n) 32 := zvi hn (by omega)
  have k307 : wY_emit_307 post z x7 yv (nI n) ii cc (nI n) ss ka (upd xa n xv) ya za ce ita be rc pc sna := by
    unfold wY_emit_307 wY_emit_327
    rw [zcn (show n < 1000 by omega)]
    have k : ∀ w, w = wv → (vp_in (nI n) 32 ∧ ∀ a_zs_57 : Nat → Int32, a_zs_57 = upd za n w → ∀ f_n_58 : Int32, f_n_58 = nI n + 1 → post (f_n_58 - 1) (ii, cc, f_n_58, ss, ka, (upd xa n xv), (upd ya n yv), a_zs_57, ce, ita, be, rc, pc, sna)) := by
      intro w ew
      rw [ew]
      refine And.intro i1 (nm_e (nm_r (nI_1 n) ?_))
      rw [nI_pred]
      exact h
    refine And.intro i1 (nm_e (br_c (fun c => k 0 ?_) (fun c => k z ?_)))
    · refine (hzv.2 (fun hz => ?_)).symm
      rw [h7.1 hz] at c
      exact n10 c
    · refine (hzv.1 (Classical.byContradiction (fun hz => c (h7.2 hz)))).symm
  unfold wY_emit_284 wY_emit_302
  rw [zcn (show n < 1000 by omega)]
  refine And.intro i1 (nm_e (br_c (fun c => br_c (fun d => ?_) (fun d => ?_)) (fun c => ?_)))
  · rw [← hyv.1 (Or.inl d)]; exact k307
  · have e := hyv.2 (fun h => h.elim d (fun hy => n10 ((h6.1 hy).symm.trans c)))
    rw [e] at k307
    exact k307
  · rw [← hyv.1 (Or.inr (Classical.byContradiction (fun hy => c (h6.2 hy))))]; exact k307
/-- Y: the operands -/
theorem yfit {post : Int32 → SY → Prop} {k x y z : Int32} (hk0 : ¬ k < 0) (hk16 : k ≤ 16) (hss : ss = 0) (h0 : ¬ zft k x y z → post (-4) (ii, cc, nn, ss, ka, xa, ya, za, ce, ita, be, rc, pc, sna))
    (h1 : zft k x y z → ∀ x5 x6 x7 : Int32, (zhx k → x5 = 1) ∧ (¬ zhx k → x5 = 0) → (zhy k → x6 = 1) ∧ (¬ zhy k → x6 = 0) → (zhz k → x7 = 1) ∧ (¬ zhz k → x7 = 0) → wY_emit_127 post k x y z x5 x6 x7 ii cc nn ss ka xa ya za ce ita be rc pc sna) : wpY_emit post (ii, cc, nn, ss, ka, xa, ya, za, ce, ita, be, rc, pc, sna) k x y z := by
  have cse : ∀ (f : Int32) (P : Prop), (P → f = 1) ∧ (¬ P → f = 0) → (f = 0 → ¬ P) ∧ (¬ f = 0 → P) := fun f P h => ⟨fun e p => n10 ((h.1 p).symm.trans e), fun e => Classical.byContradiction (fun p => e (h.2 p))⟩
  have k75 : ∀ x5 x6 x7 : Int32, (zhx k → x5 = 1) ∧ (¬ zhx k → x5 = 0) → (zhy k → x6 = 1) ∧ (¬ zhy k → x6 = 0) → (zhz k → x7 = 1) ∧ (¬ zhz k → x7 = 0) → wY_emit_75 post k x y z x5 x6 x7 ii cc nn ss ka xa ya za ce ita be rc pc sna := by
    intro x5 x6 x7 q5 q6 q7
    have c5 := cse _ _ q5
    have c6 := cse _ _ q6
    have c7 := cse _ _ q7
    have k107 : (zhx k → zvr x) → (zhy k → zvr y) → wY_emit_107 post k x y z x5 x6 x7 ii cc nn ss ka xa ya za ce ita be rc pc sna := by
      intro a b
      unfold wY_emit_107
      refine br_c (fun e => h1 ⟨a, b, fun h => absurd h (c7.1 e)⟩ x5 x6 x7 q5 q6 q7) (fun e => br_c (fun d => h0 (fun h => (h.2.2 (c7.2 e)).1 d)) (fun d => br_c (fun g => h1 ⟨a, b, fun _ => ⟨d, Int32.not_lt.mpr g⟩⟩ x5 x6 x7 q5 q6 q7) (fun g => h0 (fun h => g (Int32.not_lt.mp (h.2.2 (c7.2 e)).2)))))
    have k92 : (zhx k → zvr x) → wY_emit_92 post k x y z x5 x6 x7 ii cc nn ss ka xa ya za ce ita be rc pc sna := by
      intro a
      unfold wY_emit_92
      refine br_c (fun e => k107 a (fun h => absurd h (c6.1 e))) (fun e => br_c (fun d => h0 (fun h => (h.2.1 (c6.2 e)).1 d)) (fun d => br_c (fun g => h0 (fun h => (h.2.1 (c6.2 e)).2 g)) (fun g => k107 a (fun _ => ⟨d, g⟩))))
    unfold wY_emit_75
    exact br_c (fun e => k92 (fun h => absurd h (c5.1 e))) (fun e => br_c (fun d => h0 (fun h => (h.1 (c5.2 e)).1 d)) (fun d => br_c (fun g => h0 (fun h => (h.1 (c5.2 e)).2 g)) (fun g => k92 (fun _ => ⟨d, g⟩))))
  have k57 : ∀ x5 x6 : Int32, (zhx k → x5 = 1) ∧ (¬ zhx k → x5 = 0) → (zhy k → x6 = 1) ∧ (¬ zhy k → x6 = 0) → wY_emit_57 post k x y z x5 x6 ii cc nn ss ka xa ya za ce ita be rc pc sna := by
    intro x5 x6 q5 q6
    unfold wY_emit_57 wY_emit_74
    exact br_c (fun a => k75 x5 x6 0 q5 q6 ⟨fun h => absurd a h.1, fun _ => rfl⟩) (fun a => br_c (fun b => k75 x5 x6 0 q5 q6 ⟨fun h => absurd b h.2, fun _ => rfl⟩) (fun b => k75 x5 x6 1 q5 q6 ⟨fun _ => rfl, fun h => absurd ⟨a, b⟩ h⟩))
  have k39 : ∀ x5 : Int32, (zhx k → x5 = 1) ∧ (¬ zhx k → x5 = 0) → wY_emit_39 post k x y z x5 ii cc nn ss ka xa ya za ce ita be rc pc sna := by
    intro x5 q5
    unfold wY_emit_39 wY_emit_56
    exact br_c (fun a => k57 x5 0 q5 ⟨fun h => absurd a h.1, fun _ => rfl⟩) (fun a => br_c (fun b => k57 x5 0 q5 ⟨fun h => absurd b h.2, fun _ => rfl⟩) (fun b => k57 x5 1 q5 ⟨fun _ => rfl, fun h => absurd ⟨a, b⟩ h⟩))
  unfold wpY_emit wY_emit_34
  exact br_t hss (br_f hk0 (br_t hk16 (br_c (fun a => k39 1 ⟨fun _ => rfl, fun h => absurd (Or.inl a) h⟩) (fun a => br_c (fun b => k39 1 ⟨fun _ => rfl, fun h => absurd (Or.inr b) h⟩) (fun b => k39 0 ⟨fun h => absurd h (fun h => h.elim a b), fun _ => rfl⟩)))))
/-- Y: the nesting -/
theorem ynest {post : Int32 → SY → Prop} {k x y z x5 x6 x7 : Int32} {n C : Nat} (hn : n < C) (hC : C ≤ 32) (hW : zW ka n) (hok : zG ka n k → wY_emit_256 post k x y z x5 x6 x7 ii (nI C) (nI n) ss ka xa ya za ce ita be rc pc sna) (hbn : zBN ka n k → post (-6) (ii, (nI C), (nI n), ss, ka, xa, ya, za, ce, ita, be, rc, pc, sna)) (htd : zTD ka n k → post (-7) (ii, (nI C), (nI n), ss, ka, xa, ya, za, ce, ita, be, rc, pc, sna)) :
    wY_emit_127 post k x y z x5 x6 x7 ii (nI C) (nI n) ss ka xa ya za ce ita be rc pc sna := by
  have hlen := hW.1 n (Nat.le_refl _)
  have e4 : nI (zk ka n).length < 4 ↔ (zk ka n).length < 4 := nI_ltI (b := 4) (by omega) (by omega)
  have e2 : nI (zar ka false n) < 2 ↔ zar ka false n < 2 := nI_ltI (b := 2) (by omega) (by omega)
  have k234 : (k = 15 → zk ka n ≠ []) → (k = 13 → ∃ o, zk ka n = o :: zk ka o ∧ ka o = 12 ∧ ¬ zq ka n true o < n) → (k = 12 ∨ k = 14 → (zk ka n).length < 4) → wY_emit_234 post k x y z x5 x6 x7 ii (nI C) (nI n) ss ka xa ya za ce ita be rc pc sna := by
    intro a b c
    unfold wY_emit_234
    refine br_c (fun d => yar0 (by omega) (Nat.le_refl _) (br_c (fun e => hok ⟨a, b, c, fun _ => e2.mp e⟩) (fun e => htd (Or.inr ⟨d, fun h => e (e2.mpr h)⟩)))) (fun d => hok ⟨a, b, c, fun h => absurd h d⟩)
  have k206 : (k = 15 → zk ka n ≠ []) → (k = 13 → ∃ o, zk ka n = o :: zk ka o ∧ ka o = 12 ∧ ¬ zq ka n true o < n) → wY_emit_206 post k x y z x5 x6 x7 ii (nI C) (nI n) ss ka xa ya za ce ita be rc pc sna := by
    intro a b
    have k218 : (k = 12 ∨ k = 14) → wY_emit_218 post k x y z x5 x6 x7 ii (nI C) (nI n) ss ka xa ya za ce ita be rc pc sna := by
      intro c
      unfold wY_emit_218
      refine yar1 (by omega) (Nat.le_refl _) ?_
      rw [zar_t]
      exact br_c (fun d => k234 a b (fun _ => e4.mp d)) (fun d => htd (Or.inl ⟨c, fun h => d (e4.mpr h)⟩))
    unfold wY_emit_206
    exact br_c (fun c => k218 (Or.inl c)) (fun c => br_c (fun c' => k218 (Or.inr c')) (fun c' => k234 a b (fun h => absurd h (fun h => h.elim c c'))))
  unfold wY_emit_127
  refine br_t (nI_lt hn (by omega)) (yo (by omega) ?_)
  by_cases hz : zk ka n = []
  · rw [hz]
    have k163 : (k = 15 ∨ k = 13) → wY_emit_163 post k x y z x5 x6 x7 (zhI []) ii (nI C) (nI n) ss ka xa ya za ce ita be rc pc sna := by
      intro c
      unfold wY_emit_163
      refine br_f (by decide) (hbn ?_)
      rcases c with c | c
      · exact Or.inl ⟨c, hz⟩
      · refine Or.inr ⟨c, fun ⟨o, h, _⟩ => ?_⟩
        rw [hz] at h
        cases h
    refine br_c (fun c => k163 (Or.inl c)) (fun c => br_c (fun c' => k163 (Or.inr c')) (fun c' => ?_))
    unfold wY_emit_171
    exact br_f c' (k206 (fun h => absurd h c) (fun h => absurd h c'))
  · obtain ⟨o, ho, ho1, ho2, ho3⟩ := zk_ne hz
    have e : zhI (zk ka n) = nI o := by rw [ho]; rfl
    rw [e]
    have k171 : wY_emit_171 post k x y z x5 x6 x7 (nI o) ii (nI C) (nI n) ss ka xa ya za ce ita be rc pc sna := by
      unfold wY_emit_171
      rw [zcn (show o < 1000 by omega)]
      refine br_c (fun c => And.intro (zvi (by omega) (by omega)) (br_c (fun h12 => yc1 (by omega) ho1 ?_) (fun h12 => hbn (Or.inr ⟨c, fun ⟨o', h, h', _⟩ => ?_⟩)))) (fun c => k206 (fun _ => hz) (fun h => absurd h c))
      · have hb := zq_b (K := ka) (e := true) ho1
        refine br_c (fun d => ?_) (fun d => ?_)
        · have d' := (nI_leI (by omega) (by omega)).mp d
          exact k206 (fun _ => hz) (fun _ => ⟨o, ho, h12, by omega⟩)
        · have d' : zq ka n true o < n := by
            rcases Nat.lt_or_ge (zq ka n true o) n with h | h
            · exact h
            · exact absurd (nI_le h (by omega)) d
          refine hbn (Or.inr ⟨c, fun ⟨o', h, _, h''⟩ => ?_⟩)
          rw [ho] at h
          rw [← (List.cons.inj h).1] at h''
          exact h'' d'
      · rw [ho] at h
        rw [← (List.cons.inj h).1] at h'
        exact h12 h'
    have k163 : wY_emit_163 post k x y z x5 x6 x7 (nI o) ii (nI C) (nI n) ss ka xa ya za ce ita be rc pc sna := by
      unfold wY_emit_163
      exact br_t (nI_pos' (by omega)) k171
    exact br_c (fun c => k163) (fun c => br_c (fun c' => k163) (fun c' => k171))
end EMI
end
section
section VEM
variable {ii cc nn ss dd rr : Int32} {ka xa ya za ja la ra wa va oa ea ce be rc pc pa ca da sa ga ta ita sna : Nat → Int32}
theorem zch (P : Prop) (x : Int32) : ∃ v : Int32, (P → v = x) ∧ (¬ P → v = 0) := by
  by_cases h : P
  · exact ⟨x, fun _ => rfl, fun h' => absurd h h'⟩
  · exact ⟨0, fun h' => absurd h' h, fun _ => rfl⟩
theorem zvr8 {x : Int32} (h : zvr x) : ∃ j : Nat, j < 8 ∧ x = nI j := by
  obtain ⟨j, hj, e⟩ := nI_of2 (n := 7) rfl h.1 (Int32.not_lt.mp h.2)
  exact ⟨j, by omega, e⟩
theorem x144 {k x y z xv yv wv : Int32} {n C m : Nat} (hn : n < C) (hkn : zKn C n dd rr ka xa ya za ja la ra wa oa ea) (hm : m ≤ 16 ∧ k = nI m) (hG : zG ka n k) (hft : zft k x y z) (hxv : (zhx k → xv = x) ∧ (¬ zhx k → xv = 0))
    (hyv : (k = 0 ∨ zhy k → yv = y) ∧ (¬ (k = 0 ∨ zhy k) → yv = 0)) (hzv : (zhz k → wv = z) ∧ (¬ zhz k → wv = 0)) :
    ∃ dd' rr' : Int32, ∃ ja' la' ra' wa' oa' ea' : Nat → Int32, zKn C (n + 1) dd' rr' (upd ka n k) (upd xa n xv) (upd ya n yv) (upd za n wv) ja' la' ra' wa' oa' ea' ∧
      ∀ post : Int32 → SX → Prop, post (nI n) (ii, cc, (nI (n + 1)), ss, dd', rr', (upd ka n k), (upd xa n xv), (upd ya n yv), (upd za n wv), ja', la', ra', wa', va, oa', ea', ce, be, rc, pc, pa, ca, da, sa, ga, ta) → wX_emit_144 post (nI n) wv (nI n) ii cc (nI n) ss dd rr (upd ka n k) (upd xa n xv) (upd ya n yv) za ja la ra wa va oa ea ce be rc pc pa ca da sa ga ta := by
  obtain ⟨h1, h2, hW, hT, hF, hM, hd, hr, hO⟩ := hkn
  have hn32 : n < 32 := by omega
  have i1 : vp_in (nI n) 32 := zvi hn32 (by omega)
  have hKK : ∀ i, i < n → upd ka n k i = ka i := fun i hi => pk_un (by omega)
  obtain ⟨dd', rr', ja', la', oa', ea', ⟨q1, q2, q3, q4⟩, q5⟩ := xlk (ii := ii) (cc := cc) (nn := nI n) (ss := ss) (xa := upd xa n xv) (ya := upd ya n yv) (za := upd za n wv) (va := va) (ce := ce) (be := be) (rc := rc) (pc := pc) (pa := pa) (ca := ca) (da := da) (sa := sa) (ga := ga) (ta := ta)
    (ra := upd ra n (zRd (upd ka n k n) (upd xa n xv n) (upd ya n yv n) (upd za n wv n))) (wa := upd wa n (zWr (upd ka n k n) (upd xa n xv n)))
    (ka := upd ka n k) (ja := upd ja n (-1)) (la := upd la n 0) (oa := oa) (ea := ea) (K := ka) hn32 hKK hW (fun p hp => by rw [pk_un (by omega), pk_un (by omega)]; exact hT p hp) hO (by rw [pk_us]; exact hG) pk_us pk_us
  refine ⟨dd', rr', ja', la', upd ra n (zRd (upd ka n k n) (upd xa n xv n) (upd ya n yv n) (upd za n wv n)), upd wa n (zWr (upd ka n k n) (upd xa n xv n)), oa', ea', ⟨by omega, h2, zW_s hKK hW (by rw [pk_us]; exact hG), q3, fun p hp => ?_, fun p hp => ?_, q1, q2, q4⟩, fun post h => ?_⟩
  · by_cases e : p = n
    · subst e
      rw [pk_us, pk_us, pk_us, pk_us]
      refine ⟨⟨m, hm⟩, ?_, fun k0 => ?_, ?_⟩
      · by_cases c : zhx k
        · rw [hxv.1 c]; exact zvr8 (hft.1 c)
        · rw [hxv.2 c]; exact ⟨0, by omega, rfl⟩
      · by_cases c : zhy k
        · rw [hyv.1 (Or.inr c)]; exact zvr8 (hft.2.1 c)
        · rw [hyv.2 (fun h => h.elim k0 c)]; exact ⟨0, by omega, rfl⟩
      · by_cases c : zhz k
        · rw [hzv.1 c]; exact zvr8 (hft.2.2 c)
        · rw [hzv.2 c]; exact ⟨0, by omega, rfl⟩
    · rw [pk_un e, pk_un e, pk_un e, pk_un e]
      exact hF p (by omega)
  · by_cases e : p = n
    · subst e
      exact ⟨pk_us, pk_us⟩
    · rw [pk_un e, pk_un e, pk_un e, pk_un e, pk_un e, pk_un e]
      exact hM p (by omega)
  · unfold wX_emit_144
    rw [zcn (show n < 1000 by omega)]
    refine And.intro i1 (nm_e (And.intro i1 (nm_e (And.intro i1 (nm_e (xna hn32 ?_))))))
    rw [hd, hr]
    exact q5 _ (nm_r (nI_1 n) h)
theorem i_vc_emit {k : Nat} {u : SX} {v : SY} (I : i_Rel k u v) (hk : k + 5 ≤ 2562) (v1 : Int32) (v2 : Int32) (v3 : Int32) (v4 : Int32) : wpX_emit (fun r u' => wpY_emit (fun r' v' => r' = r ∧ i_Rel (k + 5) u' v') v v1 v2 v3 v4) u v1 v2 v3 v4 := by
  refine ze (P := fun u v => wpX_emit (fun r u' => wpY_emit (fun r' v' => r' = r ∧ i_Rel (k + 5) u' v') v v1 v2 v3 v4) u v1 v2 v3 v4) I ?_
  intro N C n ss dd rr ka xa ya za ja la ra wa va oa ea ce be rc pc pa ca da sa ga ta ita sna hN hK hS hB
  have R : i_Rel (k + 5) ((nI N), (nI C), (nI n), ss, dd, rr, ka, xa, ya, za, ja, la, ra, wa, va, oa, ea, ce, be, rc, pc, pa, ca, da, sa, ga, ta) ((nI N), (nI C), (nI n), ss, ka, xa, ya, za, ce, ita, be, rc, pc, sna) := zi hN hK hS hB
  have hn : n ≤ 32 := Nat.le_trans hK.1 hK.2.1
  unfold wpX_emit
  dsimp only
  refine br_c (fun e => ?_) (fun e => br_f e ⟨rfl, R⟩)
  have hv0 : ∀ p, p < 33 → va p = 0 := by
    rcases hS with h | h
    · exact h.2
    · rw [e] at h
      exact absurd h.1 (by decide)
  have hb1 : be 1 = 0 := Classical.byContradiction (fun h => by
    have := (hB.1 h).1
    rw [e] at this
    exact absurd this (by decide))
  have hb2 : be 2 = 0 := Classical.byContradiction (fun h => by
    have := (hB.2 h).1
    rw [e] at this
    exact absurd this (by decide))
  refine br_c (fun c => br_t e (br_t c ⟨rfl, R⟩)) (fun c0 => br_c (fun c16 => ?_) (fun c16 => br_t e (br_f c0 (br_f c16 ⟨rfl, R⟩))))
  obtain ⟨m, hm, em⟩ := nI_of2 (n := 16) rfl c0 c16
  refine xof (fun hft => br_f n10 (br_c (fun hlt => ?_) (fun hlt => ?_))) (fun hft => br_t rfl (yfit c0 c16 e (fun _ => ⟨rfl, R⟩) (fun h => absurd h hft)))
  · have hlt' : n < C := (nI_ltI (by omega) (by have := hK.2.1; omega)).mp hlt
    have hd := hK.2.2.2.2.2.2.1
    have hr := hK.2.2.2.2.2.2.2.1
    have i1 : vp_in (nI n) 32 := zvi (by have := hK.2.1; omega) (by omega)
    rw [hd, hr] at R ⊢
    refine xnr hn hK.2.2.1 hK.2.2.2.2.2.2.2.2 (fun hG => br_t rfl ?_) (fun hbn => br_f (by decide) ?_) (fun htd => br_f (by decide) ?_)
    · obtain ⟨xv, hxv⟩ := zch (zhx v1) v2
      obtain ⟨yv, hyv⟩ := zch (v1 = 0 ∨ zhy v1) v3
      obtain ⟨wv, hzv⟩ := zch (zhz v1) v4
      obtain ⟨dd', rr', ja', la', ra', wa', oa', ea', q1, q2⟩ := x144 (ii := nI N) (cc := nI C) (ss := ss) (va := va) (ce := ce) (be := be) (rc := rc) (pc := pc) (pa := pa) (ca := ca) (da := da) (sa := sa) (ga := ga) (ta := ta) hlt' hK ⟨hm, em⟩ hG hft hxv hyv hzv
      rw [hd, hr] at q2
      have k99 : wX_emit_99 (fun r u' => wpY_emit (fun r' v' => r' = r ∧ i_Rel (k + 5) u' v') ((nI N), (nI C), (nI n), ss, ka, xa, ya, za, ce, ita, be, rc, pc, sna) v1 v2 v3 v4) v1 v3 v4 (nI n) xv (nI n) (nI N) (nI C) (nI n) ss (nI (zk ka n).length) (nI (zar ka false n)) (upd ka n v1) xa ya za ja la ra wa va oa ea ce be rc pc pa ca da sa ga ta := by
        refine x99 (x := v2) (by have := hK.2.1; omega) rfl hyv hzv (q2 _ ?_)
        refine yfit c0 c16 e (fun h => absurd hft h) (fun _ x5 x6 x7 g5 g6 g7 => ?_)
        refine ynest hlt' hK.2.1 hK.2.2.1 (fun _ => ?_) (fun hbn => ?_) (fun htd => ?_)
        · have k284 : wY_emit_284 (fun r' v' => r' = nI n ∧ i_Rel (k + 5) ((nI N), (nI C), (nI (n + 1)), ss, dd', rr', (upd ka n v1), (upd xa n xv), (upd ya n yv), (upd za n wv), ja', la', ra', wa', va, oa', ea', ce, be, rc, pc, pa, ca, da, sa, ga, ta) v') v1 v3 v4 x6 x7 xv (nI n) (nI N) (nI C) (nI n) ss (upd ka n v1) xa ya za ce ita be rc pc sna := by
            refine y284 (x := v2) (by have := hK.2.1; omega) g6 g7 hyv hzv ⟨rfl, zi hN q1 (Or.inl ⟨e, hv0⟩) ⟨fun h => absurd hb1 h, fun h => absurd hb2 h⟩⟩
          unfold wY_emit_256
          rw [zcn (show n < 1000 by omega)]
          refine And.intro i1 (nm_e (br_c (fun c => ?_) (fun c => ?_)))
          · rw [hxv.2 (fun h => n10 ((g5.1 h).symm.trans c))] at k284 ⊢
            exact k284
          · rw [hxv.1 (Classical.byContradiction (fun h => c (g5.2 h)))] at k284 ⊢
            exact k284
        · exfalso
          rcases hbn with ⟨h1, h2⟩ | ⟨h1, h2⟩
          · exact hG.1 h1 h2
          · exact h2 (hG.2.1 h1)
        · exfalso
          rcases htd with ⟨h1, h2⟩ | ⟨h1, h2⟩
          · exact h2 (hG.2.2.1 h1)
          · exact h2 (hG.2.2.2 h1)
      rw [zcn (show n < 1000 by omega)]
      refine And.intro i1 (nm_e (xux (fun c => br_f n10 ?_) (fun c => br_t rfl ?_)))
      · rw [hxv.1 c] at k99
        exact k99
      · rw [hxv.2 c] at k99
        exact k99
    · refine yfit c0 c16 e (fun h => absurd hft h) (fun _ x5 x6 x7 g5 g6 g7 => ynest hlt' hK.2.1 hK.2.2.1 (fun hG => ?_) (fun _ => ⟨rfl, R⟩) (fun htd => ?_))
      · exfalso
        rcases hbn with ⟨h1, h2⟩ | ⟨h1, h2⟩
        · exact hG.1 h1 h2
        · exact h2 (hG.2.1 h1)
      · exfalso
        rcases hbn with ⟨h1, _⟩ | ⟨h1, _⟩
        · rcases htd with ⟨h3 | h3, _⟩ | ⟨h3, _⟩ <;> rw [h1] at h3 <;> exact absurd h3 (by decide)
        · rcases htd with ⟨h3 | h3, _⟩ | ⟨h3, _⟩ <;> rw [h1] at h3 <;> exact absurd h3 (by decide)
    · refine yfit c0 c16 e (fun h => absurd hft h) (fun _ x5 x6 x7 g5 g6 g7 => ynest hlt' hK.2.1 hK.2.2.1 (fun hG => ?_) (fun hbn => ?_) (fun _ => ⟨rfl, R⟩))
      · exfalso
        rcases htd with ⟨h1, h2⟩ | ⟨h1, h2⟩
        · exact h2 (hG.2.2.1 h1)
        · exact h2 (hG.2.2.2 h1)
      · exfalso
        rcases hbn with ⟨h1, _⟩ | ⟨h1, _⟩
        · rcases htd with ⟨h3 | h3, _⟩ | ⟨h3, _⟩ <;> rw [h1] at h3 <;> exact absurd h3 (by decide)
        · rcases htd with ⟨h3 | h3, _⟩ | ⟨h3, _⟩ <;> rw [h1] at h3 <;> exact absurd h3 (by decide)
  · refine yfit c0 c16 e (fun h => absurd hft h) (fun _ x5 x6 x7 g5 g6 g7 => ?_)
    unfold wY_emit_127
    exact br_f hlt ⟨rfl, R⟩
end VEM
end
section
/-! a region of the sequential side -/
def zre (m : Int32) (ta : Nat → Int32) (i : Nat) (ga : Nat → Int32) : Nat → Nat → Int32
  | 0 => ga
  | k + 1 => if bt m k = true then upd (zre m ta i ga k) k (ta (i * 8 + k)) else zre m ta i ga k
def zsv (m : Int32) (ga : Nat → Int32) (i : Nat) (ta : Nat → Int32) : Nat → Nat → Int32
  | 0 => ta
  | k + 1 => if bt m k = true then upd (zsv m ga i ta k) (i * 8 + k) (ga k) else zsv m ga i ta k
theorem zre_v {m : Int32} {ta ga : Nat → Int32} {i : Nat} : ∀ c : Nat, (∀ k, k < c → bt m k = true → zre m ta i ga c k = ta (i * 8 + k)) ∧ (∀ t, c ≤ t → zre m ta i ga c t = ga t) := by
  intro c
  induction c with
  | zero => exact ⟨fun k h => by omega, fun t _ => rfl⟩
  | succ c ih =>
    by_cases e : bt m c = true
    · have hz : zre m ta i ga (c + 1) = upd (zre m ta i ga c) c (ta (i * 8 + c)) := if_pos e
      rw [hz]
      refine ⟨fun k hk hb => ?_, fun t ht => ?_⟩
      · by_cases ek : k = c
        · rw [ek, pk_us]
        · rw [pk_un ek]; exact ih.1 k (by omega) hb
      · rw [pk_un (by omega)]; exact ih.2 t (by omega)
    · have hz : zre m ta i ga (c + 1) = zre m ta i ga c := if_neg e
      rw [hz]
      refine ⟨fun k hk hb => ?_, fun t ht => ih.2 t (by omega)⟩
      by_cases ek : k = c
      · rw [ek] at hb; exact absurd hb e
      · exact ih.1 k (by omega) hb
theorem zsv_v {m : Int32} {ta ga : Nat → Int32} {i : Nat} : ∀ c : Nat, (∀ k, k < c → bt m k = true → zsv m ga i ta c (i * 8 + k) = ga k) ∧ (∀ t, t < i * 8 ∨ i * 8 + c ≤ t → zsv m ga i ta c t = ta t) := by
  intro c
  induction c with
  | zero => exact ⟨fun k h => by omega, fun t _ => rfl⟩
  | succ c ih =>
    by_cases e : bt m c = true
    · have hz : zsv m ga i ta (c + 1) = upd (zsv m ga i ta c) (i * 8 + c) (ga c) := if_pos e
      rw [hz]
      refine ⟨fun k hk hb => ?_, fun t ht => ?_⟩
      · by_cases ek : k = c
        · rw [ek, pk_us]
        · rw [pk_un (by omega)]; exact ih.1 k (by omega) hb
      · rw [pk_un (by omega)]; exact ih.2 t (by omega)
    · have hz : zsv m ga i ta (c + 1) = zsv m ga i ta c := if_neg e
      rw [hz]
      refine ⟨fun k hk hb => ?_, fun t ht => ih.2 t (by omega)⟩
      by_cases ek : k = c
      · rw [ek] at hb; exact absurd hb e
      · exact ih.1 k (by omega) hb
section REG
variable {ii cc nn ss dd rr : Int32} {ka xa ya za ja la ra wa va oa ea ce be rc pc pa ca da sa ga ta ita sna : Nat → Int32}
theorem xrest {post : SX → Prop} {i p : Nat} (hi : i < 8) (hp : p ≤ 32) (e : pa (8 + i) = nI p) (h : post (ii, cc, nn, ss, dd, rr, ka, xa, ya, za, ja, la, ra, wa, va, oa, ea, ce, be, rc, pc, pa, ca, da, sa, (zre (va p) ta i ga 8), ta)) : wpX_restore post (ii, cc, nn, ss, dd, rr, ka, xa, ya, za, ja, la, ra, wa, va, oa, ea, ce, be, rc, pc, pa, ca, da, sa, ga, ta) (nI i) := by
  have key : ∀ (f c : Nat), c ≤ 8 → 8 - c < f → wX_restore_17 post (nI i) (va p) ii cc nn ss dd rr f (nI c) ka xa ya za ja la ra wa va oa ea ce be rc pc pa ca da sa (zre (va p) ta i ga c) ta := by
    intro f
    induction f with
    | zero => intro c h1 h2; omega
    | succ f ih =>
      intro c h1 h2
      unfold wX_restore_17
      by_cases e8 : c = 8
      · subst e8
        exact br_t (by decide) h
      · have ihs := ih (c + 1) (by omega) (by omega)
        refine br_f (nI_ge (a := c) (b := 8) (by omega) (by omega)) (br_c (fun et => ?_) (fun et => ?_))
        · have hz : zre (va p) ta i ga (c + 1) = zre (va p) ta i ga c := if_neg ((b_tst (by omega)).mp et)
          rw [hz] at ihs
          exact nm_r (nI_1 c) ihs
        · have hz : zre (va p) ta i ga (c + 1) = upd (zre (va p) ta i ga c) c (ta (i * 8 + c)) := if_pos (Classical.byContradiction (fun h => et ((b_tst (by omega)).mpr h)))
          rw [hz] at ihs
          rw [zsl, zcn (show i * 8 + c < 1000 by omega), zcn (show c < 1000 by omega)]
          exact And.intro (zvi (by omega) (by omega)) (And.intro (zvi (by omega) (by omega)) (nm_e (nm_r (nI_1 c) ihs)))
  unfold wpX_restore
  dsimp only
  rw [show (8 : Int32) + nI i = nI (8 + i) from nI_add 8 i, zcn (show 8 + i < 1000 by omega), e, zcn (show p < 1000 by omega)]
  exact And.intro (zvi (by omega) (by omega)) (And.intro (zvi (by omega) (by omega)) (nm_e ⟨9, key 9 0 (by omega) (by omega)⟩))
theorem xsave {post : SX → Prop} {i p n : Nat} (hn : n ≤ 32) (hi : i < 8) (hp : p ≤ n) (e : pa (8 + i) = nI p) (h : post (ii, cc, (nI n), ss, dd, rr, ka, xa, ya, za, ja, la, ra, wa, va, oa, ea, ce, be, rc, pc, pa, ca, da, sa, ga, (if p < n ∧ ka p = 16 then zsv (va (p + 1)) ga i ta 8 else ta))) : wpX_save post (ii, cc, (nI n), ss, dd, rr, ka, xa, ya, za, ja, la, ra, wa, va, oa, ea, ce, be, rc, pc, pa, ca, da, sa, ga, ta) (nI i) := by
  unfold wpX_save
  dsimp only
  rw [show (8 : Int32) + nI i = nI (8 + i) from nI_add 8 i, zcn (show 8 + i < 1000 by omega), e]
  refine And.intro (zvi (by omega) (by omega)) (nm_e ?_)
  by_cases hb : p < n ∧ ka p = 16
  · rw [if_pos hb] at h
    have key : ∀ (f c : Nat), c ≤ 8 → 8 - c < f → wX_save_31 post (nI i) (va (p + 1)) ii cc (nI n) ss dd rr f (nI c) ka xa ya za ja la ra wa va oa ea ce be rc pc pa ca da sa ga (zsv (va (p + 1)) ga i ta c) := by
      intro f
      induction f with
      | zero => intro c h1 h2; omega
      | succ f ih =>
        intro c h1 h2
        unfold wX_save_31
        by_cases e8 : c = 8
        · subst e8
          exact br_t (by decide) h
        · have ihs := ih (c + 1) (by omega) (by omega)
          refine br_f (nI_ge (a := c) (b := 8) (by omega) (by omega)) (br_c (fun et => ?_) (fun et => ?_))
          · have hz : zsv (va (p + 1)) ga i ta (c + 1) = zsv (va (p + 1)) ga i ta c := if_neg ((b_tst (by omega)).mp et)
            rw [hz] at ihs
            exact nm_r (nI_1 c) ihs
          · have hz : zsv (va (p + 1)) ga i ta (c + 1) = upd (zsv (va (p + 1)) ga i ta c) (i * 8 + c) (ga c) := if_pos (Classical.byContradiction (fun h => et ((b_tst (by omega)).mpr h)))
            rw [hz] at ihs
            rw [zsl, zcn (show i * 8 + c < 1000 by omega), zcn (show c < 1000 by omega)]
            exact And.intro (zvi (by omega) (by omega)) (And.intro (zvi (by omega) (by omega)) (nm_e (nm_r (nI_1 c) ihs)))
    refine xbar1 hn hb.1 hb.2 (br_f n10 ?_)
    rw [nI_1, zcn (show p + 1 < 1000 by omega)]
    exact And.intro (zvi (by omega) (by omega)) (nm_e ⟨9, key 9 0 (by omega) (by omega)⟩)
  · rw [if_neg hb] at h
    refine xbar0 hn (fun q hq1 hq2 h16 => hb ?_) (br_t rfl h)
    have := (nIe (by omega) (by omega)).mp hq1
    rw [this]
    exact ⟨hq2, h16⟩
def zR1 (ka xa ya za : Nat → Int32) (n N i : Nat) (pa ca da sa rc ta ita : Nat → Int32) : Prop := zD ka n N 1 pa ca da sa ita rc ∧
  ∀ j, j < N → (i ≤ j → ∀ k, k < 8 → zLV ka xa ya za n k (zPl pa 1 j) → ta (j * 8 + k) = ita (104 + j * 13 + k)) ∧
    (j < i → ¬ zrun ka n (zPl pa 1 j) ∧ (zPl pa 1 j < n → ∀ k, k < 8 → zLV ka xa ya za n k (zPl pa 1 j + 1) → ta (j * 8 + k) = ita (104 + j * 13 + k)))
def zF1 (pa ca da sa ga rc ita pa' ca' da' sa' ga' rc' ita' : Nat → Int32) : Prop :=
  (∀ t, 16 ≤ t → pa' t = pa t ∧ da' t = da t ∧ sa' t = sa t) ∧ (∀ t, 32 ≤ t → ca' t = ca t) ∧ (∀ t, 8 ≤ t → ga' t = ga t) ∧ (∀ t, 208 ≤ t → ita' t = ita t) ∧ (∀ t, t ≠ 1 → rc' t = rc t)
theorem zF1_r : zF1 pa ca da sa ga rc ita pa ca da sa ga rc ita := ⟨fun _ _ => ⟨rfl, rfl, rfl⟩, fun _ _ => rfl, fun _ _ => rfl, fun _ _ => rfl, fun _ _ => rfl⟩
theorem zF1_t {pa' ca' da' sa' ga' rc' ita' pa'' ca'' da'' sa'' ga'' rc'' ita'' : Nat → Int32} (h : zF1 pa ca da sa ga rc ita pa' ca' da' sa' ga' rc' ita') (h' : zF1 pa' ca' da' sa' ga' rc' ita' pa'' ca'' da'' sa'' ga'' rc'' ita'') : zF1 pa ca da sa ga rc ita pa'' ca'' da'' sa'' ga'' rc'' ita'' := by
  refine ⟨fun t ht => ?_, fun t ht => ?_, fun t ht => ?_, fun t ht => ?_, fun t ht => ?_⟩
  · have a := h.1 t ht
    have b := h'.1 t ht
    exact ⟨b.1.trans a.1, b.2.1.trans a.2.1, b.2.2.trans a.2.2⟩
  · exact (h'.2.1 t ht).trans (h.2.1 t ht)
  · exact (h'.2.2.1 t ht).trans (h.2.2.1 t ht)
  · exact (h'.2.2.2.1 t ht).trans (h.2.2.2.1 t ht)
  · exact (h'.2.2.2.2 t ht).trans (h.2.2.2.2 t ht)
theorem zF1_D {n N : Nat} {pa' ca' da' sa' ga' rc' ita' : Nat → Int32} (h : zF1 pa ca da sa ga rc ita pa' ca' da' sa' ga' rc' ita') (hD : zD ka n N 2 pa ca da sa ita rc) : zD ka n N 2 pa' ca' da' sa' ita' rc' := by
  refine zD_cg (fun i hi => ?_) (fun i hi w h1 h2 => h.2.2.2.1 _ (by omega)) (h.2.2.2.2 2 (by omega)) hD
  have f1 := h.1 (2 * 8 + i) (by omega)
  exact ⟨f1.1, f1.2.1, f1.2.2, h.2.1 _ (by omega), h.2.1 _ (by omega)⟩
theorem zF1_G {N : Nat} {pa' ca' da' sa' ga' rc' ita' : Nat → Int32} (h : zF1 pa ca da sa ga rc ita pa' ca' da' sa' ga' rc' ita') (hG : zG2 N ga ita) : zG2 N ga' ita' := by
  intro i hi k hk
  rw [h.2.2.1 _ (by omega), h.2.2.2.1 _ (by omega)]
  exact hG i hi k hk
/-- what item 0 may still do -/
def zm0 (ka : Nat → Int32) (n : Nat) (pa ca : Nat → Int32) : Nat := zmu ka n (ca 16).toNatClampNeg (ca 17).toNatClampNeg (zPl pa 1 0)
theorem zA_L {n : Nat} : zA (fun p k => zLV ka xa ya za n k p) ka xa ya za n := by
  refine ⟨fun p hp k _ h => zLV_r hp h, fun p hp k _ g h => ?_⟩
  by_cases hw : zwr ka xa p k
  · exact Or.inl hw
  · exact Or.inr (zLV_s hp hw h)
theorem zLV_b {n p k : Nat} (hp : p < n) (h16 : ka p = 16) (h : zLV ka xa ya za n k (p + 1)) : zLV ka xa ya za n k p := by
  refine zLV_s (g := false) hp (fun hw => hw.1 (by rw [h16]; decide)) ?_
  rw [zx_f (by rw [h16]; decide)]
  exact h
def zRg (ka xa ya za : Nat → Int32) (N n i d : Nat) (cc ss dd rr : Int32) (ja la ra wa va oa ea ce be rc pc pa ca da sa ga ta ita sna : Nat → Int32) : Prop :=
  ∃ pa' ca' da' sa' ga' ce' rc' ta' ita' : Nat → Int32, zR1 ka xa ya za n N N pa' ca' da' sa' rc' ta' ita' ∧ zF1 pa ca da sa ga rc ita pa' ca' da' sa' ga' rc' ita' ∧ zm0 ka n pa' ca' ≤ zm0 ka n pa ca ∧
    (∀ (f : Nat) (post : Int32 → SX → Prop), d < f → (∀ f', 0 < f' → wX_runRegion_2 post f' (nI N) (nI N) cc (nI n) ss dd rr ka xa ya za ja la ra wa va oa ea ce' be rc' pc pa' ca' da' sa' ga' ta') → wX_runRegion_2 post f (nI i) (nI N) cc (nI n) ss dd rr ka xa ya za ja la ra wa va oa ea ce be rc pc pa ca da sa ga ta) ∧
    (∀ (f : Nat) (post : Int32 → SY → Prop) (J : Int32 → Int32 → Int32 → Int32 → Int32 → (Nat → Int32) → (Nat → Int32) → (Nat → Int32) → (Nat → Int32) → (Nat → Int32) → (Nat → Int32) → (Nat → Int32) → (Nat → Int32) → (Nat → Int32) → (Nat → Int32) → Prop) (x1 : Int32), d < f →
      (∀ f', 0 < f' → wY_run_26 post J x1 f' (nI N) (nI N) cc (nI n) ss ka xa ya za ce' ita' be rc' pc sna) → wY_run_26 post J x1 f (nI i) (nI N) cc (nI n) ss ka xa ya za ce ita be rc pc sna)
theorem rg_l {n N : Nat} (hS : zS ka n) (hT : zT ka n ja la) (hF : zF ka xa ya za n) (hV : zV ka xa ya za n va) (hN : N ≤ 8) :
    ∀ (d i : Nat) (ce rc pa ca da sa ga ta ita : Nat → Int32), i + d = N → zR1 ka xa ya za n N i pa ca da sa rc ta ita → zRg ka xa ya za N n i d cc ss dd rr ja la ra wa va oa ea ce be rc pc pa ca da sa ga ta ita sna := by
  have hn := hS.2.2
  intro d
  induction d with
  | zero =>
    intro i ce rc pa ca da sa ga ta ita hi hR
    have hi' : i = N := by omega
    subst hi'
    exact ⟨pa, ca, da, sa, ga, ce, rc, ta, ita, hR, zF1_r, Nat.le_refl _, fun f post hf h => h f (by omega), fun f post J x1 hf h => h f (by omega)⟩
  | succ d ih =>
    intro i ce rc pa ca da sa ga ta ita hi hR
    have hiN : i < N := by omega
    obtain ⟨hD, hR2⟩ := hR
    obtain ⟨g1, g2, g3, a, b, g4, g5, g6⟩ := zPl_e hD hn hiN
    have hri := (hR2 i hiN).1 (Nat.le_refl _)
    have hzre := zre_v (m := va (zPl pa 1 i)) (ta := ta) (ga := ga) (i := i) 8
    have hI : zIt (fun p k => zLV ka xa ya za n k p) ka n 1 i pa ca (zre (va (zPl pa 1 i)) ta i ga 8) ita (zPl pa 1 i) a b := by
      refine ⟨g2, g1, g4, g5, g6, fun k hk hL => ?_⟩
      show zre (va (zPl pa 1 i)) ta i ga 8 (0 + k) = _
      rw [Nat.zero_add, hzre.1 k hk ((hV _ g2 k (by omega)).mpr hL)]
      exact hri k hk hL
    obtain ⟨pa', ca', da', sa', ga', ce', rc', ita', p', a', b', kk, q1, q2, q3, q4, q5, q6, q7⟩ := adv (cx := 512) (cy := 1000) (ra := ra) (wa := wa) (va := va) (oa := oa) (ea := ea) (ce := ce) (be := be) (pc := pc) (ta := ta) (sna := sna) (cc := cc) (ss := ss) (dd := dd) (rr := rr) (Or.inr ⟨rfl, rfl⟩)
      (show zH0 (fun p k => zLV ka xa ya za n k p) 1 i N n (zPl pa 1 i) a b ka xa ya za ja la rc pa ca da sa (zre (va (zPl pa 1 i)) ta i ga 8) ita from ⟨hS, hT, hF, Or.inl rfl, hiN, hN, hD, hI, zA_L⟩)
    have hnr := q5 rfl rfl
    obtain ⟨w1, w2, w3, w4, w5, w6⟩ := q3
    have hpl' : zPl pa' 1 i = p' := by
      unfold zPl
      rw [w2, zcn (by omega)]
    have hplo : ∀ j, j ≠ i → zPl pa' 1 j = zPl pa 1 j := fun j hj => by
      unfold zPl
      rw [(q1.1 (1 * 8 + j) (by omega)).1]
    have hzsv := zsv_v (m := va (p' + 1)) (ta := ta) (ga := ga') (i := i) 8
    have hta : ∀ t, t < i * 8 ∨ i * 8 + 8 ≤ t → (if p' < n ∧ ka p' = 16 then zsv (va (p' + 1)) ga' i ta 8 else ta) t = ta t := by
      intro t ht
      by_cases hb : p' < n ∧ ka p' = 16
      · rw [if_pos hb]; exact hzsv.2 t ht
      · rw [if_neg hb]
    have hR' : zR1 ka xa ya za n N (i + 1) pa' ca' da' sa' rc' (if p' < n ∧ ka p' = 16 then zsv (va (p' + 1)) ga' i ta 8 else ta) ita' := by
      refine ⟨q2, fun j hj => ?_⟩
      by_cases e : j = i
      · subst e
        refine ⟨fun h => by omega, fun _ => ?_⟩
        rw [hpl']
        refine ⟨hnr, fun hlt k hk hL => ?_⟩
        have h16 : ka p' = 16 := Classical.byContradiction (fun h => hnr ⟨hlt, h⟩)
        rw [if_pos ⟨hlt, h16⟩, hzsv.1 k hk ((hV _ (by omega) k (by omega)).mpr hL)]
        have := w6 k hk (zLV_b hlt h16 hL)
        rw [show zbs 1 j + k = k from Nat.zero_add k] at this
        exact this
      · rw [hplo j e]
        have hit : ∀ k, k < 8 → ita' (104 + j * 13 + k) = ita (104 + j * 13 + k) := fun k hk => q1.2.2.2.1 _ (by omega)
        refine ⟨fun h k hk hL => ?_, fun h => ⟨((hR2 j hj).2 (by omega)).1, fun hlt k hk hL => ?_⟩⟩
        · rw [hta _ (by omega), hit k hk]
          exact (hR2 j hj).1 (by omega) k hk hL
        · rw [hta _ (by omega), hit k hk]
          exact ((hR2 j hj).2 (by omega)).2 hlt k hk hL
    have hf1 : zF1 pa ca da sa ga rc ita pa' ca' da' sa' ga' rc' ita' := by
      refine ⟨fun t ht => q1.1 t (by omega), fun t ht => q1.2.1 t (by omega) (by omega), fun t ht => ?_, fun t ht => q1.2.2.2.1 t (by omega), fun t ht => q1.2.2.2.2 t ht⟩
      rw [q1.2.2.1 t (by rw [show zbs 1 i = 0 from rfl]; omega)]
      exact hzre.2 t ht
    have hm : zm0 ka n pa' ca' ≤ zm0 ka n pa ca := by
      unfold zm0
      by_cases e : i = 0
      · subst e
        rw [hpl', show ca' 16 = nI a' from w3, show ca' 17 = nI b' from w4, show ca 16 = nI a from g4, show ca 17 = nI b from g5, zcn (show a' < 1000 by have := w5.1; omega), zcn (show b' < 1000 by have := w5.2.1; omega), zcn (show a < 1000 by have := g6.1; omega), zcn (show b < 1000 by have := g6.2.1; omega)]
        exact q4
      · rw [hplo 0 (by omega), q1.2.1 16 (by omega) (by omega), q1.2.1 17 (by omega) (by omega)]
        exact Nat.le_refl _
    obtain ⟨pa'', ca'', da'', sa'', ga'', ce'', rc'', ta'', ita'', z1, z2, z3, z4, z5⟩ := ih (i + 1) ce' rc' pa' ca' da' sa' ga' (if p' < n ∧ ka p' = 16 then zsv (va (p' + 1)) ga' i ta 8 else ta) ita' (by omega) hR'
    refine ⟨pa'', ca'', da'', sa'', ga'', ce'', rc'', ta'', ita'', z1, zF1_t hf1 z2, Nat.le_trans z3 hm, fun f post hf h => ?_, fun f post J x1 hf h => ?_⟩
    · cases f with
      | zero => omega
      | succ f =>
        unfold wX_runRegion_2
        refine br_f (nI_ge hiN (by omega)) (xrest (by omega) (by omega) g1 ?_)
        refine q6 _ ?_
        refine xsave hn (by omega) w1 w2 ?_
        exact nm_r (nI_1 i) (z4 f post (by omega) h)
    · cases f with
      | zero => omega
      | succ f =>
        unfold wY_run_26
        refine br_f (nI_ge hiN (by omega)) (q7 _ ?_)
        exact nm_r (nI_1 i) (z5 f post J x1 (by omega) h)
end REG
end
section
/-! run -/
section RUN
variable {ii cc nn ss dd rr : Int32} {ka xa ya za ja la ra wa va oa ea ce be rc pc pa ca da sa ga ta ita sna : Nat → Int32}
def zRn (ka xa ya za : Nat → Int32) (N n M ph : Nat) (cc ss dd rr : Int32) (ja la ra wa va oa ea ce be rc pc pa ca da sa ga ta ita sna : Nat → Int32) : Prop :=
  ∃ r rf : Int32, ∃ pa' ca' da' sa' ga' ce' rc' pc' ta' ita' : Nat → Int32, (∀ post : Int32 → Prop, post r → wpX_groupState post ((nI N), cc, (nI n), ss, dd, rr, ka, xa, ya, za, ja, la, ra, wa, va, oa, ea, ce, be, rc, pc, pa, ca, da, sa, ga, ta) 1) ∧ zD ka n N 1 pa' ca' da' sa' ita' rc' ∧ zF1 pa ca da sa ga rc ita pa' ca' da' sa' ga' rc' ita' ∧
    (∀ (f : Nat) (post : Int32 → SX → Prop), M < f → post rf ((nI N), cc, (nI n), ss, dd, rr, ka, xa, ya, za, ja, la, ra, wa, va, oa, ea, ce', be, rc', pc', pa', ca', da', sa', ga', ta') → wX_run_43 post f r (nI ph) (nI N) cc (nI n) ss dd rr ka xa ya za ja la ra wa va oa ea ce be rc pc pa ca da sa ga ta) ∧
    (∀ (f f' : Nat) (post : Int32 → SY → Prop), M < f → 0 < f' → post rf ((nI N), cc, (nI n), ss, ka, xa, ya, za, ce', ita', be, rc', pc', sna) → wY_run_26 post (wY_run_17 post f) (nI ph) f' (nI N) (nI N) cc (nI n) ss ka xa ya za ce ita be rc pc sna)
theorem run_l {n N : Nat} (hS : zS ka n) (hT : zT ka n ja la) (hF : zF ka xa ya za n) (hV : zV ka xa ya za n va) (hN : 1 ≤ N ∧ N ≤ 8) (hb : ¬ be 1 = 0) :
    ∀ (M ph : Nat) (ce rc pc pa ca da sa ga ta ita : Nat → Int32), zR1 ka xa ya za n N N pa ca da sa rc ta ita → zm0 ka n pa ca ≤ M → M + ph ≤ 512 → zRn ka xa ya za N n M ph cc ss dd rr ja la ra wa va oa ea ce be rc pc pa ca da sa ga ta ita sna := by
  have hn := hS.2.2
  intro M
  induction M with
  | zero =>
    intro ph ce rc pc pa ca da sa ga ta ita hR hm hph
    obtain ⟨hD, hR2⟩ := hR
    obtain ⟨r, r1, r2, r3⟩ := gs (cc := cc) (ss := ss) (dd := dd) (rr := rr) (xa := xa) (ya := ya) (za := za) (ja := ja) (la := la) (ra := ra) (wa := wa) (va := va) (oa := oa) (ea := ea) (ce := ce) (be := be) (pc := pc) (ga := ga) (ta := ta) (sna := sna) hn (Or.inl rfl) hN hb hD
    have h2 : ¬ r = 2 := by
      intro h2
      rw [h2] at r1
      have hh : ∀ i, i < N → zPl pa 1 i < n ∧ ka (zPl pa 1 i) = 16 := by
        rcases r1 with h | h | h | h
        · exact absurd h.1 (by decide)
        · exact fun i hi => (h.2 i hi).2
        · exact absurd h.1 (by decide)
        · exact absurd h.1 (by decide)
      have h16 := (hh 0 (by omega)).2
      have := zmu_f (n := n) (a := (ca 16).toNatClampNeg) (b := (ca 17).toNatClampNeg) (zrl_p (K := ka) (p := zPl pa 1 0) (by rw [h16]; decide) (by rw [h16]; decide)) (Nat.lt_succ_self _) (hh 0 (by omega)).1
      unfold zm0 at hm
      omega
    refine ⟨r, r, pa, ca, da, sa, ga, ce, rc, pc, ta, ita, r2, hD, zF1_r, fun f post hf h => ?_, fun f f' post hf hf' h => ?_⟩
    · cases f with
      | zero => omega
      | succ f =>
        unfold wX_run_43
        exact br_c (fun _ => h) (fun _ => br_f h2 h)
    · cases f' with
      | zero => omega
      | succ f' =>
        unfold wY_run_26
        exact br_t (nI_le (Nat.le_refl _) (by omega)) (r3 _ (br_f h2 (r3 _ h)))
  | succ M ih =>
    intro ph ce rc pc pa ca da sa ga ta ita hR hm hph
    obtain ⟨hD, hR2⟩ := hR
    obtain ⟨r, r1, r2, r3⟩ := gs (cc := cc) (ss := ss) (dd := dd) (rr := rr) (xa := xa) (ya := ya) (za := za) (ja := ja) (la := la) (ra := ra) (wa := wa) (va := va) (oa := oa) (ea := ea) (ce := ce) (be := be) (pc := pc) (ga := ga) (ta := ta) (sna := sna) hn (Or.inl rfl) hN hb hD
    by_cases h2 : r = 2
    · have hh : ∀ i, i < N → zPl pa 1 i < n ∧ ka (zPl pa 1 i) = 16 := by
        rw [h2] at r1
        rcases r1 with h | h | h | h
        · exact absurd h.1 (by decide)
        · exact fun i hi => (h.2 i hi).2
        · exact absurd h.1 (by decide)
        · exact absurd h.1 (by decide)
      have hps := zD_ps (s := 1) (by omega) hN.2 hn hD hh
      have h16 := (hh 0 (by omega)).2
      have hm' : zm0 ka n (zpP pa 1 N) ca ≤ M := by
        have := zmu_f (n := n) (a := (ca 16).toNatClampNeg) (b := (ca 17).toNatClampNeg) (zrl_p (K := ka) (p := zPl pa 1 0) (by rw [h16]; decide) (by rw [h16]; decide)) (Nat.lt_succ_self _) (hh 0 (by omega)).1
        unfold zm0 at hm ⊢
        rw [hps.2 0 (by omega)]
        omega
      have hR0 : zR1 ka xa ya za n N 0 (zpP pa 1 N) ca (zp0 da 1 N) (zp0 sa 1 N) rc ta (zpI ita 1 N) := by
        refine ⟨hps.1, fun j hj => ⟨fun _ k hk hL => ?_, fun h => by omega⟩⟩
        rw [hps.2 j hj] at hL
        rw [show 104 + j * 13 + k = 1 * 104 + j * 13 + k by omega, zpI_g hk]
        exact ((hR2 j hj).2 hj).2 (hh j hj).1 k hk hL
      have hfp : zF1 pa ca da sa ga rc ita (zpP pa 1 N) ca (zp0 da 1 N) (zp0 sa 1 N) ga rc (zpI ita 1 N) := by
        have := hN.2
        refine ⟨fun t ht => ⟨?_, ?_, ?_⟩, fun _ _ => rfl, fun _ _ => rfl, fun t ht => zpI_n N t (fun i hi => by omega), fun _ _ => rfl⟩
        · rw [zpP_v, if_neg (by omega)]
        · rw [zp0_v, if_neg (by omega)]
        · rw [zp0_v, if_neg (by omega)]
      obtain ⟨pa1, ca1, da1, sa1, ga1, ce1, rc1, ta1, ita1, z1, z2, z3, z4, z5⟩ := rg_l (cc := cc) (ss := ss) (dd := dd) (rr := rr) (ra := ra) (wa := wa) (oa := oa) (ea := ea) (be := be) (pc := upd pc 1 (pc 1 + 1)) (sna := sna) hS hT hF hV hN.2 N 0 ce rc (zpP pa 1 N) ca (zp0 da 1 N) (zp0 sa 1 N) ga ta (zpI ita 1 N) (by omega) hR0
      obtain ⟨r', rf, pa2, ca2, da2, sa2, ga2, ce2, rc2, pc2, ta2, ita2, y1, y2, y3, y4, y5⟩ := ih (ph + 1) ce1 rc1 (upd pc 1 (pc 1 + 1)) pa1 ca1 da1 sa1 ga1 ta1 ita1 z1 (by omega) (by omega)
      refine ⟨r, rf, pa2, ca2, da2, sa2, ga2, ce2, rc2, pc2, ta2, ita2, r2, y2, zF1_t (zF1_t hfp z2) y3, fun f post hf h => ?_, fun f f' post hf hf' h => ?_⟩
      · cases f with
        | zero => omega
        | succ f =>
          unfold wX_run_43
          refine br_f (nI_ge (a := ph) (b := 512) (by omega) (by omega)) (br_t h2 (xpass (s := 1) (by omega) hN.2 ?_))
          refine ⟨N + 1, z4 (N + 1) _ (by omega) (fun f' hf' => ?_)⟩
          cases f' with
          | zero => omega
          | succ f' =>
            unfold wX_runRegion_2
            refine br_t (nI_le (Nat.le_refl _) (by omega)) (y1 _ ?_)
            exact nm_r (nI_1 ph) (y4 f post (by omega) h)
      · cases f' with
        | zero => omega
        | succ f' =>
          unfold wY_run_26
          refine br_t (nI_le (Nat.le_refl _) (by omega)) (r3 _ (br_t h2 (ypass (s := 1) (by omega) hN.2 ?_)))
          refine nm_r (nI_1 ph) ?_
          cases f with
          | zero => omega
          | succ f =>
            unfold wY_run_17
            refine br_f (nI_ge (a := ph + 1) (b := 1000) (by omega) (by omega)) ⟨N + 1, z5 (N + 1) post _ _ (by omega) (fun f'' hf'' => ?_)⟩
            exact y5 f f'' post (by omega) hf'' h
    · refine ⟨r, r, pa, ca, da, sa, ga, ce, rc, pc, ta, ita, r2, hD, zF1_r, fun f post hf h => ?_, fun f f' post hf hf' h => ?_⟩
      · cases f with
        | zero => omega
        | succ f =>
          unfold wX_run_43
          exact br_c (fun _ => h) (fun _ => br_f h2 h)
      · cases f' with
        | zero => omega
        | succ f' =>
          unfold wY_run_26
          exact br_t (nI_le (Nat.le_refl _) (by omega)) (r3 _ (br_f h2 (r3 _ h)))
theorem i_vc_run {k : Nat} {u : SX} {v : SY} (I : i_Rel k u v) (hk : k + 5 ≤ 2562) : wpX_run (fun r u' => wpY_run (fun r' v' => r' = r ∧ i_Rel (k + 5) u' v') v) u := by
  refine ze (P := fun u v => wpX_run (fun r u' => wpY_run (fun r' v' => r' = r ∧ i_Rel (k + 5) u' v') v) u) I ?_
  intro N C n ss dd rr ka xa ya za ja la ra wa va oa ea ce be rc pc pa ca da sa ga ta ita sna hN hK hS hB
  have R : i_Rel (k + 5) ((nI N), (nI C), (nI n), ss, dd, rr, ka, xa, ya, za, ja, la, ra, wa, va, oa, ea, ce, be, rc, pc, pa, ca, da, sa, ga, ta) ((nI N), (nI C), (nI n), ss, ka, xa, ya, za, ce, ita, be, rc, pc, sna) := zi hN hK hS hB
  have hn : n ≤ 32 := Nat.le_trans hK.1 hK.2.1
  unfold wpX_run
  dsimp only
  refine br_c (fun e => br_t e ⟨rfl, R⟩) (fun e => ?_)
  have e1 := zss hS e
  have hV := zse1 hS e1
  have hSS : zS ka n := ⟨hK.2.2.1, hV.1, hn⟩
  have hb1 : ¬ upd be 1 (vp_nar .boolean 1) 1 = 0 := by rw [pk_us, zvb1]; decide
  have hR0 : zR1 ka xa ya za n N 0 (zp0 pa 1 8) (zcc ca 1 8) (zp0 da 1 8) (zp0 sa 1 8) (upd rc 1 0) (zfi ta 0 64) (zsh ita 104 104) := by
    have := hN.2
    refine ⟨zD_0 hN.2, fun j hj => ⟨fun _ kk hkk _ => ?_, fun h => by omega⟩⟩
    rw [zfi_v, if_pos (by omega), zsh_v, if_pos (by omega)]
  obtain ⟨pa1, ca1, da1, sa1, ga1, ce1, rc1, ta1, ita1, z1, z2, z3, z4, z5⟩ := rg_l (cc := nI C) (ss := ss) (dd := dd) (rr := rr) (ra := ra) (wa := wa) (oa := oa) (ea := ea) (be := upd be 1 (vp_nar .boolean 1)) (pc := upd pc 1 0) (sna := sna) hSS hK.2.2.2.1 hK.2.2.2.2.1 hV.2 hN.2 N 0 (zcp ce 1 16) (upd rc 1 0) (zp0 pa 1 8) (zcc ca 1 8) (zp0 da 1 8) (zp0 sa 1 8) ga (zfi ta 0 64) (zsh ita 104 104) (by omega) hR0
  have hm : zm0 ka n pa1 ca1 ≤ 512 := by
    obtain ⟨g1, g2, g3, a, b, g4, g5, g6⟩ := zPl_e z1.1 hn (i := 0) (by omega)
    unfold zm0
    rw [show ca1 16 = nI a from g4, show ca1 17 = nI b from g5, zcn (show a < 1000 by have := g6.1; omega), zcn (show b < 1000 by have := g6.2.1; omega)]
    exact zmu_bd hSS.1 g6.1 g6.2.1 hn
  obtain ⟨r', rf, pa2, ca2, da2, sa2, ga2, ce2, rc2, pc2, ta2, ita2, y1, y2, y3, y4, y5⟩ := run_l (cc := nI C) (ss := ss) (dd := dd) (rr := rr) (ra := ra) (wa := wa) (oa := oa) (ea := ea) (be := upd be 1 (vp_nar .boolean 1)) (sna := sna) hSS hK.2.2.2.1 hK.2.2.2.2.1 hV.2 hN hb1 512 0 ce1 rc1 (upd pc 1 0) pa1 ca1 da1 sa1 ga1 ta1 ita1 z1 hm (by omega)
  have fin : wpY_run (fun r' v' => r' = rf ∧ i_Rel (k + 5) ((nI N), (nI C), (nI n), ss, dd, rr, ka, xa, ya, za, ja, la, ra, wa, va, oa, ea, ce2, (upd be 1 (vp_nar .boolean 1)), rc2, pc2, pa2, ca2, da2, sa2, ga2, ta2) v') ((nI N), (nI C), (nI n), ss, ka, xa, ya, za, ce, ita, be, rc, pc, sna) := by
    refine br_f e (ystart (s := 1) (by omega) ⟨514, ?_⟩)
    unfold wY_run_17
    refine br_f (by decide) ⟨N + 1, z5 (N + 1) _ _ _ (by omega) (fun f' hf' => y5 513 f' _ (by omega) hf' ⟨rfl, zi hN hK hS ⟨fun _ => ⟨e1, y2⟩, fun b2 => ?_⟩⟩)⟩
    rw [pk_un (by omega)] at b2
    obtain ⟨_, hD2, hG2⟩ := hB.2 b2
    refine ⟨e1, zF1_D (zF1_t z2 y3) (zD_so (by omega) hN.2 hD2), zF1_G (zF1_t z2 y3) (fun i hi kk hkk => ?_)⟩
    rw [zsh_v, if_neg (by omega)]
    exact hG2 i hi kk hkk
  refine xstart (s := 1) (by omega) ?_
  have key : ∀ (f i : Nat), i ≤ 64 → 64 - i < f → wX_run_17 (fun r u' => wpY_run (fun r' v' => r' = r ∧ i_Rel (k + 5) u' v') ((nI N), (nI C), (nI n), ss, ka, xa, ya, za, ce, ita, be, rc, pc, sna)) (nI N) (nI C) (nI n) ss dd rr f (nI i) ka xa ya za ja la ra wa va oa ea (zcp ce 1 16) (upd be 1 (vp_nar .boolean 1)) (upd rc 1 0) (upd pc 1 0) (zp0 pa 1 8) (zcc ca 1 8) (zp0 da 1 8) (zp0 sa 1 8) ga (zfi ta 0 i) := by
    intro f
    induction f with
    | zero => intro i h1 h2; omega
    | succ f ih =>
      intro i h1 h2
      unfold wX_run_17
      by_cases e64 : i = 64
      · subst e64
        refine br_t (by decide) ⟨N + 1, z4 (N + 1) _ (by omega) (fun f' hf' => ?_)⟩
        cases f' with
        | zero => omega
        | succ f' =>
          unfold wX_runRegion_2
          exact br_t (nI_le (Nat.le_refl _) (by have := hN.2; omega)) (y1 _ ⟨513, y4 513 _ (by omega) fin⟩)
      · have ihs := ih (i + 1) (by omega) (by omega)
        refine br_f (nI_ge (a := i) (b := 64) (by omega) (by omega)) ?_
        rw [zcn (show i < 1000 by omega)]
        exact And.intro (zvi (by omega) (by omega)) (nm_e (nm_r (nI_1 i) ihs))
  exact ⟨65, key 65 0 (by omega) (by omega)⟩
end RUN
end
