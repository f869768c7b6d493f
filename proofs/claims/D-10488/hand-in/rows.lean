section
/-! ===== Int32 by its bits: bt x i ===== -/
def bt (x : Int32) (i : Nat) : Bool := x.toBitVec.getLsbD i
theorem b_ext {x y : Int32} (h : ∀ i, i < 32 → bt x i = bt y i) : x = y := Int32.toBitVec_inj.mp (BitVec.eq_of_getLsbD_eq (fun i hi => h i hi))
theorem b_or (x y : Int32) (i : Nat) : bt (x ||| y) i = (bt x i || bt y i) := by unfold bt; rw [Int32.toBitVec_or, BitVec.getLsbD_or]
theorem b_and (x y : Int32) (i : Nat) : bt (x &&& y) i = (bt x i && bt y i) := by unfold bt; rw [Int32.toBitVec_and, BitVec.getLsbD_and]
theorem b_xor (x y : Int32) (i : Nat) : bt (x ^^^ y) i = (bt x i ^^ bt y i) := by unfold bt; rw [Int32.toBitVec_xor, BitVec.getLsbD_xor]
theorem b_big {x : Int32} {i : Nat} (h : 32 ≤ i) : bt x i = false := BitVec.getLsbD_of_ge _ _ h
theorem b_255 (i : Nat) : bt 255 i = decide (i < 8) := by
  rcases Nat.lt_or_ge i 32 with h | h
  · exact (by decide +kernel : ∀ i, i < 32 → bt 255 i = decide (i < 8)) i h
  · rw [b_big h, decide_eq_false (by omega)]
theorem b_65535 (i : Nat) : bt 65535 i = decide (i < 16) := by
  rcases Nat.lt_or_ge i 32 with h | h
  · exact (by decide +kernel : ∀ i, i < 32 → bt 65535 i = decide (i < 16)) i h
  · rw [b_big h, decide_eq_false (by omega)]
theorem b_m1 : ∀ i, i < 32 → bt (-1) i = true := by decide +kernel
theorem b_0 (i : Nat) : bt 0 i = false := BitVec.getLsbD_zero
theorem s_l : ∀ n, n < 32 → ((nI n &&& 31).toBitVec.smod 32).toNat = n := by decide +kernel
theorem s_u : ∀ n, n < 32 → (((nI n).toUInt32 &&& Int32.toUInt32 31).toBitVec % 32).toNat = n := by decide +kernel
theorem b_shl (n : Nat) (hn : n < 32) (x : Int32) {i : Nat} (hi : i < 32) : bt (x <<< (nI n &&& 31)) i = (decide (n ≤ i) && bt x (i - n)) := by
  unfold bt
  rw [Int32.toBitVec_shiftLeft]
  show (x.toBitVec <<< ((nI n &&& 31).toBitVec.smod 32).toNat).getLsbD i = _
  rw [s_l n hn, BitVec.getLsbD_shiftLeft]
  rcases Nat.lt_or_ge i n with h | h
  · simp [h, Nat.not_le.mpr h]
  · simp [hi, h, Nat.not_lt.mpr h]
theorem b_ushr (n : Nat) (hn : n < 32) (x : Int32) (i : Nat) : bt ((x.toUInt32 >>> ((nI n).toUInt32 &&& Int32.toUInt32 31)).toInt32) i = bt x (n + i) := by
  show (x.toUInt32 >>> ((nI n).toUInt32 &&& Int32.toUInt32 31)).toBitVec.getLsbD i = x.toUInt32.toBitVec.getLsbD (n + i)
  rw [UInt32.toBitVec_shiftRight]
  show (x.toUInt32.toBitVec >>> (((nI n).toUInt32 &&& Int32.toUInt32 31).toBitVec % 32).toNat).getLsbD i = _
  rw [s_u n hn, BitVec.getLsbD_ushiftRight]
theorem b_sshr (n : Nat) (hn : n < 32) (x : Int32) {i : Nat} (hi : i < 32) : bt (x >>> (nI n &&& 31)) i = if n + i < 32 then bt x (n + i) else bt x 31 := by
  unfold bt
  rw [Int32.toBitVec_shiftRight]
  show (x.toBitVec.sshiftRight ((nI n &&& 31).toBitVec.smod 32).toNat).getLsbD i = _
  rw [s_l n hn, BitVec.getLsbD_sshiftRight, BitVec.msb_eq_getLsbD_last]
  simp [hi]
/-! ===== own rows on bits ===== -/
theorem hj_b1 : ∀ i, i < 32 → bt 1 i = decide (i = 0) := by decide +kernel
theorem hj_not (x : Int32) {i : Nat} (hi : i < 32) : bt (x ^^^ (-1)) i = !bt x i := by
  rw [b_xor, b_m1 i hi, Bool.xor_true]
theorem hj_one {n i : Nat} (hn : n < 32) (hi : i < 32) : bt ((1 : Int32) <<< (nI n &&& 31)) i = decide (i = n) := by
  rw [b_shl n hn 1 hi, hj_b1 (i - n) (by omega)]
  by_cases h : i = n
  · subst h
    simp
  · by_cases h2 : n ≤ i
    · rw [decide_eq_false (show ¬ i - n = 0 by omega), decide_eq_false h, Bool.and_false]
    · rw [decide_eq_false h2, decide_eq_false h, Bool.false_and]
theorem hj_t0 (x : Int32) {i : Nat} (hi : i < 32) : bt ((x >>> (nI i &&& 31)) &&& 1) 0 = bt x i := by
  rw [b_and, hj_b1 0 (by omega), b_sshr i hi x (by omega)]
  simp [hi]
theorem hj_tst {x : Int32} {i : Nat} (hi : i < 32) : ((x >>> (nI i &&& 31)) &&& 1) = 0 ↔ bt x i = false := by
  constructor
  · intro h
    rw [← hj_t0 x hi, h, b_0]
  · intro h
    apply b_ext
    intro j hj
    rw [b_0]
    by_cases e : j = 0
    · rw [e, hj_t0 x hi, h]
    · rw [b_and, hj_b1 j hj, decide_eq_false e, Bool.and_false]
theorem hj_tst1 {x : Int32} {i : Nat} (hi : i < 32) : ((x >>> (nI i &&& 31)) &&& 1) = 1 ↔ bt x i = true := by
  constructor
  · intro h
    rw [← hj_t0 x hi, h, hj_b1 0 (by omega)]
    rfl
  · intro h
    apply b_ext
    intro j hj
    by_cases e : j = 0
    · rw [e, hj_t0 x hi, h, hj_b1 0 (by omega)]
      rfl
    · rw [b_and, hj_b1 j hj, decide_eq_false e, Bool.and_false]
theorem hj_ntst {x : Int32} {i : Nat} (hi : i < 32) : ¬ ((x >>> (nI i &&& 31)) &&& 1) = 0 ↔ bt x i = true := by
  rw [hj_tst hi]
  cases bt x i <;> simp
theorem hj_b8 (x : Int32) {i : Nat} (hi : i < 8) : bt x.toInt8.toInt32 i = bt x i := by
  unfold bt
  rw [Int8.toBitVec_toInt32, Int32.toBitVec_toInt8, BitVec.getLsbD_signExtend, BitVec.getLsbD_signExtend]
  simp [hi, show i < 32 by omega]
theorem hj_e8 : ∀ i, i < 128 → (nI i).toInt8.toInt32 = nI i := by decide +kernel
/-! ===== masks ===== -/
def hj_fr (acc : Int32) : List Nat → Int32
  | [] => acc
  | e :: t => hj_fr (acc ||| ((1 : Int32) <<< (nI e &&& 31))) t
theorem hj_fr_bt {i : Nat} (hi : i < 32) : ∀ (l : List Nat) (acc : Int32), (∀ e, e ∈ l → e < 32) → bt (hj_fr acc l) i = (bt acc i || decide (i ∈ l)) := by
  intro l
  induction l with
  | nil => intro acc _; simp [hj_fr]
  | cons e t ih =>
    intro acc h
    have he : e < 32 := h e (by simp)
    show bt (hj_fr (acc ||| ((1 : Int32) <<< (nI e &&& 31))) t) i = _
    rw [ih _ (fun e' h' => h e' (by simp [h'])), b_or, hj_one he hi, Bool.or_assoc]
    by_cases z : i = e
    · simp [z]
    · simp [z]
theorem hj_fr_app (l : List Nat) (e : Nat) : ∀ acc, hj_fr acc (l ++ [e]) = hj_fr acc l ||| ((1 : Int32) <<< (nI e &&& 31)) := by
  induction l with
  | nil => intro acc; rfl
  | cons a t ih => intro acc; exact ih _
def hj_cs (a1 : Nat → Int32) : Nat → Int32
  | 0 => 0
  | i + 1 => if a1 i = 1 then hj_cs a1 i ||| ((1 : Int32) <<< (nI i &&& 31)) else hj_cs a1 i
theorem hj_cs_bt {a1 : Nat → Int32} {i : Nat} (hi : i < 32) : ∀ n, n ≤ 32 → (bt (hj_cs a1 n) i = true ↔ (i < n ∧ a1 i = 1)) := by
  intro n
  induction n with
  | zero => intro _; simp [hj_cs, b_0]
  | succ n ih =>
    intro hn
    have ih' := ih (by omega)
    by_cases c : a1 n = 1
    · rw [hj_cs, if_pos c, b_or, hj_one (by omega) hi, Bool.or_eq_true, ih', decide_eq_true_iff]
      constructor
      · rintro (⟨h1, h2⟩ | h)
        · exact ⟨by omega, h2⟩
        · exact ⟨by omega, by rw [h]; exact c⟩
      · rintro ⟨h1, h2⟩
        by_cases z : i = n
        · exact Or.inr z
        · exact Or.inl ⟨by omega, h2⟩
    · rw [hj_cs, if_neg c, ih']
      constructor
      · rintro ⟨h1, h2⟩
        exact ⟨by omega, h2⟩
      · rintro ⟨h1, h2⟩
        have : i ≠ n := fun z => c (z ▸ h2)
        exact ⟨by omega, h2⟩
def hj_hd (E : Nat → Int32) (W : Int32) : Nat → Int32
  | 0 => 0
  | k + 1 => if ((W >>> (nI k &&& 31)) &&& 1) = 0 then hj_hd E W k else hj_hd E W k ||| E k
theorem hj_hd_bt {E : Nat → Int32} {W : Int32} {i : Nat} : ∀ k, k ≤ 32 → (bt (hj_hd E W k) i = true ↔ ∃ j, j < k ∧ bt W j = true ∧ bt (E j) i = true) := by
  intro k
  induction k with
  | zero =>
    intro _
    rw [hj_hd, b_0]
    constructor
    · intro h
      exact absurd h (by decide)
    · rintro ⟨j, h, _⟩
      exact absurd h (by omega)
  | succ k ih =>
    intro hk
    have ih' := ih (by omega)
    by_cases c : ((W >>> (nI k &&& 31)) &&& 1) = 0
    · rw [hj_hd, if_pos c, ih']
      have c' : bt W k = false := (hj_tst (by omega)).mp c
      constructor
      · rintro ⟨j, h1, h2⟩
        exact ⟨j, by omega, h2⟩
      · rintro ⟨j, h1, h2, h3⟩
        have : j ≠ k := by
          intro z
          rw [z, c'] at h2
          exact absurd h2 (by decide)
        exact ⟨j, by omega, h2, h3⟩
    · rw [hj_hd, if_neg c, b_or, Bool.or_eq_true, ih']
      have c' : bt W k = true := (hj_ntst (by omega)).mp c
      constructor
      · rintro (⟨j, h1, h2⟩ | h)
        · exact ⟨j, by omega, h2⟩
        · exact ⟨k, by omega, c', h⟩
      · rintro ⟨j, h1, h2, h3⟩
        by_cases z : j = k
        · rw [z] at h3
          exact Or.inr h3
        · exact Or.inl ⟨j, by omega, h2, h3⟩
/-! ===== the least free one ===== -/
def hj_lf (X : Int32) : Option Nat := if bt X 0 = true then some 0 else if bt X 1 = true then some 1 else if bt X 2 = true then some 2 else if bt X 3 = true then some 3 else none
theorem hj_lf_some {X : Int32} {i : Nat} (h : hj_lf X = some i) : i < 4 ∧ bt X i = true := by
  unfold hj_lf at h
  by_cases c0 : bt X 0 = true
  · rw [if_pos c0] at h
    have := Option.some.inj h
    subst this
    exact ⟨by omega, c0⟩
  rw [if_neg c0] at h
  by_cases c1 : bt X 1 = true
  · rw [if_pos c1] at h
    have := Option.some.inj h
    subst this
    exact ⟨by omega, c1⟩
  rw [if_neg c1] at h
  by_cases c2 : bt X 2 = true
  · rw [if_pos c2] at h
    have := Option.some.inj h
    subst this
    exact ⟨by omega, c2⟩
  rw [if_neg c2] at h
  by_cases c3 : bt X 3 = true
  · rw [if_pos c3] at h
    have := Option.some.inj h
    subst this
    exact ⟨by omega, c3⟩
  rw [if_neg c3] at h
  exact absurd h (by simp)
theorem hj_lf_at {X : Int32} {i : Nat} (hi : i < 4) (h : bt X i = true) (hl : ∀ j, j < i → bt X j = false) : hj_lf X = some i := by
  unfold hj_lf
  have c : i = 0 ∨ i = 1 ∨ i = 2 ∨ i = 3 := by omega
  rcases c with z | z | z | z
  · subst z
    rw [if_pos h]
  · subst z
    rw [hl 0 (by omega), if_neg (by decide), if_pos h]
  · subst z
    rw [hl 0 (by omega), if_neg (by decide), hl 1 (by omega), if_neg (by decide), if_pos h]
  · subst z
    rw [hl 0 (by omega), if_neg (by decide), hl 1 (by omega), if_neg (by decide), hl 2 (by omega), if_neg (by decide), if_pos h]
theorem hj_lf_no {X : Int32} (hl : ∀ j, j < 4 → bt X j = false) : hj_lf X = none := by
  unfold hj_lf
  rw [hl 0 (by omega), if_neg (by decide), hl 1 (by omega), if_neg (by decide), hl 2 (by omega), if_neg (by decide), hl 3 (by omega), if_neg (by decide)]
theorem hj_lf_none {X : Int32} (h : hj_lf X = none) : ∀ j, j < 4 → bt X j = false := by
  intro j hj
  cases hb : bt X j with
  | false => rfl
  | true =>
    exfalso
    obtain ⟨k, hk, hm⟩ := pk_least (fun k => k < 4 ∧ bt X k = true) ⟨j, hj, hb⟩
    have : hj_lf X = some k := hj_lf_at hk.1 hk.2 (fun m hmk => by
      cases hb' : bt X m with
      | false => rfl
      | true => exact absurd ⟨by omega, hb'⟩ (hm m hmk))
    rw [h] at this
    exact absurd this (by simp)
def hj_nx (E : Nat → Int32) (W : Int32) : Option Nat := hj_lf (W &&& (hj_hd E W 4 ^^^ (-1)))
theorem hj_nx_some {E : Nat → Int32} {W : Int32} {i : Nat} (h : hj_nx E W = some i) : i < 4 ∧ bt W i = true ∧ ∀ j, j < 4 → bt W j = true → bt (E j) i = false := by
  obtain ⟨hi, hb⟩ := hj_lf_some h
  rw [b_and, hj_not _ (by omega), Bool.and_eq_true] at hb
  refine ⟨hi, hb.1, fun j hj hw => ?_⟩
  cases z : bt (E j) i with
  | false => rfl
  | true =>
    have : bt (hj_hd E W 4) i = true := (hj_hd_bt 4 (by omega)).mpr ⟨j, hj, hw, z⟩
    rw [this] at hb
    exact absurd hb.2 (by decide)
theorem hj_nx_none {E : Nat → Int32} {W : Int32} (h : hj_nx E W = none) : ∀ i, i < 4 → bt W i = true → ∃ j, j < 4 ∧ bt W j = true ∧ bt (E j) i = true := by
  intro i hi hw
  have := hj_lf_none h i hi
  rw [b_and, hj_not _ (by omega), hw, Bool.true_and, Bool.not_eq_false'] at this
  exact (hj_hd_bt 4 (by omega)).mp this
/-! ===== the list by the edges ===== -/
def hj_rm (W : Int32) (i : Nat) : Int32 := W &&& (((1 : Int32) <<< (nI i &&& 31)) ^^^ (-1))
def hj_tp (E : Nat → Int32) : Nat → Int32 → Option (List Nat)
  | 0, _ => some []
  | m + 1, W => if W = 0 then some [] else match hj_nx E W with
    | none => none
    | some i => match hj_tp E m (hj_rm W i) with
      | none => none
      | some l => some (i :: l)
theorem hj_rm_bt {W : Int32} {i j : Nat} (hi : i < 32) (hj : j < 32) : bt (hj_rm W i) j = true ↔ (bt W j = true ∧ j ≠ i) := by
  unfold hj_rm
  rw [b_and, hj_not _ hj, hj_one hi hj, Bool.and_eq_true]
  simp
def hj_lo (W : Int32) : Prop := ∀ i, 4 ≤ i → i < 32 → bt W i = false
theorem hj_lo_rm {W : Int32} {i : Nat} (hi : i < 32) (h : hj_lo W) : hj_lo (hj_rm W i) := by
  intro j h4 hj
  cases z : bt (hj_rm W i) j with
  | false => rfl
  | true =>
    have := ((hj_rm_bt hi hj).mp z).1
    rw [h j h4 hj] at this
    exact absurd this (by decide)
theorem hj_lo_0 {W : Int32} (h : hj_lo W) (hz : ∀ i, i < 4 → bt W i = false) : W = 0 := by
  apply b_ext
  intro i hi
  rw [b_0]
  by_cases c : i < 4
  · exact hz i c
  · exact h i (by omega) hi
theorem hj_lo_ne {W : Int32} (h : hj_lo W) (hz : ¬ W = 0) : ∃ i, i < 4 ∧ bt W i = true := by
  apply Classical.byContradiction
  intro c
  apply hz
  apply hj_lo_0 h
  intro i hi
  cases z : bt W i with
  | false => rfl
  | true => exact absurd ⟨i, hi, z⟩ c
def hj_ct (W : Int32) : Nat := (bt W 0).toNat + (bt W 1).toNat + (bt W 2).toNat + (bt W 3).toNat
theorem hj_ct_4 (W : Int32) : hj_ct W ≤ 4 := by
  unfold hj_ct
  have h0 := Bool.toNat_le (bt W 0)
  have h1 := Bool.toNat_le (bt W 1)
  have h2 := Bool.toNat_le (bt W 2)
  have h3 := Bool.toNat_le (bt W 3)
  omega
theorem hj_ct_0 {W : Int32} (h : hj_lo W) (hc : hj_ct W ≤ 0) : W = 0 := by
  apply hj_lo_0 h
  intro i hi
  unfold hj_ct at hc
  have c : i = 0 ∨ i = 1 ∨ i = 2 ∨ i = 3 := by omega
  cases z : bt W i with
  | false => rfl
  | true =>
    exfalso
    rcases c with e | e | e | e <;> (subst e; rw [z] at hc; simp at hc)
theorem hj_rm_eq {W : Int32} {i j : Nat} (hi : i < 32) (hj : j < 32) : bt (hj_rm W i) j = (bt W j && !decide (j = i)) := by
  unfold hj_rm
  rw [b_and, hj_not _ hj, hj_one hi hj]
theorem hj_ct_rm {W : Int32} {i : Nat} (hi : i < 4) (h : bt W i = true) : hj_ct (hj_rm W i) + 1 = hj_ct W := by
  unfold hj_ct
  rw [hj_rm_eq (by omega) (by omega), hj_rm_eq (by omega) (by omega), hj_rm_eq (by omega) (by omega), hj_rm_eq (by omega) (by omega)]
  have c : i = 0 ∨ i = 1 ∨ i = 2 ∨ i = 3 := by omega
  rcases c with e | e | e | e
  · subst e
    rw [h]
    simp
    omega
  · subst e
    rw [h]
    simp
    omega
  · subst e
    rw [h]
    simp
    omega
  · subst e
    rw [h]
    simp
/-- the edges of E go up in rk, inside W -/
def hj_up (E : Nat → Int32) (W : Int32) (rk : Nat → Nat) : Prop := ∀ i j, i < 4 → j < 4 → bt W i = true → bt W j = true → bt (E i) j = true → rk i < rk j
theorem hj_tp_s {E : Nat → Int32} {m : Nat} {W : Int32} {l : List Nat} (h : hj_tp E (m + 1) W = some l) : (W = 0 ∧ l = []) ∨ (¬ W = 0 ∧ ∃ i t, hj_nx E W = some i ∧ hj_tp E m (hj_rm W i) = some t ∧ l = i :: t) := by
  by_cases c : W = 0
  · rw [hj_tp, if_pos c] at h
    exact Or.inl ⟨c, (Option.some.inj h).symm⟩
  · rw [hj_tp, if_neg c] at h
    refine Or.inr ⟨c, ?_⟩
    cases hn : hj_nx E W with
    | none =>
      rw [hn] at h
      exact absurd h (by simp)
    | some i =>
      rw [hn] at h
      dsimp only at h
      cases ht : hj_tp E m (hj_rm W i) with
      | none =>
        rw [ht] at h
        exact absurd h (by simp)
      | some t =>
        rw [ht] at h
        exact ⟨i, t, rfl, ht, (Option.some.inj h).symm⟩
theorem hj_T1 (E : Nat → Int32) : ∀ (m : Nat) (W : Int32) (l : List Nat), hj_lo W → hj_ct W ≤ m → hj_tp E m W = some l → ∃ rk, hj_up E W rk := by
  have base : ∀ W, W = 0 → ∃ rk, hj_up E W rk := by
    intro W hW
    refine ⟨fun _ => 0, fun i j _ _ h => ?_⟩
    rw [hW, b_0] at h
    exact absurd h (by decide)
  intro m
  induction m with
  | zero =>
    intro W l hlo hc _
    exact base W (hj_ct_0 hlo hc)
  | succ m ih =>
    intro W l hlo hc h
    rcases hj_tp_s h with ⟨hW, _⟩ | ⟨_, i, t, hn, ht, _⟩
    · exact base W hW
    · obtain ⟨hi, hb, hf⟩ := hj_nx_some hn
      have hct := hj_ct_rm hi hb
      obtain ⟨rk, hrk⟩ := ih (hj_rm W i) t (hj_lo_rm (by omega) hlo) (by omega) ht
      refine ⟨fun j => if j = i then 0 else rk j + 1, fun a b ha hb' wa wb he => ?_⟩
      have hbi : b ≠ i := by
        intro z
        rw [z, hf a ha wa] at he
        exact absurd he (by decide)
      show (if a = i then 0 else rk a + 1) < (if b = i then 0 else rk b + 1)
      rw [if_neg hbi]
      by_cases z : a = i
      · rw [if_pos z]
        omega
      · rw [if_neg z]
        have := hrk a b ha hb' ((hj_rm_bt (by omega) (by omega)).mpr ⟨wa, z⟩) ((hj_rm_bt (by omega) (by omega)).mpr ⟨wb, hbi⟩) he
        omega
theorem hj_T2 (E : Nat → Int32) (rk : Nat → Nat) : ∀ (m : Nat) (W : Int32), hj_lo W → hj_up E W rk → ∃ l, hj_tp E m W = some l := by
  intro m
  induction m with
  | zero => intro W _ _; exact ⟨[], rfl⟩
  | succ m ih =>
    intro W hlo hup
    by_cases c : W = 0
    · exact ⟨[], by rw [hj_tp, if_pos c]⟩
    · cases hn : hj_nx E W with
      | none =>
        exfalso
        obtain ⟨i0, h0, w0⟩ := hj_lo_ne hlo c
        obtain ⟨r, ⟨i, hi, wi, hr⟩, hm⟩ := pk_least (fun r => ∃ i, i < 4 ∧ bt W i = true ∧ rk i = r) ⟨rk i0, i0, h0, w0, rfl⟩
        obtain ⟨j, hj, wj, he⟩ := hj_nx_none hn i hi wi
        have := hup j i hj hi wj wi he
        exact hm (rk j) (by omega) ⟨j, hj, wj, rfl⟩
      | some i =>
        obtain ⟨hi, hb, _⟩ := hj_nx_some hn
        obtain ⟨t, ht⟩ := ih (hj_rm W i) (hj_lo_rm (by omega) hlo) (fun a b ha hb' wa wb he => hup a b ha hb' ((hj_rm_bt (by omega) (by omega)).mp wa).1 ((hj_rm_bt (by omega) (by omega)).mp wb).1 he)
        refine ⟨i :: t, ?_⟩
        rw [hj_tp, if_neg c, hn]
        dsimp only
        rw [ht]
theorem hj_T3 (E : Nat → Int32) : ∀ (m : Nat) (W : Int32) (l : List Nat), hj_lo W → hj_ct W ≤ m → hj_tp E m W = some l → l.Nodup ∧ ∀ i, i ∈ l ↔ (i < 4 ∧ bt W i = true) := by
  have base : ∀ W, W = 0 → ([] : List Nat).Nodup ∧ ∀ i, i ∈ ([] : List Nat) ↔ (i < 4 ∧ bt W i = true) := by
    intro W hW
    refine ⟨List.nodup_nil, fun i => ⟨fun h => absurd h (by simp), fun h => ?_⟩⟩
    rw [hW, b_0] at h
    exact absurd h.2 (by decide)
  intro m
  induction m with
  | zero =>
    intro W l hlo hc h
    have e : l = [] := by
      rw [hj_tp] at h
      exact (Option.some.inj h).symm
    rw [e]
    exact base W (hj_ct_0 hlo hc)
  | succ m ih =>
    intro W l hlo hc h
    rcases hj_tp_s h with ⟨hW, e⟩ | ⟨_, i, t, hn, ht, e⟩
    · rw [e]
      exact base W hW
    · obtain ⟨hi, hb, hf⟩ := hj_nx_some hn
      have hct := hj_ct_rm hi hb
      obtain ⟨h1, h2⟩ := ih (hj_rm W i) t (hj_lo_rm (by omega) hlo) (by omega) ht
      rw [e]
      refine ⟨List.nodup_cons.mpr ⟨fun hm => ?_, h1⟩, fun j => ?_⟩
      · have := (h2 i).mp hm
        exact ((hj_rm_bt (by omega) (by omega)).mp this.2).2 rfl
      · rw [List.mem_cons, h2 j]
        constructor
        · rintro (z | ⟨z1, z2⟩)
          · rw [z]
            exact ⟨hi, hb⟩
          · exact ⟨z1, ((hj_rm_bt (by omega) (by omega)).mp z2).1⟩
        · rintro ⟨z1, z2⟩
          by_cases z : j = i
          · exact Or.inl z
          · exact Or.inr ⟨z1, (hj_rm_bt (by omega) (by omega)).mpr ⟨z2, z⟩⟩
theorem hj_nd4 {l : List Nat} (h : l.Nodup) (h4 : ∀ e, e ∈ l → e < 4) : l.length ≤ 4 := by
  have := List.Nodup.length_le_of_subset h (l₂ := List.range 4) (fun e he => List.mem_range.mpr (h4 e he))
  rw [List.length_range] at this
  exact this
end
section
/-! ===== arrays that hold a list; arrays that are 0 from place 4 on ===== -/
def hj_h (a : Nat → Int32) (l : List Nat) : Prop := ∀ k, k < l.length → a k = nI (l.getD k 0)
def hj_z (a : Nat → Int32) : Prop := ∀ j, 4 ≤ j → a j = 0
theorem hj_h0 (a : Nat → Int32) : hj_h a [] := fun k hk => absurd hk (by simp)
theorem hj_gd {l : List Nat} {k : Nat} (h : k < l.length) : l.drop k = l.getD k 0 :: l.drop (k + 1) := by
  rw [List.drop_eq_getElem_cons h]
  simp [List.getD_eq_getElem?_getD, h]
theorem hj_gm {l : List Nat} {k : Nat} (h : k < l.length) : l.getD k 0 ∈ l := by
  rw [List.getD_eq_getElem?_getD, List.getElem?_eq_getElem h]
  exact List.getElem_mem h
theorem hj_h_app {a : Nat → Int32} {l : List Nat} (e : Nat) (h : hj_h a l) : hj_h (upd a l.length (nI e)) (l ++ [e]) := by
  intro k hk
  rw [List.length_append, List.length_singleton] at hk
  by_cases z : k = l.length
  · rw [z, pk_us, List.getD_eq_getElem?_getD, List.getElem?_append_right (Nat.le_refl _), Nat.sub_self]
    rfl
  · rw [pk_un z, h k (by omega), List.getD_eq_getElem?_getD, List.getD_eq_getElem?_getD, List.getElem?_append_left (by omega)]
theorem hj_z_upd {a : Nat → Int32} {k : Nat} {x : Int32} (hk : k < 4) (h : hj_z a) : hj_z (upd a k x) := by
  intro j hj
  rw [pk_un (show j ≠ k by omega)]
  exact h j hj
theorem hj_z0 : hj_z (fun _ => 0) := fun _ _ => rfl
/-! ===== the version orders ===== -/
def hj_oo (a4 : Nat → Int32) (x k : Nat) : Nat := (a4 (x * 4 + k)).toNatClampNeg
def hj_sz (a5 : Nat → Int32) (x : Nat) : Nat := (a5 x).toNatClampNeg
def hj_og (a4 a5 : Nat → Int32) (x : Nat) : Prop := a5 x = nI (hj_sz a5 x) ∧ hj_sz a5 x ≤ 4 ∧ (∀ k, k < hj_sz a5 x → hj_oo a4 x k < 4 ∧ a4 (x * 4 + k) = nI (hj_oo a4 x k)) ∧ (∀ k m, k < m → m < hj_sz a5 x → hj_oo a4 x k ≠ hj_oo a4 x m)
/-! ===== the ranking ===== -/
def hj_r1 (a1 a4 : Nat → Int32) (x : Nat) : Nat → List Nat
  | 0 => []
  | k + 1 => if a1 (hj_oo a4 x k) = 1 then hj_r1 a1 a4 x k ++ [hj_oo a4 x k] else hj_r1 a1 a4 x k
def hj_tm (a4 : Nat → Int32) (x : Nat) : Nat → Int32
  | 0 => 0
  | k + 1 => hj_tm a4 x k ||| ((1 : Int32) <<< (nI (hj_oo a4 x k) &&& 31))
def hj_r2 (a1 a2 : Nat → Int32) (T : Int32) (x : Nat) (l0 : List Nat) : Nat → List Nat
  | 0 => l0
  | i + 1 => if ((T >>> (nI i &&& 31)) &&& 1) = 0 ∧ a1 i = 1 ∧ ¬ a2 (i * 4 + x) ≤ 0 then hj_r2 a1 a2 T x l0 i ++ [i] else hj_r2 a1 a2 T x l0 i
def hj_rk (n : Nat) (a1 a2 a4 a5 : Nat → Int32) (x : Nat) : List Nat := hj_r2 a1 a2 (hj_tm a4 x (hj_sz a5 x)) x (hj_r1 a1 a4 x (hj_sz a5 x)) n
def hj_gl (l : List Nat) : Prop := l.Nodup ∧ ∀ e, e ∈ l → e < 4
theorem hj_gl_len {l : List Nat} (h : hj_gl l) : l.length ≤ 4 := hj_nd4 h.1 h.2
theorem hj_gl_app {l : List Nat} {e : Nat} (h : hj_gl l) (he : e < 4) (hn : e ∉ l) : hj_gl (l ++ [e]) := by
  constructor
  · rw [List.nodup_append]
    refine ⟨h.1, by simp, fun a ha b hb => ?_⟩
    rw [List.mem_singleton] at hb
    intro z
    rw [hb] at z
    exact hn (z ▸ ha)
  · intro a ha
    rw [List.mem_append, List.mem_singleton] at ha
    rcases ha with ha | ha
    · exact h.2 a ha
    · rw [ha]
      exact he
theorem hj_r1_mem {a1 a4 : Nat → Int32} {x : Nat} : ∀ k e, e ∈ hj_r1 a1 a4 x k → ∃ m, m < k ∧ hj_oo a4 x m = e := by
  intro k
  induction k with
  | zero =>
    intro e h
    exact absurd h (by simp [hj_r1])
  | succ k ih =>
    intro e h
    by_cases c : a1 (hj_oo a4 x k) = 1
    · rw [hj_r1, if_pos c, List.mem_append, List.mem_singleton] at h
      rcases h with h | h
      · obtain ⟨m, h1, h2⟩ := ih e h
        exact ⟨m, by omega, h2⟩
      · exact ⟨k, by omega, h.symm⟩
    · rw [hj_r1, if_neg c] at h
      obtain ⟨m, h1, h2⟩ := ih e h
      exact ⟨m, by omega, h2⟩
theorem hj_r1_gl {a1 a4 a5 : Nat → Int32} {x : Nat} (g : hj_og a4 a5 x) : ∀ k, k ≤ hj_sz a5 x → hj_gl (hj_r1 a1 a4 x k) := by
  intro k
  induction k with
  | zero => intro _; exact ⟨List.nodup_nil, fun e h => absurd h (by simp [hj_r1])⟩
  | succ k ih =>
    intro hk
    have ih' := ih (by omega)
    by_cases c : a1 (hj_oo a4 x k) = 1
    · rw [hj_r1, if_pos c]
      refine hj_gl_app ih' (g.2.2.1 k (by omega)).1 (fun h => ?_)
      obtain ⟨m, h1, h2⟩ := hj_r1_mem k _ h
      exact g.2.2.2 m k h1 (by omega) h2
    · rw [hj_r1, if_neg c]
      exact ih'
theorem hj_tm_bt {a4 a5 : Nat → Int32} {x i : Nat} (hi : i < 32) (g : hj_og a4 a5 x) : ∀ k, k ≤ hj_sz a5 x → (bt (hj_tm a4 x k) i = true ↔ ∃ m, m < k ∧ hj_oo a4 x m = i) := by
  intro k
  induction k with
  | zero =>
    intro _
    rw [hj_tm, b_0]
    constructor
    · intro h
      exact absurd h (by decide)
    · rintro ⟨m, h, _⟩
      exact absurd h (by omega)
  | succ k ih =>
    intro hk
    have ih' := ih (by omega)
    have hl := (g.2.2.1 k (by omega)).1
    rw [hj_tm, b_or, hj_one (by omega) hi, Bool.or_eq_true, ih', decide_eq_true_iff]
    constructor
    · rintro (⟨m, h1, h2⟩ | h)
      · exact ⟨m, by omega, h2⟩
      · exact ⟨k, by omega, h.symm⟩
    · rintro ⟨m, h1, h2⟩
      by_cases z : m = k
      · rw [z] at h2
        exact Or.inr h2.symm
      · exact Or.inl ⟨m, by omega, h2⟩
theorem hj_r2_mem {a1 a2 : Nat → Int32} {T : Int32} {x : Nat} {l0 : List Nat} : ∀ i e, e ∈ hj_r2 a1 a2 T x l0 i → e ∈ l0 ∨ e < i := by
  intro i
  induction i with
  | zero =>
    intro e h
    exact Or.inl h
  | succ i ih =>
    intro e h
    by_cases c : ((T >>> (nI i &&& 31)) &&& 1) = 0 ∧ a1 i = 1 ∧ ¬ a2 (i * 4 + x) ≤ 0
    · rw [hj_r2, if_pos c, List.mem_append, List.mem_singleton] at h
      rcases h with h | h
      · rcases ih e h with h' | h'
        · exact Or.inl h'
        · exact Or.inr (by omega)
      · exact Or.inr (by omega)
    · rw [hj_r2, if_neg c] at h
      rcases ih e h with h' | h'
      · exact Or.inl h'
      · exact Or.inr (by omega)
theorem hj_r2_gl {a1 a2 a4 a5 : Nat → Int32} {x : Nat} (g : hj_og a4 a5 x) : ∀ i, i ≤ 4 → hj_gl (hj_r2 a1 a2 (hj_tm a4 x (hj_sz a5 x)) x (hj_r1 a1 a4 x (hj_sz a5 x)) i) := by
  intro i
  induction i with
  | zero => intro _; exact hj_r1_gl g _ (Nat.le_refl _)
  | succ i ih =>
    intro hi
    have ih' := ih (by omega)
    by_cases c : ((hj_tm a4 x (hj_sz a5 x) >>> (nI i &&& 31)) &&& 1) = 0 ∧ a1 i = 1 ∧ ¬ a2 (i * 4 + x) ≤ 0
    · rw [hj_r2, if_pos c]
      refine hj_gl_app ih' (by omega) (fun h => ?_)
      rcases hj_r2_mem i _ h with h | h
      · have z := (hj_tm_bt (show i < 32 by omega) g _ (Nat.le_refl _)).mpr (hj_r1_mem _ _ h)
        rw [(hj_tst (by omega)).mp c.1] at z
        exact absurd z (by decide)
      · omega
    · rw [hj_r2, if_neg c]
      exact ih'
theorem hj_rk_gl {n : Nat} {a1 a2 a4 a5 : Nat → Int32} {x : Nat} (hn : n ≤ 4) (g : hj_og a4 a5 x) : hj_gl (hj_rk n a1 a2 a4 a5 x) := hj_r2_gl g n hn
theorem hj_gl_at {l : List Nat} {k : Nat} (h : hj_gl l) (hk : k < l.length) : l.getD k 0 < 4 := h.2 _ (hj_gm hk)
/-! ===== the edges ===== -/
def hj_pv (l : List Nat) (a7 : Nat → Int32) : Nat → (Nat → Int32)
  | 0 => a7
  | k + 1 => upd (hj_pv l a7 k) (l.getD k 0) ((hj_pv l a7 k (l.getD k 0) ||| hj_fr 0 (l.drop (k + 1))).toInt8.toInt32)
def hj_ar (set : Int32) (i : Nat) (l : List Nat) (s : (Nat → Int32) × (Nat → Int32)) : Nat → (Nat → Int32) × (Nat → Int32)
  | 0 => s
  | k + 1 => if ((set >>> ((1 + (2 * nI (l.getD k 0))) &&& 31)) &&& 3) = 0 then hj_ar set i l s k else (upd (hj_ar set i l s k).1 (l.getD k 0) (((hj_ar set i l s k).1 (l.getD k 0) ||| ((1 : Int32) <<< (nI i &&& 31))).toInt8.toInt32), upd (hj_ar set i l s k).2 i (((hj_ar set i l s k).2 i ||| (hj_fr 0 (l.drop (k + 1)) &&& (((1 : Int32) <<< (nI i &&& 31)) ^^^ (-1)))).toInt8.toInt32))
def hj_as (set : Int32) (i : Nat) (l : List Nat) (s : (Nat → Int32) × (Nat → Int32)) : (Nat → Int32) × (Nat → Int32) := if (set &&& 1) = 0 then s else (s.1, upd s.2 i ((s.2 i ||| (hj_fr 0 l &&& (((1 : Int32) <<< (nI i &&& 31)) ^^^ (-1)))).toInt8.toInt32))
def hj_ad (set : Int32) (i : Nat) (l : List Nat) (s : (Nat → Int32) × (Nat → Int32)) : (Nat → Int32) × (Nat → Int32) := hj_ar set i l (hj_as set i l s) l.length
def hj_b9 (a1 a3 : Nat → Int32) (x : Nat) (l : List Nat) (s : (Nat → Int32) × (Nat → Int32)) : Nat → (Nat → Int32) × (Nat → Int32)
  | 0 => s
  | i + 1 => if a1 i = 1 then hj_ad (a3 (i * 4 + x)) i l (hj_b9 a1 a3 x l s i) else hj_b9 a1 a3 x l s i
def hj_bd (n : Nat) (a1 a2 a3 a4 a5 : Nat → Int32) : Nat → (Nat → Int32) × ((Nat → Int32) × (Nat → Int32))
  | 0 => (fun _ => 0, (fun _ => 0, fun _ => 0))
  | x + 1 => (hj_pv (hj_rk n a1 a2 a4 a5 x) (hj_bd n a1 a2 a3 a4 a5 x).1 (hj_rk n a1 a2 a4 a5 x).length, hj_b9 a1 a3 x (hj_rk n a1 a2 a4 a5 x) (hj_bd n a1 a2 a3 a4 a5 x).2 n)
theorem hj_pv_z {l : List Nat} {a7 : Nat → Int32} (g : hj_gl l) (h : hj_z a7) : ∀ k, k ≤ l.length → hj_z (hj_pv l a7 k) := by
  intro k
  induction k with
  | zero => intro _; exact h
  | succ k ih =>
    intro hk
    exact hj_z_upd (hj_gl_at g (by omega)) (ih (by omega))
/-- the pair of the source and the overwrite edges: 0 from place 4 on; overwrite edges begin at committed ones alone -/
def hj_pp (n : Nat) (a1 : Nat → Int32) (s : (Nat → Int32) × (Nat → Int32)) : Prop := hj_z s.1 ∧ hj_z s.2 ∧ ∀ j, ¬ (j < n ∧ a1 j = 1) → s.2 j = 0
theorem hj_pp_upd {n : Nat} {a1 a8 a9 : Nat → Int32} {i : Nat} {v : Int32} (hi : i < 4) (hn : i < n) (c : a1 i = 1) (h : hj_pp n a1 (a8, a9)) : hj_pp n a1 (a8, upd a9 i v) := by
  refine ⟨h.1, hj_z_upd hi h.2.1, fun j hj => ?_⟩
  have z : j ≠ i := by
    intro z
    rw [z] at hj
    exact hj ⟨hn, c⟩
  show upd a9 i v j = 0
  rw [pk_un z]
  exact h.2.2 j hj
theorem hj_as_pp {n : Nat} {a1 : Nat → Int32} {set : Int32} {i : Nat} {l : List Nat} {s : (Nat → Int32) × (Nat → Int32)} (hi : i < 4) (hn : i < n) (c : a1 i = 1) (h : hj_pp n a1 s) : hj_pp n a1 (hj_as set i l s) := by
  unfold hj_as
  by_cases z : (set &&& 1) = 0
  · rw [if_pos z]
    exact h
  · rw [if_neg z]
    exact hj_pp_upd hi hn c h
theorem hj_ar_pp {n : Nat} {a1 : Nat → Int32} {set : Int32} {i : Nat} {l : List Nat} {s : (Nat → Int32) × (Nat → Int32)} (g : hj_gl l) (hi : i < 4) (hn : i < n) (c : a1 i = 1) (h : hj_pp n a1 s) : ∀ k, k ≤ l.length → hj_pp n a1 (hj_ar set i l s k) := by
  intro k
  induction k with
  | zero => intro _; exact h
  | succ k ih =>
    intro hk
    have ih' := ih (by omega)
    rw [hj_ar]
    by_cases z : ((set >>> ((1 + (2 * nI (l.getD k 0))) &&& 31)) &&& 3) = 0
    · rw [if_pos z]
      exact ih'
    · rw [if_neg z]
      exact hj_pp_upd hi hn c ⟨hj_z_upd (hj_gl_at g (by omega)) ih'.1, ih'.2⟩
theorem hj_b9_pp {n : Nat} {a1 a3 : Nat → Int32} {x : Nat} {l : List Nat} {s : (Nat → Int32) × (Nat → Int32)} (h4 : n ≤ 4) (g : hj_gl l) (h : hj_pp n a1 s) : ∀ i, i ≤ n → hj_pp n a1 (hj_b9 a1 a3 x l s i) := by
  intro i
  induction i with
  | zero => intro _; exact h
  | succ i ih =>
    intro hi
    have ih' := ih (by omega)
    rw [hj_b9]
    by_cases c : a1 i = 1
    · rw [if_pos c]
      exact hj_ar_pp g (by omega) (by omega) c (hj_as_pp (by omega) (by omega) c ih') _ (Nat.le_refl _)
    · rw [if_neg c]
      exact ih'
theorem hj_bd_ok {n : Nat} {a1 a2 a3 a4 a5 : Nat → Int32} (hn : n ≤ 4) (g : ∀ x, x < 2 → hj_og a4 a5 x) : ∀ x, x ≤ 2 → hj_z (hj_bd n a1 a2 a3 a4 a5 x).1 ∧ hj_pp n a1 (hj_bd n a1 a2 a3 a4 a5 x).2 := by
  intro x
  induction x with
  | zero => intro _; exact ⟨hj_z0, hj_z0, hj_z0, fun _ _ => rfl⟩
  | succ x ih =>
    intro hx
    have ih' := ih (by omega)
    have gl := hj_rk_gl (a1 := a1) (a2 := a2) hn (g x (by omega))
    exact ⟨hj_pv_z gl ih'.1 _ (Nat.le_refl _), hj_b9_pp hn gl ih'.2 n (Nat.le_refl _)⟩
/-! ===== the four graphs, and that each one's list gives the next one's ===== -/
def hj_E0 (V S O : Nat → Int32) (i : Nat) : Int32 := ((V i ||| S i) ||| O i).toInt8.toInt32
def hj_E1 (V S O : Nat → Int32) (i : Nat) : Int32 := ((V i ||| S i) ||| hj_hd O (V i ||| S i) 4).toInt8.toInt32
def hj_E2 (V S : Nat → Int32) (i : Nat) : Int32 := (V i ||| S i).toInt8.toInt32
def hj_E3 (V : Nat → Int32) (i : Nat) : Int32 := vp_nar .byte (V i)
theorem hj_cs_lo {a1 : Nat → Int32} {n : Nat} (hn : n ≤ 4) : hj_lo (hj_cs a1 n) := by
  intro i h4 hi
  cases z : bt (hj_cs a1 n) i with
  | false => rfl
  | true =>
    have := ((hj_cs_bt hi n (by omega)).mp z).1
    omega
theorem hj_mono {E E' : Nat → Int32} {W : Int32} (hlo : hj_lo W) (h : ∃ l, hj_tp E 4 W = some l) (hm : ∀ rk, hj_up E W rk → hj_up E' W rk) : ∃ l, hj_tp E' 4 W = some l := by
  obtain ⟨l, hl⟩ := h
  obtain ⟨rk, hrk⟩ := hj_T1 E 4 W l hlo (hj_ct_4 W) hl
  exact hj_T2 E' rk 4 W hlo (hm rk hrk)
theorem hj_01 {V S O a1 : Nat → Int32} {n : Nat} (hn : n ≤ 4) (hO : ∀ j, ¬ (j < n ∧ a1 j = 1) → O j = 0) (h : ∃ l, hj_tp (hj_E0 V S O) 4 (hj_cs a1 n) = some l) : ∃ l, hj_tp (hj_E1 V S O) 4 (hj_cs a1 n) = some l := by
  refine hj_mono (hj_cs_lo hn) h (fun rk up i j hi hj wi wj he => ?_)
  have near : ∀ k, k < 4 → bt (hj_cs a1 n) k = true → bt (V i ||| S i) k = true → rk i < rk k := by
    intro k hk wk z
    refine up i k hi hk wi wk ?_
    unfold hj_E0
    rw [hj_b8 _ (by omega), b_or, z, Bool.true_or]
  unfold hj_E1 at he
  rw [hj_b8 _ (by omega), b_or, Bool.or_eq_true] at he
  rcases he with he | he
  · exact near j hj wj he
  · obtain ⟨k, hk, h1, h2⟩ := (hj_hd_bt 4 (by omega)).mp he
    by_cases c : k < n ∧ a1 k = 1
    · have wk : bt (hj_cs a1 n) k = true := (hj_cs_bt (by omega) n (by omega)).mpr c
      have r1 := near k hk wk h1
      have r2 := up k j hk hj wk wj (by
        unfold hj_E0
        rw [hj_b8 _ (by omega), b_or, h2, Bool.or_true])
      omega
    · exfalso
      have z : O k = 0 := hO k c
      rw [z, b_0] at h2
      exact absurd h2 (by decide)
theorem hj_12 {V S O : Nat → Int32} {W : Int32} (hlo : hj_lo W) (h : ∃ l, hj_tp (hj_E1 V S O) 4 W = some l) : ∃ l, hj_tp (hj_E2 V S) 4 W = some l := by
  refine hj_mono hlo h (fun rk up i j hi hj wi wj he => up i j hi hj wi wj ?_)
  unfold hj_E2 at he
  unfold hj_E1
  rw [hj_b8 _ (by omega)] at he
  rw [hj_b8 _ (by omega), b_or, he, Bool.true_or]
theorem hj_23 {V S : Nat → Int32} {W : Int32} (hlo : hj_lo W) (h : ∃ l, hj_tp (hj_E2 V S) 4 W = some l) : ∃ l, hj_tp (hj_E3 V) 4 W = some l := by
  refine hj_mono hlo h (fun rk up i j hi hj wi wj he => up i j hi hj wi wj ?_)
  unfold hj_E3 at he
  unfold hj_E2
  rw [vp_nar_byte, hj_b8 _ (by omega)] at he
  rw [hj_b8 _ (by omega), b_or, he, Bool.true_or]
end
section
section
variable {n : Nat} {f1 rc ls : Int32} {a1 a2 a3 a4 a5 a6 a7 a8 a9 a10 a11 : Nat → Int32}
theorem hj_cell (i x : Nat) : nI i * 4 + nI x = nI (i * 4 + x) := by
  rw [show (4 : Int32) = nI 4 from rfl, pk_mul, nI_add]
theorem hj_cellC {i x : Nat} (hi : i < 4) (hx : x < 4) : (nI i * 4 + nI x).toNatClampNeg = i * 4 + x := by
  rw [hj_cell]
  exact nI_clamp (by omega)
theorem hj_cellI {i x : Nat} (hi : i < 4) (hx : x < 4) : vp_in (nI i * 4 + nI x) 16 := by
  rw [hj_cell]
  exact vp_in_nI (by omega) (by omega)
theorem hj_committed {post : Int32 → Prop} {t : Int32} {i : Nat} (hi : i < 4) (h1 : a1 i = 1 → post 1) (h0 : ¬ a1 i = 1 → post 0) : wpX_committed post (t, f1, rc, ls, a1, a2, a3, a4, a5, a6, a7, a8, a9, a10, a11) (nI i) := by
  refine ⟨pk_in i 4 hi, ?_⟩
  rw [nI_clamp (show i < 2 ^ 31 by omega)]
  exact ⟨h1, h0⟩
/-! ===== clean ===== -/
def hj_q (a1 a2 : Nat → Int32) (x3 : Int32) (x j : Nat) : Prop := ((x3 >>> ((1 + (2 * nI j)) &&& 31)) &&& 3) = 0 ∨ (a1 j = 1 ∧ ((x3 >>> ((1 + (2 * nI j)) &&& 31)) &&& 3) = a2 (j * 4 + x))
def hj_cr (n : Nat) (a1 a2 a3 : Nat → Int32) (i x : Nat) : Prop := ∀ j, j < n → hj_q a1 a2 (a3 (i * 4 + x)) x j
def hj_cl (n : Nat) (a1 a2 a3 : Nat → Int32) : Prop := ∀ i, i < n → a1 i = 1 → ∀ x, x < 2 → hj_cr n a1 a2 a3 i x
def hj_is (r : Int32) (P : Prop) : Prop := (r = 1 ∧ P) ∨ (r = 0 ∧ ¬ P)
theorem hj_is_f {r : Int32} {P : Prop} (h : hj_is r P) (z : ¬ r = 0) : P := h.elim (fun t => t.2) (fun t => absurd t.1 z)
theorem hj_is_t {r : Int32} {P : Prop} (h : hj_is r P) (p : P) : r = 1 := h.elim (fun t => t.1) (fun t => absurd p t.2)
theorem hj_is_n {r : Int32} {P : Prop} (h : hj_is r P) (p : P) : ¬ r = 0 := by
  rw [hj_is_t h p]
  decide
theorem hj_is_0 {r : Int32} {P : Prop} (h : hj_is r P) (z : r = 0) : ¬ P := fun p => hj_is_n h p z
theorem hj_cr14 {post : Int32 → Prop} {x3 : Int32} {x : Nat} (hn : n ≤ 4) (hx : x < 2) (H1 : (∀ j, j < n → hj_q a1 a2 x3 x j) → post 1) (H0 : (¬ ∀ j, j < n → hj_q a1 a2 x3 x j) → post 0) : ∃ fu, wX_cleanReads_14 post (nI x) x3 (nI n) f1 rc ls a1 a2 a3 a4 a5 a6 a7 a8 a9 a10 a11 fu 0 :=
  pk_loop (σ := Unit) (fun m i _ => wX_cleanReads_14 post (nI x) x3 (nI n) f1 rc ls a1 a2 a3 a4 a5 a6 a7 a8 a9 a10 a11 m (nI i)) (fun i _ => ∀ j, j < i → hj_q a1 a2 x3 x j) n 0 () (by omega) (lt_0)
    (fun m _ h => pk_le n n (fun _ => H1 h) (fun z => absurd z (by omega)))
    (fun m i _ hi h hw => pk_le n i (fun z => absurd z (by omega)) (fun _ => nm_e ⟨hj_cellI (by omega) (by omega), nm_r (show a2 (nI i * 4 + nI x).toNatClampNeg = a2 (i * 4 + x) by rw [hj_cellC (by omega) (by omega)]) (br_c (fun e => nm_r (nI_1 i) (hw () (lt_s h (Or.inl e)))) (fun e => hj_committed (by omega) (fun c => br_f (by decide) (br_c (fun g => nm_r (nI_1 i) (hw () (lt_s h (Or.inr ⟨c, g⟩)))) (fun g => H0 (fun q => (q i hi).elim e (fun t => g t.2))))) (fun c => br_t rfl (H0 (fun q => (q i hi).elim e (fun t => c t.1))))))⟩))
theorem hj_cleanReads {post : Int32 → Prop} {i x : Nat} (hn : n ≤ 4) (hi : i < 4) (hx : x < 2) (H1 : hj_cr n a1 a2 a3 i x → post 1) (H0 : ¬ hj_cr n a1 a2 a3 i x → post 0) : wpX_cleanReads post (nI n, f1, rc, ls, a1, a2, a3, a4, a5, a6, a7, a8, a9, a10, a11) (nI i) (nI x) :=
  ⟨hj_cellI (by omega) (by omega), nm_r (show a3 (nI i * 4 + nI x).toNatClampNeg = a3 (i * 4 + x) by rw [hj_cellC (by omega) (by omega)]) (hj_cr14 hn hx H1 H0)⟩
theorem hj_clean12 {post : Int32 → Prop} {J2 : Int32 → Prop} {i : Nat} (hn : n ≤ 4) (hi : i < n) (HJ : (a1 i = 1 → ∀ x, x < 2 → hj_cr n a1 a2 a3 i x) → J2 (nI (i + 1))) (H0 : (¬ (a1 i = 1 → ∀ x, x < 2 → hj_cr n a1 a2 a3 i x)) → post 0) : ∃ fu, wX_clean_12 post J2 (nI i) (nI n) (nI 2) rc ls a1 a2 a3 a4 a5 a6 a7 a8 a9 a10 a11 fu 0 :=
  pk_loop (σ := Unit) (fun m x _ => wX_clean_12 post J2 (nI i) (nI n) (nI 2) rc ls a1 a2 a3 a4 a5 a6 a7 a8 a9 a10 a11 m (nI x)) (fun x _ => ∀ y, y < x → a1 i = 1 → hj_cr n a1 a2 a3 i y) 2 0 () (by omega) (lt_0)
    (fun m _ h => pk_le 2 2 (fun _ => nm_r (nI_1 i) (HJ (fun c y hy => h y hy c))) (fun z => absurd z (by omega)))
    (fun m x _ hx h hw => pk_le 2 x (fun z => absurd z (by omega)) (fun _ => hj_committed (by omega) (fun c => br_f (by decide) (hj_cleanReads hn (by omega) hx (fun q => br_f (by decide) (nm_r (nI_1 x) (hw () (lt_s h (fun _ => q))))) (fun q => br_t rfl (H0 (fun t => q (t c x hx)))))) (fun c => br_t rfl (nm_r (nI_1 x) (hw () (lt_s h (fun c' => absurd c' c)))))))
theorem hj_clean {post : Int32 → Prop} (hn : n ≤ 4) (H : ∀ r, hj_is r (hj_cl n a1 a2 a3) → post r) : wpX_clean post (nI n, nI 2, rc, ls, a1, a2, a3, a4, a5, a6, a7, a8, a9, a10, a11) :=
  pk_loop (σ := Unit) (fun m i _ => wX_clean_2 post (nI n) (nI 2) rc ls a1 a2 a3 a4 a5 a6 a7 a8 a9 a10 a11 m (nI i)) (fun i _ => ∀ j, j < i → a1 j = 1 → ∀ x, x < 2 → hj_cr n a1 a2 a3 j x) n 0 () (by omega) (lt_0)
    (fun m _ h => pk_le n n (fun _ => H 1 (Or.inl ⟨rfl, h⟩)) (fun z => absurd z (by omega)))
    (fun m i _ hi h hw => pk_le n i (fun z => absurd z (by omega)) (fun _ => hj_clean12 hn hi (fun q => hw () (lt_s h q)) (fun q => H 0 (Or.inr ⟨rfl, fun t => q (t i hi)⟩))))
/-! ===== the ranking ===== -/
theorem hj_rank77 {post : St1 → Prop} {T : Int32} {x : Nat} {l0 : List Nat} (hn : n ≤ 4) (hx : x < 2) (hg : ∀ i, i ≤ n → hj_gl (hj_r2 a1 a2 T x l0 i)) (h0 : hj_h a6 l0) (H : ∀ a6', hj_h a6' (hj_r2 a1 a2 T x l0 n) → post (nI n, f1, nI (hj_r2 a1 a2 T x l0 n).length, ls, a1, a2, a3, a4, a5, a6', a7, a8, a9, a10, a11)) : ∃ fu, wX_rank_77 post (nI x) T (nI n) f1 ls fu 0 (nI l0.length) a1 a2 a3 a4 a5 a6 a7 a8 a9 a10 a11 := by
  refine pk_loop (fun m i s => wX_rank_77 post (nI x) T (nI n) f1 ls m (nI i) s.1 a1 a2 a3 a4 a5 s.2 a7 a8 a9 a10 a11) (fun i (s : Int32 × (Nat → Int32)) => s.1 = nI (hj_r2 a1 a2 T x l0 i).length ∧ hj_h s.2 (hj_r2 a1 a2 T x l0 i)) n 0 (nI l0.length, a6) (by omega) ⟨rfl, h0⟩ ?_ ?_
  · rintro m ⟨r, b⟩ ⟨e, h⟩
    have e' : r = nI (hj_r2 a1 a2 T x l0 n).length := e
    subst e'
    exact pk_le n n (fun _ => H b h) (fun z => absurd z (by omega))
  · rintro m i ⟨r, b⟩ hi ⟨e, h⟩ hw
    have e' : r = nI (hj_r2 a1 a2 T x l0 i).length := e
    have h' : hj_h b (hj_r2 a1 a2 T x l0 i) := h
    subst e'
    have hw' : ∀ b', hj_h b' (hj_r2 a1 a2 T x l0 (i + 1)) → wX_rank_77 post (nI x) T (nI n) f1 ls m (nI (i + 1)) (nI (hj_r2 a1 a2 T x l0 (i + 1)).length) a1 a2 a3 a4 a5 b' a7 a8 a9 a10 a11 := fun b' hb => hw (nI _, b') ⟨rfl, hb⟩
    have gi := hj_gl_len (hg i (by omega))
    by_cases c : ((T >>> (nI i &&& 31)) &&& 1) = 0 ∧ a1 i = 1 ∧ ¬ a2 (i * 4 + x) ≤ 0
    · have er : hj_r2 a1 a2 T x l0 (i + 1) = hj_r2 a1 a2 T x l0 i ++ [i] := by rw [hj_r2, if_pos c]
      have g := hj_gl_len (hg (i + 1) (by omega))
      rw [er, List.length_append, List.length_singleton] at g
      rw [er] at hw'
      have hw2 := hw' _ (hj_h_app i h')
      rw [List.length_append, List.length_singleton] at hw2
      refine pk_le n i (fun z => absurd z (by omega)) (fun _ => br_t c.1 (br_f (by decide) (hj_committed (by omega) (fun _ => br_f (by decide) ⟨hj_cellI (by omega) (by omega), br_f ?_ ⟨pk_in (hj_r2 a1 a2 T x l0 i).length 4 (by omega), nm_r (show upd b (nI (hj_r2 a1 a2 T x l0 i).length).toNatClampNeg (nI i).toInt8.toInt32 = upd b (hj_r2 a1 a2 T x l0 i).length (nI i) by rw [nI_clamp (by omega), hj_e8 i (by omega)]) (nm_r (nI_1 _) (nm_r (nI_1 i) hw2))⟩⟩) (fun z => absurd c.2.1 z))))
      rw [hj_cellC (by omega) (by omega)]
      exact c.2.2
    · have er : hj_r2 a1 a2 T x l0 (i + 1) = hj_r2 a1 a2 T x l0 i := by rw [hj_r2, if_neg c]
      rw [er] at hw'
      have hw2 := hw' b h'
      refine pk_le n i (fun z => absurd z (by omega)) (fun _ => br_c (fun c1 => br_f (by decide) (hj_committed (by omega) (fun c2 => br_f (by decide) ⟨hj_cellI (by omega) (by omega), br_t ?_ (nm_r (nI_1 i) hw2)⟩) (fun c2 => br_t rfl (nm_r (nI_1 i) hw2)))) (fun c1 => br_t rfl (nm_r (nI_1 i) hw2)))
      rw [hj_cellC (by omega) (by omega)]
      exact Classical.byContradiction (fun c3 => c ⟨c1, c2, c3⟩)
theorem hj_rank {post : St1 → Prop} {x : Nat} (hn : n ≤ 4) (hx : x < 2) (g : hj_og a4 a5 x) (H : ∀ a6', hj_h a6' (hj_rk n a1 a2 a4 a5 x) → post (nI n, f1, nI (hj_rk n a1 a2 a4 a5 x).length, ls, a1, a2, a3, a4, a5, a6', a7, a8, a9, a10, a11)) : wpX_rank post (nI n, f1, rc, ls, a1, a2, a3, a4, a5, a6, a7, a8, a9, a10, a11) (nI x) := by
  have gs := g.2.1
  refine pk_loop (fun m k s => wX_rank_9 post (nI x) (nI n) f1 ls m s.1 (nI k) s.2.1 a1 a2 a3 a4 a5 s.2.2 a7 a8 a9 a10 a11) (fun k (s : Int32 × Int32 × (Nat → Int32)) => s.1 = hj_tm a4 x k ∧ s.2.1 = nI (hj_r1 a1 a4 x k).length ∧ hj_h s.2.2 (hj_r1 a1 a4 x k)) (hj_sz a5 x) 0 (0, 0, a6) (by omega) ⟨rfl, rfl, hj_h0 a6⟩ ?_ ?_
  · rintro m ⟨t, r, b⟩ ⟨e1, e2, h⟩
    have e1' : t = hj_tm a4 x (hj_sz a5 x) := e1
    have e2' : r = nI (hj_r1 a1 a4 x (hj_sz a5 x)).length := e2
    subst e1' e2'
    refine ⟨pk_in x 4 (by omega), ?_⟩
    refine pk_le (hj_sz a5 x) (hj_sz a5 x) (fun _ => hj_rank77 hn hx (fun i hi => hj_r2_gl g i (by omega)) h H) (fun z => absurd z (by omega)) ?_
    rw [nI_clamp (by omega)]
    exact g.1
  · rintro m k ⟨t, r, b⟩ hk ⟨e1, e2, h⟩ hw
    have e1' : t = hj_tm a4 x k := e1
    have e2' : r = nI (hj_r1 a1 a4 x k).length := e2
    have h' : hj_h b (hj_r1 a1 a4 x k) := h
    subst e1' e2'
    have hw' : ∀ b', hj_h b' (hj_r1 a1 a4 x (k + 1)) → wX_rank_9 post (nI x) (nI n) f1 ls m (hj_tm a4 x (k + 1)) (nI (k + 1)) (nI (hj_r1 a1 a4 x (k + 1)).length) a1 a2 a3 a4 a5 b' a7 a8 a9 a10 a11 := fun b' hb => hw (_, nI _, b') ⟨rfl, rfl, hb⟩
    have gk := g.2.2.1 k hk
    have gl := hj_gl_len (hj_r1_gl (a1 := a1) g (k + 1) (by omega))
    have ex : a5 (nI x).toNatClampNeg = nI (hj_sz a5 x) := by
      rw [nI_clamp (by omega)]
      exact g.1
    have eo : a4 (nI x * 4 + nI k).toNatClampNeg = nI (hj_oo a4 x k) := by
      rw [hj_cellC (by omega) (by omega)]
      exact gk.2
    refine ⟨pk_in x 4 (by omega), ?_⟩
    refine pk_le (hj_sz a5 x) k (fun z => absurd z (by omega)) (fun _ => ⟨hj_cellI (by omega) (by omega), nm_r eo (nm_e (hj_committed gk.1 (fun c => br_f (by decide) ?_) (fun c => br_t rfl (nm_r (nI_1 k) ?_))))⟩) ex
    · have er : hj_r1 a1 a4 x (k + 1) = hj_r1 a1 a4 x k ++ [hj_oo a4 x k] := by rw [hj_r1, if_pos c]
      rw [er] at hw' gl
      rw [List.length_append, List.length_singleton] at gl
      have hw2 := hw' _ (hj_h_app _ h')
      rw [List.length_append, List.length_singleton] at hw2
      exact ⟨pk_in (hj_r1 a1 a4 x k).length 4 (by omega), nm_r (show upd b (nI (hj_r1 a1 a4 x k).length).toNatClampNeg (nI (hj_oo a4 x k)).toInt8.toInt32 = upd b (hj_r1 a1 a4 x k).length (nI (hj_oo a4 x k)) by rw [nI_clamp (by omega), hj_e8 _ (by omega)]) (nm_r (nI_1 _) (nm_r (nI_1 k) hw2))⟩
    · have er : hj_r1 a1 a4 x (k + 1) = hj_r1 a1 a4 x k := by rw [hj_r1, if_neg c]
      rw [er] at hw'
      exact hw' b h'
theorem hj_from {post : Int32 → Prop} {t p : Int32} {l : List Nat} {k : Nat} (hp : p = nI k) (hl : hj_gl l) (h : hj_h a6 l) (hk : k ≤ l.length) (H : post (hj_fr 0 (l.drop k))) : wpX_from post (t, f1, nI l.length, ls, a1, a2, a3, a4, a5, a6, a7, a8, a9, a10, a11) p := by
  subst hp
  have h4 := hj_gl_len hl
  refine pk_loop (fun m q s => wX_from_4 post t f1 (nI l.length) ls a1 a2 a3 a4 a5 a6 a7 a8 a9 a10 a11 m s (nI q)) (fun q s => hj_fr s (l.drop q) = hj_fr 0 (l.drop k)) l.length k 0 hk rfl ?_ ?_
  · intro m s e
    have e' : hj_fr s (l.drop l.length) = hj_fr 0 (l.drop k) := e
    rw [List.drop_length] at e'
    rw [← e'] at H
    exact pk_le l.length l.length (fun _ => H) (fun z => absurd z (by omega))
  · intro m q s hq e hw
    have e' : hj_fr s (l.drop q) = hj_fr 0 (l.drop k) := e
    rw [hj_gd hq] at e'
    exact pk_le l.length q (fun z => absurd z (by omega)) (fun _ => ⟨pk_in q 4 (by omega), nm_r (show s ||| ((1 : Int32) <<< ((a6 (nI q).toNatClampNeg) &&& 31)) = s ||| ((1 : Int32) <<< (nI (l.getD q 0) &&& 31)) by rw [nI_clamp (by omega), h q hq]) (nm_r (nI_1 q) (hw _ e'))⟩)
end
end
section
section
variable {n : Nat} {t f1 rc ls : Int32} {a1 a2 a3 a4 a5 a6 a7 a8 a9 a10 a11 : Nat → Int32}
theorem hj_ar49 {post : St1 → Prop} {set : Int32} {i : Nat} {l : List Nat} (hi : i < 4) (hl : hj_gl l) (h : hj_h a6 l) (H : post (t, f1, nI l.length, ls, a1, a2, a3, a4, a5, a6, a7, (hj_ar set i l (a8, a9) l.length).1, (hj_ar set i l (a8, a9) l.length).2, a10, a11)) : ∃ fu, wX_addReads_49 post (nI i) set (((1 : Int32) <<< (nI i &&& 31)) ^^^ (-1)) t f1 (nI l.length) ls fu 0 a1 a2 a3 a4 a5 a6 a7 a8 a9 a10 a11 := by
  have h4 := hj_gl_len hl
  refine pk_loop (fun m k s => wX_addReads_49 post (nI i) set (((1 : Int32) <<< (nI i &&& 31)) ^^^ (-1)) t f1 (nI l.length) ls m (nI k) a1 a2 a3 a4 a5 a6 a7 s.1 s.2 a10 a11) (fun k (s : (Nat → Int32) × (Nat → Int32)) => s = hj_ar set i l (a8, a9) k) l.length 0 (a8, a9) (by omega) rfl ?_ ?_
  · intro m s e
    have e' : s = hj_ar set i l (a8, a9) l.length := e
    subst e'
    exact pk_le l.length l.length (fun _ => H) (fun z => absurd z (by omega))
  · intro m k s hk e hw
    have hw' : wX_addReads_49 post (nI i) set (((1 : Int32) <<< (nI i &&& 31)) ^^^ (-1)) t f1 (nI l.length) ls m (nI (k + 1)) a1 a2 a3 a4 a5 a6 a7 ((hj_ar set i l (a8, a9) (k + 1)).1) ((hj_ar set i l (a8, a9) (k + 1)).2) a10 a11 := hw _ rfl
    have he := hj_gl_at hl hk
    have ea : a6 (nI k).toNatClampNeg = nI (l.getD k 0) := by
      rw [nI_clamp (by omega)]
      exact h k hk
    have e' : s = hj_ar set i l (a8, a9) k := e
    subst e'
    refine pk_le l.length k (fun z => absurd z (by omega)) (fun _ => ⟨pk_in k 4 (by omega), nm_r ea (br_c (fun c => nm_r (nI_1 k) ?_) (fun c => ?_))⟩)
    · have er : hj_ar set i l (a8, a9) (k + 1) = hj_ar set i l (a8, a9) k := by rw [hj_ar, if_pos c]
      rw [er] at hw'
      exact hw'
    · rw [hj_ar, if_neg c] at hw'
      exact ⟨pk_in (l.getD k 0) 4 he, pk_in (l.getD k 0) 4 he, nm_r (show _ = upd (hj_ar set i l (a8, a9) k).1 (l.getD k 0) (((hj_ar set i l (a8, a9) k).1 (l.getD k 0) ||| ((1 : Int32) <<< (nI i &&& 31))).toInt8.toInt32) by rw [nI_clamp (by omega)]) ⟨pk_in i 4 hi, hj_from (nI_1 k) hl h (by omega) ⟨pk_in i 4 hi, nm_r (show _ = upd (hj_ar set i l (a8, a9) k).2 i (((hj_ar set i l (a8, a9) k).2 i ||| (hj_fr 0 (l.drop (k + 1)) &&& (((1 : Int32) <<< (nI i &&& 31)) ^^^ (-1)))).toInt8.toInt32) by rw [nI_clamp (by omega)]) (nm_r (nI_1 k) hw')⟩⟩⟩
theorem hj_addReads {post : St1 → Prop} {i x : Nat} {l : List Nat} (hi : i < 4) (hx : x < 2) (hl : hj_gl l) (h : hj_h a6 l) (H : post (t, f1, nI l.length, ls, a1, a2, a3, a4, a5, a6, a7, (hj_ad (a3 (i * 4 + x)) i l (a8, a9)).1, (hj_ad (a3 (i * 4 + x)) i l (a8, a9)).2, a10, a11)) : wpX_addReads post (t, f1, nI l.length, ls, a1, a2, a3, a4, a5, a6, a7, a8, a9, a10, a11) (nI i) (nI x) := by
  refine ⟨hj_cellI (by omega) (by omega), nm_r (show a3 (nI i * 4 + nI x).toNatClampNeg = a3 (i * 4 + x) by rw [hj_cellC (by omega) (by omega)]) (nm_e (br_c (fun c => ?_) (fun c => ⟨pk_in i 4 hi, hj_from (k := 0) rfl hl h (by omega) ⟨pk_in i 4 hi, nm_r (show _ = upd a9 i ((a9 i ||| (hj_fr 0 l &&& (((1 : Int32) <<< (nI i &&& 31)) ^^^ (-1)))).toInt8.toInt32) by rw [nI_clamp (by omega)]; rfl) ?_⟩⟩)))⟩
  · unfold hj_ad hj_as at H
    rw [if_pos c] at H
    exact hj_ar49 hi hl h H
  · unfold hj_ad hj_as at H
    rw [if_neg c] at H
    exact hj_ar49 hi hl h H
theorem hj_b98 {post : St1 → Prop} {J36 : Int32 → Int32 → Int32 → Int32 → Int32 → (Nat → Int32) → (Nat → Int32) → (Nat → Int32) → (Nat → Int32) → (Nat → Int32) → (Nat → Int32) → (Nat → Int32) → (Nat → Int32) → (Nat → Int32) → (Nat → Int32) → (Nat → Int32) → Prop} {x : Nat} {l : List Nat} (hn : n ≤ 4) (hx : x < 2) (hl : hj_gl l) (h : hj_h a6 l) (HJ : J36 (nI (x + 1)) (nI n) f1 (nI l.length) ls a1 a2 a3 a4 a5 a6 a7 ((hj_b9 a1 a3 x l (a8, a9) n).1) ((hj_b9 a1 a3 x l (a8, a9) n).2) a10 a11) : ∃ fu, wX_build_98 post J36 (nI x) fu 0 (nI n) f1 (nI l.length) ls a1 a2 a3 a4 a5 a6 a7 a8 a9 a10 a11 := by
  refine pk_loop (fun m i s => wX_build_98 post J36 (nI x) m (nI i) (nI n) f1 (nI l.length) ls a1 a2 a3 a4 a5 a6 a7 s.1 s.2 a10 a11) (fun i (s : (Nat → Int32) × (Nat → Int32)) => s = hj_b9 a1 a3 x l (a8, a9) i) n 0 (a8, a9) (by omega) rfl ?_ ?_
  · intro m s e
    have e' : s = hj_b9 a1 a3 x l (a8, a9) n := e
    subst e'
    exact pk_le n n (fun _ => nm_r (nI_1 x) HJ) (fun z => absurd z (by omega))
  · intro m i s hi e hw
    have hw' : wX_build_98 post J36 (nI x) m (nI (i + 1)) (nI n) f1 (nI l.length) ls a1 a2 a3 a4 a5 a6 a7 ((hj_b9 a1 a3 x l (a8, a9) (i + 1)).1) ((hj_b9 a1 a3 x l (a8, a9) (i + 1)).2) a10 a11 := hw _ rfl
    have e' : s = hj_b9 a1 a3 x l (a8, a9) i := e
    subst e'
    refine pk_le n i (fun z => absurd z (by omega)) (fun _ => hj_committed (by omega) (fun c => br_f (by decide) (hj_addReads (by omega) hx hl h ?_)) (fun c => br_t rfl (nm_r (nI_1 i) ?_)))
    · rw [hj_b9, if_pos c] at hw'
      exact nm_r (nI_1 i) hw'
    · rw [hj_b9, if_neg c] at hw'
      exact hw'
theorem hj_b51 {post : St1 → Prop} {J36 : Int32 → Int32 → Int32 → Int32 → Int32 → (Nat → Int32) → (Nat → Int32) → (Nat → Int32) → (Nat → Int32) → (Nat → Int32) → (Nat → Int32) → (Nat → Int32) → (Nat → Int32) → (Nat → Int32) → (Nat → Int32) → (Nat → Int32) → Prop} {x : Nat} {l : List Nat} (hl : hj_gl l) (h : hj_h a6 l) (H : ∃ fu, wX_build_98 post J36 (nI x) fu 0 t f1 (nI l.length) ls a1 a2 a3 a4 a5 a6 (hj_pv l a7 l.length) a8 a9 a10 a11) : ∃ fu, wX_build_51 post J36 (nI x) t f1 (nI l.length) ls fu 0 a1 a2 a3 a4 a5 a6 a7 a8 a9 a10 a11 := by
  have h4 := hj_gl_len hl
  refine pk_loop (fun m k s => wX_build_51 post J36 (nI x) t f1 (nI l.length) ls m (nI k) a1 a2 a3 a4 a5 a6 s a8 a9 a10 a11) (fun k (s : Nat → Int32) => s = hj_pv l a7 k) l.length 0 a7 (by omega) rfl ?_ ?_
  · intro m s e
    have e' : s = hj_pv l a7 l.length := e
    subst e'
    exact pk_le l.length l.length (fun _ => H) (fun z => absurd z (by omega))
  · intro m k s hk e hw
    have hw' : wX_build_51 post J36 (nI x) t f1 (nI l.length) ls m (nI (k + 1)) a1 a2 a3 a4 a5 a6 (hj_pv l a7 (k + 1)) a8 a9 a10 a11 := hw _ rfl
    rw [hj_pv] at hw'
    have e' : s = hj_pv l a7 k := e
    subst e'
    have he := hj_gl_at hl hk
    have ea : a6 (nI k).toNatClampNeg = nI (l.getD k 0) := by
      rw [nI_clamp (by omega)]
      exact h k hk
    have vi : vp_in (a6 (nI k).toNatClampNeg) 4 := by
      rw [ea]
      exact pk_in (l.getD k 0) 4 he
    exact pk_le l.length k (fun z => absurd z (by omega)) (fun _ => ⟨pk_in k 4 (by omega), pk_in k 4 (by omega), vi, hj_from (nI_1 k) hl h (by omega) ⟨vi, nm_r (show _ = upd (hj_pv l a7 k) (l.getD k 0) ((hj_pv l a7 k (l.getD k 0) ||| hj_fr 0 (l.drop (k + 1))).toInt8.toInt32) by rw [ea, nI_clamp (by omega)]) (nm_r (nI_1 k) hw')⟩⟩)
theorem hj_build {post : St1 → Prop} (hn : n ≤ 4) (g : ∀ x, x < 2 → hj_og a4 a5 x) (z7 : hj_z a7) (z8 : hj_z a8) (z9 : hj_z a9) (H : ∀ r b, post (nI n, nI 2, r, ls, a1, a2, a3, a4, a5, b, (hj_bd n a1 a2 a3 a4 a5 2).1, (hj_bd n a1 a2 a3 a4 a5 2).2.1, (hj_bd n a1 a2 a3 a4 a5 2).2.2, a10, a11)) : wpX_build post (nI n, nI 2, rc, ls, a1, a2, a3, a4, a5, a6, a7, a8, a9, a10, a11) := by
  have main : ∃ fu, wX_build_36 post fu 0 (nI n) (nI 2) rc ls a1 a2 a3 a4 a5 a6 (fun _ => 0) (fun _ => 0) (fun _ => 0) a10 a11 := by
    refine pk_loop (fun m x s => wX_build_36 post m (nI x) (nI n) (nI 2) s.1 ls a1 a2 a3 a4 a5 s.2.1 s.2.2.1 s.2.2.2.1 s.2.2.2.2 a10 a11) (fun x (s : Int32 × (Nat → Int32) × ((Nat → Int32) × ((Nat → Int32) × (Nat → Int32)))) => s.2.2 = hj_bd n a1 a2 a3 a4 a5 x) 2 0 (rc, a6, (fun _ => 0, (fun _ => 0, fun _ => 0))) (by omega) rfl ?_ ?_
    · rintro m ⟨r, b, v⟩ e
      have e' : v = hj_bd n a1 a2 a3 a4 a5 2 := e
      subst e'
      exact pk_le 2 2 (fun _ => H r b) (fun z => absurd z (by omega))
    · rintro m x ⟨r, b, v⟩ hx e hw
      have gl := hj_rk_gl (a1 := a1) (a2 := a2) hn (g x hx)
      have e' : v = hj_bd n a1 a2 a3 a4 a5 x := e
      subst e'
      exact pk_le 2 x (fun z => absurd z (by omega)) (fun _ => hj_rank hn hx (g x hx) (fun b' hb => hj_b51 gl hb (hj_b98 hn hx gl hb (hw (nI (hj_rk n a1 a2 a4 a5 x).length, b', hj_bd n a1 a2 a3 a4 a5 (x + 1)) rfl))))
  refine pk_loop (fun m i s => wX_build_2 post (nI n) (nI 2) rc ls m (nI i) a1 a2 a3 a4 a5 a6 s.1 s.2.1 s.2.2 a10 a11) (fun i (s : (Nat → Int32) × ((Nat → Int32) × (Nat → Int32))) => ∀ j, (j < i ∨ 4 ≤ j) → s.1 j = 0 ∧ s.2.1 j = 0 ∧ s.2.2 j = 0) 4 0 (a7, (a8, a9)) (by omega) ?_ ?_ ?_
  · intro j hj
    have h4 : 4 ≤ j := by omega
    exact ⟨z7 j h4, z8 j h4, z9 j h4⟩
  · rintro m ⟨v, s, o⟩ h
    have ev : v = fun _ => 0 := funext (fun j => (h j (by omega)).1)
    have es : s = fun _ => 0 := funext (fun j => (h j (by omega)).2.1)
    have eo : o = fun _ => 0 := funext (fun j => (h j (by omega)).2.2)
    subst ev es eo
    exact pk_le 4 4 (fun _ => main) (fun z => absurd z (by omega))
  · rintro m i ⟨v, s, o⟩ hi h hw
    refine pk_le 4 i (fun z => absurd z (by omega)) (fun _ => ⟨pk_in i 4 hi, nm_r (show _ = upd v i 0 by rw [nI_clamp (by omega)]) ⟨pk_in i 4 hi, nm_r (show _ = upd s i 0 by rw [nI_clamp (by omega)]) ⟨pk_in i 4 hi, nm_r (show _ = upd o i 0 by rw [nI_clamp (by omega)]) (nm_r (nI_1 i) (hw (upd v i 0, (upd s i 0, upd o i 0)) ?_))⟩⟩⟩)
    intro j hj
    show upd v i 0 j = 0 ∧ upd s i 0 j = 0 ∧ upd o i 0 j = 0
    by_cases z : j = i
    · rw [z]
      exact ⟨pk_us, pk_us, pk_us⟩
    · rw [pk_un z, pk_un z, pk_un z]
      exact h j (by omega)
/-! ===== the list ===== -/
theorem hj_cset {post : Int32 → Prop} (hn : n ≤ 4) (H : post (hj_cs a1 n)) : wpX_committedSet post (nI n, f1, rc, ls, a1, a2, a3, a4, a5, a6, a7, a8, a9, a10, a11) := by
  refine pk_loop (fun m i s => wX_committedSet_4 post (nI n) f1 rc ls a1 a2 a3 a4 a5 a6 a7 a8 a9 a10 a11 m s (nI i)) (fun i s => s = hj_cs a1 i) n 0 0 (by omega) rfl ?_ ?_
  · intro m s e
    have e' : s = hj_cs a1 n := e
    subst e'
    exact pk_le n n (fun _ => H) (fun z => absurd z (by omega))
  · intro m i s hi e hw
    have e' : s = hj_cs a1 i := e
    subst e'
    refine pk_le n i (fun z => absurd z (by omega)) (fun _ => hj_committed (by omega) (fun c => br_f (by decide) (nm_e (nm_r (nI_1 i) (hw _ ?_)))) (fun c => br_t rfl (nm_r (nI_1 i) (hw _ ?_))))
    · show _ = hj_cs a1 (i + 1)
      rw [hj_cs, if_pos c]
    · show _ = hj_cs a1 (i + 1)
      rw [hj_cs, if_neg c]
theorem hj_least34 {post : Int32 → Prop} {W h : Int32} (H1 : ∀ i, hj_lf (W &&& (h ^^^ (-1))) = some i → post (nI i)) (H0 : hj_lf (W &&& (h ^^^ (-1))) = none → post (-1)) : ∃ fu, wX_leastFree_34 post W h t f1 rc ls a1 a2 a3 a4 a5 a6 a7 a8 a9 a10 a11 fu 0 :=
  pk_loop (σ := Unit) (fun m i _ => wX_leastFree_34 post W h t f1 rc ls a1 a2 a3 a4 a5 a6 a7 a8 a9 a10 a11 m (nI i)) (fun i _ => ∀ j, j < i → bt (W &&& (h ^^^ (-1))) j = false) 4 0 () (by omega) (lt_0)
    (fun m _ q => pk_le 4 4 (fun _ => H0 (hj_lf_no q)) (fun z => absurd z (by omega)))
    (fun m i _ hi q hw => pk_le 4 i (fun z => absurd z (by omega)) (fun _ => br_c (fun c => nm_r (nI_1 i) (hw () (lt_s q ((hj_tst (by omega)).mp c)))) (fun c => H1 i (hj_lf_at hi ((hj_ntst (by omega)).mp c) q))))
theorem hj_least {post : Int32 → Prop} {W : Int32} {E : Nat → Int32} (hE : ∀ i, i < 4 → a10 i = E i) (H1 : ∀ i, hj_nx E W = some i → post (nI i)) (H0 : hj_nx E W = none → post (-1)) : wpX_leastFree post (t, f1, rc, ls, a1, a2, a3, a4, a5, a6, a7, a8, a9, a10, a11) W := by
  refine pk_loop (fun m i s => wX_leastFree_4 post W t f1 rc ls a1 a2 a3 a4 a5 a6 a7 a8 a9 a10 a11 m s (nI i)) (fun i s => s = hj_hd E W i) 4 0 0 (by omega) rfl ?_ ?_
  · intro m s e
    have e' : s = hj_hd E W 4 := e
    subst e'
    exact pk_le 4 4 (fun _ => hj_least34 H1 H0) (fun z => absurd z (by omega))
  · intro m i s hi e hw
    have e' : s = hj_hd E W i := e
    subst e'
    refine pk_le 4 i (fun z => absurd z (by omega)) (fun _ => br_c (fun c => nm_r (nI_1 i) (hw _ ?_)) (fun c => ⟨pk_in i 4 hi, nm_r (show _ = hj_hd E W i ||| E i by rw [nI_clamp (by omega), hE i hi]) (nm_r (nI_1 i) (hw _ ?_))⟩))
    · show _ = hj_hd E W (i + 1)
      rw [hj_hd, if_pos c]
    · show _ = hj_hd E W (i + 1)
      rw [hj_hd, if_neg c]
theorem hj_lbe12 {post : Int32 → St1 → Prop} {E : Nat → Int32} (hE : ∀ i, i < 4 → a10 i = E i) : ∀ (q : Nat) (W : Int32) (pre : List Nat) (b : Nat → Int32), pre.length + q = 4 → hj_h b pre → (∀ l b', hj_tp E q W = some l → hj_h b' (pre ++ l) → post 1 (t, f1, rc, nI (pre ++ l).length, a1, a2, a3, a4, a5, a6, a7, a8, a9, a10, b')) → (hj_tp E q W = none → ∀ ls' b', post 0 (t, f1, rc, ls', a1, a2, a3, a4, a5, a6, a7, a8, a9, a10, b')) → wX_listByEdges_12 post t f1 rc (q + 1) W (nI pre.length) (nI pre.length) a1 a2 a3 a4 a5 a6 a7 a8 a9 a10 b := by
  intro q
  induction q with
  | zero =>
    intro W pre b hq hb H1 H0
    have := H1 [] b rfl (by rw [List.append_nil]; exact hb)
    rw [List.append_nil] at this
    exact pk_le 4 pre.length (fun _ => this) (fun z => absurd z (by omega))
  | succ q ih =>
    intro W pre b hq hb H1 H0
    refine pk_le 4 pre.length (fun z => absurd z (by omega)) (fun _ => br_c (fun c => ?_) (fun c => hj_least hE (fun i hi => br_t (nI_pos' (by have := (hj_nx_some hi).1; omega)) ⟨pk_in pre.length 4 (by omega), nm_r (show _ = upd b pre.length (nI i) by rw [nI_clamp (by omega), hj_e8 i (by have := (hj_nx_some hi).1; omega)]) (nm_r (nI_1 _) (nm_e (nm_r (nI_1 _) ?_)))⟩) (fun hnone => br_f (by decide) (H0 (by rw [hj_tp, if_neg c, hnone]) _ _))))
    · have := H1 [] b (by rw [hj_tp, if_pos c]) (by rw [List.append_nil]; exact hb)
      rw [List.append_nil] at this
      exact this
    · have := ih (hj_rm W i) (pre ++ [i]) (upd b pre.length (nI i)) (by rw [List.length_append, List.length_singleton]; omega) (hj_h_app i hb) (fun l b' hl hh => by
          rw [List.append_assoc, List.singleton_append] at hh ⊢
          exact H1 (i :: l) b' (by rw [hj_tp, if_neg c, hi]; dsimp only; rw [hl]) hh) (fun hno => H0 (by rw [hj_tp, if_neg c, hi]; dsimp only; rw [hno]))
      rw [List.length_append, List.length_singleton] at this
      exact this
theorem hj_lbe {post : Int32 → St1 → Prop} {E : Nat → Int32} (hn : n ≤ 4) (hE : ∀ i, i < 4 → a10 i = E i) (H1 : ∀ l b', hj_tp E 4 (hj_cs a1 n) = some l → hj_h b' l → post 1 (nI n, f1, rc, nI l.length, a1, a2, a3, a4, a5, a6, a7, a8, a9, a10, b')) (H0 : hj_tp E 4 (hj_cs a1 n) = none → ∀ ls' b', post 0 (nI n, f1, rc, ls', a1, a2, a3, a4, a5, a6, a7, a8, a9, a10, b')) : wpX_listByEdges post (nI n, f1, rc, ls, a1, a2, a3, a4, a5, a6, a7, a8, a9, a10, a11) := by
  unfold wpX_listByEdges
  exact hj_cset hn ⟨5, hj_lbe12 hE 4 (hj_cs a1 n) [] a11 rfl (hj_h0 _) H1 H0⟩
end
end
section
section
variable {n : Nat} {t f1 rc ls : Int32} {a1 a2 a3 a4 a5 a6 a7 a8 a9 a10 a11 : Nat → Int32}
theorem hj_over {post : Int32 → Prop} {X : Int32} (H : post (hj_hd a9 X 4)) : wpX_overwritten post (t, f1, rc, ls, a1, a2, a3, a4, a5, a6, a7, a8, a9, a10, a11) X := by
  refine pk_loop (fun m i s => wX_overwritten_4 post X t f1 rc ls a1 a2 a3 a4 a5 a6 a7 a8 a9 a10 a11 m s (nI i)) (fun i s => s = hj_hd a9 X i) 4 0 0 (by omega) rfl ?_ ?_
  · intro m s e
    have e' : s = hj_hd a9 X 4 := e
    subst e'
    exact pk_le 4 4 (fun _ => H) (fun z => absurd z (by omega))
  · intro m i s hi e hw
    have e' : s = hj_hd a9 X i := e
    subst e'
    refine pk_le 4 i (fun z => absurd z (by omega)) (fun _ => br_c (fun c => nm_r (nI_1 i) (hw _ ?_)) (fun c => ⟨pk_in i 4 hi, nm_r (show _ = hj_hd a9 X i ||| a9 i by rw [nI_clamp (by omega)]) (nm_r (nI_1 i) (hw _ ?_))⟩))
    · show _ = hj_hd a9 X (i + 1)
      rw [hj_hd, if_pos c]
    · show _ = hj_hd a9 X (i + 1)
      rw [hj_hd, if_neg c]
theorem hj_nb1 : narrow .boolean (.int 1) = .int 1 := by rfl
theorem hj_nb0 : narrow .boolean (.int 0) = .int 0 := by rfl
theorem hj_is_nb {r : Int32} {P : Prop} (h : hj_is r P) : narrow .boolean (.int r) = .int r := by
  rcases h with ⟨e, _⟩ | ⟨e, _⟩
  · rw [e]
    exact hj_nb1
  · rw [e]
    exact hj_nb0
theorem hj_fill {f s : Nat → Int32} {i : Nat} (h : ∀ j, j < i → s j = f j) : ∀ j, j < i + 1 → upd s i (f i) j = f j := by
  intro j hj
  by_cases z : j = i
  · rw [z, pk_us]
  · rw [pk_un z]
    exact h j (by omega)
/-- a state with this core -/
def hj_ok (n : Nat) (a1 a2 a3 a4 a5 : Nat → Int32) (u : St1) : Prop := ∃ rc ls a6 a7 a8 a9 a10 a11, u = (nI n, nI 2, rc, ls, a1, a2, a3, a4, a5, a6, a7, a8, a9, a10, a11) ∧ hj_z a7 ∧ hj_z a8 ∧ hj_z a9
def hj_iv (n : Nat) (a4 a5 : Nat → Int32) : Prop := n ≤ 4 ∧ ∀ x, x < 2 → hj_og a4 a5 x
def hj_ls (u : St1) : Int32 := u.2.2.2.1
def hj_la (u : St1) : Nat → Int32 := u.2.2.2.2.2.2.2.2.2.2.2.2.2.2
def hj_sr (n : Nat) (a1 a2 a3 a4 a5 : Nat → Int32) : Prop := hj_cl n a1 a2 a3 ∧ ∃ l, hj_tp (hj_E0 ((hj_bd n a1 a2 a3 a4 a5 2).1) ((hj_bd n a1 a2 a3 a4 a5 2).2.1) ((hj_bd n a1 a2 a3 a4 a5 2).2.2)) 4 (hj_cs a1 n) = some l
def hj_sn (n : Nat) (a1 a2 a3 a4 a5 : Nat → Int32) : Prop := hj_cl n a1 a2 a3 ∧ ∃ l, hj_tp (hj_E1 ((hj_bd n a1 a2 a3 a4 a5 2).1) ((hj_bd n a1 a2 a3 a4 a5 2).2.1) ((hj_bd n a1 a2 a3 a4 a5 2).2.2)) 4 (hj_cs a1 n) = some l
def hj_so (n : Nat) (a1 a2 a3 a4 a5 : Nat → Int32) : Prop := hj_cl n a1 a2 a3 ∧ ∃ l, hj_tp (hj_E2 ((hj_bd n a1 a2 a3 a4 a5 2).1) ((hj_bd n a1 a2 a3 a4 a5 2).2.1)) 4 (hj_cs a1 n) = some l
def hj_or (n : Nat) (a1 a2 a3 a4 a5 : Nat → Int32) : Prop := ∃ l, hj_tp (hj_E3 ((hj_bd n a1 a2 a3 a4 a5 2).1)) 4 (hj_cs a1 n) = some l
theorem hj_sr_sn (iv : hj_iv n a4 a5) (h : hj_sr n a1 a2 a3 a4 a5) : hj_sn n a1 a2 a3 a4 a5 := ⟨h.1, hj_01 iv.1 (hj_bd_ok iv.1 iv.2 2 (by omega)).2.2.2 h.2⟩
theorem hj_sn_so (iv : hj_iv n a4 a5) (h : hj_sn n a1 a2 a3 a4 a5) : hj_so n a1 a2 a3 a4 a5 := ⟨h.1, hj_12 (hj_cs_lo iv.1) h.2⟩
theorem hj_so_or (iv : hj_iv n a4 a5) (h : hj_so n a1 a2 a3 a4 a5) : hj_or n a1 a2 a3 a4 a5 := hj_23 (hj_cs_lo iv.1) h.2
theorem hj_tl {E : Nat → Int32} {l : List Nat} (hn : n ≤ 4) (h : hj_tp E 4 (hj_cs a1 n) = some l) : hj_gl l ∧ ∀ i, i ∈ l ↔ (i < 4 ∧ bt (hj_cs a1 n) i = true) := by
  have z := hj_T3 E 4 (hj_cs a1 n) l (hj_cs_lo hn) (hj_ct_4 _) h
  exact ⟨⟨z.1, fun e he => ((z.2 e).mp he).1⟩, z.2⟩
theorem hj_serial {post : Int32 → St1 → Prop} {u : St1} (iv : hj_iv n a4 a5) (hu : hj_ok n a1 a2 a3 a4 a5 u) (H1 : ∀ l u', hj_cl n a1 a2 a3 → hj_tp (hj_E0 ((hj_bd n a1 a2 a3 a4 a5 2).1) ((hj_bd n a1 a2 a3 a4 a5 2).2.1) ((hj_bd n a1 a2 a3 a4 a5 2).2.2)) 4 (hj_cs a1 n) = some l → hj_ok n a1 a2 a3 a4 a5 u' → hj_ls u' = nI l.length → hj_h (hj_la u') l → post 1 u') (H0 : ∀ u', ¬ hj_sr n a1 a2 a3 a4 a5 → hj_ok n a1 a2 a3 a4 a5 u' → post 0 u') : wpX_serial post u := by
  obtain ⟨rc, ls, a6, a7, a8, a9, a10, a11, rfl, z7, z8, z9⟩ := hu
  have bo := hj_bd_ok (a1 := a1) (a2 := a2) (a3 := a3) iv.1 iv.2 2 (by omega)
  unfold wpX_serial
  refine hj_clean iv.1 (fun r hr => br_c (fun z => H0 _ (fun q => hj_is_0 hr z q.1) ⟨rc, ls, a6, a7, a8, a9, a10, a11, rfl, z7, z8, z9⟩) (fun z => hj_build iv.1 iv.2 z7 z8 z9 (fun r' b => ?_)))
  have cl := hj_is_f hr z
  refine pk_loop (fun m i s => wX_serial_15 post (nI n) (nI 2) r' ls m (nI i) a1 a2 a3 a4 a5 b ((hj_bd n a1 a2 a3 a4 a5 2).1) ((hj_bd n a1 a2 a3 a4 a5 2).2.1) ((hj_bd n a1 a2 a3 a4 a5 2).2.2) s a11) (fun i (s : Nat → Int32) => ∀ j, j < i → s j = hj_E0 ((hj_bd n a1 a2 a3 a4 a5 2).1) ((hj_bd n a1 a2 a3 a4 a5 2).2.1) ((hj_bd n a1 a2 a3 a4 a5 2).2.2) j) 4 0 a10 (by omega) (lt_0) ?_ ?_
  · intro m s h
    refine pk_le 4 4 (fun _ => hj_lbe iv.1 h (fun l b' hl hh => ⟨hj_nb1, H1 l _ cl hl ⟨_, _, _, _, _, _, _, _, rfl, bo.1, bo.2.1, bo.2.2.1⟩ rfl hh⟩) (fun hno ls' b' => ⟨hj_nb0, H0 _ (fun q => ?_) ⟨_, _, _, _, _, _, _, _, rfl, bo.1, bo.2.1, bo.2.2.1⟩⟩)) (fun z => absurd z (by omega))
    obtain ⟨_, l, hl⟩ := q
    rw [hno] at hl
    exact absurd hl (by simp)
  · intro m i s hi h hw
    exact pk_le 4 i (fun z => absurd z (by omega)) (fun _ => ⟨pk_in i 4 hi, pk_in i 4 hi, pk_in i 4 hi, pk_in i 4 hi, nm_r (show _ = upd s i (hj_E0 ((hj_bd n a1 a2 a3 a4 a5 2).1) ((hj_bd n a1 a2 a3 a4 a5 2).2.1) ((hj_bd n a1 a2 a3 a4 a5 2).2.2) i) by rw [nI_clamp (by omega)]; rfl) (nm_r (nI_1 i) (hw _ (hj_fill h)))⟩)
theorem hj_serialB {post : Int32 → St1 → Prop} {u : St1} (iv : hj_iv n a4 a5) (hu : hj_ok n a1 a2 a3 a4 a5 u) (H : ∀ r u', hj_is r (hj_sr n a1 a2 a3 a4 a5) → hj_ok n a1 a2 a3 a4 a5 u' → post r u') : wpX_serial post u :=
  hj_serial iv hu (fun l u' cl hl ok _ _ => H 1 u' (Or.inl ⟨rfl, cl, l, hl⟩) ok) (fun u' hn ok => H 0 u' (Or.inr ⟨rfl, hn⟩) ok)
theorem hj_snapshot {post : Int32 → St1 → Prop} {u : St1} (iv : hj_iv n a4 a5) (hu : hj_ok n a1 a2 a3 a4 a5 u) (H : ∀ r u', hj_is r (hj_sn n a1 a2 a3 a4 a5) → hj_ok n a1 a2 a3 a4 a5 u' → post r u') : wpX_snapshot post u := by
  obtain ⟨rc, ls, a6, a7, a8, a9, a10, a11, rfl, z7, z8, z9⟩ := hu
  have bo := hj_bd_ok (a1 := a1) (a2 := a2) (a3 := a3) iv.1 iv.2 2 (by omega)
  unfold wpX_snapshot
  refine hj_clean iv.1 (fun r hr => br_c (fun z => H 0 _ (Or.inr ⟨rfl, fun q => hj_is_0 hr z q.1⟩) ⟨rc, ls, a6, a7, a8, a9, a10, a11, rfl, z7, z8, z9⟩) (fun z => hj_build iv.1 iv.2 z7 z8 z9 (fun r' b => ?_)))
  have cl := hj_is_f hr z
  refine pk_loop (fun m i s => wX_snapshot_15 post (nI n) (nI 2) r' ls m (nI i) a1 a2 a3 a4 a5 b ((hj_bd n a1 a2 a3 a4 a5 2).1) ((hj_bd n a1 a2 a3 a4 a5 2).2.1) ((hj_bd n a1 a2 a3 a4 a5 2).2.2) s a11) (fun i (s : Nat → Int32) => ∀ j, j < i → s j = hj_E1 ((hj_bd n a1 a2 a3 a4 a5 2).1) ((hj_bd n a1 a2 a3 a4 a5 2).2.1) ((hj_bd n a1 a2 a3 a4 a5 2).2.2) j) 4 0 a10 (by omega) (lt_0) ?_ ?_
  · intro m s h
    refine pk_le 4 4 (fun _ => hj_lbe iv.1 h (fun l b' hl hh => ⟨hj_nb1, H 1 _ (Or.inl ⟨rfl, cl, l, hl⟩) ⟨_, _, _, _, _, _, _, _, rfl, bo.1, bo.2.1, bo.2.2.1⟩⟩) (fun hno ls' b' => ⟨hj_nb0, H 0 _ (Or.inr ⟨rfl, fun q => ?_⟩) ⟨_, _, _, _, _, _, _, _, rfl, bo.1, bo.2.1, bo.2.2.1⟩⟩)) (fun z => absurd z (by omega))
    obtain ⟨_, l, hl⟩ := q
    rw [hno] at hl
    exact absurd hl (by simp)
  · intro m i s hi h hw
    exact pk_le 4 i (fun z => absurd z (by omega)) (fun _ => ⟨pk_in i 4 hi, pk_in i 4 hi, nm_r (show _ = ((hj_bd n a1 a2 a3 a4 a5 2).1 i ||| (hj_bd n a1 a2 a3 a4 a5 2).2.1 i) by rw [nI_clamp (by omega)]) (hj_over ⟨pk_in i 4 hi, nm_r (show _ = upd s i (hj_E1 ((hj_bd n a1 a2 a3 a4 a5 2).1) ((hj_bd n a1 a2 a3 a4 a5 2).2.1) ((hj_bd n a1 a2 a3 a4 a5 2).2.2) i) by rw [nI_clamp (by omega)]; rfl) (nm_r (nI_1 i) (hw _ (hj_fill h)))⟩)⟩)
theorem hj_sourced {post : Int32 → St1 → Prop} {u : St1} (iv : hj_iv n a4 a5) (hu : hj_ok n a1 a2 a3 a4 a5 u) (H : ∀ r u', hj_is r (hj_so n a1 a2 a3 a4 a5) → hj_ok n a1 a2 a3 a4 a5 u' → post r u') : wpX_sourced post u := by
  obtain ⟨rc, ls, a6, a7, a8, a9, a10, a11, rfl, z7, z8, z9⟩ := hu
  have bo := hj_bd_ok (a1 := a1) (a2 := a2) (a3 := a3) iv.1 iv.2 2 (by omega)
  unfold wpX_sourced
  refine hj_clean iv.1 (fun r hr => br_c (fun z => H 0 _ (Or.inr ⟨rfl, fun q => hj_is_0 hr z q.1⟩) ⟨rc, ls, a6, a7, a8, a9, a10, a11, rfl, z7, z8, z9⟩) (fun z => hj_build iv.1 iv.2 z7 z8 z9 (fun r' b => ?_)))
  have cl := hj_is_f hr z
  refine pk_loop (fun m i s => wX_sourced_15 post (nI n) (nI 2) r' ls m (nI i) a1 a2 a3 a4 a5 b ((hj_bd n a1 a2 a3 a4 a5 2).1) ((hj_bd n a1 a2 a3 a4 a5 2).2.1) ((hj_bd n a1 a2 a3 a4 a5 2).2.2) s a11) (fun i (s : Nat → Int32) => ∀ j, j < i → s j = hj_E2 ((hj_bd n a1 a2 a3 a4 a5 2).1) ((hj_bd n a1 a2 a3 a4 a5 2).2.1) j) 4 0 a10 (by omega) (lt_0) ?_ ?_
  · intro m s h
    refine pk_le 4 4 (fun _ => hj_lbe iv.1 h (fun l b' hl hh => ⟨hj_nb1, H 1 _ (Or.inl ⟨rfl, cl, l, hl⟩) ⟨_, _, _, _, _, _, _, _, rfl, bo.1, bo.2.1, bo.2.2.1⟩⟩) (fun hno ls' b' => ⟨hj_nb0, H 0 _ (Or.inr ⟨rfl, fun q => ?_⟩) ⟨_, _, _, _, _, _, _, _, rfl, bo.1, bo.2.1, bo.2.2.1⟩⟩)) (fun z => absurd z (by omega))
    obtain ⟨_, l, hl⟩ := q
    rw [hno] at hl
    exact absurd hl (by simp)
  · intro m i s hi h hw
    exact pk_le 4 i (fun z => absurd z (by omega)) (fun _ => ⟨pk_in i 4 hi, pk_in i 4 hi, pk_in i 4 hi, nm_r (show _ = upd s i (hj_E2 ((hj_bd n a1 a2 a3 a4 a5 2).1) ((hj_bd n a1 a2 a3 a4 a5 2).2.1) i) by rw [nI_clamp (by omega)]; rfl) (nm_r (nI_1 i) (hw _ (hj_fill h)))⟩)
theorem hj_ordered {post : Int32 → St1 → Prop} {u : St1} (iv : hj_iv n a4 a5) (hu : hj_ok n a1 a2 a3 a4 a5 u) (H : ∀ r u', hj_is r (hj_or n a1 a2 a3 a4 a5) → hj_ok n a1 a2 a3 a4 a5 u' → post r u') : wpX_ordered post u := by
  obtain ⟨rc, ls, a6, a7, a8, a9, a10, a11, rfl, z7, z8, z9⟩ := hu
  have bo := hj_bd_ok (a1 := a1) (a2 := a2) (a3 := a3) iv.1 iv.2 2 (by omega)
  unfold wpX_ordered
  refine hj_build iv.1 iv.2 z7 z8 z9 (fun r' b => ?_)
  refine pk_loop (fun m i s => wX_ordered_6 post (nI n) (nI 2) r' ls m (nI i) a1 a2 a3 a4 a5 b ((hj_bd n a1 a2 a3 a4 a5 2).1) ((hj_bd n a1 a2 a3 a4 a5 2).2.1) ((hj_bd n a1 a2 a3 a4 a5 2).2.2) s a11) (fun i (s : Nat → Int32) => ∀ j, j < i → s j = hj_E3 ((hj_bd n a1 a2 a3 a4 a5 2).1) j) 4 0 a10 (by omega) (lt_0) ?_ ?_
  · intro m s h
    refine pk_le 4 4 (fun _ => hj_lbe iv.1 h (fun l b' hl hh => ⟨hj_nb1, H 1 _ (Or.inl ⟨rfl, l, hl⟩) ⟨_, _, _, _, _, _, _, _, rfl, bo.1, bo.2.1, bo.2.2.1⟩⟩) (fun hno ls' b' => ⟨hj_nb0, H 0 _ (Or.inr ⟨rfl, fun q => ?_⟩) ⟨_, _, _, _, _, _, _, _, rfl, bo.1, bo.2.1, bo.2.2.1⟩⟩)) (fun z => absurd z (by omega))
    obtain ⟨l, hl⟩ := q
    rw [hno] at hl
    exact absurd hl (by simp)
  · intro m i s hi h hw
    exact pk_le 4 i (fun z => absurd z (by omega)) (fun _ => ⟨pk_in i 4 hi, pk_in i 4 hi, nm_r (show _ = upd s i (hj_E3 ((hj_bd n a1 a2 a3 a4 a5 2).1) i) by rw [nI_clamp (by omega)]; rfl) (nm_r (nI_1 i) (hw _ (hj_fill h)))⟩)
theorem hj_cleanB {post : Int32 → Prop} {u : St1} (iv : hj_iv n a4 a5) (hu : hj_ok n a1 a2 a3 a4 a5 u) (H : ∀ r, hj_is r (hj_cl n a1 a2 a3) → post r) : wpX_clean post u := by
  obtain ⟨rc, ls, a6, a7, a8, a9, a10, a11, rfl, z7, z8, z9⟩ := hu
  exact hj_clean iv.1 H
theorem hj_serialAt {post : Int32 → St1 → Prop} {u : St1} {k : Nat} (hk : k < 5) (iv : hj_iv n a4 a5) (hu : hj_ok n a1 a2 a3 a4 a5 u) (H1 : ∀ l u', hj_cl n a1 a2 a3 → hj_tp (hj_E0 ((hj_bd n a1 a2 a3 a4 a5 2).1) ((hj_bd n a1 a2 a3 a4 a5 2).2.1) ((hj_bd n a1 a2 a3 a4 a5 2).2.2)) 4 (hj_cs a1 n) = some l → hj_ok n a1 a2 a3 a4 a5 u' → k < l.length → post (nI (l.getD k 0)) u') (H2 : ∀ l u', hj_cl n a1 a2 a3 → hj_tp (hj_E0 ((hj_bd n a1 a2 a3 a4 a5 2).1) ((hj_bd n a1 a2 a3 a4 a5 2).2.1) ((hj_bd n a1 a2 a3 a4 a5 2).2.2)) 4 (hj_cs a1 n) = some l → hj_ok n a1 a2 a3 a4 a5 u' → l.length ≤ k → post (-1) u') (H0 : ∀ u', ¬ hj_sr n a1 a2 a3 a4 a5 → hj_ok n a1 a2 a3 a4 a5 u' → post (-1) u') : wpX_serialAt post u (nI k) := by
  obtain ⟨rc, ls, a6, a7, a8, a9, a10, a11, rfl, z7, z8, z9⟩ := hu
  unfold wpX_serialAt
  refine hj_serial iv ⟨rc, ls, a6, a7, a8, a9, a10, a11, rfl, z7, z8, z9⟩ (fun l u' cl hl ok e1 e2 => ?_) (fun u' hno ok => ?_)
  · have gl := hj_gl_len (hj_tl iv.1 hl).1
    obtain ⟨rc', ls', b6, b7, b8, b9, b10, b11, rfl, y7, y8, y9⟩ := ok
    have okk : hj_ok n a1 a2 a3 a4 a5 (nI n, nI 2, rc', ls', a1, a2, a3, a4, a5, b6, b7, b8, b9, b10, b11) := ⟨rc', ls', b6, b7, b8, b9, b10, b11, rfl, y7, y8, y9⟩
    have e1' : ls' = nI l.length := e1
    have e2' : hj_h b11 l := e2
    refine br_f (by decide) (br_f (nI_pos (by omega)) (pk_lt k l.length (fun z => ⟨pk_in k 4 (by omega), ?_⟩) (fun z => H2 l _ cl hl okk z) rfl e1'))
    have ea : b11 (nI k).toNatClampNeg = nI (l.getD k 0) := by
      rw [nI_clamp (by omega)]
      exact e2' k z
    rw [ea]
    exact H1 l _ cl hl okk z
  · have okk := ok
    obtain ⟨rc', ls', b6, b7, b8, b9, b10, b11, rfl, y7, y8, y9⟩ := ok
    exact br_t rfl (H0 _ hno okk)
theorem hj_ofKind {post : Int32 → St1 → Prop} {u : St1} {p0 : Int32} (iv : hj_iv n a4 a5) (hu : hj_ok n a1 a2 a3 a4 a5 u) (H : ∀ r u', hj_ok n a1 a2 a3 a4 a5 u' → post r u') : wpX_ofKind post u p0 := by
  have hu' := hu
  obtain ⟨rc, ls, a6, a7, a8, a9, a10, a11, rfl, z7, z8, z9⟩ := hu
  unfold wpX_ofKind
  refine br_c (fun _ => hj_cleanB iv hu' (fun r hr => ⟨hj_is_nb hr, H r _ hu'⟩)) (fun _ => br_c (fun _ => hj_ordered iv hu' (fun r u' hr ok => ?_)) (fun _ => br_c (fun _ => hj_sourced iv hu' (fun r u' hr ok => ?_)) (fun _ => br_c (fun _ => hj_snapshot iv hu' (fun r u' hr ok => ?_)) (fun _ => hj_serialB iv hu' (fun r u' hr ok => ?_)))))
  all_goals
    have okk := ok
    obtain ⟨rc', ls', b6, b7, b8, b9, b10, b11, rfl, y7, y8, y9⟩ := ok
    exact ⟨hj_is_nb hr, H r _ okk⟩
end
end
section
section
variable {n : Nat} {t f1 rc ls : Int32} {a1 a2 a3 a4 a5 a6 a7 a8 a9 a10 a11 : Nat → Int32}
theorem hj_isT {post : Int32 → Prop} {i : Nat} (hn : n ≤ 4) (hi : i < 4) (H1 : i < n → post 1) (H0 : n ≤ i → post 0) : wpX_isTransaction post (nI n, f1, rc, ls, a1, a2, a3, a4, a5, a6, a7, a8, a9, a10, a11) (nI i) :=
  br_f (nI_pos (by omega)) (pk_le n i (fun z => H0 z) (fun z => H1 z))
theorem hj_isK {post : Int32 → Prop} {x : Nat} (hx : x < 2) (H1 : post 1) : wpX_isKey post (t, nI 2, rc, ls, a1, a2, a3, a4, a5, a6, a7, a8, a9, a10, a11) (nI x) :=
  br_f (nI_pos (by omega)) (pk_le 2 x (fun z => absurd z (by omega)) (fun z => H1))
end
/-- the invariant of the law's loop -/
def hj_I (u : St1) : Prop := ∃ n a1 a2 a3 a4 a5, hj_iv n a4 a5 ∧ hj_ok n a1 a2 a3 a4 a5 u
theorem hj_write {post : Int32 → St1 → Prop} {u : St1} {i x : Nat} (hi : i < 4) (hx : x < 2) (hu : hj_I u) (H : ∀ r u', hj_I u' → post r u') : wpX_write post u (nI i) (nI x) := by
  have hu' := hu
  obtain ⟨n, a1, a2, a3, a4, a5, iv, rc, ls, a6, a7, a8, a9, a10, a11, rfl, z7, z8, z9⟩ := hu
  unfold wpX_write
  exact hj_isT iv.1 hi (fun _ => br_f (by decide) (hj_isK hx (br_f (by decide) ⟨pk_in i 4 hi, br_c (fun _ => nm_e ⟨hj_cellI hi (by omega), br_c (fun _ => ⟨hj_cellI hi (by omega), hj_cellI hi (by omega), fun b _ => ⟨hj_cellI hi (by omega), H _ _ ⟨n, a1, b, a3, a4, a5, iv, _, _, _, _, _, _, _, _, rfl, z7, z8, z9⟩⟩⟩) (fun _ => H _ _ hu')⟩) (fun _ => H _ _ hu')⟩))) (fun _ => br_t rfl (H _ _ hu'))
theorem hj_read {post : Int32 → St1 → Prop} {u : St1} {i x j : Nat} {v : Int32} (hi : i < 4) (hx : x < 2) (hj : j < 4) (hu : hj_I u) (H : ∀ r u', hj_I u' → post r u') : wpX_read post u (nI i) (nI x) (nI j) v := by
  have hu' := hu
  obtain ⟨n, a1, a2, a3, a4, a5, iv, rc, ls, a6, a7, a8, a9, a10, a11, rfl, z7, z8, z9⟩ := hu
  unfold wpX_read
  exact hj_isT iv.1 hi (fun _ => br_f (by decide) (hj_isT iv.1 hj (fun _ => br_f (by decide) (hj_isK hx (br_f (by decide) (br_c (fun _ => H _ _ hu') (fun _ => ⟨pk_in i 4 hi, br_c (fun _ => br_c (fun _ => H _ _ hu') (fun _ => ⟨hj_cellI hj (by omega), br_c (fun _ => nm_e (nm_e ⟨hj_cellI hi (by omega), hj_cellI hi (by omega), fun b _ => H _ _ ⟨n, a1, a2, b, a4, a5, iv, _, _, _, _, _, _, _, _, rfl, z7, z8, z9⟩⟩)) (fun _ => H _ _ hu')⟩)) (fun _ => H _ _ hu')⟩))))) (fun _ => br_t rfl (H _ _ hu')))) (fun _ => br_t rfl (H _ _ hu'))
theorem hj_ground {post : Int32 → St1 → Prop} {u : St1} {i x : Nat} (hi : i < 4) (hx : x < 2) (hu : hj_I u) (H : ∀ r u', hj_I u' → post r u') : wpX_readGround post u (nI i) (nI x) := by
  have hu' := hu
  obtain ⟨n, a1, a2, a3, a4, a5, iv, rc, ls, a6, a7, a8, a9, a10, a11, rfl, z7, z8, z9⟩ := hu
  unfold wpX_readGround
  exact hj_isT iv.1 hi (fun _ => br_f (by decide) (hj_isK hx (br_f (by decide) ⟨pk_in i 4 hi, br_c (fun _ => nm_e ⟨hj_cellI hi (by omega), hj_cellI hi (by omega), fun b _ => H _ _ ⟨n, a1, a2, b, a4, a5, iv, _, _, _, _, _, _, _, _, rfl, z7, z8, z9⟩⟩) (fun _ => H _ _ hu')⟩))) (fun _ => br_t rfl (H _ _ hu'))
theorem hj_og_new {a4 a5 : Nat → Int32} {x i : Nat} (g : ∀ y, y < 2 → hj_og a4 a5 y) (hx : x < 2) (hi : i < 4) (hs : hj_sz a5 x < 4) (hne : ∀ k, k < hj_sz a5 x → ¬ a4 (x * 4 + k) = nI i) : ∀ y, y < 2 → hj_og (upd a4 (x * 4 + hj_sz a5 x) (nI i)) (upd a5 x (nI (hj_sz a5 x + 1))) y := by
  intro y hy
  obtain ⟨g1, g2, g3, g4⟩ := g y hy
  by_cases z : y = x
  · subst z
    have es : hj_sz (upd a5 y (nI (hj_sz a5 y + 1))) y = hj_sz a5 y + 1 := by
      show (upd a5 y (nI (hj_sz a5 y + 1)) y).toNatClampNeg = _
      rw [pk_us, nI_clamp (by omega)]
    have eo : ∀ k, k < hj_sz a5 y → hj_oo (upd a4 (y * 4 + hj_sz a5 y) (nI i)) y k = hj_oo a4 y k := by
      intro k hk
      show (upd a4 (y * 4 + hj_sz a5 y) (nI i) (y * 4 + k)).toNatClampNeg = _
      rw [pk_un (by omega)]
      rfl
    have ei : hj_oo (upd a4 (y * 4 + hj_sz a5 y) (nI i)) y (hj_sz a5 y) = i := by
      show (upd a4 (y * 4 + hj_sz a5 y) (nI i) (y * 4 + hj_sz a5 y)).toNatClampNeg = _
      rw [pk_us, nI_clamp (by omega)]
    refine ⟨?_, ?_, ?_, ?_⟩
    · rw [es, pk_us]
    · rw [es]
      omega
    · intro k hk
      rw [es] at hk
      by_cases e : k = hj_sz a5 y
      · subst e
        rw [ei, pk_us]
        exact ⟨hi, rfl⟩
      · rw [eo k (by omega), pk_un (by omega)]
        exact g3 k (by omega)
    · intro k m hkm hm
      rw [es] at hm
      by_cases e : m = hj_sz a5 y
      · rw [e, ei, eo k (by omega)]
        intro q
        have := (g3 k (by omega)).2
        rw [q] at this
        exact hne k (by omega) this
      · rw [eo k (by omega), eo m (by omega)]
        exact g4 k m hkm (by omega)
  · have es : hj_sz (upd a5 x (nI (hj_sz a5 x + 1))) y = hj_sz a5 y := by
      show (upd a5 x (nI (hj_sz a5 x + 1)) y).toNatClampNeg = _
      rw [pk_un z]
      rfl
    have eu : ∀ k, k < hj_sz a5 y → upd a4 (x * 4 + hj_sz a5 x) (nI i) (y * 4 + k) = a4 (y * 4 + k) := by
      intro k hk
      exact pk_un (by omega)
    have eo : ∀ k, k < hj_sz a5 y → hj_oo (upd a4 (x * 4 + hj_sz a5 x) (nI i)) y k = hj_oo a4 y k := by
      intro k hk
      show (upd a4 (x * 4 + hj_sz a5 x) (nI i) (y * 4 + k)).toNatClampNeg = _
      rw [eu k hk]
      rfl
    refine ⟨?_, ?_, ?_, ?_⟩
    · rw [es, pk_un z]
      exact g1
    · rw [es]
      exact g2
    · intro k hk
      rw [es] at hk
      rw [eo k hk, eu k hk]
      exact g3 k hk
    · intro k m hkm hm
      rw [es] at hm
      rw [eo k (by omega), eo m hm]
      exact g4 k m hkm hm
theorem hj_install {post : Int32 → St1 → Prop} {u : St1} {i x : Nat} (hi : i < 4) (hx : x < 2) (hu : hj_I u) (H : ∀ r u', hj_I u' → post r u') : wpX_install post u (nI x) (nI i) := by
  have hu' := hu
  obtain ⟨n, a1, a2, a3, a4, a5, iv, rc, ls, a6, a7, a8, a9, a10, a11, rfl, z7, z8, z9⟩ := hu
  have hg := iv.2 x hx
  have h4 := hg.2.1
  have e5 : a5 (nI x).toNatClampNeg = nI (hj_sz a5 x) := by
    rw [nI_clamp (by omega)]
    exact hg.1
  unfold wpX_install
  refine hj_isT iv.1 hi (fun _ => br_f (by decide) (hj_isK hx (br_f (by decide) ⟨hj_cellI hi (by omega), br_c (fun _ => H _ _ hu') (fun _ => ⟨pk_in x 4 (by omega), nm_r e5 ?_⟩)⟩))) (fun _ => br_t rfl (H _ _ hu'))
  refine pk_loop (σ := Unit) (fun m k _ => wX_install_44 post (nI x) (nI i) (nI (hj_sz a5 x)) (nI n) (nI 2) rc ls a1 a2 a3 a4 a5 a6 a7 a8 a9 a10 a11 m (nI k)) (fun k _ => ∀ j, j < k → ¬ a4 (x * 4 + j) = nI i) (hj_sz a5 x) 0 () (by omega) (lt_0) ?_ ?_
  · intro m _ h
    refine pk_le (hj_sz a5 x) (hj_sz a5 x) (fun _ => pk_le 4 (hj_sz a5 x) (fun _ => H _ _ hu') (fun hs => ⟨hj_cellI (by omega) hs, nm_r (show _ = upd a4 (x * 4 + hj_sz a5 x) (nI i) by rw [hj_cellC (by omega) hs, hj_e8 i (by omega)]) ⟨pk_in x 4 (by omega), pk_in x 4 (by omega), nm_r (show _ = upd a5 x (nI (hj_sz a5 x + 1)) by rw [e5, nI_1, hj_e8 _ (by omega), nI_clamp (by omega)]) (H _ _ ⟨n, a1, a2, a3, _, _, ⟨iv.1, hj_og_new iv.2 hx hi hs h⟩, _, _, _, _, _, _, _, _, rfl, z7, z8, z9⟩)⟩⟩)) (fun z => absurd z (by omega))
  · intro m k _ hk h hw
    refine pk_le (hj_sz a5 x) k (fun z => absurd z (by omega)) (fun _ => ⟨hj_cellI (by omega) (by omega), br_c (fun _ => H _ _ hu') (fun c => nm_r (nI_1 k) (hw () (lt_s h ?_)))⟩)
    rw [hj_cellC (by omega) (by omega)] at c
    exact c
theorem hj_close {post : Int32 → St1 → Prop} {u : St1} {i : Nat} {v : Int32} (hi : i < 4) (hu : hj_I u) (H : ∀ r u', hj_I u' → post r u') : wpX_close post u (nI i) v := by
  have hu' := hu
  obtain ⟨n, a1, a2, a3, a4, a5, iv, rc, ls, a6, a7, a8, a9, a10, a11, rfl, z7, z8, z9⟩ := hu
  unfold wpX_close
  exact hj_isT iv.1 hi (fun _ => br_f (by decide) ⟨pk_in i 4 hi, br_c (fun _ => ⟨pk_in i 4 hi, fun b _ => H _ _ ⟨n, b, a2, a3, a4, a5, iv, _, _, _, _, _, _, _, _, rfl, z7, z8, z9⟩⟩) (fun _ => H _ _ hu')⟩) (fun _ => br_t rfl (H _ _ hu'))
theorem hj_commit {post : Int32 → St1 → Prop} {u : St1} {i : Nat} (hi : i < 4) (hu : hj_I u) (H : ∀ r u', hj_I u' → post r u') : wpX_commit post u (nI i) := by
  obtain ⟨c1, c2, c3, c4, c5, c6, c7, c8, c9, c10, c11, c12, c13, c14, c15⟩ := u
  unfold wpX_commit
  refine hj_close hi hu (fun r u' h => ?_)
  obtain ⟨d1, d2, d3, d4, d5, d6, d7, d8, d9, d10, d11, d12, d13, d14, d15⟩ := u'
  exact H r _ h
theorem hj_abort {post : Int32 → St1 → Prop} {u : St1} {i : Nat} (hi : i < 4) (hu : hj_I u) (H : ∀ r u', hj_I u' → post r u') : wpX_abort post u (nI i) := by
  obtain ⟨c1, c2, c3, c4, c5, c6, c7, c8, c9, c10, c11, c12, c13, c14, c15⟩ := u
  unfold wpX_abort
  refine hj_close hi hu (fun r u' h => ?_)
  obtain ⟨d1, d2, d3, d4, d5, d6, d7, d8, d9, d10, d11, d12, d13, d14, d15⟩ := u'
  exact H r _ h
theorem hj_commitIf {post : Int32 → St1 → Prop} {u : St1} {i : Nat} {v : Int32} (hi : i < 4) (hu : hj_I u) (H : ∀ r u', hj_I u' → post r u') : wpX_commitIf post u (nI i) v := by
  have hu' := hu
  obtain ⟨n, a1, a2, a3, a4, a5, iv, rc, ls, a6, a7, a8, a9, a10, a11, rfl, z7, z8, z9⟩ := hu
  unfold wpX_commitIf
  refine hj_isT iv.1 hi (fun _ => br_f (by decide) (br_c (fun _ => H _ _ hu') (fun _ => br_c (fun _ => hj_close hi hu' (fun r u' h' => ?_)) (fun _ => H _ _ hu')))) (fun _ => br_t rfl (H _ _ hu'))
  have hh := h'
  obtain ⟨n', b1, b2, b3, b4, b5, iv', ok'⟩ := h'
  have ok2 := ok'
  obtain ⟨rc', ls', b6, b7, b8, b9, b10, b11, rfl, y7, y8, y9⟩ := ok'
  refine br_c (fun _ => hj_ofKind iv' ok2 (fun r2 u2 ok3 => ?_)) (fun _ => H _ _ hh)
  have ok4 := ok3
  obtain ⟨rc'', ls'', d6, d7, d8, d9, d10, d11, rfl, x7, x8, x9⟩ := ok3
  exact br_c (fun _ => ⟨pk_in i 4 hi, fun b _ => H _ _ ⟨n', b, b2, b3, b4, b5, iv', _, _, _, _, _, _, _, _, rfl, x7, x8, x9⟩⟩) (fun _ => H _ _ ⟨n', b1, b2, b3, b4, b5, iv', ok4⟩)
theorem hj_turn {post : St1 → Prop} {u : St1} {w p q : Int32} (hu : hj_I u) (H : ∀ u', hj_I u' → post u') : wpL_turn post u w p q := by
  obtain ⟨i, hi, ei⟩ := pk_andE p (m := 3) 2 (by decide)
  obtain ⟨j, hj, ej⟩ := pk_andE (p >>> ((2 : Int32) &&& 31)) (m := 3) 2 (by decide)
  obtain ⟨x, hx, ex⟩ := pk_andE q (m := 1) 1 (by decide)
  have hi' : i < 4 := hi
  have hj' : j < 4 := hj
  have hx' : x < 2 := hx
  have K : ∀ (u' : St1), hj_I u' → (match u' with | (c1, c2, c3, c4, c5, c6, c7, c8, c9, c10, c11, c12, c13, c14, c15) => post (c1, c2, c3, c4, c5, c6, c7, c8, c9, c10, c11, c12, c13, c14, c15)) := by
    intro u' h
    obtain ⟨d1, d2, d3, d4, d5, d6, d7, d8, d9, d10, d11, d12, d13, d14, d15⟩ := u'
    exact H _ h
  obtain ⟨c1, c2, c3, c4, c5, c6, c7, c8, c9, c10, c11, c12, c13, c14, c15⟩ := u
  unfold wpL_turn
  exact nm_r ei (nm_r ej (nm_r ex (br_c (fun _ => br_c (fun _ => br_c (fun _ => br_c (fun _ => br_c (fun _ => br_c (fun _ => hj_abort hi' hu (fun _ u' h => K u' h)) (fun _ => ⟨by decide, hj_commitIf hi' hu (fun _ u' h => K u' h)⟩)) (fun _ => hj_commit hi' hu (fun _ u' h => K u' h))) (fun _ => hj_install hi' hx' hu (fun _ u' h => K u' h))) (fun _ => hj_ground hi' hx' hu (fun _ u' h => K u' h))) (fun _ => hj_read hi' hx' hj' hu (fun _ u' h => K u' h))) (fun _ => hj_write hi' hx' hu (fun _ u' h => K u' h)))))
end
section
section
variable {n : Nat} {t f1 rc ls : Int32} {a1 a2 a3 a4 a5 a6 a7 a8 a9 a10 a11 : Nat → Int32}
theorem hj_chain {post : Int32 → St1 → Prop} {u : St1} (hu : hj_I u) (H : ∀ u', hj_I u' → post 1 u') : wpL_chain post u := by
  obtain ⟨n, a1, a2, a3, a4, a5, iv, ok⟩ := hu
  have k0 := ok
  obtain ⟨rc, ls, a6, a7, a8, a9, a10, a11, rfl, z7, z8, z9⟩ := ok
  unfold wpL_chain
  refine hj_serialB iv k0 (fun r1 u1 i1 ok1 => ?_)
  have k1 := ok1
  obtain ⟨rcp, lsp, a6p, a7p, a8p, a9p, a10p, a11p, rfl, z7p, z8p, z9p⟩ := ok1
  refine hj_snapshot iv k1 (fun r2 u2 i2 ok2 => ?_)
  have k2 := ok2
  obtain ⟨rcq, lsq, a6q, a7q, a8q, a9q, a10q, a11q, rfl, z7q, z8q, z9q⟩ := ok2
  refine hj_sourced iv k2 (fun r3 u3 i3 ok3 => ?_)
  have k3 := ok3
  obtain ⟨rcr, lsr, a6r, a7r, a8r, a9r, a10r, a11r, rfl, z7r, z8r, z9r⟩ := ok3
  refine hj_cleanB iv k3 (fun r4 i4 => ?_)
  refine hj_ordered iv k3 (fun r5 u5 i5 ok5 => ?_)
  have k5 := ok5
  obtain ⟨rcs, lss, a6s, a7s, a8s, a9s, a10s, a11s, rfl, z7s, z8s, z9s⟩ := ok5
  have hI := H _ ⟨n, a1, a2, a3, a4, a5, iv, k5⟩
  have c43 : wL_chain_43 post r3 r4 r5 (nI n) (nI 2) rcs lss a1 a2 a3 a4 a5 a6s a7s a8s a9s a10s a11s := br_c (fun _ => hI) (fun z => br_f (hj_is_n i4 (hj_is_f i3 z).1) (br_f (hj_is_n i5 (hj_so_or iv (hj_is_f i3 z))) hI))
  have c35 : wL_chain_35 post r2 r3 r4 r5 (nI n) (nI 2) rcs lss a1 a2 a3 a4 a5 a6s a7s a8s a9s a10s a11s := br_c (fun _ => c43) (fun z => br_f (hj_is_n i3 (hj_sn_so iv (hj_is_f i2 z))) c43)
  exact br_c (fun _ => c35) (fun z => br_f (hj_is_n i2 (hj_sr_sn iv (hj_is_f i1 z))) c35)
/-! ===== the list ===== -/
theorem hj_nt {l : List Nat} {k : Nat} (h : l.Nodup) (hk : k < l.length) : l.getD k 0 ∉ l.take k := by
  intro hm
  have e : l.take k ++ (l.getD k 0 :: l.drop (k + 1)) = l := by rw [← hj_gd hk, List.take_append_drop]
  rw [← e] at h
  exact (List.nodup_append.mp h).2.2 _ hm _ (List.mem_cons_self) rfl
theorem hj_tks {l : List Nat} {k : Nat} (hk : k < l.length) : l.take (k + 1) = l.take k ++ [l.getD k 0] := by
  rw [List.take_succ_eq_append_getElem hk]
  simp [List.getD_eq_getElem?_getD, hk]
theorem hj_nm1 : ∀ e, e < 4 → ¬ nI e = -1 := by decide +kernel
theorem hj_frW {E : Nat → Int32} {l : List Nat} (hn : n ≤ 4) (h : hj_tp E 4 (hj_cs a1 n) = some l) : hj_fr 0 l = hj_cs a1 n := by
  obtain ⟨g, hm⟩ := hj_tl hn h
  apply b_ext
  intro i hi
  rw [hj_fr_bt hi l 0 (fun e he => by have := g.2 e he; omega), b_0, Bool.false_or]
  by_cases c : i ∈ l
  · rw [decide_eq_true c, ((hm i).mp c).2]
  · rw [decide_eq_false c]
    cases z : bt (hj_cs a1 n) i with
    | false => rfl
    | true =>
      have h4 : i < 4 := by
        have := ((hj_cs_bt hi n (by omega)).mp z).1
        omega
      exact absurd ((hm i).mpr ⟨h4, z⟩) c
theorem hj_l84 {post : Int32 → St1 → Prop} {l : List Nat} {u : St1} (iv : hj_iv n a4 a5) (hu : hj_ok n a1 a2 a3 a4 a5 u) (cl : hj_cl n a1 a2 a3) (hl : hj_tp (hj_E0 ((hj_bd n a1 a2 a3 a4 a5 2).1) ((hj_bd n a1 a2 a3 a4 a5 2).2.1) ((hj_bd n a1 a2 a3 a4 a5 2).2.2)) 4 (hj_cs a1 n) = some l) (H : ∀ u', post 1 u') : ∃ fu, wL_list_84 post (hj_cs a1 n) 1 fu 0 0 u.1 u.2.1 u.2.2.1 u.2.2.2.1 u.2.2.2.2.1 u.2.2.2.2.2.1 u.2.2.2.2.2.2.1 u.2.2.2.2.2.2.2.1 u.2.2.2.2.2.2.2.2.1 u.2.2.2.2.2.2.2.2.2.1 u.2.2.2.2.2.2.2.2.2.2.1 u.2.2.2.2.2.2.2.2.2.2.2.1 u.2.2.2.2.2.2.2.2.2.2.2.2.1 u.2.2.2.2.2.2.2.2.2.2.2.2.2.1 u.2.2.2.2.2.2.2.2.2.2.2.2.2.2 := by
  have g := (hj_tl iv.1 hl).1
  have g4 := hj_gl_len g
  have hsr : hj_sr n a1 a2 a3 a4 a5 := ⟨cl, l, hl⟩
  refine pk_loop (fun m k s => wL_list_84 post (hj_cs a1 n) 1 m (hj_fr 0 (l.take k)) (nI k) s.1 s.2.1 s.2.2.1 s.2.2.2.1 s.2.2.2.2.1 s.2.2.2.2.2.1 s.2.2.2.2.2.2.1 s.2.2.2.2.2.2.2.1 s.2.2.2.2.2.2.2.2.1 s.2.2.2.2.2.2.2.2.2.1 s.2.2.2.2.2.2.2.2.2.2.1 s.2.2.2.2.2.2.2.2.2.2.2.1 s.2.2.2.2.2.2.2.2.2.2.2.2.1 s.2.2.2.2.2.2.2.2.2.2.2.2.2.1 s.2.2.2.2.2.2.2.2.2.2.2.2.2.2) (fun _ s => hj_ok n a1 a2 a3 a4 a5 s) l.length 0 u (by omega) hu ?_ ?_
  · intro m s ok
    have k0 : hj_ok n a1 a2 a3 a4 a5 s := ok
    obtain ⟨c1, c2, c3, c4, c5, c6, c7, c8, c9, c10, c11, c12, c13, c14, c15⟩ := s
    refine pk_le 5 l.length (fun z => absurd z (by omega)) (fun _ => br_f (by decide) (hj_serialAt (by omega) iv k0 (fun l' u' _ hl' _ hlt => ?_) (fun l' u' _ hl' _ _ => ?_) (fun u' hno _ => absurd hsr hno)))
    · rw [hl] at hl'
      have := Option.some.inj hl'
      subst this
      omega
    · obtain ⟨d1, d2, d3, d4, d5, d6, d7, d8, d9, d10, d11, d12, d13, d14, d15⟩ := u'
      refine br_t rfl (br_t ?_ (H _))
      rw [List.take_length]
      exact hj_frW iv.1 hl
  · intro m k s hk ok hw
    have k0 : hj_ok n a1 a2 a3 a4 a5 s := ok
    obtain ⟨c1, c2, c3, c4, c5, c6, c7, c8, c9, c10, c11, c12, c13, c14, c15⟩ := s
    refine pk_le 5 k (fun z => absurd z (by omega)) (fun _ => br_f (by decide) (hj_serialAt (by omega) iv k0 (fun l' u' _ hl' ok' _ => ?_) (fun l' u' _ hl' _ hle => ?_) (fun u' hno _ => absurd hsr hno)))
    · rw [hl] at hl'
      have := Option.some.inj hl'
      subst this
      have he := hj_gl_at g hk
      have hw' := hw u' ok'
      obtain ⟨d1, d2, d3, d4, d5, d6, d7, d8, d9, d10, d11, d12, d13, d14, d15⟩ := u'
      refine br_f (hj_nm1 _ he) (br_f (nI_pos (by omega)) (pk_lt 3 (l.getD k 0) (fun z => absurd z (by omega)) (fun _ => br_f ?_ (nm_r (show _ = hj_fr 0 (l.take (k + 1)) by rw [hj_tks hk, hj_fr_app]) (nm_r (nI_1 k) hw')))))
      rw [hj_tst1 (by omega), hj_fr_bt (by omega) (l.take k) 0 (fun e hm => by have := g.2 e (List.mem_of_mem_take hm); omega), b_0, Bool.false_or, decide_eq_true_iff]
      exact hj_nt g.1 hk
    · rw [hl] at hl'
      have := Option.some.inj hl'
      subst this
      omega
theorem hj_state {post : Int32 → Prop} {i : Nat} (hn : n ≤ 4) (hi : i < 4) (H1 : i < n → post (a1 i)) (H0 : n ≤ i → post (-1)) : wpX_state post (nI n, f1, rc, ls, a1, a2, a3, a4, a5, a6, a7, a8, a9, a10, a11) (nI i) := by
  unfold wpX_state
  refine hj_isT hn hi (fun h => br_f (by decide) ⟨pk_in i 4 hi, ?_⟩) (fun h => br_t rfl (H0 h))
  rw [nI_clamp (by omega)]
  exact H1 h
theorem hj_list {post : Int32 → St1 → Prop} {u : St1} (hu : hj_I u) (H : ∀ u', post 1 u') : wpL_list post u := by
  obtain ⟨n, a1, a2, a3, a4, a5, iv, ok⟩ := hu
  have k0 := ok
  have hn := iv.1
  obtain ⟨rc, ls, a6, a7, a8, a9, a10, a11, rfl, z7, z8, z9⟩ := ok
  refine pk_loop (fun m i s => wL_list_4 post (nI n) (nI 2) rc ls a1 a2 a3 a4 a5 a6 a7 a8 a9 a10 a11 m s (nI i)) (fun i s => s = hj_cs a1 (min i n)) 4 0 0 (by omega) (by rw [Nat.zero_min]; rfl) ?_ ?_
  · intro m s e
    have e' : s = hj_cs a1 (min 4 n) := e
    rw [show min 4 n = n by omega] at e'
    subst e'
    refine pk_le 4 4 (fun _ => hj_serialB iv k0 (fun r1 u1 i1 ok1 => ?_)) (fun z => absurd z (by omega))
    have k1 := ok1
    obtain ⟨rcp, lsp, a6p, a7p, a8p, a9p, a10p, a11p, rfl, z7p, z8p, z9p⟩ := ok1
    refine hj_serialAt (k := 0) (by omega) iv k1 (fun l u2 cl hl ok2 hlt => ?_) (fun l u2 cl hl ok2 hle => ?_) (fun u2 hno ok2 => ?_)
    · have k2 := ok2
      have e1 := hj_is_t i1 ⟨cl, l, hl⟩
      subst e1
      obtain ⟨rcq, lsq, a6q, a7q, a8q, a9q, a10q, a11q, rfl, z7q, z8q, z9q⟩ := ok2
      refine hj_cleanB iv k2 (fun r3 i3 => ?_)
      exact br_f (hj_nm1 _ (hj_gl_at (hj_tl hn hl).1 hlt)) (br_t rfl (hj_l84 iv k2 cl hl H))
    · have k2 := ok2
      have e1 := hj_is_t i1 ⟨cl, l, hl⟩
      subst e1
      obtain ⟨rcq, lsq, a6q, a7q, a8q, a9q, a10q, a11q, rfl, z7q, z8q, z9q⟩ := ok2
      refine hj_cleanB iv k2 (fun r3 i3 => ?_)
      have hW : hj_cs a1 n = 0 := by
        have z := hj_frW hn hl
        rw [List.length_eq_zero_iff.mp (Nat.le_zero.mp hle)] at z
        exact z.symm
      exact br_t rfl (br_t hW (br_f (hj_is_n i3 cl) (br_t rfl (hj_l84 iv k2 cl hl H))))
    · have k2 := ok2
      have e1 : r1 = 0 := i1.elim (fun q => absurd q.2 hno) (fun q => q.1)
      subst e1
      obtain ⟨rcq, lsq, a6q, a7q, a8q, a9q, a10q, a11q, rfl, z7q, z8q, z9q⟩ := ok2
      refine hj_cleanB iv k2 (fun r3 i3 => ?_)
      have l72 : wL_list_72 post (hj_cs a1 n) 0 0 (nI n) (nI 2) rcq lsq a1 a2 a3 a4 a5 a6q a7q a8q a9q a10q a11q := br_t rfl ⟨1, pk_le 5 0 (fun z => absurd z (by omega)) (fun _ => br_t rfl (br_t rfl (H _)))⟩
      refine br_t rfl (br_c (fun x0 => br_c (fun _ => l72) (fun z => ?_)) (fun _ => l72))
      exfalso
      refine hno ⟨hj_is_f i3 z, [], ?_⟩
      rw [hj_tp, if_pos x0]
  · intro m i s hi e hw
    have e' : s = hj_cs a1 (min i n) := e
    refine pk_le 4 i (fun z => absurd z (by omega)) (fun _ => hj_state hn hi (fun h => br_c (fun c => nm_e (nm_r (nI_1 i) (hw _ ?_))) (fun c => nm_r (nI_1 i) (hw _ ?_))) (fun h => br_f (by decide) (nm_r (nI_1 i) (hw _ ?_))))
    · show _ = hj_cs a1 (min (i + 1) n)
      rw [e', show min (i + 1) n = i + 1 by omega, show min i n = i by omega, hj_cs, if_pos c]
    · show _ = hj_cs a1 (min (i + 1) n)
      rw [e', show min (i + 1) n = i + 1 by omega, show min i n = i by omega, hj_cs, if_neg c]
    · show _ = hj_cs a1 (min (i + 1) n)
      rw [e', show min (i + 1) n = min i n by omega]
end
/-! ===== the law's loop ===== -/
theorem hj_loop {xs : Nat → Int32} {L kc ks : Nat} (hL : L ≤ 260) : ∀ (m j : Nat) (u : St1), j ≤ 261 → L ≤ j + m → hj_I u → wL_law_37 (fun r => r = 1) L xs kc ks (m + 1) (nI j) u.1 u.2.1 u.2.2.1 u.2.2.2.1 u.2.2.2.2.1 u.2.2.2.2.2.1 u.2.2.2.2.2.2.1 u.2.2.2.2.2.2.2.1 u.2.2.2.2.2.2.2.2.1 u.2.2.2.2.2.2.2.2.2.1 u.2.2.2.2.2.2.2.2.2.2.1 u.2.2.2.2.2.2.2.2.2.2.2.1 u.2.2.2.2.2.2.2.2.2.2.2.2.1 u.2.2.2.2.2.2.2.2.2.2.2.2.2.1 u.2.2.2.2.2.2.2.2.2.2.2.2.2.2 := by
  intro m
  induction m with
  | zero =>
    intro j u hj hm hu
    obtain ⟨c1, c2, c3, c4, c5, c6, c7, c8, c9, c10, c11, c12, c13, c14, c15⟩ := u
    exact pk_le L (j + 2) (fun _ => hj_list hu (fun u' => by obtain ⟨d1, d2, d3, d4, d5, d6, d7, d8, d9, d10, d11, d12, d13, d14, d15⟩ := u'; rfl)) (fun z => absurd z (by omega)) rfl (nI_add j 2)
  | succ m ih =>
    intro j u hj hm hu
    obtain ⟨c1, c2, c3, c4, c5, c6, c7, c8, c9, c10, c11, c12, c13, c14, c15⟩ := u
    refine pk_le L (j + 2) (fun _ => hj_list hu (fun u' => by obtain ⟨d1, d2, d3, d4, d5, d6, d7, d8, d9, d10, d11, d12, d13, d14, d15⟩ := u'; rfl)) (fun z => ⟨pk_in j L (by omega), pk_in (j + 1) L (by omega) (nI_add j 1), pk_in (j + 2) L (by omega) (nI_add j 2), hj_turn hu (fun u' h' => ?_)⟩) rfl (nI_add j 2)
    obtain ⟨d1, d2, d3, d4, d5, d6, d7, d8, d9, d10, d11, d12, d13, d14, d15⟩ := u'
    refine hj_chain h' (fun u2 h2 => ?_)
    have := ih (j + 3) u2 (by omega) (by omega) h2
    obtain ⟨e1, e2, e3, e4, e5, e6, e7, e8, e9, e10, e11, e12, e13, e14, e15⟩ := u2
    exact br_f (by decide) (nm_r (nI_add j 3) this)
theorem hj_og0 (x : Nat) : hj_og (fun _ => 0) (fun _ => 0) x := by
  have e : hj_sz (fun _ => 0) x = 0 := by
    show (0 : Int32).toNatClampNeg = 0
    rfl
  refine ⟨?_, ?_, ?_, ?_⟩
  · rw [e]
    rfl
  · rw [e]
    omega
  · intro k hk
    rw [e] at hk
    exact absurd hk (by omega)
  · intro k m hkm hm
    rw [e] at hm
    exact absurd hm (by omega)
theorem hj_init {post : St1 → Prop} {q : Nat} (hq : q ≤ 4) (H : ∀ u, hj_I u → post u) : wpX_init post 11 80 (0, 0, 0, 0) (nI q) 2 := by
  have K : ∀ c : Nat, c ≤ 4 → wX_init_104 post 11 80 2 (nI c) 11 80 0 0 0 0 (fun _ => 0) (fun _ => 0) (fun _ => 0) (fun _ => 0) (fun _ => 0) (fun _ => 0) (fun _ => 0) (fun _ => 0) (fun _ => 0) (fun _ => 0) (fun _ => 0) := by
    intro c hc
    exact pk_le 1 2 (fun _ => pk_le 2 4 (fun _ => H _ ⟨c, _, _, _, _, _, ⟨hc, fun x _ => hj_og0 x⟩, _, _, _, _, _, _, _, _, rfl, hj_z0, hj_z0, hj_z0⟩) (fun z => absurd z (by omega))) (fun z => absurd z (by omega))
  unfold wpX_init
  refine ⟨by omega, by omega, by omega, by omega, by omega, by omega, by omega, by omega, by omega, by omega, by omega, by omega, by omega, by omega, by omega, by omega, by omega, by omega, by omega, by omega, by omega, by omega, ?_⟩
  exact pk_le 1 q (fun _ => pk_le q 4 (fun _ => K q hq) (fun z => absurd z (by omega))) (fun _ => K 1 (by omega))
theorem hj_law24 {xs : Nat → Int32} {L q : Nat} (hL : L ≤ 260) (hq : q ≤ 4) : wL_law_24 (fun r => r = 1) L xs (nI q) 0 0 := by
  refine ⟨by omega, by omega, 11, 80, by omega, by omega, ?_⟩
  refine hj_init hq (fun u hu => ?_)
  have := hj_loop (xs := xs) (kc := 0 + 1 + 11) (ks := 0 + 15 + 80) hL L 1 u (by omega) (by omega) hu
  obtain ⟨c1, c2, c3, c4, c5, c6, c7, c8, c9, c10, c11, c12, c13, c14, c15⟩ := u
  exact ⟨L + 1, this⟩
theorem i_vc (xs : Nat → Int32) (L : Nat) (hL : L ≤ 260) : wpL_law (fun r => r = 1) L xs := by
  refine pk_le L 0 (fun _ => hj_law24 (q := 4) hL (by omega)) (fun z => ⟨pk_in 0 L z, pk_in 0 L z, ?_⟩)
  obtain ⟨b, hb, eb⟩ := pk_andE (xs (0 : Int32).toNatClampNeg) (m := 1) 1 (by decide)
  obtain ⟨d, hd, ed⟩ := pk_andE (xs (0 : Int32).toNatClampNeg >>> ((1 : Int32) &&& 31)) (m := 1) 1 (by decide)
  rw [eb, ed, show (2 : Int32) = nI 2 from rfl, nI_add, nI_add]
  exact hj_law24 hL (by omega)
end
