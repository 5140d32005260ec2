section
/-! bits (rows of laws/BITS.to-paste) -/
def bt (x : Int32) (i : Nat) : Bool := x.toBitVec.getLsbD i
theorem b_ext {x y : Int32} (h : ∀ i, i < 32 → bt x i = bt y i) : x = y := Int32.toBitVec_inj.mp (BitVec.eq_of_getLsbD_eq (fun i hi => h i hi))
theorem b_or (x y : Int32) (i : Nat) : bt (x ||| y) i = (bt x i || bt y i) := by unfold bt; rw [Int32.toBitVec_or, BitVec.getLsbD_or]
theorem b_and (x y : Int32) (i : Nat) : bt (x &&& y) i = (bt x i && bt y i) := by unfold bt; rw [Int32.toBitVec_and, BitVec.getLsbD_and]
theorem b_big {x : Int32} {i : Nat} (h : 32 ≤ i) : bt x i = false := BitVec.getLsbD_of_ge _ _ h
theorem b_m1 : ∀ i, i < 32 → bt (-1) i = true := by decide +kernel
theorem b_0 (i : Nat) : bt 0 i = false := BitVec.getLsbD_zero
theorem s_l : ∀ n, n < 32 → ((nI n &&& 31).toBitVec.smod 32).toNat = n := by decide +kernel
theorem s_u : ∀ n, n < 32 → (((nI n).toUInt32 &&& Int32.toUInt32 31).toBitVec % 32).toNat = n := by decide +kernel
theorem b_shl (n : Nat) (hn : n < 32) (x : Int32) {i : Nat} (hi : i < 32) : bt (x <<< (nI n &&& 31)) i = (decide (n ≤ i) && bt x (i - n)) := by
  unfold bt
  rw [Int32.toBitVec_shiftLeft]
  show (x.toBitVec <<< ((nI n &&& 31).toBitVec.smod 32).toNat).getLsbD i = _
  rw [s_l n hn, BitVec.getLsbD_shiftLeft]
  rcases Nat.lt_or_ge i n with h | h
  · simp [h, Nat.not_le.mpr h]
  · simp [hi, h, Nat.not_lt.mpr h]
theorem b_ushr (n : Nat) (hn : n < 32) (x : Int32) (i : Nat) : bt ((x.toUInt32 >>> ((nI n).toUInt32 &&& Int32.toUInt32 31)).toInt32) i = bt x (n + i) := by
  show (x.toUInt32 >>> ((nI n).toUInt32 &&& Int32.toUInt32 31)).toBitVec.getLsbD i = x.toUInt32.toBitVec.getLsbD (n + i)
  rw [UInt32.toBitVec_shiftRight]
  show (x.toUInt32.toBitVec >>> (((nI n).toUInt32 &&& Int32.toUInt32 31).toBitVec % 32).toNat).getLsbD i = _
  rw [s_u n hn, BitVec.getLsbD_ushiftRight]
theorem tm_b1 : ∀ i, i < 32 → bt 1 i = decide (i = 0) := by decide +kernel
theorem tm_bset (x : Int32) {j i : Nat} (hj : j < 32) (hi : i < 32) : bt (x ||| ((1 : Int32) <<< (nI j &&& 31))) i = (bt x i || decide (i = j)) := by
  rw [b_or, b_shl j hj 1 hi]
  congr 1
  by_cases h : j ≤ i
  · rw [tm_b1 (i - j) (by omega)]
    by_cases e : i = j
    · subst e; simp
    · simp [h, e]; omega
  · have e : ¬ i = j := by omega
    simp [h, e]
theorem tm_and1 (y : Int32) : y &&& 1 = if bt y 0 then 1 else 0 := by
  apply b_ext
  intro i hi
  rw [b_and, tm_b1 i hi]
  by_cases e : i = 0
  · subst e
    cases h : bt y 0 <;> simp [tm_b1, b_0]
  · cases h : bt y 0
    · simp [b_0, e]
    · simp [e, tm_b1 i hi]
theorem tm_bit (x : Int32) {t : Nat} (ht : t < 32) : ((x.toUInt32 >>> ((nI t).toUInt32 &&& Int32.toUInt32 31)).toInt32) &&& 1 = if bt x t then 1 else 0 := by
  rw [tm_and1, b_ushr t ht x 0, Nat.add_zero]
theorem tm_bit0 (x : Int32) {t : Nat} (ht : t < 32) : ((x.toUInt32 >>> ((nI t).toUInt32 &&& Int32.toUInt32 31)).toInt32) &&& 1 = 0 ↔ bt x t = false := by
  rw [tm_bit x ht]
  cases h : bt x t <;> simp
theorem tm_mk (Q : Nat → Prop) : ∃ x : Int32, ∀ i, i < 32 → (bt x i = true ↔ Q i) := by
  have H : ∀ n, n ≤ 32 → ∃ x : Int32, ∀ i, i < 32 → (bt x i = true ↔ (i < n ∧ Q i)) := by
    intro n
    induction n with
    | zero => exact fun _ => ⟨0, fun i _ => by rw [b_0]; simp⟩
    | succ n ih =>
      intro hn
      obtain ⟨x, hx⟩ := ih (by omega)
      by_cases q : Q n
      · refine ⟨x ||| ((1 : Int32) <<< (nI n &&& 31)), fun i hi => ?_⟩
        rw [tm_bset x (by omega) hi, Bool.or_eq_true, hx i hi, decide_eq_true_iff]
        constructor
        · rintro (h | h)
          · exact ⟨by omega, h.2⟩
          · subst h; exact ⟨by omega, q⟩
        · intro h
          by_cases e : i = n
          · exact Or.inr e
          · exact Or.inl ⟨by omega, h.2⟩
      · refine ⟨x, fun i hi => ?_⟩
        rw [hx i hi]
        constructor
        · exact fun h => ⟨by omega, h.2⟩
        · intro h
          refine ⟨?_, h.2⟩
          by_cases e : i = n
          · subst e; exact absurd h.2 q
          · omega
  obtain ⟨x, hx⟩ := H 32 (by omega)
  exact ⟨x, fun i hi => by rw [hx i hi]; exact ⟨fun h => h.2, fun h => ⟨hi, h⟩⟩⟩
theorem tm_nm1 {x : Int32} (h : ¬ x = -1) : ∃ t, t < 32 ∧ bt x t = false := by
  apply Classical.byContradiction
  intro c
  apply h
  apply b_ext
  intro i hi
  rw [b_m1 i hi]
  cases e : bt x i
  · exact absurd ⟨i, hi, e⟩ c
  · rfl
/-! counting -/
def tm_ct (f : Nat → Bool) : Nat → Nat
  | 0 => 0
  | n + 1 => tm_ct f n + (if f n then 1 else 0)
theorem tm_ct_le (f : Nat → Bool) (n : Nat) : tm_ct f n ≤ n := by
  induction n with
  | zero => exact Nat.le_refl 0
  | succ n ih => unfold tm_ct; split <;> omega
theorem tm_ct_mono {f g : Nat → Bool} {n : Nat} (h : ∀ i, i < n → f i = true → g i = true) : tm_ct f n ≤ tm_ct g n := by
  induction n with
  | zero => exact Nat.le_refl 0
  | succ n ih =>
    have i1 := ih (fun i hi => h i (by omega))
    have i2 := h n (by omega)
    unfold tm_ct
    cases e : f n
    · simp; omega
    · rw [i2 e]; simp; omega
theorem tm_ct_congr {f g : Nat → Bool} {n : Nat} (h : ∀ i, i < n → f i = g i) : tm_ct f n = tm_ct g n := by
  induction n with
  | zero => rfl
  | succ n ih => unfold tm_ct; rw [ih (fun i hi => h i (by omega)), h n (by omega)]
theorem tm_ct_free {f : Nat → Bool} {n : Nat} (h : tm_ct f n < n) : ∃ i, i < n ∧ f i = false := by
  induction n with
  | zero => omega
  | succ n ih =>
    cases e : f n
    · exact ⟨n, by omega, e⟩
    · unfold tm_ct at h
      rw [e] at h
      simp at h
      obtain ⟨i, hi, hf⟩ := ih h
      exact ⟨i, by omega, hf⟩
theorem tm_ct_set {f g : Nat → Bool} {n k : Nat} (hk : k < n) (h : ∀ i, i < n → i ≠ k → g i = f i) (hf : f k = false) (hg : g k = true) : tm_ct g n = tm_ct f n + 1 := by
  induction n with
  | zero => omega
  | succ n ih =>
    unfold tm_ct
    by_cases e : k = n
    · subst e
      rw [hf, hg, tm_ct_congr (fun i hi => h i (by omega) (by omega))]
      simp
    · rw [ih (by omega) (fun i hi => h i (by omega)), h n (by omega) (fun z => e z.symm)]
      omega
theorem tm_ct_add {f g : Nat → Bool} {n k : Nat} (h : ∀ i, i < n → g i = true → f i = true ∨ i = k) : tm_ct g n ≤ tm_ct f n + 1 := by
  induction n with
  | zero => exact Nat.zero_le _
  | succ n ih =>
    have i1 := ih (fun i hi => h i (by omega))
    have i2 := h n (by omega)
    unfold tm_ct
    by_cases e : n = k
    · have m : tm_ct g n ≤ tm_ct f n := tm_ct_mono (fun i hi hg => by
        rcases h i (by omega) hg with z | z
        · exact z
        · omega)
      cases e1 : f n <;> cases e2 : g n <;> simp <;> omega
    · cases e2 : g n
      · cases e1 : f n <;> simp <;> omega
      · rcases i2 e2 with z | z
        · rw [z]; simp; omega
        · exact absurd z e
/-! a missing bit is gained -/
theorem tm_ct_grow {f g : Nat → Bool} {n k : Nat} (hk : k < n) (h : ∀ i, i < n → f i = true → g i = true) (hf : f k = false) (hg : g k = true) : tm_ct f n < tm_ct g n := by
  induction n with
  | zero => omega
  | succ n ih =>
    unfold tm_ct
    by_cases e : k = n
    · subst e
      rw [hf, hg]
      have := tm_ct_mono (f := f) (g := g) (n := k) (fun i hi => h i (by omega))
      simp; omega
    · have i1 := ih (by omega) (fun i hi => h i (by omega))
      have i2 := h n (by omega)
      cases e1 : f n
      · cases e2 : g n <;> simp <;> omega
      · rw [i2 e1]; simp; omega
/-! small whole numbers -/
theorem tm_b8 : ∀ n, n < 128 → (nI n).toInt8.toInt32 = nI n := by decide +kernel
theorem tm_b8' {x : Int32} {n : Nat} (hx : x = nI n) (hn : n < 128) : x.toInt8.toInt32 = nI n := by rw [hx]; exact tm_b8 n hn
theorem tm_b16 : ∀ n, n < 400 → (nI n).toInt16.toInt32 = nI n := by decide +kernel
theorem tm_nb {n : Nat} (hn : n < 128) : vp_nar .byte (nI n) = nI n := by rw [vp_nar_byte]; exact tm_b8 n hn
/-- a sort: 0, 1 or 2 -/
def tm_so (x : Int32) : Prop := x = 0 ∨ x = 1 ∨ x = 2
theorem tm_so8 {x : Int32} (h : tm_so x) : x.toInt8.toInt32 = x := by
  rcases h with h | h | h <;> subst h <;> decide
theorem tm_so8' {x : Int32} (h : tm_so x) : vp_nar .byte x = x := by rw [vp_nar_byte]; exact tm_so8 h
theorem tm_m7 (x : Int32) : ∃ j, j < 8 ∧ x &&& 7 = nI j := pk_andE x 3 (by decide)
theorem tm_s7 {s : Nat} (h : s < 8) : (nI s + 1) &&& 7 = nI ((s + 1) % 8) := by
  rw [nI_1]
  exact pk_andN (by omega) 3 (by decide)
theorem tm_8 (t s : Nat) : (8 * nI t) + nI s = nI (8 * t + s) := by
  have : (8 : Int32) = nI 8 := rfl
  rw [this, pk_mul, nI_add]
end
section
/-! tables: pure -/
def tm_tc (es : Nat → Int32) (t : Nat) : Nat := tm_ct (fun s => decide (¬ es (8 * t + s) = 0)) 8
def tm_tb (es en ec : Nat → Int32) : Prop := (∀ p, p < 256 → tm_so (es p)) ∧ (∀ p, p < 256 → es p = 2 → ∃ j, j < 32 ∧ en p = nI j) ∧ (∀ t, t < 32 → ec t = nI (tm_tc es t) ∧ tm_tc es t ≤ 6)
def tm_rg (so nu : Nat → Int32) : Prop := ∀ r, r < 18 → tm_so (so r) ∧ (so r = 2 → ∃ j, j < 32 ∧ nu r = nI j)
def tm_cr (X : Nat → Bool) (n : Nat) (so nu : Nat → Int32) : Prop := ∀ r, r < n → so r = 2 → ∀ j, j < 32 → nu r = nI j → X j = true
def tm_cl (X : Nat → Bool) (es en : Nat → Int32) : Prop := ∀ t, t < 32 → X t = true → ∀ s, s < 8 → es (8 * t + s) = 2 → ∀ j, j < 32 → en (8 * t + s) = nI j → X j = true
def tm_eqt (t : Nat) (ka es en ka' es' en' : Nat → Int32) : Prop := ∀ s, s < 8 → es (8 * t + s) = es' (8 * t + s) ∧ en (8 * t + s) = en' (8 * t + s) ∧ (¬ es (8 * t + s) = 0 → ka (8 * t + s) = ka' (8 * t + s))
def tm_rt (inu : Int32) (ka es en ec ka' es' en' ec' : Nat → Int32) : Prop := ∀ t, t < 32 → bt inu t = true → ec t = ec' t ∧ tm_eqt t ka es en ka' es' en'
theorem tm_nIinj {a b : Nat} (ha : a < 2 ^ 31) (hb : b < 2 ^ 31) (h : nI a = nI b) : a = b := (nI_eq ha hb).mp h
theorem tm_so_nz {x : Int32} (h : tm_so x) (h2 : ¬ x = 2) (h1 : ¬ x = 1) : x = 0 := by
  rcases h with h | h | h
  · exact h
  · exact absurd h h1
  · exact absurd h h2
/-! the slot of a key -/
def tm_sl (key : Int32) : Int32 := ((key * (-1640531527)).toUInt32 >>> ((29 : Int32).toUInt32 &&& Int32.toUInt32 31)).toInt32
def tm_sn (key : Int32) : Nat := (tm_sl key).toNatClampNeg
theorem tm_sl_ex (key : Int32) : ∃ j, j < 8 ∧ tm_sl key = nI j := by
  have h := pk_ushr (key * (-1640531527)) 29 29 (by decide)
  refine ⟨(key * (-1640531527)).toBitVec.toNat / 2 ^ 29, ?_, ?_⟩
  · have := (key * (-1640531527)).toBitVec.isLt
    omega
  · apply Int32.toBitVec_inj.mp
    apply BitVec.eq_of_toNat_eq
    unfold tm_sl
    rw [h, pk_tn]
    have := (key * (-1640531527)).toBitVec.isLt
    omega
theorem tm_sl_n (key : Int32) : tm_sn key < 8 ∧ tm_sl key = nI (tm_sn key) := by
  obtain ⟨j, hj, e⟩ := tm_sl_ex key
  unfold tm_sn
  rw [e, nI_clamp (by omega)]
  exact ⟨hj, rfl⟩
/-! the place of a key -/
def tm_pl (ka es : Nat → Int32) (t : Nat) (key : Int32) : Nat → Nat → Nat
  | 0, s => 8 * t + s
  | n + 1, s => if es (8 * t + s) = 0 ∨ ka (8 * t + s) = key then 8 * t + s else tm_pl ka es t key n ((s + 1) % 8)
def tm_place (ka es : Nat → Int32) (t : Nat) (key : Int32) : Nat := tm_pl ka es t key 8 (tm_sn key)
theorem tm_pl_in (ka es : Nat → Int32) (t : Nat) (key : Int32) : ∀ n s, s < 8 → ∃ q, q < 8 ∧ tm_pl ka es t key n s = 8 * t + q := by
  intro n
  induction n with
  | zero => exact fun s hs => ⟨s, hs, rfl⟩
  | succ n ih =>
    intro s hs
    unfold tm_pl
    split
    · exact ⟨s, hs, rfl⟩
    · exact ih _ (Nat.mod_lt _ (by omega))
theorem tm_place_in (ka es : Nat → Int32) (t : Nat) (key : Int32) : ∃ q, q < 8 ∧ tm_place ka es t key = 8 * t + q := tm_pl_in ka es t key 8 _ (tm_sl_n key).1
theorem tm_pl_eq {ka es en ka' es' en' : Nat → Int32} {t : Nat} (h : tm_eqt t ka es en ka' es' en') (key : Int32) : ∀ n s, s < 8 → tm_pl ka es t key n s = tm_pl ka' es' t key n s := by
  intro n
  induction n with
  | zero => exact fun s hs => rfl
  | succ n ih =>
    intro s hs
    obtain ⟨h1, _, h3⟩ := h s hs
    unfold tm_pl
    rw [ih _ (Nat.mod_lt _ (by omega)), ← h1]
    by_cases e : es (8 * t + s) = 0
    · simp [e]
    · rw [h3 e]
theorem tm_place_eq {ka es en ka' es' en' : Nat → Int32} {t : Nat} (h : tm_eqt t ka es en ka' es' en') (key : Int32) : tm_place ka es t key = tm_place ka' es' t key := tm_pl_eq h key 8 _ (tm_sl_n key).1
theorem tm_hole {es : Nat → Int32} {t : Nat} (h : tm_tc es t ≤ 6) {s : Nat} (hs : s < 8) : ∃ i, i < 8 ∧ es (8 * t + (s + i) % 8) = 0 := by
  have h2 : tm_tc es t < 8 := by omega
  obtain ⟨q, hq, e⟩ := tm_ct_free h2
  have e' : es (8 * t + q) = 0 := by
    have := of_decide_eq_false e
    exact Classical.not_not.mp this
  refine ⟨(q + 8 - s) % 8, Nat.mod_lt _ (by omega), ?_⟩
  rw [show (s + (q + 8 - s) % 8) % 8 = q by omega]
  exact e'
/-! counts under a store -/
theorem tm_tc_other {es es' : Nat → Int32} {t : Nat} (h : ∀ s, s < 8 → es' (8 * t + s) = es (8 * t + s)) : tm_tc es' t = tm_tc es t := by
  unfold tm_tc
  exact tm_ct_congr (fun s hs => by rw [h s hs])
theorem tm_tc_new {es : Nat → Int32} {t q : Nat} {x : Int32} (hq : q < 8) (h0 : es (8 * t + q) = 0) (hx : ¬ x = 0) : tm_tc (upd es (8 * t + q) x) t = tm_tc es t + 1 := by
  unfold tm_tc
  refine tm_ct_set hq (fun i hi hne => ?_) ?_ ?_
  · rw [pk_un (by omega)]
  · simp [h0]
  · rw [pk_us]; simp [hx]
theorem tm_tc_over {es : Nat → Int32} {t q : Nat} {x : Int32} (h0 : ¬ es (8 * t + q) = 0) (hx : ¬ x = 0) : tm_tc (upd es (8 * t + q) x) t = tm_tc es t := by
  unfold tm_tc
  refine tm_ct_congr (fun i hi => ?_)
  by_cases e : i = q
  · subst e; rw [pk_us]; simp [h0, hx]
  · rw [pk_un (by omega)]
theorem tm_tc_del {es : Nat → Int32} {t q : Nat} (hq : q < 8) (h0 : ¬ es (8 * t + q) = 0) : tm_tc es t = tm_tc (upd es (8 * t + q) 0) t + 1 := by
  unfold tm_tc
  refine tm_ct_set hq (fun i hi hne => ?_) ?_ ?_
  · rw [pk_un (by omega)]
  · rw [pk_us]; simp
  · simp [h0]
theorem tm_tc_move {es : Nat → Int32} {t h s : Nat} (hh : h < 8) (hs : s < 8) (h0 : ¬ es (8 * t + s) = 0) : tm_tc (upd (upd es (8 * t + h) (es (8 * t + s))) (8 * t + s) 0) t = tm_tc (upd es (8 * t + h) 0) t := by
  by_cases e : h = s
  · subst e
    unfold tm_tc
    refine tm_ct_congr (fun i hi => ?_)
    by_cases e : i = h
    · subst e; rw [pk_us, pk_us]
    · rw [pk_un (by omega), pk_un (by omega), pk_un (by omega)]
  · have a1 : tm_tc (upd es (8 * t + h) (es (8 * t + s))) t = tm_tc (upd (upd es (8 * t + h) (es (8 * t + s))) (8 * t + s) 0) t + 1 := tm_tc_del hs (by rw [pk_un (by omega)]; exact h0)
    have a2 : tm_tc (upd (upd es (8 * t + h) 0) (8 * t + h) (es (8 * t + s))) t = tm_tc (upd es (8 * t + h) 0) t + 1 := tm_tc_new hh pk_us h0
    have a3 : tm_tc (upd (upd es (8 * t + h) 0) (8 * t + h) (es (8 * t + s))) t = tm_tc (upd es (8 * t + h) (es (8 * t + s))) t := by
      unfold tm_tc
      refine tm_ct_congr (fun i hi => ?_)
      by_cases e : i = h
      · subst e; rw [pk_us, pk_us]
      · rw [pk_un (by omega), pk_un (by omega), pk_un (by omega)]
    omega
/-! taking an entry out -/
def tm_rm (t : Nat) : Nat → Nat → Nat → (Nat → Int32) → (Nat → Int32) → (Nat → Int32) → (Nat → Int32) × (Nat → Int32) × (Nat → Int32)
  | 0, h, _, ka, es, en => (ka, upd es (8 * t + h) 0, upd en (8 * t + h) 0)
  | n + 1, h, s, ka, es, en =>
    if es (8 * t + (s + 1) % 8) = 0 then (ka, upd es (8 * t + h) 0, upd en (8 * t + h) 0)
    else if ((nI ((s + 1) % 8) - nI h) &&& 7) ≤ ((nI ((s + 1) % 8) - tm_sl (ka (8 * t + (s + 1) % 8))) &&& 7) then tm_rm t n ((s + 1) % 8) ((s + 1) % 8) (upd ka (8 * t + h) (ka (8 * t + (s + 1) % 8))) (upd es (8 * t + h) (es (8 * t + (s + 1) % 8))) (upd en (8 * t + h) (en (8 * t + (s + 1) % 8)))
    else tm_rm t n h ((s + 1) % 8) ka es en
theorem tm_rm_ind {t : Nat} (I : Nat → (Nat → Int32) → (Nat → Int32) → (Nat → Int32) → Prop) (Q : (Nat → Int32) × (Nat → Int32) × (Nat → Int32) → Prop)
    (hm : ∀ h s ka es en, h < 8 → s < 8 → ¬ es (8 * t + s) = 0 → I h ka es en → I s (upd ka (8 * t + h) (ka (8 * t + s))) (upd es (8 * t + h) (es (8 * t + s))) (upd en (8 * t + h) (en (8 * t + s))))
    (hf : ∀ h ka es en, h < 8 → I h ka es en → Q (ka, upd es (8 * t + h) 0, upd en (8 * t + h) 0)) :
    ∀ n h s ka es en, h < 8 → s < 8 → I h ka es en → Q (tm_rm t n h s ka es en) := by
  intro n
  induction n with
  | zero => exact fun h s ka es en hh hs hi => hf h ka es en hh hi
  | succ n ih =>
    intro h s ka es en hh hs hi
    have hs' : (s + 1) % 8 < 8 := Nat.mod_lt _ (by omega)
    unfold tm_rm
    split
    · exact hf h ka es en hh hi
    · rename_i hz
      split
      · exact ih _ _ _ _ _ hs' hs' (hm h _ ka es en hh hs' hz hi)
      · exact ih _ _ _ _ _ hh hs' hi
theorem tm_rm_eq {t : Nat} : ∀ n h s ka es en ka' es' en', h < 8 → s < 8 → tm_eqt t ka es en ka' es' en' → tm_eqt t (tm_rm t n h s ka es en).1 (tm_rm t n h s ka es en).2.1 (tm_rm t n h s ka es en).2.2 (tm_rm t n h s ka' es' en').1 (tm_rm t n h s ka' es' en').2.1 (tm_rm t n h s ka' es' en').2.2 := by
  intro n
  have fin : ∀ h ka es en ka' es' en', h < 8 → tm_eqt t ka es en ka' es' en' → tm_eqt t ka (upd es (8 * t + h) 0) (upd en (8 * t + h) 0) ka' (upd es' (8 * t + h) 0) (upd en' (8 * t + h) 0) := by
    intro h ka es en ka' es' en' hh he s hs
    by_cases e : s = h
    · subst e; rw [pk_us, pk_us, pk_us, pk_us]; exact ⟨rfl, rfl, fun z => absurd rfl z⟩
    · rw [pk_un (by omega), pk_un (by omega), pk_un (by omega), pk_un (by omega)]; exact he s hs
  induction n with
  | zero => exact fun h s ka es en ka' es' en' hh hs he => fin h ka es en ka' es' en' hh he
  | succ n ih =>
    intro h s ka es en ka' es' en' hh hs he
    have hs' : (s + 1) % 8 < 8 := Nat.mod_lt _ (by omega)
    obtain ⟨e1, e2, e3⟩ := he _ hs'
    unfold tm_rm
    by_cases hz : es (8 * t + (s + 1) % 8) = 0
    · have hz' : es' (8 * t + (s + 1) % 8) = 0 := by rw [← e1]; exact hz
      rw [if_pos hz, if_pos hz']
      exact fin h ka es en ka' es' en' hh he
    · have hz' : ¬ es' (8 * t + (s + 1) % 8) = 0 := by rw [← e1]; exact hz
      rw [if_neg hz, if_neg hz']
      rw [← e3 hz, ← e1, ← e2]
      split
      · refine ih _ _ _ _ _ _ _ _ hs' hs' ?_
        intro q hq
        by_cases e : q = h
        · subst e
          rw [pk_us, pk_us, pk_us, pk_us, pk_us, pk_us]
          exact ⟨rfl, rfl, fun _ => rfl⟩
        · rw [pk_un (by omega), pk_un (by omega), pk_un (by omega), pk_un (by omega), pk_un (by omega), pk_un (by omega)]
          exact he q hq
      · exact ih _ _ _ _ _ _ _ _ hh hs' he
/-- what taking an entry out leaves: other tables as they were; the numbers and sorts of this one out of its old ones; one less -/
theorem tm_rm_ok {t q : Nat} {ka es en ec : Nat → Int32} (ht : t < 32) (hq : q < 8) (hb : tm_tb es en ec) (h0 : ¬ es (8 * t + q) = 0) :
    (∀ p, (p < 8 * t ∨ 8 * t + 8 ≤ p) → (tm_rm t 8 q q ka es en).1 p = ka p ∧ (tm_rm t 8 q q ka es en).2.1 p = es p ∧ (tm_rm t 8 q q ka es en).2.2 p = en p) ∧
    (∀ s, s < 8 → (tm_rm t 8 q q ka es en).2.1 (8 * t + s) = 2 → ∃ s', s' < 8 ∧ es (8 * t + s') = 2 ∧ (tm_rm t 8 q q ka es en).2.2 (8 * t + s) = en (8 * t + s')) ∧
    tm_tb (tm_rm t 8 q q ka es en).2.1 (tm_rm t 8 q q ka es en).2.2 (upd ec t (ec t - 1).toInt8.toInt32) := by
  have H := tm_rm_ind (t := t)
    (fun h ka1 es1 en1 => (∀ p, (p < 8 * t ∨ 8 * t + 8 ≤ p) → ka1 p = ka p ∧ es1 p = es p ∧ en1 p = en p) ∧ (∀ s, s < 8 → es1 (8 * t + s) = 2 → ∃ s', s' < 8 ∧ es (8 * t + s') = 2 ∧ en1 (8 * t + s) = en (8 * t + s')) ∧ (∀ p, p < 256 → tm_so (es1 p)) ∧ tm_tc (upd es1 (8 * t + h) 0) t = tm_tc (upd es (8 * t + q) 0) t)
    (fun r => (∀ p, (p < 8 * t ∨ 8 * t + 8 ≤ p) → r.1 p = ka p ∧ r.2.1 p = es p ∧ r.2.2 p = en p) ∧ (∀ s, s < 8 → r.2.1 (8 * t + s) = 2 → ∃ s', s' < 8 ∧ es (8 * t + s') = 2 ∧ r.2.2 (8 * t + s) = en (8 * t + s')) ∧ (∀ p, p < 256 → tm_so (r.2.1 p)) ∧ tm_tc r.2.1 t = tm_tc (upd es (8 * t + q) 0) t)
    ?_ ?_ 8 q q ka es en hq hq ?_
  · obtain ⟨H1, H2, H3, H4⟩ := H
    obtain ⟨b1, b2, b3⟩ := hb
    refine ⟨H1, H2, H3, ?_, ?_⟩
    · intro p hp h2
      by_cases e : p < 8 * t ∨ 8 * t + 8 ≤ p
      · obtain ⟨_, i2, i3⟩ := H1 p e
        rw [i2] at h2
        rw [i3]
        exact b2 p hp h2
      · have e2 : p = 8 * t + (p - 8 * t) := by omega
        rw [e2] at h2
        obtain ⟨s', hs', i1, i2⟩ := H2 (p - 8 * t) (by omega) h2
        rw [e2, i2]
        exact b2 (8 * t + s') (by omega) i1
    · intro t' ht'
      by_cases e : t' = t
      · subst e
        have d := tm_tc_del hq h0
        obtain ⟨c1, c2⟩ := b3 t' ht'
        rw [pk_us, H4, c1, d, nI_pred, tm_b8 _ (by omega)]
        exact ⟨rfl, by omega⟩
      · rw [pk_un e]
        have c : tm_tc (tm_rm t 8 q q ka es en).2.1 t' = tm_tc es t' := tm_tc_other (fun s hs => (H1 (8 * t' + s) (by omega)).2.1)
        rw [c]
        exact b3 t' ht'
  · intro h s ka1 es1 en1 hh hs hz hi
    obtain ⟨H1, H2, H3, H4⟩ := hi
    refine ⟨?_, ?_, ?_, ?_⟩
    · intro p hp
      rw [pk_un (by omega), pk_un (by omega), pk_un (by omega)]
      exact H1 p hp
    · intro s1 hs1 h2
      by_cases e : s1 = h
      · subst e
        rw [pk_us] at h2
        rw [pk_us]
        exact H2 s hs h2
      · rw [pk_un (by omega)] at h2
        rw [pk_un (by omega)]
        exact H2 s1 hs1 h2
    · intro p hp
      by_cases e : p = 8 * t + h
      · subst e; rw [pk_us]; exact H3 _ (by omega)
      · rw [pk_un e]; exact H3 p hp
    · rw [tm_tc_move hh hs hz]; exact H4
  · intro h ka1 es1 en1 hh hi
    obtain ⟨H1, H2, H3, H4⟩ := hi
    refine ⟨?_, ?_, ?_, H4⟩
    · intro p hp
      show ka1 p = ka p ∧ upd es1 (8 * t + h) 0 p = es p ∧ upd en1 (8 * t + h) 0 p = en p
      rw [pk_un (by omega), pk_un (by omega)]
      exact H1 p hp
    · intro s1 hs1 h2
      show ∃ s', s' < 8 ∧ es (8 * t + s') = 2 ∧ upd en1 (8 * t + h) 0 (8 * t + s1) = en (8 * t + s')
      have h2 : upd es1 (8 * t + h) 0 (8 * t + s1) = 2 := h2
      by_cases e : s1 = h
      · subst e
        rw [pk_us] at h2
        exact absurd h2 (by decide)
      · rw [pk_un (by omega)] at h2
        rw [pk_un (by omega)]
        exact H2 s1 hs1 h2
    · intro p hp
      show tm_so (upd es1 (8 * t + h) 0 p)
      by_cases e : p = 8 * t + h
      · subst e; rw [pk_us]; exact Or.inl rfl
      · rw [pk_un e]; exact H3 p hp
  · exact ⟨fun p _ => ⟨rfl, rfl, rfl⟩, fun s hs h2 => ⟨s, hs, h2, rfl⟩, hb.1, rfl⟩
/-- a store at a place of a table -/
theorem tm_st_ok {t q : Nat} {es en ec : Nat → Int32} {x y : Int32} (ht : t < 32) (hq : q < 8) (hb : tm_tb es en ec) (hx : tm_so x) (hx0 : ¬ x = 0) (hy : x = 2 → ∃ j, j < 32 ∧ y = nI j) (h6 : es (8 * t + q) = 0 → ¬ ec t = 6) :
    tm_tb (upd es (8 * t + q) x) (upd en (8 * t + q) y) (if es (8 * t + q) = 0 then upd ec t (ec t + 1).toInt8.toInt32 else ec) := by
  obtain ⟨b1, b2, b3⟩ := hb
  refine ⟨?_, ?_, ?_⟩
  · intro p hp
    by_cases e : p = 8 * t + q
    · subst e; rw [pk_us]; exact hx
    · rw [pk_un e]; exact b1 p hp
  · intro p hp h2
    by_cases e : p = 8 * t + q
    · subst e; rw [pk_us] at h2; rw [pk_us]; exact hy h2
    · rw [pk_un e] at h2; rw [pk_un e]; exact b2 p hp h2
  · intro t' ht'
    by_cases e : t' = t
    · subst e
      obtain ⟨c1, c2⟩ := b3 t' ht'
      by_cases e0 : es (8 * t' + q) = 0
      · have c3 : tm_tc es t' ≠ 6 := by
          intro z
          rw [z] at c1
          exact h6 e0 c1
        rw [if_pos e0, pk_us, tm_tc_new hq e0 hx0, c1, nI_1, tm_b8 _ (by omega)]
        exact ⟨rfl, by omega⟩
      · rw [if_neg e0, tm_tc_over e0 hx0]
        exact ⟨c1, c2⟩
    · have c : tm_tc (upd es (8 * t + q) x) t' = tm_tc es t' := tm_tc_other (fun s hs => by rw [pk_un (by omega)])
      rw [c]
      split
      · rw [pk_un e]; exact b3 t' ht'
      · exact b3 t' ht'
end
section
variable {xE xS xC xN xO xU xH xI xR : Int32} {kd px py wt ks ki al op fx fy fz cO cA cB cC cK wn wr wp wq oe ol oq so nu ln lm ka es en ec : Nat → Int32} {sv : Nat → Int64}
/-! walks of the machine's small methods -/
theorem tm_setReg {post : St1 → Prop} {x s n : Int32} (a : Nat) (hx : x = nI a) (ha : a < 18) (hp : post (xE, xS, xC, xN, xO, xU, xH, xI, xR, kd, px, py, wt, ks, ki, al, op, fx, fy, fz, cO, cA, cB, cC, cK, wn, wr, wp, wq, oe, ol, oq, upd so a s.toInt8.toInt32, upd nu a n, ln, lm, sv, ka, es, en, ec)) : wpX_setRegister post (xE, xS, xC, xN, xO, xU, xH, xI, xR, kd, px, py, wt, ks, ki, al, op, fx, fy, fz, cO, cA, cB, cC, cK, wn, wr, wp, wq, oe, ol, oq, so, nu, ln, lm, sv, ka, es, en, ec) x s n := by
  subst hx
  unfold wpX_setRegister
  dsimp only
  rw [nI_clamp (show a < 2 ^ 31 by omega)]
  exact ⟨pk_in a 18 ha, nm_e ⟨pk_in a 18 ha, nm_e hp⟩⟩
theorem tm_clReg {post : St1 → Prop} {x : Int32} (a : Nat) (hx : x = nI a) (ha : a < 18) (hp : post (xE, xS, xC, xN, xO, xU, xH, xI, xR, kd, px, py, wt, ks, ki, al, op, fx, fy, fz, cO, cA, cB, cC, cK, wn, wr, wp, wq, oe, ol, oq, upd so a 0, upd nu a 0, ln, lm, sv, ka, es, en, ec)) : wpX_clearRegister post (xE, xS, xC, xN, xO, xU, xH, xI, xR, kd, px, py, wt, ks, ki, al, op, fx, fy, fz, cO, cA, cB, cC, cK, wn, wr, wp, wq, oe, ol, oq, so, nu, ln, lm, sv, ka, es, en, ec) x := by
  subst hx
  unfold wpX_clearRegister
  dsimp only
  rw [nI_clamp (show a < 2 ^ 31 by omega)]
  exact ⟨pk_in a 18 ha, nm_e ⟨pk_in a 18 ha, nm_e hp⟩⟩
theorem tm_pl_w {post : Int32 → Prop} {t : Nat} {key : Int32} (ht : t < 32) : ∀ n s, s < 8 → (∃ i, i < n ∧ es (8 * t + (s + i) % 8) = 0) → post (nI (tm_pl ka es t key n s)) → ∃ fu, wX_placeOf_6 post (nI t) key xE xS xC xN xO xU xH xI xR kd px py wt ks ki al op fx fy fz cO cA cB cC cK wn wr wp wq oe ol oq so nu ln lm sv ka es en ec fu (nI s) := by
  intro n
  induction n with
  | zero => exact fun s hs h => absurd h (by rintro ⟨i, hi, _⟩; omega)
  | succ n ih =>
    intro s hs h hp
    have hin : vp_in (nI (8 * t + s)) 256 := pk_in (8 * t + s) 256 (by omega)
    have hcl : (nI (8 * t + s)).toNatClampNeg = 8 * t + s := nI_clamp (by omega)
    unfold tm_pl at hp
    by_cases e : es (8 * t + s) = 0
    · rw [if_pos (Or.inl e)] at hp
      refine ⟨0 + 1, ?_⟩
      unfold wX_placeOf_6
      rw [tm_8, hcl]
      exact ⟨hin, br_t e hp⟩
    · by_cases e2 : ka (8 * t + s) = key
      · rw [if_pos (Or.inr e2)] at hp
        refine ⟨0 + 1, ?_⟩
        unfold wX_placeOf_6
        rw [tm_8, hcl]
        exact ⟨hin, br_f e ⟨hin, br_t e2 hp⟩⟩
      · rw [if_neg (fun z => z.elim e e2)] at hp
        obtain ⟨i, hi, h0⟩ := h
        have hi0 : i ≠ 0 := by
          intro z
          subst z
          rw [Nat.add_zero, Nat.mod_eq_of_lt hs] at h0
          exact e h0
        obtain ⟨fu, hfu⟩ := ih ((s + 1) % 8) (Nat.mod_lt _ (by omega)) ⟨i - 1, by omega, by rw [show ((s + 1) % 8 + (i - 1)) % 8 = (s + i) % 8 by omega]; exact h0⟩ hp
        refine ⟨fu + 1, ?_⟩
        unfold wX_placeOf_6
        rw [tm_8, hcl]
        exact ⟨hin, br_f e ⟨hin, br_f e2 (nm_r (tm_s7 hs) hfu)⟩⟩
theorem tm_place_w {post : Int32 → Prop} {x key : Int32} (t : Nat) (hx : x = nI t) (ht : t < 32) (hc : tm_tc es t ≤ 6) (hp : post (nI (tm_place ka es t key))) : wpX_placeOf post (xE, xS, xC, xN, xO, xU, xH, xI, xR, kd, px, py, wt, ks, ki, al, op, fx, fy, fz, cO, cA, cB, cC, cK, wn, wr, wp, wq, oe, ol, oq, so, nu, ln, lm, sv, ka, es, en, ec) x key := by
  subst hx
  have h := tm_sl_n key
  unfold wpX_placeOf
  dsimp only
  show ∃ fu, wX_placeOf_6 post (nI t) key xE xS xC xN xO xU xH xI xR kd px py wt ks ki al op fx fy fz cO cA cB cC cK wn wr wp wq oe ol oq so nu ln lm sv ka es en ec fu (tm_sl key)
  rw [h.2]
  exact tm_pl_w ht 8 (tm_sn key) h.1 (tm_hole hc h.1) hp
theorem tm_rm_w {post : St1 → Prop} {t : Nat} (ht : t < 32) : ∀ n k h s ka es en, k + n = 8 → h < 8 → s < 8 → (∀ p, p < 256 → tm_so (es p)) → post (xE, xS, xC, xN, xO, xU, xH, xI, xR, kd, px, py, wt, ks, ki, al, op, fx, fy, fz, cO, cA, cB, cC, cK, wn, wr, wp, wq, oe, ol, oq, so, nu, ln, lm, sv, (tm_rm t n h s ka es en).1, (tm_rm t n h s ka es en).2.1, (tm_rm t n h s ka es en).2.2, ec) → ∃ fu, wX_removeEntry_24 post (nI t) xE xS xC xN xO xU xH xI xR fu (nI h) (nI s) (nI k) kd px py wt ks ki al op fx fy fz cO cA cB cC cK wn wr wp wq oe ol oq so nu ln lm sv ka es en ec := by
  intro n
  induction n with
  | zero =>
    intro k h s ka es en hk hh hs hso hp
    refine ⟨0 + 1, ?_⟩
    unfold wX_removeEntry_24
    refine br_t (nI_le (show 8 ≤ k by omega) (by omega)) ?_
    unfold wX_removeEntry_159
    rw [tm_8, nI_clamp (show 8 * t + h < 2 ^ 31 by omega)]
    exact ⟨pk_in (8 * t + h) 256 (by omega), nm_e ⟨pk_in (8 * t + h) 256 (by omega), nm_e hp⟩⟩
  | succ n ih =>
    intro k h s ka es en hk hh hs hso hp
    have hs' : (s + 1) % 8 < 8 := Nat.mod_lt _ (by omega)
    have hin : vp_in (nI (8 * t + (s + 1) % 8)) 256 := pk_in (8 * t + (s + 1) % 8) 256 (by omega)
    have hcl : (nI (8 * t + (s + 1) % 8)).toNatClampNeg = 8 * t + (s + 1) % 8 := nI_clamp (by omega)
    have hinh : vp_in (nI (8 * t + h)) 256 := pk_in (8 * t + h) 256 (by omega)
    have hclh : (nI (8 * t + h)).toNatClampNeg = 8 * t + h := nI_clamp (by omega)
    unfold tm_rm at hp
    by_cases e : es (8 * t + (s + 1) % 8) = 0
    · rw [if_pos e] at hp
      refine ⟨0 + 1, ?_⟩
      unfold wX_removeEntry_24
      refine br_f (nI_ge (b := 8) (show k < 8 by omega) (by decide)) (nm_r (tm_s7 hs) (nm_r (tm_8 t _) ⟨hin, ?_⟩))
      rw [hcl]
      refine br_t e ?_
      unfold wX_removeEntry_159
      rw [tm_8, hclh]
      exact ⟨hinh, nm_e ⟨hinh, nm_e hp⟩⟩
    · rw [if_neg e] at hp
      by_cases c : ((nI ((s + 1) % 8) - nI h) &&& 7) ≤ ((nI ((s + 1) % 8) - tm_sl (ka (8 * t + (s + 1) % 8))) &&& 7)
      · rw [if_pos c] at hp
        obtain ⟨fu, hfu⟩ := ih (k + 1) ((s + 1) % 8) ((s + 1) % 8) _ _ _ (by omega) hs' hs' (fun p hp => by
          by_cases e : p = 8 * t + h
          · subst e; rw [pk_us]; exact hso _ (by omega)
          · rw [pk_un e]; exact hso p hp) hp
        refine ⟨fu + 1, ?_⟩
        unfold wX_removeEntry_24
        refine br_f (nI_ge (b := 8) (show k < 8 by omega) (by decide)) (nm_r (tm_s7 hs) (nm_r (tm_8 t _) ⟨hin, ?_⟩))
        rw [hcl, tm_8, hclh]
        refine br_f e ⟨hin, ?_⟩
        unfold wpX_slotOf
        dsimp only
        refine nm_e (br_t c ⟨hin, hinh, nm_e ⟨hin, hinh, nm_r (by rw [tm_so8' (hso _ (by omega))]) ⟨hin, hinh, nm_e (nm_r (nI_1 k) hfu)⟩⟩⟩)
      · rw [if_neg c] at hp
        obtain ⟨fu, hfu⟩ := ih (k + 1) h ((s + 1) % 8) _ _ _ (by omega) hh hs' hso hp
        refine ⟨fu + 1, ?_⟩
        unfold wX_removeEntry_24
        refine br_f (nI_ge (b := 8) (show k < 8 by omega) (by decide)) (nm_r (tm_s7 hs) (nm_r (tm_8 t _) ⟨hin, ?_⟩))
        rw [hcl, tm_8, hclh]
        refine br_f e ⟨hin, ?_⟩
        unfold wpX_slotOf
        dsimp only
        exact nm_e (br_f c (nm_r (nI_1 k) hfu))
theorem tm_remove_w {post : St1 → Prop} {x y : Int32} (t q : Nat) (hx : x = nI t) (hy : y = nI (8 * t + q)) (ht : t < 32) (hq : q < 8) (hso : ∀ p, p < 256 → tm_so (es p)) (hp : post (xE, xS, xC, xN, xO, xU, xH, xI, xR, kd, px, py, wt, ks, ki, al, op, fx, fy, fz, cO, cA, cB, cC, cK, wn, wr, wp, wq, oe, ol, oq, so, nu, ln, lm, sv, (tm_rm t 8 q q ka es en).1, (tm_rm t 8 q q ka es en).2.1, (tm_rm t 8 q q ka es en).2.2, upd ec t (ec t - 1).toInt8.toInt32)) : wpX_removeEntry post (xE, xS, xC, xN, xO, xU, xH, xI, xR, kd, px, py, wt, ks, ki, al, op, fx, fy, fz, cO, cA, cB, cC, cK, wn, wr, wp, wq, oe, ol, oq, so, nu, ln, lm, sv, ka, es, en, ec) x y := by
  subst hx
  subst hy
  unfold wpX_removeEntry
  dsimp only
  rw [nI_clamp (show t < 2 ^ 31 by omega)]
  refine ⟨pk_in t 32 ht, pk_in t 32 ht, nm_e (nm_r (e' := nI q) ?_ ?_)⟩
  · rw [show (8 : Int32) = nI 8 from rfl, pk_mul, pk_sub (by omega), show 8 * t + q - 8 * t = q by omega]
  · exact tm_rm_w ht 8 0 q q ka es en (by omega) hq hq hso hp
end
section
variable {xE xS xC xN xO xU xH xI xR : Int32} {kd px py wt ks ki al op fx fy fz cO cA cB cC cK wn wr wp wq oe ol oq so nu ln lm ka es en ec : Nat → Int32} {sv : Nat → Int64}
/-! reach, tables, freeTable, beginStatement, show -/
/-- the least closed set of tables that holds those of the first n registers -/
def tm_mn (n : Nat) (so nu es en : Nat → Int32) (r : Int32) : Prop := ∀ X : Nat → Bool, tm_cr X n so nu → tm_cl X es en → ∀ i, i < 32 → bt r i = true → X i = true
def tm_ls (n : Nat) (so nu es en : Nat → Int32) (r : Int32) : Prop := tm_cr (bt r) n so nu ∧ tm_cl (bt r) es en ∧ tm_mn n so nu es en r
theorem tm_reach62 {post : St1 → Prop} {J : Int32 → Int32 → Prop} {x2 r0 : Int32} {n : Nat} (hb : ∀ p, p < 256 → es p = 2 → ∃ j, j < 32 ∧ en p = nI j) (hm : tm_mn n so nu es en r0)
    (hp : ∀ r, (∀ i, i < 32 → bt r0 i = true → bt r i = true) → tm_mn n so nu es en r → (r = r0 → tm_cl (bt r0) es en) → J x2 r) :
    ∃ fu, wX_reach_62 post J x2 xE xS xC xN xO xU xH xI kd px py wt ks ki al op fx fy fz cO cA cB cC cK wn wr wp wq oe ol oq so nu ln lm sv ka es en ec fu 0 r0 := by
  refine pk_loop (fun f i s => wX_reach_62 post J x2 xE xS xC xN xO xU xH xI kd px py wt ks ki al op fx fy fz cO cA cB cC cK wn wr wp wq oe ol oq so nu ln lm sv ka es en ec f (nI i) s)
    (fun i r => (∀ k, k < 32 → bt r0 k = true → bt r k = true) ∧ tm_mn n so nu es en r ∧ (r = r0 → ∀ p, p < i → bt r0 (p / 8) = true → es p = 2 → ∀ j, j < 32 → en p = nI j → bt r0 j = true))
    256 0 r0 (by omega) ⟨fun k _ h => h, hm, fun _ p hp => absurd hp (by omega)⟩ ?_ ?_
  · intro f r h
    show wX_reach_62 post J x2 xE xS xC xN xO xU xH xI kd px py wt ks ki al op fx fy fz cO cA cB cC cK wn wr wp wq oe ol oq so nu ln lm sv ka es en ec (f + 1) (nI 256) r
    unfold wX_reach_62
    refine br_t (nI_le (Nat.le_refl 256) (by omega)) (hp r h.1 h.2.1 (fun e t ht hX s hs h2 j hj hn => ?_))
    exact h.2.2 e (8 * t + s) (by omega) (by rw [show (8 * t + s) / 8 = t by omega]; exact hX) h2 j hj hn
  · intro f i r hi h hw
    show wX_reach_62 post J x2 xE xS xC xN xO xU xH xI kd px py wt ks ki al op fx fy fz cO cA cB cC cK wn wr wp wq oe ol oq so nu ln lm sv ka es en ec (f + 1) (nI i) r
    unfold wX_reach_62
    have hd : nI i / 8 = nI (i / 8) := pk_div (d := 8) (by omega) (by omega) (by omega)
    have h8 : i / 8 < 32 := by omega
    refine br_f (nI_ge (b := 256) hi (by omega)) ⟨by decide, ?_⟩
    rw [hd, nI_clamp (show i < 2 ^ 31 by omega)]
    obtain ⟨h1, h2, h3⟩ := h
    by_cases e : bt r (i / 8) = true
    · refine br_f (fun z => ?_) ⟨pk_in i 256 hi, ?_⟩
      · rw [(tm_bit0 r h8).mp z] at e
        exact absurd e (by decide)
      · by_cases e2 : es i = 2
        · obtain ⟨j, hj, ej⟩ := hb i hi e2
          refine br_t e2 ⟨pk_in i 256 hi, nm_e (nm_r (nI_1 i) (hw _ ⟨?_, ?_, ?_⟩))⟩
          · intro k hk hk2
            rw [ej, tm_bset r hj hk, h1 k hk hk2]
            rfl
          · intro X hX1 hX2 k hk hk2
            rw [ej, tm_bset r hj hk] at hk2
            rcases Bool.or_eq_true _ _ ▸ hk2 with z | z
            · exact h2 X hX1 hX2 k hk z
            · have z := of_decide_eq_true z
              subst z
              exact hX2 (i / 8) h8 (h2 X hX1 hX2 _ h8 e) (i % 8) (by omega) (by rw [show 8 * (i / 8) + i % 8 = i by omega]; exact e2) k hk (by rw [show 8 * (i / 8) + i % 8 = i by omega]; exact ej)
          · intro hr
            have hr' : ∀ k, k < 32 → bt r0 k = (bt r k || decide (k = j)) := by
              intro k hk
              rw [← hr, ej, tm_bset r hj hk]
            have hrr : r = r0 := by
              apply b_ext
              intro k hk
              have a := hr' k hk
              have b := h1 k hk
              cases c : bt r0 k
              · rw [c] at a
                cases d : bt r k
                · rfl
                · rw [d] at a
                  exact absurd a (by simp)
              · exact b c
            have hj0 : bt r0 j = true := by
              rw [hr' j hj]
              simp
            intro p hp1 hp2 hp3 j' hj' ej'
            by_cases c : p = i
            · subst c
              have : j' = j := tm_nIinj (by omega) (by omega) (by rw [← ej', ← ej])
              rw [this]
              exact hj0
            · exact h3 hrr p (by omega) hp2 hp3 j' hj' ej'
        · refine br_f e2 (nm_r (nI_1 i) (hw _ ⟨h1, h2, fun hr p hp1 hp2 hp3 => ?_⟩))
          by_cases c : p = i
          · subst c; exact absurd hp3 e2
          · exact h3 hr p (by omega) hp2 hp3
    · have e' : bt r (i / 8) = false := by
        cases c : bt r (i / 8)
        · rfl
        · exact absurd c e
      refine br_t ((tm_bit0 r h8).mpr e') (nm_r (nI_1 i) (hw _ ⟨h1, h2, fun hr p hp1 hp2 hp3 => ?_⟩))
      by_cases c : p = i
      · subst c
        subst hr
        rw [e'] at hp2
        exact absurd hp2 (by decide)
      · exact h3 hr p (by omega) hp2 hp3
theorem tm_reach47 {post : St1 → Prop} {n : Nat} (hb : ∀ p, p < 256 → es p = 2 → ∃ j, j < 32 ∧ en p = nI j) (hp : ∀ r, tm_ls n so nu es en r → post (xE, xS, xC, xN, xO, xU, xH, xI, r, kd, px, py, wt, ks, ki, al, op, fx, fy, fz, cO, cA, cB, cC, cK, wn, wr, wp, wq, oe, ol, oq, so, nu, ln, lm, sv, ka, es, en, ec)) {r : Int32} (hr : tm_cr (bt r) n so nu) (hm : tm_mn n so nu es en r) :
    ∃ fu, wX_reach_47 post xE xS xC xN xO xU xH xI kd px py wt ks ki al op fx fy fz cO cA cB cC cK wn wr wp wq oe ol oq so nu ln lm sv ka es en ec fu 0 r := by
  refine lp2 (fun f x2 r => wX_reach_47 post xE xS xC xN xO xU xH xI kd px py wt ks ki al op fx fy fz cO cA cB cC cK wn wr wp wq oe ol oq so nu ln lm sv ka es en ec f x2 r) (fun x2 r => tm_cr (bt r) n so nu ∧ tm_mn n so nu es en r ∧ (r = x2 → tm_cl (bt r) es en))
    (fun x2 r => 2 * (32 - tm_ct (bt r) 32) + (if r = x2 then 0 else 1)) ?_ 0 r ⟨hr, hm, fun e t ht hX => ?_⟩
  · intro f x2 r h hw
    obtain ⟨h1, h2, h3⟩ := h
    show wX_reach_47 post xE xS xC xN xO xU xH xI kd px py wt ks ki al op fx fy fz cO cA cB cC cK wn wr wp wq oe ol oq so nu ln lm sv ka es en ec (f + 1) x2 r
    unfold wX_reach_47
    refine br_c (fun e => hp r ⟨h1, h3 e, h2⟩) (fun e => ?_)
    refine tm_reach62 hb h2 (fun r' g1 g2 g3 => hw r r' ⟨fun a ha h2 j hj hn => g1 j hj (h1 a ha h2 j hj hn), g2, fun z => ?_⟩ ?_)
    · subst z; exact g3 rfl
    · rw [if_neg e]
      have c1 := tm_ct_le (bt r') 32
      by_cases z : r' = r
      · rw [if_pos z, z]; omega
      · rw [if_neg z]
        have : tm_ct (bt r) 32 < tm_ct (bt r') 32 := by
          have : ∃ k, k < 32 ∧ bt r k = false ∧ bt r' k = true := by
            apply Classical.byContradiction
            intro c
            apply z
            apply b_ext
            intro k hk
            cases c1 : bt r k
            · cases c2 : bt r' k
              · rfl
              · exact absurd ⟨k, hk, c1, c2⟩ c
            · exact g1 k hk c1
          obtain ⟨k, hk, k1, k2⟩ := this
          exact tm_ct_grow hk g1 k1 k2
        omega
  · rw [e, b_0] at hX
    exact absurd hX (by decide)
theorem tm_reach_w {post : St1 → Prop} {x : Int32} (n : Nat) (hx : x = nI n) (hn : n ≤ 18) (hb : tm_tb es en ec) (hg : tm_rg so nu) (hp : ∀ r, tm_ls n so nu es en r → post (xE, xS, xC, xN, xO, xU, xH, xI, r, kd, px, py, wt, ks, ki, al, op, fx, fy, fz, cO, cA, cB, cC, cK, wn, wr, wp, wq, oe, ol, oq, so, nu, ln, lm, sv, ka, es, en, ec)) : wpX_reach post (xE, xS, xC, xN, xO, xU, xH, xI, xR, kd, px, py, wt, ks, ki, al, op, fx, fy, fz, cO, cA, cB, cC, cK, wn, wr, wp, wq, oe, ol, oq, so, nu, ln, lm, sv, ka, es, en, ec) x := by
  subst hx
  unfold wpX_reach
  dsimp only
  refine pk_loop (fun f i s => wX_reach_7 post (nI n) xE xS xC xN xO xU xH xI kd px py wt ks ki al op fx fy fz cO cA cB cC cK wn wr wp wq oe ol oq so nu ln lm sv ka es en ec f (nI i) s) (fun i r => tm_cr (bt r) i so nu ∧ tm_mn n so nu es en r) n 0 0 (by omega) ⟨fun r hr => absurd hr (by omega), fun X _ _ i _ h => by rw [b_0] at h; exact absurd h (by decide)⟩ ?_ ?_
  · intro f r h
    show wX_reach_7 post (nI n) xE xS xC xN xO xU xH xI kd px py wt ks ki al op fx fy fz cO cA cB cC cK wn wr wp wq oe ol oq so nu ln lm sv ka es en ec (f + 1) (nI n) r
    unfold wX_reach_7
    exact br_t (nI_le (Nat.le_refl n) (by omega)) (tm_reach47 hb.2.1 hp h.1 h.2)
  · intro f i r hi h hw
    obtain ⟨h1, h2⟩ := h
    show wX_reach_7 post (nI n) xE xS xC xN xO xU xH xI kd px py wt ks ki al op fx fy fz cO cA cB cC cK wn wr wp wq oe ol oq so nu ln lm sv ka es en ec (f + 1) (nI i) r
    unfold wX_reach_7
    refine br_f (nI_ge hi (by omega)) ⟨pk_in i 18 (by omega), ?_⟩
    rw [nI_clamp (show i < 2 ^ 31 by omega)]
    obtain ⟨g1, g2⟩ := hg i (by omega)
    by_cases e : so i = 2
    · obtain ⟨j, hj, ej⟩ := g2 e
      refine br_t e ⟨pk_in i 18 (by omega), nm_e (nm_r (nI_1 i) (hw _ ⟨?_, ?_⟩))⟩
      · intro a ha h2 k hk hn
        rw [ej, tm_bset r hj hk]
        by_cases c : a = i
        · subst c
          have : k = j := tm_nIinj (by omega) (by omega) (by rw [← hn, ← ej])
          subst this
          simp
        · rw [h1 a (by omega) h2 k hk hn]
          rfl
      · intro X hX1 hX2 k hk hk2
        rw [ej, tm_bset r hj hk] at hk2
        rcases Bool.or_eq_true _ _ ▸ hk2 with z | z
        · exact h2 X hX1 hX2 k hk z
        · have z := of_decide_eq_true z
          subst z
          exact hX1 i hi e k hk ej
    · refine br_f e (nm_r (nI_1 i) (hw _ ⟨fun a ha h2 k hk hn => ?_, h2⟩))
      by_cases c : a = i
      · subst c; exact absurd h2 e
      · exact h1 a (by omega) h2 k hk hn
theorem tm_tables_w {post : Int32 → St1 → Prop} (hb : tm_tb es en ec) (hg : tm_rg so nu) (hp : ∀ r, tm_ls 6 so nu es en r → post (nI (tm_ct (bt r) 32)) (xE, xS, xC, xN, xO, xU, xH, xI, r, kd, px, py, wt, ks, ki, al, op, fx, fy, fz, cO, cA, cB, cC, cK, wn, wr, wp, wq, oe, ol, oq, so, nu, ln, lm, sv, ka, es, en, ec)) : wpX_tables post (xE, xS, xC, xN, xO, xU, xH, xI, xR, kd, px, py, wt, ks, ki, al, op, fx, fy, fz, cO, cA, cB, cC, cK, wn, wr, wp, wq, oe, ol, oq, so, nu, ln, lm, sv, ka, es, en, ec) := by
  unfold wpX_tables
  dsimp only
  refine tm_reach_w 6 rfl (by omega) hb hg (fun r hr => ?_)
  refine pk_loop (σ := Int32) (fun f i s => wX_tables_10 post xE xS xC xN xO xU xH xI r kd px py wt ks ki al op fx fy fz cO cA cB cC cK wn wr wp wq oe ol oq so nu ln lm sv ka es en ec f s (nI i)) (fun i s => s = nI (tm_ct (bt r) i)) 32 0 0 (by omega) rfl ?_ ?_
  · intro f s h
    show wX_tables_10 post xE xS xC xN xO xU xH xI r kd px py wt ks ki al op fx fy fz cO cA cB cC cK wn wr wp wq oe ol oq so nu ln lm sv ka es en ec (f + 1) s (nI 32)
    subst h
    unfold wX_tables_10
    exact br_t (nI_le (Nat.le_refl 32) (by omega)) (hp r hr)
  · intro f i s hi h hw
    show wX_tables_10 post xE xS xC xN xO xU xH xI r kd px py wt ks ki al op fx fy fz cO cA cB cC cK wn wr wp wq oe ol oq so nu ln lm sv ka es en ec (f + 1) s (nI i)
    subst h
    unfold wX_tables_10
    refine br_f (nI_ge (b := 32) hi (by omega)) (nm_r ?_ (nm_r (nI_1 i) (hw _ rfl)))
    rw [tm_bit r hi]
    have e : tm_ct (bt r) (i + 1) = tm_ct (bt r) i + (if bt r i then 1 else 0) := rfl
    rw [e]
    cases bt r i
    · exact Int32.add_zero _
    · exact nI_1 _
/-! a stretch of zeros -/
def tm_zr (f : Nat → Int32) (a b : Nat) : Nat → Int32 := fun p => if a ≤ p ∧ p < b then 0 else f p
theorem tm_zr_0 (f : Nat → Int32) (a : Nat) : tm_zr f a a = f := by
  funext p
  unfold tm_zr
  exact if_neg (by omega)
theorem tm_zr_s (f : Nat → Int32) {a b : Nat} (h : a ≤ b) : upd (tm_zr f a b) b 0 = tm_zr f a (b + 1) := by
  funext p
  show (if p = b then (0 : Int32) else (if a ≤ p ∧ p < b then 0 else f p)) = (if a ≤ p ∧ p < b + 1 then 0 else f p)
  by_cases e : p = b
  · subst e; rw [if_pos rfl, if_pos (by omega)]
  · rw [if_neg e]
    by_cases e2 : a ≤ p ∧ p < b
    · rw [if_pos e2, if_pos (by omega)]
    · rw [if_neg e2, if_neg (by omega)]
theorem tm_zr_in (f : Nat → Int32) {a b p : Nat} (h : a ≤ p) (h2 : p < b) : tm_zr f a b p = 0 := if_pos ⟨h, h2⟩
theorem tm_zr_out (f : Nat → Int32) {a b p : Nat} (h : p < a ∨ b ≤ p) : tm_zr f a b p = f p := if_neg (by omega)
theorem tm_free65 {post : Int32 → St1 → Prop} {t : Nat} (ht : t < 32) (hp : post (nI t) (xE, xS, xC, xN, xO, xU, xH, xI, xR, kd, px, py, wt, ks, ki, al, op, fx, fy, fz, cO, cA, cB, cC, cK, wn, wr, wp, wq, oe, ol, oq, so, nu, ln, lm, sv, ka, tm_zr es (8 * t) (8 * t + 8), tm_zr en (8 * t) (8 * t + 8), ec)) : ∃ fu, wX_freeTable_65 post (nI t) xE xS xC xN xO xU xH xI xR fu (8 * nI t) kd px py wt ks ki al op fx fy fz cO cA cB cC cK wn wr wp wq oe ol oq so nu ln lm sv ka es en ec := by
  have e8 : (8 : Int32) * nI t = nI (8 * t) := by rw [show (8 : Int32) = nI 8 from rfl, pk_mul]
  have e88 : (8 : Int32) * nI t + 8 = nI (8 * t + 8) := by rw [e8]; exact nI_add (8 * t) 8
  have H := pk_loop (σ := (Nat → Int32) × (Nat → Int32)) (fun f i s => wX_freeTable_65 post (nI t) xE xS xC xN xO xU xH xI xR f (nI i) kd px py wt ks ki al op fx fy fz cO cA cB cC cK wn wr wp wq oe ol oq so nu ln lm sv ka s.1 s.2 ec) (fun i s => 8 * t ≤ i ∧ s = (tm_zr es (8 * t) i, tm_zr en (8 * t) i)) (8 * t + 8) (8 * t) (es, en) (by omega) ⟨Nat.le_refl _, by rw [tm_zr_0, tm_zr_0]⟩ ?_ ?_
  · rw [e8]; exact H
  · intro f s h
    obtain ⟨_, h⟩ := h
    subst h
    show wX_freeTable_65 post (nI t) xE xS xC xN xO xU xH xI xR (f + 1) (nI (8 * t + 8)) kd px py wt ks ki al op fx fy fz cO cA cB cC cK wn wr wp wq oe ol oq so nu ln lm sv ka (tm_zr es (8 * t) (8 * t + 8)) (tm_zr en (8 * t) (8 * t + 8)) ec
    unfold wX_freeTable_65
    rw [e88]
    exact br_t (nI_le (Nat.le_refl _) (by omega)) hp
  · intro f i s hi h hw
    obtain ⟨g, h⟩ := h
    subst h
    have hw' := hw (tm_zr es (8 * t) (i + 1), tm_zr en (8 * t) (i + 1)) ⟨by omega, rfl⟩
    show wX_freeTable_65 post (nI t) xE xS xC xN xO xU xH xI xR (f + 1) (nI i) kd px py wt ks ki al op fx fy fz cO cA cB cC cK wn wr wp wq oe ol oq so nu ln lm sv ka (tm_zr es (8 * t) i) (tm_zr en (8 * t) i) ec
    unfold wX_freeTable_65
    rw [e88, nI_clamp (show i < 2 ^ 31 by omega)]
    exact br_f (nI_ge hi (by omega)) ⟨pk_in i 256 (by omega), nm_r (tm_zr_s es g) ⟨pk_in i 256 (by omega), nm_r (tm_zr_s en g) (nm_r (nI_1 i) hw')⟩⟩
theorem tm_free24 {post : Int32 → St1 → Prop} (hf : ∃ t, t < 32 ∧ bt xI t = false) (hp : ∀ t, t < 32 → bt xI t = false → (∀ j, j < t → bt xI j = true) → post (nI t) (xE, xS, xC, xN, xO, xU, xH, xI ||| ((1 : Int32) <<< (nI t &&& 31)), xR, kd, px, py, wt, ks, ki, al, op, fx, fy, fz, cO, cA, cB, cC, cK, wn, wr, wp, wq, oe, ol, oq, so, nu, ln, lm, sv, ka, tm_zr es (8 * t) (8 * t + 8), tm_zr en (8 * t) (8 * t + 8), upd ec t 0)) : ∃ fu, wX_freeTable_24 post xE xS xC xN xO xU xH xI xR kd px py wt ks ki al op fx fy fz cO cA cB cC cK wn wr wp wq oe ol oq so nu ln lm sv ka es en ec fu 0 := by
  obtain ⟨t, ht, hm⟩ := pk_least (fun t => t < 32 ∧ bt xI t = false) hf
  have hm' : ∀ j, j < t → bt xI j = true := by
    intro j hj
    cases c : bt xI j
    · exact absurd ⟨by omega, c⟩ (hm j hj)
    · rfl
  refine pk_loop (σ := Unit) (fun f i _ => wX_freeTable_24 post xE xS xC xN xO xU xH xI xR kd px py wt ks ki al op fx fy fz cO cA cB cC cK wn wr wp wq oe ol oq so nu ln lm sv ka es en ec f (nI i)) (fun _ _ => True) t 0 () (by omega) trivial ?_ ?_
  · intro f _ _
    show wX_freeTable_24 post xE xS xC xN xO xU xH xI xR kd px py wt ks ki al op fx fy fz cO cA cB cC cK wn wr wp wq oe ol oq so nu ln lm sv ka es en ec (f + 1) (nI t)
    unfold wX_freeTable_24
    rw [nI_clamp (show t < 2 ^ 31 by omega)]
    exact br_t ((tm_bit0 xI ht.1).mpr ht.2) (nm_e ⟨pk_in t 32 ht.1, nm_e (nm_e (tm_free65 ht.1 (hp t ht.1 ht.2 hm')))⟩)
  · intro f i _ hi _ hw
    show wX_freeTable_24 post xE xS xC xN xO xU xH xI xR kd px py wt ks ki al op fx fy fz cO cA cB cC cK wn wr wp wq oe ol oq so nu ln lm sv ka es en ec (f + 1) (nI i)
    unfold wX_freeTable_24
    refine br_f (fun z => ?_) (nm_r (nI_1 i) (hw () trivial))
    have := (tm_bit0 xI (show i < 32 by omega)).mp z
    rw [hm' i hi] at this
    exact absurd this (by decide)
/-- a table is made: i are the bits in use that the search sees -/
theorem tm_free_w {post : Int32 → St1 → Prop} (hb : tm_tb es en ec) (hg : tm_rg so nu) (hf : xI = -1 → ∀ r, tm_ls 18 so nu es en r → ∃ t, t < 32 ∧ bt r t = false)
    (hp : ∀ i r t, (xI = -1 → tm_ls 18 so nu es en i) → (¬ xI = -1 → i = xI) → t < 32 → bt i t = false → (∀ j, j < t → bt i j = true) → post (nI t) (xE, xS, xC, xN, xO, xU, xH, i ||| ((1 : Int32) <<< (nI t &&& 31)), r, kd, px, py, wt, ks, ki, al, op, fx, fy, fz, cO, cA, cB, cC, cK, wn, wr, wp, wq, oe, ol, oq, so, nu, ln, lm, sv, ka, tm_zr es (8 * t) (8 * t + 8), tm_zr en (8 * t) (8 * t + 8), upd ec t 0)) : wpX_freeTable post (xE, xS, xC, xN, xO, xU, xH, xI, xR, kd, px, py, wt, ks, ki, al, op, fx, fy, fz, cO, cA, cB, cC, cK, wn, wr, wp, wq, oe, ol, oq, so, nu, ln, lm, sv, ka, es, en, ec) := by
  unfold wpX_freeTable
  dsimp only
  refine br_c (fun e => ?_) (fun e => ?_)
  · refine tm_reach_w 18 rfl (by omega) hb hg (fun r hr => ?_)
    exact tm_free24 (hf e r hr) (fun t h1 h2 h3 => hp r r t (fun _ => hr) (fun z => absurd e z) h1 h2 h3)
  · exact tm_free24 (tm_nm1 e) (fun t h1 h2 h3 => hp xI xR t (fun z => absurd z e) (fun _ => rfl) h1 h2 h3)
theorem tm_begin_w {post : Int32 → St1 → Prop} {k : Int32} (hb : tm_tb es en ec) (hg : tm_rg so nu) (hp : ∀ r, tm_ls 6 (tm_zr so 6 18) (tm_zr nu 6 18) es en r → post (if tm_ct (bt r) 32 ≤ 8 then 1 else 0) (xE, xS, xC, xN, xO, k, xH, xI, r, kd, px, py, wt, ks, ki, al, op, fx, fy, fz, cO, cA, cB, cC, cK, wn, wr, wp, wq, oe, ol, oq, tm_zr so 6 18, tm_zr nu 6 18, ln, lm, sv, ka, es, en, ec)) : wpX_beginStatement post (xE, xS, xC, xN, xO, xU, xH, xI, xR, kd, px, py, wt, ks, ki, al, op, fx, fy, fz, cO, cA, cB, cC, cK, wn, wr, wp, wq, oe, ol, oq, so, nu, ln, lm, sv, ka, es, en, ec) k := by
  have hg' : ∀ i, tm_rg (tm_zr so 6 i) (tm_zr nu 6 i) := by
    intro i r hr
    by_cases e : 6 ≤ r ∧ r < i
    · rw [tm_zr_in so e.1 e.2]
      exact ⟨Or.inl rfl, fun z => absurd z (by decide)⟩
    · rw [tm_zr_out so (by omega), tm_zr_out nu (by omega)]
      exact hg r hr
  unfold wpX_beginStatement
  dsimp only
  refine pk_loop (σ := (Nat → Int32) × (Nat → Int32)) (fun f i s => wX_beginStatement_8 post f (nI i) xE xS xC xN xO k xH xI xR kd px py wt ks ki al op fx fy fz cO cA cB cC cK wn wr wp wq oe ol oq s.1 s.2 ln lm sv ka es en ec) (fun i s => 6 ≤ i ∧ s = (tm_zr so 6 i, tm_zr nu 6 i)) 18 6 (so, nu) (by omega) ⟨Nat.le_refl 6, by rw [tm_zr_0, tm_zr_0]⟩ ?_ ?_
  · intro f s h
    obtain ⟨_, h⟩ := h
    subst h
    show wX_beginStatement_8 post (f + 1) (nI 18) xE xS xC xN xO k xH xI xR kd px py wt ks ki al op fx fy fz cO cA cB cC cK wn wr wp wq oe ol oq (tm_zr so 6 18) (tm_zr nu 6 18) ln lm sv ka es en ec
    unfold wX_beginStatement_8
    refine br_t (nI_le (Nat.le_refl 18) (by omega)) (tm_tables_w hb (hg' 18) (fun r hr => ?_))
    have h1 := hp r hr
    have h2 := tm_ct_le (bt r) 32
    by_cases e : tm_ct (bt r) 32 ≤ 8
    · rw [if_pos e] at h1
      exact br_f (nI_nlt (a := 8) e (by omega)) h1
    · rw [if_neg e] at h1
      exact br_t (nI_lt (a := 8) (by omega) (by omega)) h1
  · intro f i s hi h hw
    obtain ⟨g, h⟩ := h
    subst h
    have hw' := hw (tm_zr so 6 (i + 1), tm_zr nu 6 (i + 1)) ⟨by omega, rfl⟩
    show wX_beginStatement_8 post (f + 1) (nI i) xE xS xC xN xO k xH xI xR kd px py wt ks ki al op fx fy fz cO cA cB cC cK wn wr wp wq oe ol oq (tm_zr so 6 i) (tm_zr nu 6 i) ln lm sv ka es en ec
    unfold wX_beginStatement_8
    refine br_f (nI_ge (b := 18) hi (by omega)) (tm_clReg i rfl hi (nm_r (nI_1 i) ?_))
    rw [tm_zr_s so g, tm_zr_s nu g]
    exact hw'
def tm_num (s n : Int32) (ec : Nat → Int32) : Int32 := if s = 0 then 0 else if s = 1 then n else ec n.toNatClampNeg
theorem tm_num_w {post : Int32 → Prop} {s n : Int32} (hs : tm_so s) (hn : s = 2 → ∃ j, j < 32 ∧ n = nI j) (hp : post (tm_num s n ec)) : wpX_shownNumber post (xE, xS, xC, xN, xO, xU, xH, xI, xR, kd, px, py, wt, ks, ki, al, op, fx, fy, fz, cO, cA, cB, cC, cK, wn, wr, wp, wq, oe, ol, oq, so, nu, ln, lm, sv, ka, es, en, ec) s n := by
  unfold wpX_shownNumber
  dsimp only
  unfold tm_num at hp
  by_cases e : s = 0
  · rw [if_pos e] at hp; exact br_t e hp
  · rw [if_neg e] at hp
    by_cases e1 : s = 1
    · rw [if_pos e1] at hp; exact br_f e (br_t e1 hp)
    · rw [if_neg e1] at hp
      have e2 : s = 2 := by
        rcases hs with h | h | h
        · exact absurd h e
        · exact absurd h e1
        · exact h
      obtain ⟨j, hj, ej⟩ := hn e2
      exact br_f e (br_f e1 ⟨pk_in j 32 hj ej, hp⟩)
theorem tm_show_w {post : St1 → Prop} {x : Int32} (a k : Nat) (hx : x = nI a) (ha : a < 18) (hg : tm_rg so nu) (hk : xH = nI k) (hk2 : k < 2 ^ 31 - 1)
    (hp : post (xE, xS, xC, xN, xO, xU, nI (k + 1), xI, xR, kd, px, py, wt, ks, ki, al, op, fx, fy, fz, cO, cA, cB, cC, cK, wn, wr, wp, wq, oe, ol, oq, so, nu, ln, lm, if 30 ≤ k then sv else vp_updL sv k ((4 * (tm_num (so a) (nu a) ec).toInt64) + (so a).toInt64), ka, es, en, ec)) : wpX_show post (xE, xS, xC, xN, xO, xU, xH, xI, xR, kd, px, py, wt, ks, ki, al, op, fx, fy, fz, cO, cA, cB, cC, cK, wn, wr, wp, wq, oe, ol, oq, so, nu, ln, lm, sv, ka, es, en, ec) x := by
  subst hx
  subst hk
  unfold wpX_show
  dsimp only
  rw [nI_clamp (show a < 2 ^ 31 by omega), nI_clamp (show k < 2 ^ 31 by omega)]
  by_cases e : 30 ≤ k
  · rw [if_pos e] at hp
    exact br_t (nI_le e (by omega)) (nm_r (nI_1 k) hp)
  · rw [if_neg e] at hp
    exact br_f (nI_ge (b := 30) (by omega) (by omega)) ⟨pk_in a 18 ha, pk_in a 18 ha, tm_num_w (hg a ha).1 (hg a ha).2 ⟨pk_in a 18 ha, pk_in k 30 (by omega), nm_e (nm_r (nI_1 k) hp)⟩⟩
end
section
variable {xE xS xC xN xO xU xH xI xR : Int32} {kd px py wt ks ki al op fx fy fz cO cA cB cC cK wn wr wp wq oe ol oq so nu ln lm ka es en ec : Nat → Int32} {sv : Nat → Int64}
/-! entries taken and stored, values worked out -/
def tm_tk (so nu ka es en : Nat → Int32) (b c : Nat) : Option (Int32 × Int32) :=
  if so b = 2 ∧ so c = 1 then some (es (tm_place ka es (nu b).toNatClampNeg (nu c)), en (tm_place ka es (nu b).toNatClampNeg (nu c))) else none
def tm_tr (b : Bool) : Int32 × Int32 := if b then (1, 1) else (0, 0)
def tm_cv (o : Nat) (so nu ka es en : Nat → Int32) (b c : Nat) (K : Int32) : Option (Int32 × Int32) :=
  if o = 0 then some (1, K) else if o = 7 then some (0, 0) else if o = 1 then some (so b, nu b)
  else if o = 6 then some (tm_tr (decide (so b = so c ∧ nu b = nu c))) else if o = 9 then some (tm_tr (decide (so b = 0)))
  else if o = 10 then tm_tk so nu ka es en b c
  else if so b = 1 ∧ so c = 1 then (if o = 5 then some (tm_tr (decide (¬ nu c ≤ nu b))) else some (1, if o = 2 then nu b + nu c else if o = 3 then nu b - nu c else nu b * nu c))
  else none
def tm_sto (so nu ka es en ec : Nat → Int32) (a b c : Nat) : Option ((Nat → Int32) × (Nat → Int32) × (Nat → Int32) × (Nat → Int32)) :=
  if so a = 2 ∧ so b = 1 then
    (if so c = 0 then
      (if es (tm_place ka es (nu a).toNatClampNeg (nu b)) = 0 then some (ka, es, en, ec)
       else some ((tm_rm (nu a).toNatClampNeg 8 (tm_place ka es (nu a).toNatClampNeg (nu b) - 8 * (nu a).toNatClampNeg) (tm_place ka es (nu a).toNatClampNeg (nu b) - 8 * (nu a).toNatClampNeg) ka es en).1, (tm_rm (nu a).toNatClampNeg 8 (tm_place ka es (nu a).toNatClampNeg (nu b) - 8 * (nu a).toNatClampNeg) (tm_place ka es (nu a).toNatClampNeg (nu b) - 8 * (nu a).toNatClampNeg) ka es en).2.1, (tm_rm (nu a).toNatClampNeg 8 (tm_place ka es (nu a).toNatClampNeg (nu b) - 8 * (nu a).toNatClampNeg) (tm_place ka es (nu a).toNatClampNeg (nu b) - 8 * (nu a).toNatClampNeg) ka es en).2.2, upd ec (nu a).toNatClampNeg (ec (nu a).toNatClampNeg - 1).toInt8.toInt32))
     else if es (tm_place ka es (nu a).toNatClampNeg (nu b)) = 0 ∧ ec (nu a).toNatClampNeg = 6 then none
     else some (upd ka (tm_place ka es (nu a).toNatClampNeg (nu b)) (nu b), upd es (tm_place ka es (nu a).toNatClampNeg (nu b)) (so c), upd en (tm_place ka es (nu a).toNatClampNeg (nu b)) (nu c), if es (tm_place ka es (nu a).toNatClampNeg (nu b)) = 0 then upd ec (nu a).toNatClampNeg (ec (nu a).toNatClampNeg + 1).toInt8.toInt32 else ec))
  else none
theorem tm_take_w {post : Int32 → St1 → Prop} {x y z : Int32} (a b c : Nat) (hx : x = nI a) (hy : y = nI b) (hz : z = nI c) (ha : a < 18) (hb' : b < 18) (hc : c < 18) (hb : tm_tb es en ec) (hg : tm_rg so nu)
    (hf : tm_tk so nu ka es en b c = none → post 0 (xE, xS, xC, xN, xO, xU, xH, xI, xR, kd, px, py, wt, ks, ki, al, op, fx, fy, fz, cO, cA, cB, cC, cK, wn, wr, wp, wq, oe, ol, oq, so, nu, ln, lm, sv, ka, es, en, ec)) (hs : ∀ s n, tm_tk so nu ka es en b c = some (s, n) → post 1 (xE, xS, xC, xN, xO, xU, xH, xI, xR, kd, px, py, wt, ks, ki, al, op, fx, fy, fz, cO, cA, cB, cC, cK, wn, wr, wp, wq, oe, ol, oq, upd so a s, upd nu a n, ln, lm, sv, ka, es, en, ec)) : wpX_takeEntry post (xE, xS, xC, xN, xO, xU, xH, xI, xR, kd, px, py, wt, ks, ki, al, op, fx, fy, fz, cO, cA, cB, cC, cK, wn, wr, wp, wq, oe, ol, oq, so, nu, ln, lm, sv, ka, es, en, ec) x y z := by
  subst hx hy hz
  unfold wpX_takeEntry
  dsimp only
  rw [nI_clamp (show b < 2 ^ 31 by omega), nI_clamp (show c < 2 ^ 31 by omega)]
  refine ⟨pk_in b 18 hb', ?_⟩
  unfold tm_tk at hf hs
  by_cases e1 : so b = 2
  · refine br_t e1 ⟨pk_in c 18 hc, ?_⟩
    by_cases e2 : so c = 1
    · refine br_t e2 ⟨pk_in b 18 hb', pk_in c 18 hc, ?_⟩
      rw [if_pos ⟨e1, e2⟩] at hs
      obtain ⟨t, ht, et⟩ := (hg b hb').2 e1
      rw [et, nI_clamp (show t < 2 ^ 31 by omega)] at hs
      obtain ⟨q, hq, eq⟩ := tm_place_in ka es t (nu c)
      refine tm_place_w t et ht (hb.2.2 t ht).2 ⟨pk_in (8 * t + q) 256 (by omega) (by rw [eq]), pk_in (8 * t + q) 256 (by omega) (by rw [eq]), ?_⟩
      have h := hs _ _ rfl
      rw [nI_clamp (show tm_place ka es t (nu c) < 2 ^ 31 by omega)]
      refine tm_setReg a rfl ha ?_
      rw [tm_so8 (hb.1 _ (by omega))]
      exact h
    · exact br_f e2 (hf (if_neg (fun z => e2 z.2)))
  · exact br_f e1 (hf (if_neg (fun z => e1 z.1)))
theorem tm_truth_w {post : St1 → Prop} {x : Int32} (v : Bool) (a : Nat) (hx : x = nI a) (ha : a < 18) (hp : post (xE, xS, xC, xN, xO, xU, xH, xI, xR, kd, px, py, wt, ks, ki, al, op, fx, fy, fz, cO, cA, cB, cC, cK, wn, wr, wp, wq, oe, ol, oq, upd so a (tm_tr v).1, upd nu a (tm_tr v).2, ln, lm, sv, ka, es, en, ec)) {y : Int32} (hy : y = if v then 1 else 0) : wpX_setTruth post (xE, xS, xC, xN, xO, xU, xH, xI, xR, kd, px, py, wt, ks, ki, al, op, fx, fy, fz, cO, cA, cB, cC, cK, wn, wr, wp, wq, oe, ol, oq, so, nu, ln, lm, sv, ka, es, en, ec) x y := by
  subst hy
  unfold wpX_setTruth
  dsimp only
  cases v
  · refine br_t rfl ?_
    unfold wX_setTruth_11
    refine br_t rfl ?_
    unfold wX_setTruth_20
    exact tm_setReg a hx ha hp
  · refine br_f (by decide) ?_
    unfold wX_setTruth_11
    refine br_f (by decide) ?_
    unfold wX_setTruth_20
    exact tm_setReg a hx ha hp
theorem tm_same_w {post : Int32 → Prop} {x y : Int32} (a b : Nat) (hx : x = nI a) (hy : y = nI b) (ha : a < 18) (hb : b < 18) (hp : post (if decide (so a = so b ∧ nu a = nu b) then 1 else 0)) : wpX_sameValue post (xE, xS, xC, xN, xO, xU, xH, xI, xR, kd, px, py, wt, ks, ki, al, op, fx, fy, fz, cO, cA, cB, cC, cK, wn, wr, wp, wq, oe, ol, oq, so, nu, ln, lm, sv, ka, es, en, ec) x y := by
  subst hx hy
  unfold wpX_sameValue
  dsimp only
  rw [nI_clamp (show b < 2 ^ 31 by omega), nI_clamp (show a < 2 ^ 31 by omega)]
  refine ⟨pk_in a 18 ha, pk_in b 18 hb, ?_⟩
  by_cases e1 : so a = so b
  · refine br_t e1 ⟨pk_in a 18 ha, pk_in b 18 hb, ?_⟩
    by_cases e2 : nu a = nu b
    · rw [decide_eq_true (And.intro e1 e2)] at hp
      exact br_t e2 hp
    · rw [decide_eq_false (fun z => e2 z.2)] at hp
      exact br_f e2 hp
  · rw [decide_eq_false (fun z => e1 z.1)] at hp
    exact br_f e1 hp
theorem tm_nb01 {x : Int32} (h : x = 0 ∨ x = 1) : narrow .boolean (.int x) = .int x := by
  rcases h with h | h <;> subst h <;> rfl
theorem tm_calc_w {post : Int32 → St1 → Prop} {x y : Int32} (o pc a b c : Nat) (hx : x = nI o) (hy : y = nI pc) (ho : o ≤ 10) (hpc : pc < 350) (hA : cA pc = nI a) (hB : cB pc = nI b) (hC : cC pc = nI c) (ha : a < 18) (hb' : b < 18) (hc : c < 18) (hb : tm_tb es en ec) (hg : tm_rg so nu)
    (hf : tm_cv o so nu ka es en b c (cK pc) = none → post 0 (xE, xS, xC, xN, xO, xU, xH, xI, xR, kd, px, py, wt, ks, ki, al, op, fx, fy, fz, cO, cA, cB, cC, cK, wn, wr, wp, wq, oe, ol, oq, so, nu, ln, lm, sv, ka, es, en, ec)) (hs : ∀ s n, tm_cv o so nu ka es en b c (cK pc) = some (s, n) → post 1 (xE, xS, xC, xN, xO, xU, xH, xI, xR, kd, px, py, wt, ks, ki, al, op, fx, fy, fz, cO, cA, cB, cC, cK, wn, wr, wp, wq, oe, ol, oq, upd so a s, upd nu a n, ln, lm, sv, ka, es, en, ec)) : wpX_calculate post (xE, xS, xC, xN, xO, xU, xH, xI, xR, kd, px, py, wt, ks, ki, al, op, fx, fy, fz, cO, cA, cB, cC, cK, wn, wr, wp, wq, oe, ol, oq, so, nu, ln, lm, sv, ka, es, en, ec) x y := by
  subst hx hy
  unfold wpX_calculate
  dsimp only
  rw [nI_clamp (show pc < 2 ^ 31 by omega)]
  have hpi : vp_in (nI pc) 350 := pk_in pc 350 hpc
  refine ⟨hpi, nm_r hA ⟨hpi, nm_r hB ⟨hpi, nm_r hC ?_⟩⟩⟩
  rw [nI_clamp (show b < 2 ^ 31 by omega), nI_clamp (show c < 2 ^ 31 by omega)]
  have hbi : vp_in (nI b) 18 := pk_in b 18 hb'
  have hci : vp_in (nI c) 18 := pk_in c 18 hc
  unfold tm_cv at hf hs
  refine pk_eq o 0 (fun e => ?_) (fun e => ?_)
  · rw [if_pos e] at hs
    exact ⟨hpi, tm_setReg a rfl ha (hs _ _ rfl)⟩
  rw [if_neg e] at hf hs
  refine pk_eq o 7 (fun e => ?_) (fun e => ?_)
  · rw [if_pos e] at hs
    exact tm_clReg a rfl ha (hs _ _ rfl)
  rw [if_neg e] at hf hs
  refine pk_eq o 1 (fun e => ?_) (fun e => ?_)
  · rw [if_pos e] at hs
    refine ⟨hbi, hbi, tm_setReg a rfl ha ?_⟩
    rw [tm_so8 (hg b hb').1]
    exact hs _ _ rfl
  rw [if_neg e] at hf hs
  refine pk_eq o 6 (fun e => ?_) (fun e => ?_)
  · rw [if_pos e] at hs
    unfold wpX_setSame
    dsimp only
    refine tm_same_w b c rfl rfl hb' hc (tm_truth_w (decide (so b = so c ∧ nu b = nu c)) a rfl ha (hs _ _ rfl) rfl)
  rw [if_neg e] at hf hs
  refine pk_eq o 9 (fun e => ?_) (fun e => ?_)
  · rw [if_pos e] at hs
    refine ⟨hbi, br_c (fun e0 => ?_) (fun e0 => ?_)⟩
    · unfold wX_calculate_124
      rw [decide_eq_true e0] at hs
      exact tm_truth_w true a rfl ha (hs _ _ rfl) rfl
    · unfold wX_calculate_124
      rw [decide_eq_false e0] at hs
      exact tm_truth_w false a rfl ha (hs _ _ rfl) rfl
  rw [if_neg e] at hf hs
  refine pk_eq o 10 (fun e => ?_) (fun e => ?_)
  · rw [if_pos e] at hs hf
    exact tm_take_w a b c rfl rfl rfl ha hb' hc hb hg (fun z => ⟨tm_nb01 (Or.inl rfl), hf z⟩) (fun s n z => ⟨tm_nb01 (Or.inr rfl), hs s n z⟩)
  rw [if_neg e] at hf hs
  refine ⟨hbi, ?_⟩
  by_cases e1 : so b = 1
  · refine br_t e1 ⟨hci, ?_⟩
    by_cases e2 : so c = 1
    · rw [if_pos ⟨e1, e2⟩] at hs
      refine br_t e2 ⟨hbi, nm_e ⟨hci, nm_e ?_⟩⟩
      refine pk_eq o 5 (fun e => ?_) (fun e => ?_)
      · rw [if_pos e] at hs
        refine br_c (fun e0 => ?_) (fun e0 => ?_)
        · unfold wX_calculate_207
          rw [decide_eq_false (fun z => z e0)] at hs
          exact tm_truth_w false a rfl ha (hs _ _ rfl) rfl
        · unfold wX_calculate_207
          rw [decide_eq_true e0] at hs
          exact tm_truth_w true a rfl ha (hs _ _ rfl) rfl
      · rw [if_neg e] at hs
        unfold wpX_setInt
        dsimp only
        unfold wpX_arithmetic
        dsimp only
        refine pk_eq o 2 (fun e => ?_) (fun e => ?_)
        · rw [if_pos e] at hs
          exact tm_setReg a rfl ha (hs _ _ rfl)
        · rw [if_neg e] at hs
          refine pk_eq o 3 (fun e => ?_) (fun e => ?_)
          · rw [if_pos e] at hs
            exact tm_setReg a rfl ha (hs _ _ rfl)
          · rw [if_neg e] at hs
            exact tm_setReg a rfl ha (hs _ _ rfl)
    · exact br_f e2 (hf (if_neg (fun z => e2 z.2)))
  · exact br_f e1 (hf (if_neg (fun z => e1 z.1)))
theorem tm_store_w {post : Int32 → St1 → Prop} {x y z : Int32} (a b c : Nat) (hx : x = nI a) (hy : y = nI b) (hz : z = nI c) (ha : a < 18) (hb' : b < 18) (hc : c < 18) (hb : tm_tb es en ec) (hg : tm_rg so nu)
    (hf : tm_sto so nu ka es en ec a b c = none → post 0 (xE, xS, xC, xN, xO, xU, xH, xI, xR, kd, px, py, wt, ks, ki, al, op, fx, fy, fz, cO, cA, cB, cC, cK, wn, wr, wp, wq, oe, ol, oq, so, nu, ln, lm, sv, ka, es, en, ec)) (hs : ∀ ka' es' en' ec', tm_sto so nu ka es en ec a b c = some (ka', es', en', ec') → post 1 (xE, xS, xC, xN, xO, xU, xH, xI, xR, kd, px, py, wt, ks, ki, al, op, fx, fy, fz, cO, cA, cB, cC, cK, wn, wr, wp, wq, oe, ol, oq, so, nu, ln, lm, sv, ka', es', en', ec')) : wpX_storeEntry post (xE, xS, xC, xN, xO, xU, xH, xI, xR, kd, px, py, wt, ks, ki, al, op, fx, fy, fz, cO, cA, cB, cC, cK, wn, wr, wp, wq, oe, ol, oq, so, nu, ln, lm, sv, ka, es, en, ec) x y z := by
  subst hx hy hz
  unfold wpX_storeEntry
  dsimp only
  rw [nI_clamp (show a < 2 ^ 31 by omega), nI_clamp (show b < 2 ^ 31 by omega)]
  have hai : vp_in (nI a) 18 := pk_in a 18 ha
  have hbi : vp_in (nI b) 18 := pk_in b 18 hb'
  have hci : vp_in (nI c) 18 := pk_in c 18 hc
  refine ⟨hai, ?_⟩
  unfold tm_sto at hf hs
  by_cases e1 : so a = 2
  · refine br_t e1 ⟨hbi, ?_⟩
    by_cases e2 : so b = 1
    · rw [if_pos ⟨e1, e2⟩] at hs hf
      refine br_t e2 ⟨hai, nm_e ⟨hbi, nm_e ?_⟩⟩
      obtain ⟨t, ht, et⟩ := (hg a ha).2 e1
      rw [et, nI_clamp (show t < 2 ^ 31 by omega)] at hs hf
      rw [et]
      obtain ⟨q, hq, eq⟩ := tm_place_in ka es t (nu b)
      refine tm_place_w t rfl ht (hb.2.2 t ht).2 ?_
      rw [eq] at hs hf ⊢
      have hpi : vp_in (nI (8 * t + q)) 256 := pk_in (8 * t + q) 256 (by omega)
      have hti : vp_in (nI t) 32 := pk_in t 32 ht
      have F1 : ∀ z0 : Int32, (z0 = 0 ↔ es (8 * t + q) = 0) → wX_storeEntry_63 post (nI c) (nI t) (nu b) (nI (8 * t + q)) z0 xE xS xC xN xO xU xH xI xR kd px py wt ks ki al op fx fy fz cO cA cB cC cK wn wr wp wq oe ol oq so nu ln lm sv ka es en ec := by
        intro z0 hz
        unfold wX_storeEntry_63
        rw [nI_clamp (show c < 2 ^ 31 by omega), nI_clamp (show t < 2 ^ 31 by omega)]
        refine ⟨hci, ?_⟩
        have F2 : ¬ so c = 0 → ¬ (es (8 * t + q) = 0 ∧ ec t = 6) → wX_storeEntry_108 post (nI c) (nI t) (nu b) (nI (8 * t + q)) z0 xE xS xC xN xO xU xH xI xR kd px py wt ks ki al op fx fy fz cO cA cB cC cK wn wr wp wq oe ol oq so nu ln lm sv ka es en ec := by
          intro e3 e4
          rw [if_neg e3, if_neg e4] at hs
          have h := hs _ _ _ _ rfl
          have F3 : ∀ ec', post 1 (xE, xS, xC, xN, xO, xU, xH, xI, xR, kd, px, py, wt, ks, ki, al, op, fx, fy, fz, cO, cA, cB, cC, cK, wn, wr, wp, wq, oe, ol, oq, so, nu, ln, lm, sv, upd ka (8 * t + q) (nu b), upd es (8 * t + q) (so c), upd en (8 * t + q) (nu c), ec') → wX_storeEntry_125 post (nI c) (nu b) (nI (8 * t + q)) xE xS xC xN xO xU xH xI xR kd px py wt ks ki al op fx fy fz cO cA cB cC cK wn wr wp wq oe ol oq so nu ln lm sv ka es en ec' := by
            intro ec' h
            unfold wX_storeEntry_125
            rw [nI_clamp (show c < 2 ^ 31 by omega), nI_clamp (show 8 * t + q < 2 ^ 31 by omega)]
            exact ⟨hpi, nm_e ⟨hci, hpi, nm_r (by rw [tm_so8' (hg c hc).1]) ⟨hci, hpi, nm_e h⟩⟩⟩
          unfold wX_storeEntry_108
          rw [nI_clamp (show t < 2 ^ 31 by omega)]
          refine br_c (fun w => ⟨hti, hti, nm_e ?_⟩) (fun w => ?_)
          · rw [if_pos (hz.mp w)] at h
            exact F3 _ h
          · rw [if_neg (fun g => w (hz.mpr g))] at h
            exact F3 _ h
        by_cases e3 : so c = 0
        · refine br_t e3 ?_
          rw [if_pos e3] at hs
          refine br_c (fun w => ?_) (fun w => ?_)
          · rw [if_pos (hz.mp w)] at hs
            exact hs _ _ _ _ rfl
          · rw [if_neg (fun g => w (hz.mpr g))] at hs
            have h := hs _ _ _ _ rfl
            rw [show 8 * t + q - 8 * t = q by omega] at h
            exact tm_remove_w t q rfl rfl ht hq hb.1 h
        · refine br_f e3 (br_c (fun w => ⟨hti, br_c (fun w6 => ?_) (fun w6 => F2 e3 (fun g => w6 g.2))⟩) (fun w => F2 e3 (fun g => w (hz.mpr g.1))))
          rw [if_neg e3, if_pos ⟨hz.mp w, w6⟩] at hf
          exact hf rfl
      refine ⟨hpi, ?_⟩
      rw [nI_clamp (show 8 * t + q < 2 ^ 31 by omega)]
      exact br_c (fun w => F1 0 ⟨fun _ => w, fun _ => rfl⟩) (fun w => F1 1 ⟨fun g => absurd g (by decide), fun g => absurd g w⟩)
    · exact br_f e2 (hf (if_neg (fun z => e2 z.2)))
  · exact br_f e1 (hf (if_neg (fun z => e1 z.1)))
end
section
/-! the pure relation between a canonical machine and a real one -/
/-- a value that points into X, if it is a table -/
def tm_vo (X : Nat → Bool) (s n : Int32) : Prop := tm_so s ∧ (s = 2 → ∃ j, j < 32 ∧ n = nI j ∧ X j = true)
theorem tm_vo_rg {X : Nat → Bool} {so nu : Nat → Int32} (hg : tm_rg so nu) (hr : tm_cr X 18 so nu) {b : Nat} (hb : b < 18) : tm_vo X (so b) (nu b) := by
  refine ⟨(hg b hb).1, fun h => ?_⟩
  obtain ⟨j, hj, e⟩ := (hg b hb).2 h
  exact ⟨j, hj, e, hr b hb h j hj e⟩
theorem tm_vo_tr (X : Nat → Bool) (v : Bool) : tm_vo X (tm_tr v).1 (tm_tr v).2 := by
  cases v
  · exact ⟨Or.inl rfl, fun z => absurd z (by decide)⟩
  · exact ⟨Or.inr (Or.inl rfl), fun z => absurd z (by decide)⟩
theorem tm_vo_1 (X : Nat → Bool) (n : Int32) : tm_vo X 1 n := ⟨Or.inr (Or.inl rfl), fun z => absurd z (by decide)⟩
theorem tm_vo_0 (X : Nat → Bool) (n : Int32) : tm_vo X 0 n := ⟨Or.inl rfl, fun z => absurd z (by decide)⟩
theorem tm_tk_ok {X : Nat → Bool} {so nu ka es en ec : Nat → Int32} (hb : tm_tb es en ec) (hg : tm_rg so nu) (hr : tm_cr X 18 so nu) (hl : tm_cl X es en) {b c : Nat} (hb' : b < 18) {s n : Int32} (h : tm_tk so nu ka es en b c = some (s, n)) : tm_vo X s n := by
  unfold tm_tk at h
  by_cases e : so b = 2 ∧ so c = 1
  · rw [if_pos e] at h
    obtain ⟨t, ht, et⟩ := (hg b hb').2 e.1
    have hX := hr b hb' e.1 t ht et
    rw [et, nI_clamp (show t < 2 ^ 31 by omega)] at h
    obtain ⟨q, hq, eq⟩ := tm_place_in ka es t (nu c)
    rw [eq] at h
    have h := Option.some.inj h
    have h1 : es (8 * t + q) = s := congrArg Prod.fst h
    have h2 : en (8 * t + q) = n := congrArg Prod.snd h
    subst h1
    subst h2
    refine ⟨hb.1 _ (by omega), fun z => ?_⟩
    obtain ⟨j, hj, ej⟩ := hb.2.1 _ (by omega) z
    exact ⟨j, hj, ej, hl t ht hX q hq z j hj ej⟩
  · rw [if_neg e] at h
    exact absurd h (by simp)
theorem tm_cv_ok {X : Nat → Bool} {so nu ka es en ec : Nat → Int32} (hb : tm_tb es en ec) (hg : tm_rg so nu) (hr : tm_cr X 18 so nu) (hl : tm_cl X es en) {o b c : Nat} {K : Int32} (hb' : b < 18) {s n : Int32} (h : tm_cv o so nu ka es en b c K = some (s, n)) : tm_vo X s n := by
  have inj : ∀ {x y : Int32}, some (x, y) = some (s, n) → x = s ∧ y = n := fun e => ⟨congrArg Prod.fst (Option.some.inj e), congrArg Prod.snd (Option.some.inj e)⟩
  have injt : ∀ {v : Bool}, some (tm_tr v) = some (s, n) → tm_vo X s n := fun {v} e => by
    have h := Option.some.inj e
    have h1 : (tm_tr v).1 = s := congrArg Prod.fst h
    have h2 : (tm_tr v).2 = n := congrArg Prod.snd h
    rw [← h1, ← h2]
    exact tm_vo_tr X v
  unfold tm_cv at h
  split at h
  · obtain ⟨e1, e2⟩ := inj h; subst e1 e2; exact tm_vo_1 X _
  split at h
  · obtain ⟨e1, e2⟩ := inj h; subst e1 e2; exact tm_vo_0 X _
  split at h
  · obtain ⟨e1, e2⟩ := inj h; subst e1 e2; exact tm_vo_rg hg hr hb'
  split at h
  · exact injt h
  split at h
  · exact injt h
  split at h
  · exact tm_tk_ok hb hg hr hl hb' h
  split at h
  · split at h
    · exact injt h
    · obtain ⟨e1, e2⟩ := inj h; subst e1; exact tm_vo_1 X _
  · exact absurd h (by simp)
/-- the core of the relation -/
def tm_rl (xI : Int32) (so nu ka es en ec so' nu' ka' es' en' ec' : Nat → Int32) : Prop := (∀ r, r < 18 → so' r = so r ∧ nu' r = nu r) ∧ tm_rt xI ka es en ec ka' es' en' ec' ∧ tm_tb es' en' ec'
/-- the canonical machine's own -/
def tm_iv (xI : Int32) (so nu es en ec : Nat → Int32) : Prop := tm_tb es en ec ∧ tm_rg so nu ∧ tm_cr (bt xI) 18 so nu ∧ tm_cl (bt xI) es en
theorem tm_rl_rg {xI : Int32} {so nu ka es en ec so' nu' ka' es' en' ec' : Nat → Int32} (hr : tm_rl xI so nu ka es en ec so' nu' ka' es' en' ec') (hg : tm_rg so nu) : tm_rg so' nu' := by
  intro r h
  obtain ⟨e1, e2⟩ := hr.1 r h
  rw [e1, e2]
  exact hg r h
theorem tm_tk_eq {xI : Int32} {so nu ka es en ec so' nu' ka' es' en' ec' : Nat → Int32} (hi : tm_iv xI so nu es en ec) (hr : tm_rl xI so nu ka es en ec so' nu' ka' es' en' ec') {b c : Nat} (hb : b < 18) (hc : c < 18) : tm_tk so' nu' ka' es' en' b c = tm_tk so nu ka es en b c := by
  obtain ⟨i1, i2, i3, i4⟩ := hi
  obtain ⟨r1, r2, r3⟩ := hr
  unfold tm_tk
  rw [(r1 b hb).1, (r1 b hb).2, (r1 c hc).1, (r1 c hc).2]
  by_cases e : so b = 2 ∧ so c = 1
  · rw [if_pos e, if_pos e]
    obtain ⟨t, ht, et⟩ := (i2 b hb).2 e.1
    have hX := i3 b hb e.1 t ht et
    have q1 := (r2 t ht hX).2
    rw [et, nI_clamp (show t < 2 ^ 31 by omega), ← tm_place_eq q1 (nu c)]
    obtain ⟨q, hq, eq⟩ := tm_place_in ka es t (nu c)
    rw [eq, (q1 q hq).1, (q1 q hq).2.1]
  · rw [if_neg e, if_neg e]
theorem tm_cv_eq {xI : Int32} {so nu ka es en ec so' nu' ka' es' en' ec' : Nat → Int32} (hi : tm_iv xI so nu es en ec) (hr : tm_rl xI so nu ka es en ec so' nu' ka' es' en' ec') {o b c : Nat} {K : Int32} (hb : b < 18) (hc : c < 18) : tm_cv o so' nu' ka' es' en' b c K = tm_cv o so nu ka es en b c K := by
  unfold tm_cv
  rw [tm_tk_eq hi hr hb hc, (hr.1 b hb).1, (hr.1 b hb).2, (hr.1 c hc).1, (hr.1 c hc).2]
/-! a register is set -/
theorem tm_cr_set {X : Nat → Bool} {so nu : Nat → Int32} (hr : tm_cr X 18 so nu) {a : Nat} {s n : Int32} (hv : tm_vo X s n) : tm_cr X 18 (upd so a s) (upd nu a n) := by
  intro r hr1 h2 j hj e
  by_cases z : r = a
  · subst z
    rw [pk_us] at h2 e
    obtain ⟨j', hj', e', hX⟩ := hv.2 h2
    have : j = j' := tm_nIinj (by omega) (by omega) (by rw [← e, ← e'])
    rw [this]
    exact hX
  · rw [pk_un z] at h2 e
    exact hr r hr1 h2 j hj e
theorem tm_rg_set {X : Nat → Bool} {so nu : Nat → Int32} (hg : tm_rg so nu) {a : Nat} {s n : Int32} (hv : tm_vo X s n) : tm_rg (upd so a s) (upd nu a n) := by
  intro r hr1
  by_cases z : r = a
  · subst z
    rw [pk_us, pk_us]
    exact ⟨hv.1, fun h2 => (hv.2 h2).elim (fun j h => ⟨j, h.1, h.2.1⟩)⟩
  · rw [pk_un z, pk_un z]
    exact hg r hr1
theorem tm_iv_set {xI : Int32} {so nu es en ec : Nat → Int32} (hi : tm_iv xI so nu es en ec) {a : Nat} {s n : Int32} (hv : tm_vo (bt xI) s n) : tm_iv xI (upd so a s) (upd nu a n) es en ec :=
  ⟨hi.1, tm_rg_set hi.2.1 hv, tm_cr_set hi.2.2.1 hv, hi.2.2.2⟩
theorem tm_rl_set {xI : Int32} {so nu ka es en ec so' nu' ka' es' en' ec' : Nat → Int32} (hr : tm_rl xI so nu ka es en ec so' nu' ka' es' en' ec') (a : Nat) (s n : Int32) : tm_rl xI (upd so a s) (upd nu a n) ka es en ec (upd so' a s) (upd nu' a n) ka' es' en' ec' := by
  refine ⟨fun r h => ?_, hr.2⟩
  by_cases z : r = a
  · subst z; rw [pk_us, pk_us, pk_us, pk_us]; exact ⟨rfl, rfl⟩
  · rw [pk_un z, pk_un z, pk_un z, pk_un z]; exact hr.1 r h
/-! registers 6 to 17 are cleared -/
theorem tm_zr_rg {so nu : Nat → Int32} (hg : tm_rg so nu) : tm_rg (tm_zr so 6 18) (tm_zr nu 6 18) := by
  intro r hr
  by_cases e : 6 ≤ r ∧ r < 18
  · rw [tm_zr_in so e.1 e.2]
    exact ⟨Or.inl rfl, fun z => absurd z (by decide)⟩
  · rw [tm_zr_out so (by omega), tm_zr_out nu (by omega)]
    exact hg r hr
theorem tm_zr_cr {X : Nat → Bool} {so nu : Nat → Int32} (hr : tm_cr X 6 (tm_zr so 6 18) (tm_zr nu 6 18)) : tm_cr X 18 (tm_zr so 6 18) (tm_zr nu 6 18) := by
  intro r h1 h2 j hj e
  by_cases z : r < 6
  · exact hr r z h2 j hj e
  · rw [tm_zr_in so (by omega) h1] at h2
    exact absurd h2 (by decide)
theorem tm_zr_cr' {X : Nat → Bool} {so nu : Nat → Int32} (hr : tm_cr X 18 so nu) : tm_cr X 18 (tm_zr so 6 18) (tm_zr nu 6 18) := by
  refine tm_zr_cr (fun r h1 h2 j hj e => ?_)
  rw [tm_zr_out so (by omega)] at h2
  rw [tm_zr_out nu (by omega)] at e
  exact hr r (by omega) h2 j hj e
theorem tm_zr_rl {xI : Int32} {so nu ka es en ec so' nu' ka' es' en' ec' : Nat → Int32} (hr : tm_rl xI so nu ka es en ec so' nu' ka' es' en' ec') : tm_rl xI (tm_zr so 6 18) (tm_zr nu 6 18) ka es en ec (tm_zr so' 6 18) (tm_zr nu' 6 18) ka' es' en' ec' := by
  refine ⟨fun r h => ?_, hr.2⟩
  by_cases e : 6 ≤ r ∧ r < 18
  · rw [tm_zr_in so e.1 e.2, tm_zr_in nu e.1 e.2, tm_zr_in so' e.1 e.2, tm_zr_in nu' e.1 e.2]
    exact ⟨rfl, rfl⟩
  · rw [tm_zr_out so (by omega), tm_zr_out nu (by omega), tm_zr_out so' (by omega), tm_zr_out nu' (by omega)]
    exact hr.1 r h
/-! the least closed set: there is one, and the two machines have the same -/
theorem tm_ls_ex (n : Nat) (so nu es en : Nat → Int32) : ∃ r, tm_ls n so nu es en r := by
  obtain ⟨r, hr⟩ := tm_mk (fun i => ∀ X : Nat → Bool, tm_cr X n so nu → tm_cl X es en → X i = true)
  refine ⟨r, ?_, ?_, ?_⟩
  · intro a ha h2 j hj e
    exact (hr j hj).mpr (fun X h1 _ => h1 a ha h2 j hj e)
  · intro t ht hX s hs h2 j hj e
    exact (hr j hj).mpr (fun X h1 h2' => h2' t ht ((hr t ht).mp hX X h1 h2') s hs h2 j hj e)
  · intro X h1 h2 i hi h
    exact (hr i hi).mp h X h1 h2
theorem tm_ls_eq {n : Nat} {xI : Int32} {so nu ka es en ec so' nu' ka' es' en' ec' : Nat → Int32} (hn : n ≤ 18) (hi : tm_iv xI so nu es en ec) (hr : tm_rl xI so nu ka es en ec so' nu' ka' es' en' ec') {r r' : Int32} (h : tm_ls n so nu es en r) (h' : tm_ls n so' nu' es' en' r') : r' = r := by
  obtain ⟨i1, i2, i3, i4⟩ := hi
  obtain ⟨r1, r2, r3⟩ := hr
  have s1 : ∀ i, i < 32 → bt r i = true → bt xI i = true := h.2.2 (bt xI) (fun a ha => i3 a (by omega)) i4
  have s2 : ∀ i, i < 32 → bt r' i = true → bt xI i = true := by
    refine h'.2.2 (bt xI) (fun a ha h2 j hj e => ?_) (fun t ht hX s hs h2 j hj e => ?_)
    · rw [(r1 a (by omega)).1] at h2
      rw [(r1 a (by omega)).2] at e
      exact i3 a (by omega) h2 j hj e
    · obtain ⟨e1, e2, _⟩ := (r2 t ht hX).2 s hs
      rw [← e1] at h2
      rw [← e2] at e
      exact i4 t ht hX s hs h2 j hj e
  have c1 : ∀ i, i < 32 → bt r' i = true → bt r i = true := by
    refine h'.2.2 (bt r) (fun a ha h2 j hj e => ?_) (fun t ht hX s hs h2 j hj e => ?_)
    · rw [(r1 a (by omega)).1] at h2
      rw [(r1 a (by omega)).2] at e
      exact h.1 a ha h2 j hj e
    · obtain ⟨e1, e2, _⟩ := (r2 t ht (s1 t ht hX)).2 s hs
      rw [← e1] at h2
      rw [← e2] at e
      exact h.2.1 t ht hX s hs h2 j hj e
  have c2 : ∀ i, i < 32 → bt r i = true → bt r' i = true := by
    refine h.2.2 (bt r') (fun a ha h2 j hj e => ?_) (fun t ht hX s hs h2 j hj e => ?_)
    · rw [← (r1 a (by omega)).1] at h2
      rw [← (r1 a (by omega)).2] at e
      exact h'.1 a ha h2 j hj e
    · obtain ⟨e1, e2, _⟩ := (r2 t ht (s2 t ht hX)).2 s hs
      rw [e1] at h2
      rw [e2] at e
      exact h'.2.1 t ht hX s hs h2 j hj e
  apply b_ext
  intro i hi
  cases e1 : bt r i
  · cases e2 : bt r' i
    · rfl
    · rw [c1 i hi e2] at e1
      exact absurd e1 (by decide)
  · exact c2 i hi e1
/-! a table is made -/
theorem tm_fr_tb {es en ec : Nat → Int32} (hb : tm_tb es en ec) {t : Nat} (ht : t < 32) : tm_tb (tm_zr es (8 * t) (8 * t + 8)) (tm_zr en (8 * t) (8 * t + 8)) (upd ec t 0) := by
  obtain ⟨b1, b2, b3⟩ := hb
  refine ⟨?_, ?_, ?_⟩
  · intro p hp
    by_cases e : 8 * t ≤ p ∧ p < 8 * t + 8
    · rw [tm_zr_in es e.1 e.2]; exact Or.inl rfl
    · rw [tm_zr_out es (by omega)]; exact b1 p hp
  · intro p hp h2
    by_cases e : 8 * t ≤ p ∧ p < 8 * t + 8
    · rw [tm_zr_in es e.1 e.2] at h2; exact absurd h2 (by decide)
    · rw [tm_zr_out es (by omega)] at h2
      rw [tm_zr_out en (by omega)]
      exact b2 p hp h2
  · intro t' ht'
    by_cases e : t' = t
    · subst e
      have : tm_tc (tm_zr es (8 * t') (8 * t' + 8)) t' = 0 := by
        unfold tm_tc
        have h : tm_ct (fun s => decide (¬ tm_zr es (8 * t') (8 * t' + 8) (8 * t' + s) = 0)) 8 = tm_ct (fun _ => false) 8 := tm_ct_congr (fun s hs => by rw [tm_zr_in es (by omega) (by omega)]; simp)
        rw [h]
        rfl
      rw [this, pk_us]
      exact ⟨rfl, by omega⟩
    · rw [pk_un e, tm_tc_other (fun s hs => tm_zr_out es (by omega))]
      exact b3 t' ht'
theorem tm_fr_cl {X Y : Nat → Bool} {es en : Nat → Int32} {t : Nat} (hl : tm_cl X es en) (h1 : ∀ i, i < 32 → X i = true → Y i = true) (h2 : ∀ i, i < 32 → Y i = true → X i = true ∨ i = t) : tm_cl Y (tm_zr es (8 * t) (8 * t + 8)) (tm_zr en (8 * t) (8 * t + 8)) := by
  intro t' ht' hY s hs h j hj e
  by_cases z : t' = t
  · subst z
    rw [tm_zr_in es (by omega) (by omega)] at h
    exact absurd h (by decide)
  · rw [tm_zr_out es (by omega)] at h
    rw [tm_zr_out en (by omega)] at e
    rcases h2 t' ht' hY with w | w
    · exact h1 j hj (hl t' ht' w s hs h j hj e)
    · exact absurd w z
theorem tm_fr_rt {i xI : Int32} {t : Nat} {ka es en ec ka' es' en' ec' : Nat → Int32} (hr : tm_rt xI ka es en ec ka' es' en' ec') (ht : t < 32) (hs : ∀ k, k < 32 → bt i k = true → bt xI k = true) :
    tm_rt (i ||| ((1 : Int32) <<< (nI t &&& 31))) ka (tm_zr es (8 * t) (8 * t + 8)) (tm_zr en (8 * t) (8 * t + 8)) (upd ec t 0) ka' (tm_zr es' (8 * t) (8 * t + 8)) (tm_zr en' (8 * t) (8 * t + 8)) (upd ec' t 0) := by
  intro t' ht' hb
  by_cases z : t' = t
  · subst z
    rw [pk_us, pk_us]
    refine ⟨rfl, fun s hs => ?_⟩
    rw [tm_zr_in es (by omega) (by omega), tm_zr_in es' (by omega) (by omega), tm_zr_in en (by omega) (by omega), tm_zr_in en' (by omega) (by omega)]
    exact ⟨rfl, rfl, fun z => absurd rfl z⟩
  · rw [tm_bset i ht ht'] at hb
    have hb' : bt i t' = true := by
      rcases Bool.or_eq_true _ _ ▸ hb with w | w
      · exact w
      · exact absurd (of_decide_eq_true w) z
    obtain ⟨e1, e2⟩ := hr t' ht' (hs t' ht' hb')
    rw [pk_un z, pk_un z]
    refine ⟨e1, fun s hs => ?_⟩
    rw [tm_zr_out es (by omega), tm_zr_out es' (by omega), tm_zr_out en (by omega), tm_zr_out en' (by omega)]
    exact e2 s hs
/-! an entry is stored or taken out -/
theorem tm_sto_ok {so nu ka es en ec ka1 es1 en1 ec1 : Nat → Int32} (hb : tm_tb es en ec) (hg : tm_rg so nu) {a b c : Nat} (ha : a < 18) (hc : c < 18) (h : tm_sto so nu ka es en ec a b c = some (ka1, es1, en1, ec1)) :
    tm_tb es1 en1 ec1 ∧ ∀ X, tm_cr X 18 so nu → tm_cl X es en → tm_cl X es1 en1 := by
  unfold tm_sto at h
  by_cases e : so a = 2 ∧ so b = 1
  · rw [if_pos e] at h
    obtain ⟨t, ht, et⟩ := (hg a ha).2 e.1
    rw [et, nI_clamp (show t < 2 ^ 31 by omega)] at h
    obtain ⟨q, hq, eq⟩ := tm_place_in ka es t (nu b)
    rw [eq, show 8 * t + q - 8 * t = q by omega] at h
    by_cases e3 : so c = 0
    · rw [if_pos e3] at h
      by_cases e4 : es (8 * t + q) = 0
      · rw [if_pos e4] at h
        have h := Option.some.inj h
        have h2 : es = es1 := congrArg (fun z => z.2.1) h
        have h3 : en = en1 := congrArg (fun z => z.2.2.1) h
        have h4 : ec = ec1 := congrArg (fun z => z.2.2.2) h
        subst h2 h3 h4
        exact ⟨hb, fun X _ hl => hl⟩
      · rw [if_neg e4] at h
        have h := Option.some.inj h
        have h2 : (tm_rm t 8 q q ka es en).2.1 = es1 := congrArg (fun z => z.2.1) h
        have h3 : (tm_rm t 8 q q ka es en).2.2 = en1 := congrArg (fun z => z.2.2.1) h
        have h4 : upd ec t (ec t - 1).toInt8.toInt32 = ec1 := congrArg (fun z => z.2.2.2) h
        subst h2 h3 h4
        obtain ⟨k1, k2, k3⟩ := tm_rm_ok (ka := ka) ht hq hb e4
        refine ⟨k3, fun X _ hl t' ht' hX s hs h2 j hj ej => ?_⟩
        by_cases z : t' = t
        · subst z
          obtain ⟨s', hs', h2', en'⟩ := k2 s hs h2
          rw [en'] at ej
          exact hl t' ht' hX s' hs' h2' j hj ej
        · obtain ⟨_, i2, i3⟩ := k1 (8 * t' + s) (by omega)
          rw [i2] at h2
          rw [i3] at ej
          exact hl t' ht' hX s hs h2 j hj ej
    · rw [if_neg e3] at h
      by_cases e4 : es (8 * t + q) = 0 ∧ ec t = 6
      · rw [if_pos e4] at h
        exact absurd h (by simp)
      · rw [if_neg e4] at h
        have h := Option.some.inj h
        have h2 : upd es (8 * t + q) (so c) = es1 := congrArg (fun z => z.2.1) h
        have h3 : upd en (8 * t + q) (nu c) = en1 := congrArg (fun z => z.2.2.1) h
        have h4 : (if es (8 * t + q) = 0 then upd ec t (ec t + 1).toInt8.toInt32 else ec) = ec1 := congrArg (fun z => z.2.2.2) h
        subst h2 h3 h4
        refine ⟨tm_st_ok ht hq hb (hg c hc).1 e3 (hg c hc).2 (fun z w => e4 ⟨z, w⟩), fun X hr hl t' ht' hX s hs h2 j hj ej => ?_⟩
        by_cases z : 8 * t' + s = 8 * t + q
        · rw [z, pk_us] at h2 ej
          exact hr c hc h2 j hj ej
        · rw [pk_un z] at h2 ej
          exact hl t' ht' hX s hs h2 j hj ej
  · rw [if_neg e] at h
    exact absurd h (by simp)
theorem tm_sto_eq {xI : Int32} {so nu ka es en ec so' nu' ka' es' en' ec' : Nat → Int32} (hi : tm_iv xI so nu es en ec) (hr : tm_rl xI so nu ka es en ec so' nu' ka' es' en' ec') {a b c : Nat} (ha : a < 18) (hb : b < 18) (hc : c < 18) :
    (tm_sto so nu ka es en ec a b c = none ∧ tm_sto so' nu' ka' es' en' ec' a b c = none) ∨ ∃ ka1 es1 en1 ec1 ka2 es2 en2 ec2, tm_sto so nu ka es en ec a b c = some (ka1, es1, en1, ec1) ∧ tm_sto so' nu' ka' es' en' ec' a b c = some (ka2, es2, en2, ec2) ∧ tm_rt xI ka1 es1 en1 ec1 ka2 es2 en2 ec2 := by
  obtain ⟨i1, i2, i3, i4⟩ := hi
  obtain ⟨r1, r2, r3⟩ := hr
  unfold tm_sto
  rw [(r1 a ha).1, (r1 a ha).2, (r1 b hb).1, (r1 b hb).2, (r1 c hc).1, (r1 c hc).2]
  by_cases e : so a = 2 ∧ so b = 1
  · rw [if_pos e, if_pos e]
    obtain ⟨t, ht, et⟩ := (i2 a ha).2 e.1
    have hX := i3 a ha e.1 t ht et
    obtain ⟨q0, q1⟩ := r2 t ht hX
    rw [et, nI_clamp (show t < 2 ^ 31 by omega), ← tm_place_eq q1 (nu b)]
    obtain ⟨q, hq, eq⟩ := tm_place_in ka es t (nu b)
    rw [eq, show 8 * t + q - 8 * t = q by omega, ← (q1 q hq).1, ← q0]
    by_cases e3 : so c = 0
    · rw [if_pos e3, if_pos e3]
      by_cases e4 : es (8 * t + q) = 0
      · rw [if_pos e4, if_pos e4]
        exact Or.inr ⟨_, _, _, _, _, _, _, _, rfl, rfl, r2⟩
      · rw [if_neg e4, if_neg e4]
        refine Or.inr ⟨_, _, _, _, _, _, _, _, rfl, rfl, fun t' ht' hb' => ?_⟩
        have e4' : ¬ es' (8 * t + q) = 0 := by rw [← (q1 q hq).1]; exact e4
        by_cases z : t' = t
        · subst z
          rw [pk_us, pk_us]
          exact ⟨rfl, tm_rm_eq 8 q q ka es en ka' es' en' hq hq q1⟩
        · have k1 := (tm_rm_ok (ka := ka) ht hq i1 e4).1
          have k2 := (tm_rm_ok (ka := ka') ht hq r3 e4').1
          obtain ⟨p0, p1⟩ := r2 t' ht' hb'
          rw [pk_un z, pk_un z]
          refine ⟨p0, fun s hs => ?_⟩
          obtain ⟨a1, a2, a3⟩ := k1 (8 * t' + s) (by omega)
          obtain ⟨b1, b2, b3⟩ := k2 (8 * t' + s) (by omega)
          rw [a1, a2, a3, b1, b2, b3]
          exact p1 s hs
    · rw [if_neg e3, if_neg e3]
      by_cases e4 : es (8 * t + q) = 0 ∧ ec t = 6
      · rw [if_pos e4, if_pos e4]
        exact Or.inl ⟨rfl, rfl⟩
      · rw [if_neg e4, if_neg e4]
        refine Or.inr ⟨_, _, _, _, _, _, _, _, rfl, rfl, fun t' ht' hb' => ?_⟩
        obtain ⟨p0, p1⟩ := r2 t' ht' hb'
        refine ⟨?_, fun s hs => ?_⟩
        · by_cases z : t' = t
          · subst z
            split
            · rw [pk_us, pk_us]
            · exact p0
          · split
            · rw [pk_un z, pk_un z]; exact p0
            · exact p0
        · by_cases z : 8 * t' + s = 8 * t + q
          · rw [z, pk_us, pk_us, pk_us, pk_us, pk_us, pk_us]
            exact ⟨rfl, rfl, fun _ => rfl⟩
          · rw [pk_un z, pk_un z, pk_un z, pk_un z, pk_un z, pk_un z]
            exact p1 s hs
  · rw [if_neg e, if_neg e]
    exact Or.inl ⟨rfl, rfl⟩
end
section
/-! code: what is known of each instruction (with ghosts: the header of the enclosing loop of level 0 and 1, 0 if none; an age since the statement's begin) -/
def tm_sq (h0 h1 ag : Nat → Nat) (p q : Nat) : Prop := h0 q = h0 p ∧ h1 q = h1 p ∧ ag p < ag q
def tm_oi (cO cA cB cC : Nat → Int32) (h0 h1 ag : Nat → Nat) (p : Nat) : Prop := ∃ o, o ≤ 20 ∧ cO p = nI o ∧
  (o ≠ 16 → (h0 p < p ∨ h0 p = 0) ∧ (h1 p < p ∨ h1 p = 0)) ∧
  (o ≤ 14 → (∃ a b c, a < 18 ∧ b < 18 ∧ c < 18 ∧ cA p = nI a ∧ cB p = nI b ∧ cC p = nI c) ∧ tm_sq h0 h1 ag p (p + 1) ∧ (o = 11 → ag p ≤ 22)) ∧
  (o = 15 → ∃ l b, b < 18 ∧ cA p = nI l ∧ cB p = nI b ∧ ag p ≤ ag (p + 1) ∧ ((l = 0 ∧ h0 p = 0 ∧ h1 p = 0 ∧ h0 (p + 1) = p + 1 ∧ h1 (p + 1) = 0) ∨ (l = 1 ∧ h0 p ≠ 0 ∧ h1 p = 0 ∧ h0 (p + 1) = h0 p ∧ h1 (p + 1) = p + 1))) ∧
  (o = 16 → ∃ l b, b < 18 ∧ cA p = nI l ∧ cB p = nI b ∧ ag p ≤ ag (p + 1) ∧ h0 (p + 1) = h0 p ∧ h1 (p + 1) = h1 p ∧ 0 < p ∧ ((l = 0 ∧ h0 p = p ∧ h1 p = 0) ∨ (l = 1 ∧ h0 p < p ∧ h0 p ≠ 0 ∧ h1 p = p))) ∧
  (o = 18 → h0 (p + 1) = h0 p ∧ h1 (p + 1) = h1 p) ∧
  (o = 19 ∨ o = 20 → (∃ a, a < 18 ∧ cA p = nI a) ∧ tm_sq h0 h1 ag p (p + 1))
def tm_ok (n : Nat) (cO cK : Nat → Int32) (h0 h1 ag : Nat → Nat) (p : Nat) : Prop :=
  (cO p = nI 19 ∨ cO p = nI 20 → ∃ q, cK p = nI q ∧ p < q ∧ q ≤ n ∧ tm_sq h0 h1 ag p q) ∧
  (cO p = nI 16 → ∃ e, cK p = nI e ∧ p < e ∧ e ≤ n ∧ ag p ≤ ag e ∧ h1 e = 0 ∧ ((h1 p = 0 ∧ h0 e = 0) ∨ (h1 p ≠ 0 ∧ h0 e = h0 p))) ∧
  (cO p = nI 17 → ∃ h, cK p = nI h ∧ h < p ∧ cO h = nI 16 ∧ h0 h = h0 p ∧ h1 h = h1 p ∧ ag p ≤ ag h ∧ ((h1 p = h ∧ h0 p ≠ 0 ∧ h0 p < h) ∨ (h1 p = 0 ∧ h0 p = h)))
/-- the whole code -/
def tm_cw (N : Nat) (cO cA cB cC cK : Nat → Int32) (h0 h1 ag : Nat → Nat) : Prop := N ≤ 350 ∧ h0 0 = 0 ∧ h1 0 = 0 ∧ (0 < N → cO 0 = nI 18) ∧ (∀ p, p < N → tm_oi cO cA cB cC h0 h1 ag p) ∧ (∀ p, p < N → tm_ok N cO cK h0 h1 ag p)
/-! a measure -/
def tm_rem (ln lm : Nat → Int32) (l : Nat) : Nat := min 5 ((lm l).toNatClampNeg - (ln l).toNatClampNeg)
def tm_mA (N : Nat) (h0 : Nat → Nat) (p : Nat) : Nat := N - (if h0 p = 0 then p else h0 p)
def tm_mB (h0 : Nat → Nat) (ln lm : Nat → Int32) (p : Nat) : Nat := if h0 p = 0 then 0 else tm_rem ln lm 0
def tm_mC (N : Nat) (h0 h1 : Nat → Nat) (p : Nat) : Nat := if h0 p = 0 then 0 else if p = h0 p then 0 else if h1 p = 0 then N + 1 - p else N + 1 - h1 p
def tm_mD (h1 : Nat → Nat) (ln lm : Nat → Int32) (p : Nat) : Nat := if h1 p = 0 then 0 else tm_rem ln lm 1
def tm_mE (N : Nat) (h1 : Nat → Nat) (p : Nat) : Nat := if h1 p = 0 then 0 else if p = h1 p then 0 else N + 1 - p
def tm_mu (N : Nat) (h0 h1 : Nat → Nat) (ln lm : Nat → Int32) (p : Nat) : Nat := (((tm_mA N h0 p * 6 + tm_mB h0 ln lm p) * 352 + tm_mC N h0 h1 p) * 6 + tm_mD h1 ln lm p) * 352 + tm_mE N h1 p
theorem tm_rem5 (ln lm : Nat → Int32) (l : Nat) : tm_rem ln lm l ≤ 5 := Nat.min_le_left _ _
theorem tm_mB5 (h0 : Nat → Nat) (ln lm : Nat → Int32) (p : Nat) : tm_mB h0 ln lm p ≤ 5 := by
  unfold tm_mB
  split
  · omega
  · exact tm_rem5 ln lm 0
theorem tm_mD5 (h1 : Nat → Nat) (ln lm : Nat → Int32) (p : Nat) : tm_mD h1 ln lm p ≤ 5 := by
  unfold tm_mD
  split
  · omega
  · exact tm_rem5 ln lm 1
theorem tm_mC5 {N : Nat} (hN : N ≤ 350) (h0 h1 : Nat → Nat) (p : Nat) : tm_mC N h0 h1 p ≤ 351 := by
  unfold tm_mC
  split
  · omega
  split
  · omega
  split <;> omega
theorem tm_mE5 {N : Nat} (hN : N ≤ 350) (h1 : Nat → Nat) (p : Nat) : tm_mE N h1 p ≤ 351 := by
  unfold tm_mE
  split
  · omega
  split <;> omega
theorem tm_lx {A B C D E A' B' C' D' E' : Nat} (b : B' ≤ 5) (c : C' ≤ 351) (d : D' ≤ 5) (e : E' ≤ 351)
    (h : A' < A ∨ (A' = A ∧ (B' < B ∨ (B' = B ∧ (C' < C ∨ (C' = C ∧ (D' < D ∨ (D' = D ∧ E' < E)))))))) : (((A' * 6 + B') * 352 + C') * 6 + D') * 352 + E' < (((A * 6 + B) * 352 + C) * 6 + D) * 352 + E := by omega
theorem tm_mu_lt {N : Nat} (hN : N ≤ 350) {h0 h1 : Nat → Nat} {ln lm ln' lm' : Nat → Int32} {p q : Nat}
    (h : tm_mA N h0 q < tm_mA N h0 p ∨ (tm_mA N h0 q = tm_mA N h0 p ∧ (tm_mB h0 ln' lm' q < tm_mB h0 ln lm p ∨ (tm_mB h0 ln' lm' q = tm_mB h0 ln lm p ∧ (tm_mC N h0 h1 q < tm_mC N h0 h1 p ∨ (tm_mC N h0 h1 q = tm_mC N h0 h1 p ∧ (tm_mD h1 ln' lm' q < tm_mD h1 ln lm p ∨ (tm_mD h1 ln' lm' q = tm_mD h1 ln lm p ∧ tm_mE N h1 q < tm_mE N h1 p)))))))) :
    tm_mu N h0 h1 ln' lm' q < tm_mu N h0 h1 ln lm p :=
  tm_lx (tm_mB5 h0 ln' lm' q) (tm_mC5 hN h0 h1 q) (tm_mD5 h1 ln' lm' q) (tm_mE5 hN h1 q) h
theorem tm_mu_max {N : Nat} (hN : N ≤ 350) (h0 h1 : Nat → Nat) (ln lm : Nat → Int32) (p : Nat) : tm_mu N h0 h1 ln lm p < 2000000000 := by
  have h1' := tm_mB5 h0 ln lm p
  have h2 := tm_mC5 hN h0 h1 p
  have h3 := tm_mD5 h1 ln lm p
  have h4 := tm_mE5 hN h1 p
  have h5 : tm_mA N h0 p ≤ 350 := by unfold tm_mA; omega
  unfold tm_mu
  omega
/-- forward in the same context, from a place that is no header -/
theorem tm_mu_fw {N : Nat} (hN : N ≤ 350) {h0 h1 : Nat → Nat} {ln lm : Nat → Int32} {p q : Nat} (e0 : h0 q = h0 p) (e1 : h1 q = h1 p) (hpq : p < q) (hq : q ≤ N) (g0 : h0 p < p ∨ h0 p = 0) (g1 : h1 p < p ∨ h1 p = 0) :
    tm_mu N h0 h1 ln lm q < tm_mu N h0 h1 ln lm p := by
  apply tm_mu_lt hN
  unfold tm_mA tm_mB tm_mC tm_mD tm_mE
  rw [e0, e1]
  by_cases z0 : h0 p = 0
  · simp only [if_pos z0, true_and, Nat.lt_irrefl, false_or]
    omega
  · have n1 : ¬ p = h0 p := by omega
    have n2 : ¬ q = h0 p := by omega
    by_cases z1 : h1 p = 0
    · simp only [if_neg z0, if_neg n1, if_neg n2, if_pos z1, true_and, Nat.lt_irrefl, false_or]
      omega
    · have n3 : ¬ p = h1 p := by omega
      have n4 : ¬ q = h1 p := by omega
      simp only [if_neg z0, if_neg n1, if_neg n2, if_neg z1, if_neg n3, if_neg n4, true_and, Nat.lt_irrefl, false_or]
      omega
/-- a jump back to a header -/
theorem tm_mu_bk {N : Nat} (hN : N ≤ 350) {h0 h1 : Nat → Nat} {ln lm : Nat → Int32} {p h : Nat} (e0 : h0 h = h0 p) (e1 : h1 h = h1 p) (hp : p < N) (hh : h < p) (h0p : 0 < h) (g0 : h0 p < p ∨ h0 p = 0) (g1 : h1 p < p ∨ h1 p = 0) (hc : (h1 p = h ∧ h0 p ≠ 0 ∧ h0 p < h) ∨ (h1 p = 0 ∧ h0 p = h)) :
    tm_mu N h0 h1 ln lm h < tm_mu N h0 h1 ln lm p := by
  apply tm_mu_lt hN
  unfold tm_mA tm_mB tm_mC tm_mD tm_mE
  rw [e0, e1]
  have z0 : ¬ h0 p = 0 := by omega
  have n1 : ¬ p = h0 p := by omega
  rcases hc with ⟨c1, c2, c3⟩ | ⟨c1, c2⟩
  · have z1 : ¬ h1 p = 0 := by omega
    have n3 : ¬ p = h1 p := by omega
    have n4 : h = h1 p := c1.symm
    have n5 : ¬ h = h0 p := by omega
    simp only [if_neg z0, if_neg n1, if_neg z1, if_neg n3, if_pos n4, if_neg n5, true_and, Nat.lt_irrefl, false_or]
    omega
  · have n4 : h = h0 p := c2.symm
    simp only [if_neg z0, if_neg n1, if_pos n4, if_pos c1, true_and, Nat.lt_irrefl, false_or]
    omega
/-- a loop is entered (level 0, level 1) -/
theorem tm_mu_in {N : Nat} (hN : N ≤ 350) {h0 h1 : Nat → Nat} {ln lm ln' lm' : Nat → Int32} {p : Nat} (hp : p < N) (g0 : h0 p < p ∨ h0 p = 0)
    (hc : (h0 p = 0 ∧ h1 p = 0 ∧ h0 (p + 1) = p + 1 ∧ h1 (p + 1) = 0) ∨ (h0 p ≠ 0 ∧ h1 p = 0 ∧ h0 (p + 1) = h0 p ∧ h1 (p + 1) = p + 1 ∧ tm_rem ln' lm' 0 = tm_rem ln lm 0)) :
    tm_mu N h0 h1 ln' lm' (p + 1) < tm_mu N h0 h1 ln lm p := by
  apply tm_mu_lt hN
  unfold tm_mA tm_mB tm_mC tm_mD tm_mE
  rcases hc with ⟨c1, c2, c3, c4⟩ | ⟨c1, c2, c3, c4, c5⟩
  · have z : ¬ p + 1 = 0 := by omega
    rw [c3, c4]
    simp only [if_pos c1, if_neg z, true_and, Nat.lt_irrefl, false_or]
    omega
  · rw [c3, c4, c5]
    have n1 : ¬ p = h0 p := by omega
    have n2 : ¬ p + 1 = h0 p := by omega
    have n3 : ¬ p + 1 = 0 := by omega
    simp only [if_neg c1, if_neg n1, if_neg n2, if_neg n3, if_pos c2, true_and, Nat.lt_irrefl, false_or]
    omega
/-- a loop is passed once more -/
theorem tm_mu_ps {N : Nat} (hN : N ≤ 350) {h0 h1 : Nat → Nat} {ln lm ln' lm' : Nat → Int32} {p : Nat} (hp : p < N) (e0 : h0 (p + 1) = h0 p) (e1 : h1 (p + 1) = h1 p) (hp0 : 0 < p)
    (hc : (h0 p = p ∧ h1 p = 0 ∧ tm_rem ln' lm' 0 < tm_rem ln lm 0) ∨ (h0 p < p ∧ h0 p ≠ 0 ∧ h1 p = p ∧ tm_rem ln' lm' 0 = tm_rem ln lm 0 ∧ tm_rem ln' lm' 1 < tm_rem ln lm 1)) :
    tm_mu N h0 h1 ln' lm' (p + 1) < tm_mu N h0 h1 ln lm p := by
  apply tm_mu_lt hN
  unfold tm_mA tm_mB tm_mC tm_mD tm_mE
  rw [e0, e1]
  rcases hc with ⟨c1, c2, c3⟩ | ⟨c1, c2, c3, c4, c5⟩
  · have z : ¬ h0 p = 0 := by omega
    simp only [if_neg z, true_and, Nat.lt_irrefl, false_or]
    omega
  · have n1 : ¬ p = h0 p := by omega
    have n2 : ¬ p + 1 = h0 p := by omega
    have n3 : ¬ h1 p = 0 := by omega
    simp only [if_neg c2, if_neg n1, if_neg n2, if_neg n3, true_and, Nat.lt_irrefl, false_or]
    omega
/-- a loop is left -/
theorem tm_mu_lv {N : Nat} (hN : N ≤ 350) {h0 h1 : Nat → Nat} {ln lm : Nat → Int32} {p e : Nat} (hp : p < e) (he : e ≤ N) (hp0 : 0 < p) (h1e : h1 e = 0)
    (hc : (h0 p = p ∧ h1 p = 0 ∧ h0 e = 0) ∨ (h0 p < p ∧ h0 p ≠ 0 ∧ h1 p = p ∧ h0 e = h0 p)) :
    tm_mu N h0 h1 ln lm e < tm_mu N h0 h1 ln lm p := by
  apply tm_mu_lt hN
  unfold tm_mA tm_mB tm_mC tm_mD tm_mE
  rcases hc with ⟨c1, c2, c3⟩ | ⟨c1, c2, c3, c4⟩
  · have z : ¬ h0 p = 0 := by omega
    simp only [if_neg z, if_pos c3, true_and, Nat.lt_irrefl, false_or]
    omega
  · rw [c4]
    have n1 : ¬ p = h0 p := by omega
    have n2 : ¬ e = h0 p := by omega
    have n3 : ¬ h1 p = 0 := by omega
    simp only [if_neg c2, if_neg n1, if_neg n2, if_neg n3, if_pos h1e, true_and, Nat.lt_irrefl, false_or]
    omega
end
section
variable {xE xS xC xN xO xU xH xI xR : Int32} {kd px py wt ks ki al op fx fy fz cO cA cB cC cK wn wr wp wq oe ol oq so nu ln lm ka es en ec : Nat → Int32} {sv : Nat → Int64}
/-! the machine's states bundled; the relation at a place of the code -/
abbrev tm_M : Type := Int32 × Int32 × Int32 × Int32 × (Nat → Int32) × (Nat → Int32) × (Nat → Int32) × (Nat → Int32) × (Nat → Int64) × (Nat → Int32) × (Nat → Int32) × (Nat → Int32) × (Nat → Int32)
def tm_lp (h0 h1 : Nat → Nat) (ln lm : Nat → Int32) (p : Nat) : Prop := (h0 p ≠ 0 → ∃ a b, a ≤ b ∧ b ≤ 5 ∧ ln 0 = nI a ∧ lm 0 = nI b) ∧ (h1 p ≠ 0 → ∃ a b, a ≤ b ∧ b ≤ 5 ∧ ln 1 = nI a ∧ lm 1 = nI b)
def tm_lr (h0 h1 : Nat → Nat) (p : Nat) (ln lm ln' lm' : Nat → Int32) : Prop := (h0 p ≠ 0 → ln' 0 = ln 0 ∧ lm' 0 = lm 0) ∧ (h1 p ≠ 0 → ln' 1 = ln 1 ∧ lm' 1 = lm 1)
def tm_sr (xH : Int32) (sv sv' : Nat → Int64) : Prop := ∀ k j, xH = nI k → k < 2 ^ 31 → j < k → j < 30 → sv' j = sv j
def tm_xc (ag : Nat → Nat) (p : Nat) (so nu es en : Nat → Int32) : Prop := ∃ X : Nat → Bool, tm_ct X 32 ≤ 8 + ag p ∧ tm_cr X 18 so nu ∧ tm_cl X es en
def tm_MI (N : Nat) (h0 h1 ag : Nat → Nat) (pc : Nat) (m : tm_M) : Prop := match m with
  | (xU, xH, xI, xR, so, nu, ln, lm, sv, ka, es, en, ec) => tm_iv xI so nu es en ec ∧ tm_xc ag pc so nu es en ∧ tm_lp h0 h1 ln lm pc ∧ ∃ k, xH = nI k ∧ k + tm_mu N h0 h1 ln lm pc < 2 ^ 31 - 1
def tm_MR (h0 h1 : Nat → Nat) (pc : Nat) (m u : tm_M) : Prop := match m, u with
  | (xU, xH, xI, xR, so, nu, ln, lm, sv, ka, es, en, ec), (xU', xH', xI', xR', so', nu', ln', lm', sv', ka', es', en', ec') => xI' = xI ∧ xH' = xH ∧ (pc ≠ 0 → xU' = xU) ∧ tm_rl xI so nu ka es en ec so' nu' ka' es' en' ec' ∧ tm_sr xH sv sv' ∧ tm_lr h0 h1 pc ln lm ln' lm'
def tm_ME (m u : tm_M) : Prop := match m, u with
  | (xU, xH, xI, xR, so, nu, ln, lm, sv, ka, es, en, ec), (xU', xH', xI', xR', so', nu', ln', lm', sv', ka', es', en', ec') => xI' = xI ∧ xH' = xH ∧ tm_rl xI so nu ka es en ec so' nu' ka' es' en' ec' ∧ tm_sr xH sv sv'
def tm_MO (m : tm_M) : Prop := match m with
  | (xU, xH, xI, xR, so, nu, ln, lm, sv, ka, es, en, ec) => tm_iv xI so nu es en ec ∧ ∃ k, xH = nI k ∧ k < 2 ^ 31
theorem tm_MI_mk {N : Nat} {h0 h1 ag : Nat → Nat} {pc : Nat} (a1 : tm_iv xI so nu es en ec) (a2 : tm_xc ag pc so nu es en) (a3 : tm_lp h0 h1 ln lm pc) (k : Nat) (a4 : xH = nI k) (a5 : k + tm_mu N h0 h1 ln lm pc < 2 ^ 31 - 1) : tm_MI N h0 h1 ag pc (xU, xH, xI, xR, so, nu, ln, lm, sv, ka, es, en, ec) := by
  unfold tm_MI
  dsimp only
  exact ⟨a1, a2, a3, k, a4, a5⟩
theorem tm_MR_mk {h0 h1 : Nat → Nat} {pc : Nat} {xU' xH' xI' xR' : Int32} {so' nu' ln' lm' ka' es' en' ec' : Nat → Int32} {sv' : Nat → Int64} (a1 : xI' = xI) (a2 : xH' = xH) (a3 : pc ≠ 0 → xU' = xU) (a4 : tm_rl xI so nu ka es en ec so' nu' ka' es' en' ec') (a5 : tm_sr xH sv sv') (a6 : tm_lr h0 h1 pc ln lm ln' lm') : tm_MR h0 h1 pc (xU, xH, xI, xR, so, nu, ln, lm, sv, ka, es, en, ec) (xU', xH', xI', xR', so', nu', ln', lm', sv', ka', es', en', ec') := by
  unfold tm_MR
  dsimp only
  exact ⟨a1, a2, a3, a4, a5, a6⟩
theorem tm_ME_mk {xU' xH' xI' xR' : Int32} {so' nu' ln' lm' ka' es' en' ec' : Nat → Int32} {sv' : Nat → Int64} (a1 : xI' = xI) (a2 : xH' = xH) (a4 : tm_rl xI so nu ka es en ec so' nu' ka' es' en' ec') (a5 : tm_sr xH sv sv') : tm_ME (xU, xH, xI, xR, so, nu, ln, lm, sv, ka, es, en, ec) (xU', xH', xI', xR', so', nu', ln', lm', sv', ka', es', en', ec') := by
  unfold tm_ME
  dsimp only
  exact ⟨a1, a2, a4, a5⟩
theorem tm_MO_mk (a1 : tm_iv xI so nu es en ec) (k : Nat) (a4 : xH = nI k) (a5 : k < 2 ^ 31) : tm_MO (xU, xH, xI, xR, so, nu, ln, lm, sv, ka, es, en, ec) := by
  unfold tm_MO
  dsimp only
  exact ⟨a1, k, a4, a5⟩
def tm_gd (xE xS xC xN : Int32) (kd px py wt ks ki al op fx fy fz cO cA cB cC cK wn wr wp wq oq : Nat → Int32) (N : Nat) (h0 h1 : Nat → Nat) (pc : Nat) (m : tm_M) : Prop := ∃ r m', tm_MO m' ∧ ∀ (xO : Int32) (oe ol : Nat → Int32) (n : Nat) (u : tm_M) (post : Int32 → St1 → Prop), tm_mu N h0 h1 m.2.2.2.2.2.2.1 m.2.2.2.2.2.2.2.1 pc < n → tm_MR h0 h1 pc m u → (∀ u', tm_ME m' u' → post r (xE, xS, xC, xN, xO, u'.1, u'.2.1, u'.2.2.1, u'.2.2.2.1, kd, px, py, wt, ks, ki, al, op, fx, fy, fz, cO, cA, cB, cC, cK, wn, wr, wp, wq, oe, ol, oq, u'.2.2.2.2.1, u'.2.2.2.2.2.1, u'.2.2.2.2.2.2.1, u'.2.2.2.2.2.2.2.1, u'.2.2.2.2.2.2.2.2.1, u'.2.2.2.2.2.2.2.2.2.1, u'.2.2.2.2.2.2.2.2.2.2.1, u'.2.2.2.2.2.2.2.2.2.2.2.1, u'.2.2.2.2.2.2.2.2.2.2.2.2)) → wX_execute_2 post n (nI pc) xE xS xC xN xO u.1 u.2.1 u.2.2.1 u.2.2.2.1 kd px py wt ks ki al op fx fy fz cO cA cB cC cK wn wr wp wq oe ol oq u.2.2.2.2.1 u.2.2.2.2.2.1 u.2.2.2.2.2.2.1 u.2.2.2.2.2.2.2.1 u.2.2.2.2.2.2.2.2.1 u.2.2.2.2.2.2.2.2.2.1 u.2.2.2.2.2.2.2.2.2.2.1 u.2.2.2.2.2.2.2.2.2.2.2.1 u.2.2.2.2.2.2.2.2.2.2.2.2
theorem tm_gd_step {N : Nat} {h0 h1 : Nat → Nat} {pc pc1 : Nat} {m m1 : tm_M} (hg : tm_gd xE xS xC xN kd px py wt ks ki al op fx fy fz cO cA cB cC cK wn wr wp wq oq N h0 h1 pc1 m1) (hmu : tm_mu N h0 h1 m1.2.2.2.2.2.2.1 m1.2.2.2.2.2.2.2.1 pc1 < tm_mu N h0 h1 m.2.2.2.2.2.2.1 m.2.2.2.2.2.2.2.1 pc)
    (hs : ∀ (xO : Int32) (oe ol : Nat → Int32) (n : Nat) (u : tm_M) (post : Int32 → St1 → Prop), tm_MR h0 h1 pc m u → (∀ u1, tm_MR h0 h1 pc1 m1 u1 → wX_execute_2 post n (nI pc1) xE xS xC xN xO u1.1 u1.2.1 u1.2.2.1 u1.2.2.2.1 kd px py wt ks ki al op fx fy fz cO cA cB cC cK wn wr wp wq oe ol oq u1.2.2.2.2.1 u1.2.2.2.2.2.1 u1.2.2.2.2.2.2.1 u1.2.2.2.2.2.2.2.1 u1.2.2.2.2.2.2.2.2.1 u1.2.2.2.2.2.2.2.2.2.1 u1.2.2.2.2.2.2.2.2.2.2.1 u1.2.2.2.2.2.2.2.2.2.2.2.1 u1.2.2.2.2.2.2.2.2.2.2.2.2) → wX_execute_2 post (n + 1) (nI pc) xE xS xC xN xO u.1 u.2.1 u.2.2.1 u.2.2.2.1 kd px py wt ks ki al op fx fy fz cO cA cB cC cK wn wr wp wq oe ol oq u.2.2.2.2.1 u.2.2.2.2.2.1 u.2.2.2.2.2.2.1 u.2.2.2.2.2.2.2.1 u.2.2.2.2.2.2.2.2.1 u.2.2.2.2.2.2.2.2.2.1 u.2.2.2.2.2.2.2.2.2.2.1 u.2.2.2.2.2.2.2.2.2.2.2.1 u.2.2.2.2.2.2.2.2.2.2.2.2) : tm_gd xE xS xC xN kd px py wt ks ki al op fx fy fz cO cA cB cC cK wn wr wp wq oq N h0 h1 pc m := by
  obtain ⟨r, m', hO, H⟩ := hg
  refine ⟨r, m', hO, fun xO oe ol n u post hn hR hp => ?_⟩
  obtain ⟨n', rfl⟩ : ∃ n', n = n' + 1 := ⟨n - 1, by omega⟩
  exact hs xO oe ol n' u post hR (fun u1 hR1 => H xO oe ol n' u1 post (by omega) hR1 hp)
theorem tm_gd_fail {N : Nat} {h0 h1 : Nat → Nat} {pc : Nat} {m : tm_M} (r : Int32) (m1 : tm_M) (hO : tm_MO m1)
    (hs : ∀ (xO : Int32) (oe ol : Nat → Int32) (n : Nat) (u : tm_M) (post : Int32 → St1 → Prop), tm_MR h0 h1 pc m u → (∀ u1, tm_ME m1 u1 → post r (xE, xS, xC, xN, xO, u1.1, u1.2.1, u1.2.2.1, u1.2.2.2.1, kd, px, py, wt, ks, ki, al, op, fx, fy, fz, cO, cA, cB, cC, cK, wn, wr, wp, wq, oe, ol, oq, u1.2.2.2.2.1, u1.2.2.2.2.2.1, u1.2.2.2.2.2.2.1, u1.2.2.2.2.2.2.2.1, u1.2.2.2.2.2.2.2.2.1, u1.2.2.2.2.2.2.2.2.2.1, u1.2.2.2.2.2.2.2.2.2.2.1, u1.2.2.2.2.2.2.2.2.2.2.2.1, u1.2.2.2.2.2.2.2.2.2.2.2.2)) → wX_execute_2 post (n + 1) (nI pc) xE xS xC xN xO u.1 u.2.1 u.2.2.1 u.2.2.2.1 kd px py wt ks ki al op fx fy fz cO cA cB cC cK wn wr wp wq oe ol oq u.2.2.2.2.1 u.2.2.2.2.2.1 u.2.2.2.2.2.2.1 u.2.2.2.2.2.2.2.1 u.2.2.2.2.2.2.2.2.1 u.2.2.2.2.2.2.2.2.2.1 u.2.2.2.2.2.2.2.2.2.2.1 u.2.2.2.2.2.2.2.2.2.2.2.1 u.2.2.2.2.2.2.2.2.2.2.2.2) : tm_gd xE xS xC xN kd px py wt ks ki al op fx fy fz cO cA cB cC cK wn wr wp wq oq N h0 h1 pc m := by
  refine ⟨r, m1, hO, fun xO oe ol n u post hn hR hp => ?_⟩
  obtain ⟨n', rfl⟩ : ∃ n', n = n' + 1 := ⟨n - 1, by omega⟩
  exact hs xO oe ol n' u post hR hp
theorem tm_ne {o : Nat} (ho : o ≤ 20) (j : Nat) (hj : j ≤ 20) (h : o ≠ j) : ¬ nI o = nI j := fun z => h (tm_nIinj (by omega) (by omega) z)
theorem tm_lp_eq {h0 h1 : Nat → Nat} {p q : Nat} (e0 : h0 q = h0 p) (e1 : h1 q = h1 p) (h : tm_lp h0 h1 ln lm p) : tm_lp h0 h1 ln lm q := by
  unfold tm_lp
  rw [e0, e1]
  exact h
theorem tm_lr_eq {h0 h1 : Nat → Nat} {p q : Nat} {ln' lm' : Nat → Int32} (e0 : h0 q = h0 p) (e1 : h1 q = h1 p) (h : tm_lr h0 h1 p ln lm ln' lm') : tm_lr h0 h1 q ln lm ln' lm' := by
  unfold tm_lr
  rw [e0, e1]
  exact h
theorem tm_pc0 {N : Nat} {h0 h1 ag : Nat → Nat} (hcw : tm_cw N cO cA cB cC cK h0 h1 ag) {pc o : Nat} (hpc : pc < N) (hO : cO pc = nI o) (ho : o ≤ 20) (h18 : o ≠ 18) : pc ≠ 0 := by
  intro z
  subst z
  have := hcw.2.2.2.1 hpc
  rw [hO] at this
  exact h18 (tm_nIinj (by omega) (by omega) this)
/-- operations 0 to 10 -/
theorem tm_o_calc {N : Nat} {h0 h1 ag : Nat → Nat} (hN : xN = nI N) (hcw : tm_cw N cO cA cB cC cK h0 h1 ag) {pc o : Nat} (hpc : pc < N) (hO : cO pc = nI o) (ho : o ≤ 10) (hMI : tm_MI N h0 h1 ag pc (xU, xH, xI, xR, so, nu, ln, lm, sv, ka, es, en, ec))
    (IH : ∀ pc1 m1, pc1 ≤ N → tm_MI N h0 h1 ag pc1 m1 → tm_mu N h0 h1 m1.2.2.2.2.2.2.1 m1.2.2.2.2.2.2.2.1 pc1 < tm_mu N h0 h1 ln lm pc → tm_gd xE xS xC xN kd px py wt ks ki al op fx fy fz cO cA cB cC cK wn wr wp wq oq N h0 h1 pc1 m1) : tm_gd xE xS xC xN kd px py wt ks ki al op fx fy fz cO cA cB cC cK wn wr wp wq oq N h0 h1 pc (xU, xH, xI, xR, so, nu, ln, lm, sv, ka, es, en, ec) := by
  have hpc0 := tm_pc0 hcw hpc hO (by omega) (by omega)
  obtain ⟨cw1, cw2, cw3, cw4, cw5, cw6⟩ := hcw
  obtain ⟨o', ho', hO', k1, k2, k3, k4, k5, k6⟩ := cw5 pc hpc
  have eo : o' = o := tm_nIinj (by omega) (by omega) (by rw [← hO', ← hO])
  subst eo
  obtain ⟨⟨a, b, c, ha, hb, hc, hA, hB, hC⟩, hsq, _⟩ := k2 (by omega)
  obtain ⟨hiv, ⟨X, hX1, hX2, hX3⟩, hlp, k, hk1, hk2⟩ := hMI
  obtain ⟨g0, g1⟩ := k1 (by omega)
  have hmu : tm_mu N h0 h1 ln lm (pc + 1) < tm_mu N h0 h1 ln lm pc := tm_mu_fw cw1 hsq.1 hsq.2.1 (by omega) (by omega) g0 g1
  have walk : ∀ (xO : Int32) (oe ol : Nat → Int32) (n : Nat) (post : Int32 → St1 → Prop) (xU' xH' xI' xR' : Int32) (so' nu' ln' lm' ka' es' en' ec' : Nat → Int32) (sv' : Nat → Int64), tm_tb es' en' ec' → tm_rg so' nu' → (tm_cv o' so' nu' ka' es' en' b c (cK pc) = none → post xU' (xE, xS, xC, xN, xO, xU', xH', xI', xR', kd, px, py, wt, ks, ki, al, op, fx, fy, fz, cO, cA, cB, cC, cK, wn, wr, wp, wq, oe, ol, oq, so', nu', ln', lm', sv', ka', es', en', ec')) → (∀ s v, tm_cv o' so' nu' ka' es' en' b c (cK pc) = some (s, v) → wX_execute_2 post n (nI (pc + 1)) xE xS xC xN xO xU' xH' xI' xR' kd px py wt ks ki al op fx fy fz cO cA cB cC cK wn wr wp wq oe ol oq (upd so' a s) (upd nu' a v) ln' lm' sv' ka' es' en' ec') → wX_execute_2 post (n + 1) (nI pc) xE xS xC xN xO xU' xH' xI' xR' kd px py wt ks ki al op fx fy fz cO cA cB cC cK wn wr wp wq oe ol oq so' nu' ln' lm' sv' ka' es' en' ec' := by
    intro xO oe ol n post xU' xH' xI' xR' so' nu' ln' lm' ka' es' en' ec' sv' htb hrg hf hs
    unfold wX_execute_2
    refine br_f (by rw [hN]; exact nI_ge hpc (by omega)) ⟨pk_in pc 350 (by omega), ?_⟩
    rw [nI_clamp (show pc < 2 ^ 31 by omega)]
    refine nm_r hO' (nm_r (nI_1 pc) ?_)
    refine br_f (tm_ne ho' 17 (by omega) (by omega)) (br_f (tm_ne ho' 19 (by omega) (by omega)) (br_f (tm_ne ho' 20 (by omega) (by omega)) (br_f (tm_ne ho' 16 (by omega) (by omega)) (br_f (nI_nlt (a := 10) ho (by omega)) ?_))))
    exact tm_calc_w o' pc a b c rfl rfl ho (by omega) hA hB hC ha hb hc htb hrg (fun z => br_t rfl (br_f (by decide) (hf z))) (fun s v z => br_f (by decide) (br_t rfl (hs s v z)))
  cases hcv : tm_cv o' so nu ka es en b c (cK pc) with
  | none =>
    refine tm_gd_fail xU (xU, xH, xI, xR, so, nu, ln, lm, sv, ka, es, en, ec) (tm_MO_mk hiv k hk1 (by omega)) (fun xO oe ol n u post hMR hk => ?_)
    obtain ⟨xU', xH', xI', xR', so', nu', ln', lm', sv', ka', es', en', ec'⟩ := u
    obtain ⟨e1, e2, e3, e4, e5, e6⟩ := hMR
    have e7 := tm_cv_eq (o := o') (K := cK pc) hiv e4 hb hc
    refine walk xO oe ol n post xU' xH' xI' xR' so' nu' ln' lm' ka' es' en' ec' sv' e4.2.2 (tm_rl_rg e4 hiv.2.1) (fun _ => ?_) (fun s v z => ?_)
    · rw [e3 hpc0]
      exact hk (xU, xH', xI', xR', so', nu', ln', lm', sv', ka', es', en', ec') (tm_ME_mk e1 e2 e4 e5)
    · rw [e7, hcv] at z
      exact absurd z (by simp)
  | some w =>
    obtain ⟨s, v⟩ := w
    have hv := tm_cv_ok hiv.1 hiv.2.1 hiv.2.2.1 hiv.2.2.2 hb hcv
    have hvX := tm_cv_ok hiv.1 hiv.2.1 hX2 hX3 hb hcv
    refine tm_gd_step (IH (pc + 1) (xU, xH, xI, xR, upd so a s, upd nu a v, ln, lm, sv, ka, es, en, ec) (by omega) (tm_MI_mk (tm_iv_set hiv hv) ⟨X, by have := hsq.2.2; omega, tm_cr_set hX2 hvX, hX3⟩ (tm_lp_eq hsq.1 hsq.2.1 hlp) k hk1 (by omega)) hmu) hmu (fun xO oe ol n u post hMR hk => ?_)
    obtain ⟨xU', xH', xI', xR', so', nu', ln', lm', sv', ka', es', en', ec'⟩ := u
    obtain ⟨e1, e2, e3, e4, e5, e6⟩ := hMR
    have e7 := tm_cv_eq (o := o') (K := cK pc) hiv e4 hb hc
    refine walk xO oe ol n post xU' xH' xI' xR' so' nu' ln' lm' ka' es' en' ec' sv' e4.2.2 (tm_rl_rg e4 hiv.2.1) (fun z => ?_) (fun s' v' z => ?_)
    · rw [e7, hcv] at z
      exact absurd z (by simp)
    · rw [e7, hcv] at z
      have z := Option.some.inj z
      have z1 : s = s' := congrArg Prod.fst z
      have z2 : v = v' := congrArg Prod.snd z
      subst z1 z2
      exact hk (xU', xH', xI', xR', upd so' a s, upd nu' a v, ln', lm', sv', ka', es', en', ec') (tm_MR_mk e1 e2 (fun _ => e3 hpc0) (tm_rl_set e4 a s v) e5 (tm_lr_eq hsq.1 hsq.2.1 e6))
end
section
variable {xE xS xC xN xO xU xH xI xR : Int32} {kd px py wt ks ki al op fx fy fz cO cA cB cC cK wn wr wp wq oe ol oq so nu ln lm ka es en ec : Nat → Int32} {sv : Nat → Int64}
/-! the other operations -/
theorem tm_o_cnt {N : Nat} {h0 h1 ag : Nat → Nat} (hN : xN = nI N) (hcw : tm_cw N cO cA cB cC cK h0 h1 ag) {pc : Nat} (hpc : pc < N) (hO : cO pc = nI 12) (hMI : tm_MI N h0 h1 ag pc (xU, xH, xI, xR, so, nu, ln, lm, sv, ka, es, en, ec))
    (IH : ∀ pc1 m1, pc1 ≤ N → tm_MI N h0 h1 ag pc1 m1 → tm_mu N h0 h1 m1.2.2.2.2.2.2.1 m1.2.2.2.2.2.2.2.1 pc1 < tm_mu N h0 h1 ln lm pc → tm_gd xE xS xC xN kd px py wt ks ki al op fx fy fz cO cA cB cC cK wn wr wp wq oq N h0 h1 pc1 m1) : tm_gd xE xS xC xN kd px py wt ks ki al op fx fy fz cO cA cB cC cK wn wr wp wq oq N h0 h1 pc (xU, xH, xI, xR, so, nu, ln, lm, sv, ka, es, en, ec) := by
  have hpc0 := tm_pc0 hcw hpc hO (by omega) (by omega)
  have hcw0 := hcw
  obtain ⟨cw1, cw2, cw3, cw4, cw5, cw6⟩ := hcw
  obtain ⟨o', ho', hO', k1, k2, k3, k4, k5, k6⟩ := cw5 pc hpc
  have eo : o' = 12 := tm_nIinj (by omega) (by omega) (by rw [← hO', ← hO])
  subst eo
  obtain ⟨hiv, ⟨X, hX1, hX2, hX3⟩, hlp, k, hk1, hk2⟩ := hMI
  have hpcl : pc < 2 ^ 31 := by omega
  have hpi : vp_in (nI pc) 350 := pk_in pc 350 (by omega)
  obtain ⟨⟨a, b, c, ha, hb, hc, hA, hB, hC⟩, hsq, hag⟩ := k2 (by omega)
  obtain ⟨g0, g1⟩ := k1 (by omega)
  have hmu : tm_mu N h0 h1 ln lm (pc + 1) < tm_mu N h0 h1 ln lm pc := tm_mu_fw cw1 hsq.1 hsq.2.1 (by omega) (by omega) g0 g1
  by_cases e : so b = 2
  · obtain ⟨t, ht, et⟩ := (hiv.2.1 b hb).2 e
    have hX := hiv.2.2.1 b hb e t ht et
    refine tm_gd_step (IH (pc + 1) (xU, xH, xI, xR, upd so a 1, upd nu a (ec t), ln, lm, sv, ka, es, en, ec) (by omega) (tm_MI_mk (tm_iv_set hiv (tm_vo_1 _ _)) ⟨X, by have := hsq.2.2; omega, tm_cr_set hX2 (tm_vo_1 _ _), hX3⟩ (tm_lp_eq hsq.1 hsq.2.1 hlp) k hk1 (by omega)) hmu) hmu (fun xO oe ol n u post hMR hk => ?_)
    obtain ⟨xU', xH', xI', xR', so', nu', ln', lm', sv', ka', es', en', ec'⟩ := u
    obtain ⟨e1, e2, e3, e4, e5, e6⟩ := hMR
    have hrg := tm_rl_rg e4 hiv.2.1
    show wX_execute_2 post (n + 1) (nI pc) xE xS xC xN xO xU' xH' xI' xR' kd px py wt ks ki al op fx fy fz cO cA cB cC cK wn wr wp wq oe ol oq so' nu' ln' lm' sv' ka' es' en' ec'
    unfold wX_execute_2
    refine br_f (by rw [hN]; exact nI_ge hpc (by omega)) ⟨hpi, ?_⟩
    rw [nI_clamp hpcl]
    refine nm_r hO (nm_r (nI_1 pc) ?_)
    refine br_f (by decide) ?_
    refine br_f (by decide) ?_
    refine br_f (by decide) ?_
    refine br_f (by decide) ?_
    refine br_t (by decide) ?_
    unfold wpX_act
    dsimp only
    rw [nI_clamp hpcl]
    refine ⟨hpi, nm_r hA ?_⟩
    refine br_f (by decide) ?_
    refine br_f (by decide) ?_
    refine br_t rfl ?_
    rw [hB, nI_clamp (show b < 2 ^ 31 by omega), (e4.1 b hb).1, (e4.1 b hb).2, et, nI_clamp (show t < 2 ^ 31 by omega)]
    refine ⟨hpi, pk_in b 18 hb, br_t e ⟨hpi, pk_in b 18 hb, pk_in t 32 ht, tm_setReg a rfl ha ?_⟩⟩
    rw [← (e4.2.1 t ht hX).1]
    exact br_f (by decide) (br_t rfl (hk (xU', xH', xI', xR', upd so' a 1, upd nu' a (ec t), ln', lm', sv', ka', es', en', ec') (tm_MR_mk e1 e2 (fun _ => e3 hpc0) (tm_rl_set e4 a 1 (ec t)) e5 (tm_lr_eq hsq.1 hsq.2.1 e6))))
  · refine tm_gd_fail xU (xU, xH, xI, xR, so, nu, ln, lm, sv, ka, es, en, ec) (tm_MO_mk hiv k hk1 (by omega)) (fun xO oe ol n u post hMR hk => ?_)
    obtain ⟨xU', xH', xI', xR', so', nu', ln', lm', sv', ka', es', en', ec'⟩ := u
    obtain ⟨e1, e2, e3, e4, e5, e6⟩ := hMR
    have hrg := tm_rl_rg e4 hiv.2.1
    show wX_execute_2 post (n + 1) (nI pc) xE xS xC xN xO xU' xH' xI' xR' kd px py wt ks ki al op fx fy fz cO cA cB cC cK wn wr wp wq oe ol oq so' nu' ln' lm' sv' ka' es' en' ec'
    unfold wX_execute_2
    refine br_f (by rw [hN]; exact nI_ge hpc (by omega)) ⟨hpi, ?_⟩
    rw [nI_clamp hpcl]
    refine nm_r hO (nm_r (nI_1 pc) ?_)
    refine br_f (by decide) ?_
    refine br_f (by decide) ?_
    refine br_f (by decide) ?_
    refine br_f (by decide) ?_
    refine br_t (by decide) ?_
    unfold wpX_act
    dsimp only
    rw [nI_clamp hpcl]
    refine ⟨hpi, nm_r hA ?_⟩
    refine br_f (by decide) ?_
    refine br_f (by decide) ?_
    refine br_t rfl ?_
    rw [hB, nI_clamp (show b < 2 ^ 31 by omega), (e4.1 b hb).1]
    refine ⟨hpi, pk_in b 18 hb, br_f e ?_⟩
    rw [e3 hpc0]
    exact br_t rfl (br_f (by decide) (hk (xU, xH', xI', xR', so', nu', ln', lm', sv', ka', es', en', ec') (tm_ME_mk e1 e2 e4 e5)))
theorem tm_num_eq {xI : Int32} {so nu ka es en ec so' nu' ka' es' en' ec' : Nat → Int32} (hi : tm_iv xI so nu es en ec) (hr : tm_rl xI so nu ka es en ec so' nu' ka' es' en' ec') {a : Nat} (ha : a < 18) : tm_num (so' a) (nu' a) ec' = tm_num (so a) (nu a) ec := by
  rw [(hr.1 a ha).1, (hr.1 a ha).2]
  unfold tm_num
  by_cases e0 : so a = 0
  · rw [if_pos e0, if_pos e0]
  · rw [if_neg e0, if_neg e0]
    by_cases e1 : so a = 1
    · rw [if_pos e1, if_pos e1]
    · rw [if_neg e1, if_neg e1]
      have e2 : so a = 2 := by
        rcases (hi.2.1 a ha).1 with h | h | h
        · exact absurd h e0
        · exact absurd h e1
        · exact h
      obtain ⟨t, ht, et⟩ := (hi.2.1 a ha).2 e2
      rw [et, nI_clamp (show t < 2 ^ 31 by omega)]
      exact ((hr.2.1 t ht (hi.2.2.1 a ha e2 t ht et)).1).symm
theorem tm_sr_add {k : Nat} (hk : k < 2 ^ 31 - 1) {sv sv' : Nat → Int64} (h : tm_sr (nI k) sv sv') (v : Int64) : tm_sr (nI (k + 1)) (if 30 ≤ k then sv else vp_updL sv k v) (if 30 ≤ k then sv' else vp_updL sv' k v) := by
  intro k' j e hk' hj h30
  have e' : k' = k + 1 := tm_nIinj hk' (by omega) e.symm
  subst e'
  by_cases z : 30 ≤ k
  · rw [if_pos z, if_pos z]
    exact h k j rfl (by omega) (by omega) h30
  · rw [if_neg z, if_neg z]
    by_cases y : j = k
    · subst y; rw [pk_uLs, pk_uLs]
    · rw [pk_uLn y, pk_uLn y]
      exact h k j rfl (by omega) (by omega) h30
theorem tm_o_show {N : Nat} {h0 h1 ag : Nat → Nat} (hN : xN = nI N) (hcw : tm_cw N cO cA cB cC cK h0 h1 ag) {pc : Nat} (hpc : pc < N) (hO : cO pc = nI 14) (hMI : tm_MI N h0 h1 ag pc (xU, xH, xI, xR, so, nu, ln, lm, sv, ka, es, en, ec))
    (IH : ∀ pc1 m1, pc1 ≤ N → tm_MI N h0 h1 ag pc1 m1 → tm_mu N h0 h1 m1.2.2.2.2.2.2.1 m1.2.2.2.2.2.2.2.1 pc1 < tm_mu N h0 h1 ln lm pc → tm_gd xE xS xC xN kd px py wt ks ki al op fx fy fz cO cA cB cC cK wn wr wp wq oq N h0 h1 pc1 m1) : tm_gd xE xS xC xN kd px py wt ks ki al op fx fy fz cO cA cB cC cK wn wr wp wq oq N h0 h1 pc (xU, xH, xI, xR, so, nu, ln, lm, sv, ka, es, en, ec) := by
  have hpc0 := tm_pc0 hcw hpc hO (by omega) (by omega)
  have hcw0 := hcw
  obtain ⟨cw1, cw2, cw3, cw4, cw5, cw6⟩ := hcw
  obtain ⟨o', ho', hO', k1, k2, k3, k4, k5, k6⟩ := cw5 pc hpc
  have eo : o' = 14 := tm_nIinj (by omega) (by omega) (by rw [← hO', ← hO])
  subst eo
  obtain ⟨hiv, ⟨X, hX1, hX2, hX3⟩, hlp, k, hk1, hk2⟩ := hMI
  have hpcl : pc < 2 ^ 31 := by omega
  have hpi : vp_in (nI pc) 350 := pk_in pc 350 (by omega)
  obtain ⟨⟨a, b, c, ha, hb, hc, hA, hB, hC⟩, hsq, hag⟩ := k2 (by omega)
  obtain ⟨g0, g1⟩ := k1 (by omega)
  have hmu : tm_mu N h0 h1 ln lm (pc + 1) < tm_mu N h0 h1 ln lm pc := tm_mu_fw cw1 hsq.1 hsq.2.1 (by omega) (by omega) g0 g1
  subst hk1
  refine tm_gd_step (IH (pc + 1) (xU, nI (k + 1), xI, xR, so, nu, ln, lm, if 30 ≤ k then sv else vp_updL sv k ((4 * (tm_num (so a) (nu a) ec).toInt64) + (so a).toInt64), ka, es, en, ec) (by omega) (tm_MI_mk hiv ⟨X, by have := hsq.2.2; omega, hX2, hX3⟩ (tm_lp_eq hsq.1 hsq.2.1 hlp) (k + 1) rfl (by omega)) hmu) hmu (fun xO oe ol n u post hMR hk => ?_)
  obtain ⟨xU', xH', xI', xR', so', nu', ln', lm', sv', ka', es', en', ec'⟩ := u
  obtain ⟨e1, e2, e3, e4, e5, e6⟩ := hMR
  have hrg := tm_rl_rg e4 hiv.2.1
  show wX_execute_2 post (n + 1) (nI pc) xE xS xC xN xO xU' xH' xI' xR' kd px py wt ks ki al op fx fy fz cO cA cB cC cK wn wr wp wq oe ol oq so' nu' ln' lm' sv' ka' es' en' ec'
  unfold wX_execute_2
  refine br_f (by rw [hN]; exact nI_ge hpc (by omega)) ⟨hpi, ?_⟩
  rw [nI_clamp hpcl]
  refine nm_r hO (nm_r (nI_1 pc) ?_)
  refine br_f (by decide) ?_
  refine br_f (by decide) ?_
  refine br_f (by decide) ?_
  refine br_f (by decide) ?_
  refine br_t (by decide) ?_
  unfold wpX_act
  dsimp only
  rw [nI_clamp hpcl]
  refine ⟨hpi, nm_r hA ?_⟩
  refine br_f (by decide) ?_
  refine br_f (by decide) ?_
  refine br_f (by decide) ?_
  refine br_t rfl ?_
  refine tm_show_w a k rfl ha hrg e2 (by omega) ?_
  rw [tm_num_eq hiv e4 ha, (e4.1 a ha).1]
  exact br_f (by decide) (br_t rfl (hk (xU', nI (k + 1), xI', xR', so', nu', ln', lm', if 30 ≤ k then sv' else vp_updL sv' k ((4 * (tm_num (so a) (nu a) ec).toInt64) + (so a).toInt64), ka', es', en', ec') (tm_MR_mk e1 rfl (fun _ => e3 hpc0) e4 (tm_sr_add (by omega) e5 _) (tm_lr_eq hsq.1 hsq.2.1 e6))))
theorem tm_o_sto {N : Nat} {h0 h1 ag : Nat → Nat} (hN : xN = nI N) (hcw : tm_cw N cO cA cB cC cK h0 h1 ag) {pc : Nat} (hpc : pc < N) (hO : cO pc = nI 13) (hMI : tm_MI N h0 h1 ag pc (xU, xH, xI, xR, so, nu, ln, lm, sv, ka, es, en, ec))
    (IH : ∀ pc1 m1, pc1 ≤ N → tm_MI N h0 h1 ag pc1 m1 → tm_mu N h0 h1 m1.2.2.2.2.2.2.1 m1.2.2.2.2.2.2.2.1 pc1 < tm_mu N h0 h1 ln lm pc → tm_gd xE xS xC xN kd px py wt ks ki al op fx fy fz cO cA cB cC cK wn wr wp wq oq N h0 h1 pc1 m1) : tm_gd xE xS xC xN kd px py wt ks ki al op fx fy fz cO cA cB cC cK wn wr wp wq oq N h0 h1 pc (xU, xH, xI, xR, so, nu, ln, lm, sv, ka, es, en, ec) := by
  have hpc0 := tm_pc0 hcw hpc hO (by omega) (by omega)
  have hcw0 := hcw
  obtain ⟨cw1, cw2, cw3, cw4, cw5, cw6⟩ := hcw
  obtain ⟨o', ho', hO', k1, k2, k3, k4, k5, k6⟩ := cw5 pc hpc
  have eo : o' = 13 := tm_nIinj (by omega) (by omega) (by rw [← hO', ← hO])
  subst eo
  obtain ⟨hiv, ⟨X, hX1, hX2, hX3⟩, hlp, k, hk1, hk2⟩ := hMI
  have hpcl : pc < 2 ^ 31 := by omega
  have hpi : vp_in (nI pc) 350 := pk_in pc 350 (by omega)
  obtain ⟨⟨a, b, c, ha, hb, hc, hA, hB, hC⟩, hsq, hag⟩ := k2 (by omega)
  obtain ⟨g0, g1⟩ := k1 (by omega)
  have hmu : tm_mu N h0 h1 ln lm (pc + 1) < tm_mu N h0 h1 ln lm pc := tm_mu_fw cw1 hsq.1 hsq.2.1 (by omega) (by omega) g0 g1
  cases hst : tm_sto so nu ka es en ec a b c with
  | none =>
    refine tm_gd_fail xU (xU, xH, xI, xR, so, nu, ln, lm, sv, ka, es, en, ec) (tm_MO_mk hiv k hk1 (by omega)) (fun xO oe ol n u post hMR hk => ?_)
    obtain ⟨xU', xH', xI', xR', so', nu', ln', lm', sv', ka', es', en', ec'⟩ := u
    obtain ⟨e1, e2, e3, e4, e5, e6⟩ := hMR
    have hrg := tm_rl_rg e4 hiv.2.1
    show wX_execute_2 post (n + 1) (nI pc) xE xS xC xN xO xU' xH' xI' xR' kd px py wt ks ki al op fx fy fz cO cA cB cC cK wn wr wp wq oe ol oq so' nu' ln' lm' sv' ka' es' en' ec'
    unfold wX_execute_2
    refine br_f (by rw [hN]; exact nI_ge hpc (by omega)) ⟨hpi, ?_⟩
    rw [nI_clamp hpcl]
    refine nm_r hO (nm_r (nI_1 pc) ?_)
    refine br_f (by decide) ?_
    refine br_f (by decide) ?_
    refine br_f (by decide) ?_
    refine br_f (by decide) ?_
    refine br_t (by decide) ?_
    unfold wpX_act
    dsimp only
    rw [nI_clamp hpcl]
    refine ⟨hpi, nm_r hA ?_⟩
    refine br_f (by decide) ?_
    refine br_f (by decide) ?_
    refine br_f (by decide) ?_
    refine br_f (by decide) ?_
    refine br_t rfl ?_
    refine ⟨hpi, hpi, tm_store_w a b c rfl hB hC ha hb hc e4.2.2 hrg (fun _ => ⟨tm_nb01 (Or.inl rfl), ?_⟩) (fun ka2 es2 en2 ec2 z => ?_)⟩
    · rw [e3 hpc0]
      exact br_t rfl (br_f (by decide) (hk (xU, xH', xI', xR', so', nu', ln', lm', sv', ka', es', en', ec') (tm_ME_mk e1 e2 e4 e5)))
    · rcases tm_sto_eq hiv e4 ha hb hc with ⟨_, w⟩ | ⟨_, _, _, _, _, _, _, _, w, _, _⟩
      · rw [w] at z; exact absurd z (by simp)
      · rw [w] at hst; exact absurd hst (by simp)
  | some w =>
    obtain ⟨ka1, es1, en1, ec1⟩ := w
    obtain ⟨s1, s2⟩ := tm_sto_ok hiv.1 hiv.2.1 ha hc hst
    refine tm_gd_step (IH (pc + 1) (xU, xH, xI, xR, so, nu, ln, lm, sv, ka1, es1, en1, ec1) (by omega) (tm_MI_mk ⟨s1, hiv.2.1, hiv.2.2.1, s2 _ hiv.2.2.1 hiv.2.2.2⟩ ⟨X, by have := hsq.2.2; omega, hX2, s2 X hX2 hX3⟩ (tm_lp_eq hsq.1 hsq.2.1 hlp) k hk1 (by omega)) hmu) hmu (fun xO oe ol n u post hMR hk => ?_)
    obtain ⟨xU', xH', xI', xR', so', nu', ln', lm', sv', ka', es', en', ec'⟩ := u
    obtain ⟨e1, e2, e3, e4, e5, e6⟩ := hMR
    have hrg := tm_rl_rg e4 hiv.2.1
    show wX_execute_2 post (n + 1) (nI pc) xE xS xC xN xO xU' xH' xI' xR' kd px py wt ks ki al op fx fy fz cO cA cB cC cK wn wr wp wq oe ol oq so' nu' ln' lm' sv' ka' es' en' ec'
    unfold wX_execute_2
    refine br_f (by rw [hN]; exact nI_ge hpc (by omega)) ⟨hpi, ?_⟩
    rw [nI_clamp hpcl]
    refine nm_r hO (nm_r (nI_1 pc) ?_)
    refine br_f (by decide) ?_
    refine br_f (by decide) ?_
    refine br_f (by decide) ?_
    refine br_f (by decide) ?_
    refine br_t (by decide) ?_
    unfold wpX_act
    dsimp only
    rw [nI_clamp hpcl]
    refine ⟨hpi, nm_r hA ?_⟩
    refine br_f (by decide) ?_
    refine br_f (by decide) ?_
    refine br_f (by decide) ?_
    refine br_f (by decide) ?_
    refine br_t rfl ?_
    refine ⟨hpi, hpi, tm_store_w a b c rfl hB hC ha hb hc e4.2.2 hrg (fun z => ?_) (fun ka2 es2 en2 ec2 z => ⟨tm_nb01 (Or.inr rfl), ?_⟩)⟩
    · rcases tm_sto_eq hiv e4 ha hb hc with ⟨w, _⟩ | ⟨_, _, _, _, _, _, _, _, _, w, _⟩
      · rw [w] at hst; exact absurd hst (by simp)
      · rw [w] at z; exact absurd z (by simp)
    · rcases tm_sto_eq hiv e4 ha hb hc with ⟨w, _⟩ | ⟨_, _, _, _, _, _, _, _, w1, w2, w3⟩
      · rw [w] at hst; exact absurd hst (by simp)
      · rw [w1] at hst
        rw [w2] at z
        have y1 := Option.some.inj hst
        have y2 := Option.some.inj z
        have i1 : _ = ka1 := congrArg (fun z => z.1) y1
        have i2 : _ = es1 := congrArg (fun z => z.2.1) y1
        have i3 : _ = en1 := congrArg (fun z => z.2.2.1) y1
        have i4 : _ = ec1 := congrArg (fun z => z.2.2.2) y1
        have j1 : _ = ka2 := congrArg (fun z => z.1) y2
        have j2 : _ = es2 := congrArg (fun z => z.2.1) y2
        have j3 : _ = en2 := congrArg (fun z => z.2.2.1) y2
        have j4 : _ = ec2 := congrArg (fun z => z.2.2.2) y2
        have w3 : tm_rt xI ka1 es1 en1 ec1 ka2 es2 en2 ec2 := by
          rw [← i1, ← i2, ← i3, ← i4, ← j1, ← j2, ← j3, ← j4]
          exact w3
        exact br_f (by decide) (br_t rfl (hk (xU', xH', xI', xR', so', nu', ln', lm', sv', ka2, es2, en2, ec2) (tm_MR_mk e1 e2 (fun _ => e3 hpc0) ⟨e4.1, w3, (tm_sto_ok e4.2.2 hrg ha hc (w2.trans (congrArg some y2))).1⟩ e5 (tm_lr_eq hsq.1 hsq.2.1 e6))))
theorem tm_o_begin {N : Nat} {h0 h1 ag : Nat → Nat} (hN : xN = nI N) (hcw : tm_cw N cO cA cB cC cK h0 h1 ag) {pc : Nat} (hpc : pc < N) (hO : cO pc = nI 18) (hMI : tm_MI N h0 h1 ag pc (xU, xH, xI, xR, so, nu, ln, lm, sv, ka, es, en, ec))
    (IH : ∀ pc1 m1, pc1 ≤ N → tm_MI N h0 h1 ag pc1 m1 → tm_mu N h0 h1 m1.2.2.2.2.2.2.1 m1.2.2.2.2.2.2.2.1 pc1 < tm_mu N h0 h1 ln lm pc → tm_gd xE xS xC xN kd px py wt ks ki al op fx fy fz cO cA cB cC cK wn wr wp wq oq N h0 h1 pc1 m1) : tm_gd xE xS xC xN kd px py wt ks ki al op fx fy fz cO cA cB cC cK wn wr wp wq oq N h0 h1 pc (xU, xH, xI, xR, so, nu, ln, lm, sv, ka, es, en, ec) := by
  have hcw0 := hcw
  obtain ⟨cw1, cw2, cw3, cw4, cw5, cw6⟩ := hcw
  obtain ⟨o', ho', hO', k1, k2, k3, k4, k5, k6⟩ := cw5 pc hpc
  have eo : o' = 18 := tm_nIinj (by omega) (by omega) (by rw [← hO', ← hO])
  subst eo
  obtain ⟨hiv, ⟨X, hX1, hX2, hX3⟩, hlp, k, hk1, hk2⟩ := hMI
  have hpcl : pc < 2 ^ 31 := by omega
  have hpi : vp_in (nI pc) 350 := pk_in pc 350 (by omega)
  obtain ⟨q0, q1⟩ := k5 rfl
  obtain ⟨g0, g1⟩ := k1 (by omega)
  have hmu : tm_mu N h0 h1 ln lm (pc + 1) < tm_mu N h0 h1 ln lm pc := tm_mu_fw cw1 q0 q1 (by omega) (by omega) g0 g1
  have hA : cA pc = cA pc := rfl
  obtain ⟨r, hr⟩ := tm_ls_ex 6 (tm_zr so 6 18) (tm_zr nu 6 18) es en
  have hiv1 : tm_iv xI (tm_zr so 6 18) (tm_zr nu 6 18) es en ec := ⟨hiv.1, tm_zr_rg hiv.2.1, tm_zr_cr' hiv.2.2.1, hiv.2.2.2⟩
  by_cases e : tm_ct (bt r) 32 ≤ 8
  · refine tm_gd_step (IH (pc + 1) (cK pc, xH, xI, r, tm_zr so 6 18, tm_zr nu 6 18, ln, lm, sv, ka, es, en, ec) (by omega) (tm_MI_mk hiv1 ⟨bt r, by omega, tm_zr_cr hr.1, hr.2.1⟩ (tm_lp_eq q0 q1 hlp) k hk1 (by omega)) hmu) hmu (fun xO oe ol n u post hMR hk => ?_)
    obtain ⟨xU', xH', xI', xR', so', nu', ln', lm', sv', ka', es', en', ec'⟩ := u
    obtain ⟨e1, e2, e3, e4, e5, e6⟩ := hMR
    have hrg := tm_rl_rg e4 hiv.2.1
    show wX_execute_2 post (n + 1) (nI pc) xE xS xC xN xO xU' xH' xI' xR' kd px py wt ks ki al op fx fy fz cO cA cB cC cK wn wr wp wq oe ol oq so' nu' ln' lm' sv' ka' es' en' ec'
    unfold wX_execute_2
    refine br_f (by rw [hN]; exact nI_ge hpc (by omega)) ⟨hpi, ?_⟩
    rw [nI_clamp hpcl]
    refine nm_r hO (nm_r (nI_1 pc) ?_)
    refine br_f (by decide) ?_
    refine br_f (by decide) ?_
    refine br_f (by decide) ?_
    refine br_f (by decide) ?_
    refine br_t (by decide) ?_
    unfold wpX_act
    dsimp only
    rw [nI_clamp hpcl]
    refine ⟨hpi, nm_r hA ?_⟩
    refine br_t rfl ?_
    refine ⟨hpi, tm_begin_w e4.2.2 hrg (fun r' hr' => ?_)⟩
    have er : r' = r := tm_ls_eq (by omega) hiv1 (tm_zr_rl e4) hr hr'
    subst er
    rw [if_pos e]
    exact ⟨tm_nb01 (Or.inr rfl), br_f (by decide) (br_t rfl (hk (cK pc, xH', xI', r', tm_zr so' 6 18, tm_zr nu' 6 18, ln', lm', sv', ka', es', en', ec') (tm_MR_mk e1 e2 (fun _ => rfl) (tm_zr_rl e4) e5 (tm_lr_eq q0 q1 e6))))⟩
  · refine tm_gd_fail (cK pc) (cK pc, xH, xI, r, tm_zr so 6 18, tm_zr nu 6 18, ln, lm, sv, ka, es, en, ec) (tm_MO_mk hiv1 k hk1 (by omega)) (fun xO oe ol n u post hMR hk => ?_)
    obtain ⟨xU', xH', xI', xR', so', nu', ln', lm', sv', ka', es', en', ec'⟩ := u
    obtain ⟨e1, e2, e3, e4, e5, e6⟩ := hMR
    have hrg := tm_rl_rg e4 hiv.2.1
    show wX_execute_2 post (n + 1) (nI pc) xE xS xC xN xO xU' xH' xI' xR' kd px py wt ks ki al op fx fy fz cO cA cB cC cK wn wr wp wq oe ol oq so' nu' ln' lm' sv' ka' es' en' ec'
    unfold wX_execute_2
    refine br_f (by rw [hN]; exact nI_ge hpc (by omega)) ⟨hpi, ?_⟩
    rw [nI_clamp hpcl]
    refine nm_r hO (nm_r (nI_1 pc) ?_)
    refine br_f (by decide) ?_
    refine br_f (by decide) ?_
    refine br_f (by decide) ?_
    refine br_f (by decide) ?_
    refine br_t (by decide) ?_
    unfold wpX_act
    dsimp only
    rw [nI_clamp hpcl]
    refine ⟨hpi, nm_r hA ?_⟩
    refine br_t rfl ?_
    refine ⟨hpi, tm_begin_w e4.2.2 hrg (fun r' hr' => ?_)⟩
    have er : r' = r := tm_ls_eq (by omega) hiv1 (tm_zr_rl e4) hr hr'
    subst er
    rw [if_neg e]
    exact ⟨tm_nb01 (Or.inl rfl), br_t rfl (br_f (by decide) (hk (cK pc, xH', xI', r', tm_zr so' 6 18, tm_zr nu' 6 18, ln', lm', sv', ka', es', en', ec') (tm_ME_mk e1 e2 (tm_zr_rl e4) e5)))⟩
theorem tm_o_jump {N : Nat} {h0 h1 ag : Nat → Nat} (hN : xN = nI N) (hcw : tm_cw N cO cA cB cC cK h0 h1 ag) {pc : Nat} (hpc : pc < N) (hO : cO pc = nI 17) (hMI : tm_MI N h0 h1 ag pc (xU, xH, xI, xR, so, nu, ln, lm, sv, ka, es, en, ec))
    (IH : ∀ pc1 m1, pc1 ≤ N → tm_MI N h0 h1 ag pc1 m1 → tm_mu N h0 h1 m1.2.2.2.2.2.2.1 m1.2.2.2.2.2.2.2.1 pc1 < tm_mu N h0 h1 ln lm pc → tm_gd xE xS xC xN kd px py wt ks ki al op fx fy fz cO cA cB cC cK wn wr wp wq oq N h0 h1 pc1 m1) : tm_gd xE xS xC xN kd px py wt ks ki al op fx fy fz cO cA cB cC cK wn wr wp wq oq N h0 h1 pc (xU, xH, xI, xR, so, nu, ln, lm, sv, ka, es, en, ec) := by
  have hpc0 := tm_pc0 hcw hpc hO (by omega) (by omega)
  have hcw0 := hcw
  obtain ⟨cw1, cw2, cw3, cw4, cw5, cw6⟩ := hcw
  obtain ⟨o', ho', hO', k1, k2, k3, k4, k5, k6⟩ := cw5 pc hpc
  have eo : o' = 17 := tm_nIinj (by omega) (by omega) (by rw [← hO', ← hO])
  subst eo
  obtain ⟨hiv, ⟨X, hX1, hX2, hX3⟩, hlp, k, hk1, hk2⟩ := hMI
  have hpcl : pc < 2 ^ 31 := by omega
  have hpi : vp_in (nI pc) 350 := pk_in pc 350 (by omega)
  obtain ⟨g0, g1⟩ := k1 (by omega)
  obtain ⟨h, j1, j2, j3, j4, j5, j6, j7⟩ := (cw6 pc hpc).2.2 hO
  have hh : 0 < h := by
    rcases Nat.eq_zero_or_pos h with z | z
    · subst z
      rw [cw4 (by omega)] at j3
      exact absurd (tm_nIinj (by omega) (by omega) j3) (by omega)
    · exact z
  have hmu : tm_mu N h0 h1 ln lm h < tm_mu N h0 h1 ln lm pc := tm_mu_bk cw1 j4 j5 hpc j2 hh g0 g1 j7
  refine tm_gd_step (IH h (xU, xH, xI, xR, so, nu, ln, lm, sv, ka, es, en, ec) (by omega) (tm_MI_mk hiv ⟨X, by omega, hX2, hX3⟩ (tm_lp_eq j4 j5 hlp) k hk1 (by omega)) hmu) hmu (fun xO oe ol n u post hMR hk => ?_)
  obtain ⟨xU', xH', xI', xR', so', nu', ln', lm', sv', ka', es', en', ec'⟩ := u
  obtain ⟨e1, e2, e3, e4, e5, e6⟩ := hMR
  have hrg := tm_rl_rg e4 hiv.2.1
  show wX_execute_2 post (n + 1) (nI pc) xE xS xC xN xO xU' xH' xI' xR' kd px py wt ks ki al op fx fy fz cO cA cB cC cK wn wr wp wq oe ol oq so' nu' ln' lm' sv' ka' es' en' ec'
  unfold wX_execute_2
  refine br_f (by rw [hN]; exact nI_ge hpc (by omega)) ⟨hpi, ?_⟩
  rw [nI_clamp hpcl]
  refine nm_r hO (nm_r (nI_1 pc) ?_)
  refine br_t rfl ?_
  refine ⟨hpi, nm_r j1 ?_⟩
  exact br_t rfl (hk (xU', xH', xI', xR', so', nu', ln', lm', sv', ka', es', en', ec') (tm_MR_mk e1 e2 (fun _ => e3 hpc0) e4 e5 (tm_lr_eq j4 j5 e6)))
theorem tm_o_if19 {N : Nat} {h0 h1 ag : Nat → Nat} (hN : xN = nI N) (hcw : tm_cw N cO cA cB cC cK h0 h1 ag) {pc : Nat} (hpc : pc < N) (hO : cO pc = nI 19) (hMI : tm_MI N h0 h1 ag pc (xU, xH, xI, xR, so, nu, ln, lm, sv, ka, es, en, ec))
    (IH : ∀ pc1 m1, pc1 ≤ N → tm_MI N h0 h1 ag pc1 m1 → tm_mu N h0 h1 m1.2.2.2.2.2.2.1 m1.2.2.2.2.2.2.2.1 pc1 < tm_mu N h0 h1 ln lm pc → tm_gd xE xS xC xN kd px py wt ks ki al op fx fy fz cO cA cB cC cK wn wr wp wq oq N h0 h1 pc1 m1) : tm_gd xE xS xC xN kd px py wt ks ki al op fx fy fz cO cA cB cC cK wn wr wp wq oq N h0 h1 pc (xU, xH, xI, xR, so, nu, ln, lm, sv, ka, es, en, ec) := by
  have hpc0 := tm_pc0 hcw hpc hO (by omega) (by omega)
  have hcw0 := hcw
  obtain ⟨cw1, cw2, cw3, cw4, cw5, cw6⟩ := hcw
  obtain ⟨o', ho', hO', k1, k2, k3, k4, k5, k6⟩ := cw5 pc hpc
  have eo : o' = 19 := tm_nIinj (by omega) (by omega) (by rw [← hO', ← hO])
  subst eo
  obtain ⟨hiv, ⟨X, hX1, hX2, hX3⟩, hlp, k, hk1, hk2⟩ := hMI
  have hpcl : pc < 2 ^ 31 := by omega
  have hpi : vp_in (nI pc) 350 := pk_in pc 350 (by omega)
  obtain ⟨g0, g1⟩ := k1 (by omega)
  obtain ⟨⟨a, ha, hA⟩, hsq⟩ := k6 (Or.inl rfl)
  obtain ⟨q, j1, j2, j3, j4⟩ := (cw6 pc hpc).1 (Or.inl hO)
  have hmu : tm_mu N h0 h1 ln lm (pc + 1) < tm_mu N h0 h1 ln lm pc := tm_mu_fw cw1 hsq.1 hsq.2.1 (by omega) (by omega) g0 g1
  have hmuq : tm_mu N h0 h1 ln lm q < tm_mu N h0 h1 ln lm pc := tm_mu_fw cw1 j4.1 j4.2.1 j2 j3 g0 g1
  by_cases e : so a = 0
  · refine tm_gd_step (IH q (xU, xH, xI, xR, so, nu, ln, lm, sv, ka, es, en, ec) j3 (tm_MI_mk hiv ⟨X, by have := j4.2.2; omega, hX2, hX3⟩ (tm_lp_eq j4.1 j4.2.1 hlp) k hk1 (by omega)) hmuq) hmuq (fun xO oe ol n u post hMR hk => ?_)
    obtain ⟨xU', xH', xI', xR', so', nu', ln', lm', sv', ka', es', en', ec'⟩ := u
    obtain ⟨e1, e2, e3, e4, e5, e6⟩ := hMR
    have hrg := tm_rl_rg e4 hiv.2.1
    show wX_execute_2 post (n + 1) (nI pc) xE xS xC xN xO xU' xH' xI' xR' kd px py wt ks ki al op fx fy fz cO cA cB cC cK wn wr wp wq oe ol oq so' nu' ln' lm' sv' ka' es' en' ec'
    unfold wX_execute_2
    refine br_f (by rw [hN]; exact nI_ge hpc (by omega)) ⟨hpi, ?_⟩
    rw [nI_clamp hpcl]
    refine nm_r hO (nm_r (nI_1 pc) ?_)
    refine br_f (by decide) ?_
    refine br_t rfl ?_
    rw [hA, nI_clamp (show a < 2 ^ 31 by omega), (e4.1 a ha).1]
    refine ⟨hpi, pk_in a 18 ha, br_t e ⟨hpi, ?_⟩⟩
    rw [j1]
    exact br_t rfl (hk (xU', xH', xI', xR', so', nu', ln', lm', sv', ka', es', en', ec') (tm_MR_mk e1 e2 (fun _ => e3 hpc0) e4 e5 (tm_lr_eq j4.1 j4.2.1 e6)))
  · refine tm_gd_step (IH (pc + 1) (xU, xH, xI, xR, so, nu, ln, lm, sv, ka, es, en, ec) (by omega) (tm_MI_mk hiv ⟨X, by have := hsq.2.2; omega, hX2, hX3⟩ (tm_lp_eq hsq.1 hsq.2.1 hlp) k hk1 (by omega)) hmu) hmu (fun xO oe ol n u post hMR hk => ?_)
    obtain ⟨xU', xH', xI', xR', so', nu', ln', lm', sv', ka', es', en', ec'⟩ := u
    obtain ⟨e1, e2, e3, e4, e5, e6⟩ := hMR
    have hrg := tm_rl_rg e4 hiv.2.1
    show wX_execute_2 post (n + 1) (nI pc) xE xS xC xN xO xU' xH' xI' xR' kd px py wt ks ki al op fx fy fz cO cA cB cC cK wn wr wp wq oe ol oq so' nu' ln' lm' sv' ka' es' en' ec'
    unfold wX_execute_2
    refine br_f (by rw [hN]; exact nI_ge hpc (by omega)) ⟨hpi, ?_⟩
    rw [nI_clamp hpcl]
    refine nm_r hO (nm_r (nI_1 pc) ?_)
    refine br_f (by decide) ?_
    refine br_t rfl ?_
    rw [hA, nI_clamp (show a < 2 ^ 31 by omega), (e4.1 a ha).1]
    refine ⟨hpi, pk_in a 18 ha, br_f e ?_⟩
    exact br_t rfl (hk (xU', xH', xI', xR', so', nu', ln', lm', sv', ka', es', en', ec') (tm_MR_mk e1 e2 (fun _ => e3 hpc0) e4 e5 (tm_lr_eq hsq.1 hsq.2.1 e6)))
theorem tm_o_if20 {N : Nat} {h0 h1 ag : Nat → Nat} (hN : xN = nI N) (hcw : tm_cw N cO cA cB cC cK h0 h1 ag) {pc : Nat} (hpc : pc < N) (hO : cO pc = nI 20) (hMI : tm_MI N h0 h1 ag pc (xU, xH, xI, xR, so, nu, ln, lm, sv, ka, es, en, ec))
    (IH : ∀ pc1 m1, pc1 ≤ N → tm_MI N h0 h1 ag pc1 m1 → tm_mu N h0 h1 m1.2.2.2.2.2.2.1 m1.2.2.2.2.2.2.2.1 pc1 < tm_mu N h0 h1 ln lm pc → tm_gd xE xS xC xN kd px py wt ks ki al op fx fy fz cO cA cB cC cK wn wr wp wq oq N h0 h1 pc1 m1) : tm_gd xE xS xC xN kd px py wt ks ki al op fx fy fz cO cA cB cC cK wn wr wp wq oq N h0 h1 pc (xU, xH, xI, xR, so, nu, ln, lm, sv, ka, es, en, ec) := by
  have hpc0 := tm_pc0 hcw hpc hO (by omega) (by omega)
  have hcw0 := hcw
  obtain ⟨cw1, cw2, cw3, cw4, cw5, cw6⟩ := hcw
  obtain ⟨o', ho', hO', k1, k2, k3, k4, k5, k6⟩ := cw5 pc hpc
  have eo : o' = 20 := tm_nIinj (by omega) (by omega) (by rw [← hO', ← hO])
  subst eo
  obtain ⟨hiv, ⟨X, hX1, hX2, hX3⟩, hlp, k, hk1, hk2⟩ := hMI
  have hpcl : pc < 2 ^ 31 := by omega
  have hpi : vp_in (nI pc) 350 := pk_in pc 350 (by omega)
  obtain ⟨g0, g1⟩ := k1 (by omega)
  obtain ⟨⟨a, ha, hA⟩, hsq⟩ := k6 (Or.inr rfl)
  obtain ⟨q, j1, j2, j3, j4⟩ := (cw6 pc hpc).1 (Or.inr hO)
  have hmu : tm_mu N h0 h1 ln lm (pc + 1) < tm_mu N h0 h1 ln lm pc := tm_mu_fw cw1 hsq.1 hsq.2.1 (by omega) (by omega) g0 g1
  have hmuq : tm_mu N h0 h1 ln lm q < tm_mu N h0 h1 ln lm pc := tm_mu_fw cw1 j4.1 j4.2.1 j2 j3 g0 g1
  by_cases e : so a = 0
  · refine tm_gd_step (IH (pc + 1) (xU, xH, xI, xR, so, nu, ln, lm, sv, ka, es, en, ec) (by omega) (tm_MI_mk hiv ⟨X, by have := hsq.2.2; omega, hX2, hX3⟩ (tm_lp_eq hsq.1 hsq.2.1 hlp) k hk1 (by omega)) hmu) hmu (fun xO oe ol n u post hMR hk => ?_)
    obtain ⟨xU', xH', xI', xR', so', nu', ln', lm', sv', ka', es', en', ec'⟩ := u
    obtain ⟨e1, e2, e3, e4, e5, e6⟩ := hMR
    have hrg := tm_rl_rg e4 hiv.2.1
    show wX_execute_2 post (n + 1) (nI pc) xE xS xC xN xO xU' xH' xI' xR' kd px py wt ks ki al op fx fy fz cO cA cB cC cK wn wr wp wq oe ol oq so' nu' ln' lm' sv' ka' es' en' ec'
    unfold wX_execute_2
    refine br_f (by rw [hN]; exact nI_ge hpc (by omega)) ⟨hpi, ?_⟩
    rw [nI_clamp hpcl]
    refine nm_r hO (nm_r (nI_1 pc) ?_)
    refine br_f (by decide) ?_
    refine br_f (by decide) ?_
    refine br_t rfl ?_
    rw [hA, nI_clamp (show a < 2 ^ 31 by omega), (e4.1 a ha).1]
    refine ⟨hpi, pk_in a 18 ha, br_t e ?_⟩
    exact br_t rfl (hk (xU', xH', xI', xR', so', nu', ln', lm', sv', ka', es', en', ec') (tm_MR_mk e1 e2 (fun _ => e3 hpc0) e4 e5 (tm_lr_eq hsq.1 hsq.2.1 e6)))
  · refine tm_gd_step (IH q (xU, xH, xI, xR, so, nu, ln, lm, sv, ka, es, en, ec) j3 (tm_MI_mk hiv ⟨X, by have := j4.2.2; omega, hX2, hX3⟩ (tm_lp_eq j4.1 j4.2.1 hlp) k hk1 (by omega)) hmuq) hmuq (fun xO oe ol n u post hMR hk => ?_)
    obtain ⟨xU', xH', xI', xR', so', nu', ln', lm', sv', ka', es', en', ec'⟩ := u
    obtain ⟨e1, e2, e3, e4, e5, e6⟩ := hMR
    have hrg := tm_rl_rg e4 hiv.2.1
    show wX_execute_2 post (n + 1) (nI pc) xE xS xC xN xO xU' xH' xI' xR' kd px py wt ks ki al op fx fy fz cO cA cB cC cK wn wr wp wq oe ol oq so' nu' ln' lm' sv' ka' es' en' ec'
    unfold wX_execute_2
    refine br_f (by rw [hN]; exact nI_ge hpc (by omega)) ⟨hpi, ?_⟩
    rw [nI_clamp hpcl]
    refine nm_r hO (nm_r (nI_1 pc) ?_)
    refine br_f (by decide) ?_
    refine br_f (by decide) ?_
    refine br_t rfl ?_
    rw [hA, nI_clamp (show a < 2 ^ 31 by omega), (e4.1 a ha).1]
    refine ⟨hpi, pk_in a 18 ha, br_f e ⟨hpi, ?_⟩⟩
    rw [j1]
    exact br_t rfl (hk (xU', xH', xI', xR', so', nu', ln', lm', sv', ka', es', en', ec') (tm_MR_mk e1 e2 (fun _ => e3 hpc0) e4 e5 (tm_lr_eq j4.1 j4.2.1 e6)))
theorem tm_o_new {N : Nat} {h0 h1 ag : Nat → Nat} (hN : xN = nI N) (hcw : tm_cw N cO cA cB cC cK h0 h1 ag) {pc : Nat} (hpc : pc < N) (hO : cO pc = nI 11) (hMI : tm_MI N h0 h1 ag pc (xU, xH, xI, xR, so, nu, ln, lm, sv, ka, es, en, ec))
    (IH : ∀ pc1 m1, pc1 ≤ N → tm_MI N h0 h1 ag pc1 m1 → tm_mu N h0 h1 m1.2.2.2.2.2.2.1 m1.2.2.2.2.2.2.2.1 pc1 < tm_mu N h0 h1 ln lm pc → tm_gd xE xS xC xN kd px py wt ks ki al op fx fy fz cO cA cB cC cK wn wr wp wq oq N h0 h1 pc1 m1) : tm_gd xE xS xC xN kd px py wt ks ki al op fx fy fz cO cA cB cC cK wn wr wp wq oq N h0 h1 pc (xU, xH, xI, xR, so, nu, ln, lm, sv, ka, es, en, ec) := by
  have hpc0 := tm_pc0 hcw hpc hO (by omega) (by omega)
  have hcw0 := hcw
  obtain ⟨cw1, cw2, cw3, cw4, cw5, cw6⟩ := hcw
  obtain ⟨o', ho', hO', k1, k2, k3, k4, k5, k6⟩ := cw5 pc hpc
  have eo : o' = 11 := tm_nIinj (by omega) (by omega) (by rw [← hO', ← hO])
  subst eo
  obtain ⟨hiv, ⟨X, hX1, hX2, hX3⟩, hlp, k, hk1, hk2⟩ := hMI
  have hpcl : pc < 2 ^ 31 := by omega
  have hpi : vp_in (nI pc) 350 := pk_in pc 350 (by omega)
  obtain ⟨⟨a, b, c, ha, hb, hc, hA, hB, hC⟩, hsq, hag⟩ := k2 (by omega)
  obtain ⟨g0, g1⟩ := k1 (by omega)
  have hmu : tm_mu N h0 h1 ln lm (pc + 1) < tm_mu N h0 h1 ln lm pc := tm_mu_fw cw1 hsq.1 hsq.2.1 (by omega) (by omega) g0 g1
  have hag := hag rfl
  obtain ⟨i, hi1, hi2⟩ : ∃ i, (xI = -1 → tm_ls 18 so nu es en i) ∧ (¬ xI = -1 → i = xI) := by
    by_cases z : xI = -1
    · obtain ⟨r, hr⟩ := tm_ls_ex 18 so nu es en
      exact ⟨r, fun _ => hr, fun w => absurd z w⟩
    · exact ⟨xI, fun w => absurd w z, fun _ => rfl⟩
  have hsub : ∀ j, j < 32 → bt i j = true → bt xI j = true := by
    by_cases z : xI = -1
    · exact (hi1 z).2.2 (bt xI) hiv.2.2.1 hiv.2.2.2
    · rw [hi2 z]; exact fun _ _ h => h
  have hcr : tm_cr (bt i) 18 so nu := by
    by_cases z : xI = -1
    · exact (hi1 z).1
    · rw [hi2 z]; exact hiv.2.2.1
  have hcl : tm_cl (bt i) es en := by
    by_cases z : xI = -1
    · exact (hi1 z).2.1
    · rw [hi2 z]; exact hiv.2.2.2
  have hfree : ∃ t, t < 32 ∧ bt i t = false := by
    by_cases z : xI = -1
    · have s := (hi1 z).2.2 X hX2 hX3
      obtain ⟨t, ht, et⟩ := tm_ct_free (show tm_ct X 32 < 32 by omega)
      refine ⟨t, ht, ?_⟩
      cases w : bt i t
      · rfl
      · rw [s t ht w] at et; exact absurd et (by decide)
    · rw [hi2 z]; exact tm_nm1 z
  obtain ⟨t, ⟨ht, hbt⟩, hmin⟩ := pk_least (fun t => t < 32 ∧ bt i t = false) hfree
  have hmin' : ∀ j, j < t → bt i j = true := by
    intro j hj
    cases w : bt i j
    · exact absurd ⟨by omega, w⟩ (hmin j hj)
    · rfl
  have hset : ∀ j, j < 32 → bt (i ||| ((1 : Int32) <<< (nI t &&& 31))) j = (bt i j || decide (j = t)) := fun j hj => tm_bset i ht hj
  have hup : ∀ j, j < 32 → bt i j = true → bt (i ||| ((1 : Int32) <<< (nI t &&& 31))) j = true := fun j hj h => by rw [hset j hj, h]; rfl
  have hdn : ∀ j, j < 32 → bt (i ||| ((1 : Int32) <<< (nI t &&& 31))) j = true → bt i j = true ∨ j = t := fun j hj h => by
    rw [hset j hj] at h
    rcases Bool.or_eq_true _ _ ▸ h with w | w
    · exact Or.inl w
    · exact Or.inr (of_decide_eq_true w)
  have hbtt : bt (i ||| ((1 : Int32) <<< (nI t &&& 31))) t = true := by rw [hset t ht]; simp
  have hiv1 : tm_iv (i ||| ((1 : Int32) <<< (nI t &&& 31))) (upd so a 2) (upd nu a (nI t)) (tm_zr es (8 * t) (8 * t + 8)) (tm_zr en (8 * t) (8 * t + 8)) (upd ec t 0) :=
    ⟨tm_fr_tb hiv.1 ht, tm_rg_set (X := fun _ => true) hiv.2.1 ⟨Or.inr (Or.inr rfl), fun _ => ⟨t, ht, rfl, rfl⟩⟩, tm_cr_set (fun r hr h2 j hj e => hup j hj (hcr r hr h2 j hj e)) ⟨Or.inr (Or.inr rfl), fun _ => ⟨t, ht, rfl, hbtt⟩⟩, tm_fr_cl hcl hup hdn⟩
  have hY1 : ∀ j, j < 32 → X j = true → (X j || decide (j = t)) = true := fun j _ h => by rw [h]; rfl
  have hY2 : ∀ j, j < 32 → (X j || decide (j = t)) = true → X j = true ∨ j = t := fun j _ h => by
    rcases Bool.or_eq_true _ _ ▸ h with w | w
    · exact Or.inl w
    · exact Or.inr (of_decide_eq_true w)
  have hxc : tm_xc ag (pc + 1) (upd so a 2) (upd nu a (nI t)) (tm_zr es (8 * t) (8 * t + 8)) (tm_zr en (8 * t) (8 * t + 8)) := by
    refine ⟨fun j => X j || decide (j = t), ?_, tm_cr_set (fun r hr h2 j hj e => hY1 j hj (hX2 r hr h2 j hj e)) ⟨Or.inr (Or.inr rfl), fun _ => ⟨t, ht, rfl, by simp⟩⟩, tm_fr_cl hX3 hY1 hY2⟩
    have c1 := tm_ct_add (f := X) (g := fun j => X j || decide (j = t)) (n := 32) (k := t) hY2
    have c2 := hsq.2.2
    omega
  refine tm_gd_step (IH (pc + 1) (xU, xH, i ||| ((1 : Int32) <<< (nI t &&& 31)), xR, upd so a 2, upd nu a (nI t), ln, lm, sv, ka, tm_zr es (8 * t) (8 * t + 8), tm_zr en (8 * t) (8 * t + 8), upd ec t 0) (by omega) (tm_MI_mk hiv1 hxc (tm_lp_eq hsq.1 hsq.2.1 hlp) k hk1 (by omega)) hmu) hmu (fun xO oe ol n u post hMR hk => ?_)
  obtain ⟨xU', xH', xI', xR', so', nu', ln', lm', sv', ka', es', en', ec'⟩ := u
  obtain ⟨e1, e2, e3, e4, e5, e6⟩ := hMR
  have hrg := tm_rl_rg e4 hiv.2.1
  show wX_execute_2 post (n + 1) (nI pc) xE xS xC xN xO xU' xH' xI' xR' kd px py wt ks ki al op fx fy fz cO cA cB cC cK wn wr wp wq oe ol oq so' nu' ln' lm' sv' ka' es' en' ec'
  unfold wX_execute_2
  refine br_f (by rw [hN]; exact nI_ge hpc (by omega)) ⟨hpi, ?_⟩
  rw [nI_clamp hpcl]
  refine nm_r hO (nm_r (nI_1 pc) ?_)
  refine br_f (by decide) ?_
  refine br_f (by decide) ?_
  refine br_f (by decide) ?_
  refine br_f (by decide) ?_
  refine br_t (by decide) ?_
  unfold wpX_act
  dsimp only
  rw [nI_clamp hpcl]
  refine ⟨hpi, nm_r hA ?_⟩
  refine br_f (by decide) ?_
  refine br_t rfl ?_
  have hls : xI' = -1 → ∀ r', tm_ls 18 so' nu' es' en' r' → r' = i := fun z r' hr' => tm_ls_eq (by omega) hiv e4 (hi1 (by rw [← e1]; exact z)) hr'
  refine tm_free_w e4.2.2 hrg (fun z r' hr' => by rw [hls z r' hr']; exact hfree) (fun i' r' t' y1 y2 y3 y4 y5 => ?_)
  have ei : i' = i := by
    by_cases z : xI' = -1
    · exact hls z i' (y1 z)
    · rw [y2 z, e1, hi2 (by rw [← e1]; exact z)]
  subst ei
  have et : t' = t := by
    rcases Nat.lt_trichotomy t' t with w | w | w
    · rw [hmin' t' w] at y4; exact absurd y4 (by decide)
    · exact w
    · rw [y5 t w] at hbt; exact absurd hbt (by decide)
  subst et
  refine tm_setReg a rfl ha ?_
  exact br_f (by decide) (br_t rfl (hk (xU', xH', i' ||| ((1 : Int32) <<< (nI t' &&& 31)), r', upd so' a 2, upd nu' a (nI t'), ln', lm', sv', ka', tm_zr es' (8 * t') (8 * t' + 8), tm_zr en' (8 * t') (8 * t' + 8), upd ec' t' 0) (tm_MR_mk rfl e2 (fun _ => e3 hpc0) ⟨(tm_rl_set e4 a 2 (nI t')).1, tm_fr_rt e4.2.1 ht hsub, tm_fr_tb e4.2.2 ht⟩ e5 (tm_lr_eq hsq.1 hsq.2.1 e6))))
end
section
variable {xE xS xC xN xO xU xH xI xR : Int32} {kd px py wt ks ki al op fx fy fz cO cA cB cC cK wn wr wp wq oe ol oq so nu ln lm ka es en ec : Nat → Int32} {sv : Nat → Int64}
/-! loops -/
def tm_cp (x : Int32) : Int32 := if 0 ≤ x then (if x ≤ 5 then x else 5) else 0
theorem tm_cp_in (x : Int32) : ∃ b, b ≤ 5 ∧ tm_cp x = nI b := by
  unfold tm_cp
  by_cases e : 0 ≤ x
  · rw [if_pos e]
    by_cases e5 : x ≤ 5
    · rw [if_pos e5]
      have h : ¬ x < 0 := by
        intro z
        have z1 := Int32.lt_iff_toInt_lt.mp z
        have z2 := Int32.le_iff_toInt_le.mp e
        omega
      obtain ⟨j, hj, ej⟩ := nI_of2 (M := 5) (n := 5) (by decide) h e5
      exact ⟨j, hj, ej⟩
    · rw [if_neg e5]
      exact ⟨5, by omega, rfl⟩
  · rw [if_neg e]
    exact ⟨0, by omega, rfl⟩
theorem tm_upd_rem (ln lm : Nat → Int32) {l j : Nat} (x y : Int32) (h : j ≠ l) : tm_rem (upd ln l x) (upd lm l y) j = tm_rem ln lm j := by
  unfold tm_rem
  rw [pk_un h, pk_un h]
theorem tm_upd_rem1 (ln lm : Nat → Int32) {l j : Nat} (x : Int32) (h : j ≠ l) : tm_rem (upd ln l x) lm j = tm_rem ln lm j := by
  unfold tm_rem
  rw [pk_un h]
theorem tm_o_set {N : Nat} {h0 h1 ag : Nat → Nat} (hN : xN = nI N) (hcw : tm_cw N cO cA cB cC cK h0 h1 ag) {pc : Nat} (hpc : pc < N) (hO : cO pc = nI 15) (hMI : tm_MI N h0 h1 ag pc (xU, xH, xI, xR, so, nu, ln, lm, sv, ka, es, en, ec))
    (IH : ∀ pc1 m1, pc1 ≤ N → tm_MI N h0 h1 ag pc1 m1 → tm_mu N h0 h1 m1.2.2.2.2.2.2.1 m1.2.2.2.2.2.2.2.1 pc1 < tm_mu N h0 h1 ln lm pc → tm_gd xE xS xC xN kd px py wt ks ki al op fx fy fz cO cA cB cC cK wn wr wp wq oq N h0 h1 pc1 m1) : tm_gd xE xS xC xN kd px py wt ks ki al op fx fy fz cO cA cB cC cK wn wr wp wq oq N h0 h1 pc (xU, xH, xI, xR, so, nu, ln, lm, sv, ka, es, en, ec) := by
  have hpc0 := tm_pc0 hcw hpc hO (by omega) (by omega)
  have hcw0 := hcw
  obtain ⟨cw1, cw2, cw3, cw4, cw5, cw6⟩ := hcw
  obtain ⟨o', ho', hO', k1, k2, k3, k4, k5, k6⟩ := cw5 pc hpc
  have eo : o' = 15 := tm_nIinj (by omega) (by omega) (by rw [← hO', ← hO])
  subst eo
  obtain ⟨hiv, ⟨X, hX1, hX2, hX3⟩, hlp, k, hk1, hk2⟩ := hMI
  have hpcl : pc < 2 ^ 31 := by omega
  have hpi : vp_in (nI pc) 350 := pk_in pc 350 (by omega)
  obtain ⟨g0, g1⟩ := k1 (by omega)
  obtain ⟨l, b, hb, hA, hB, hag, hctx⟩ := k3 rfl
  have hl : l < 2 := by omega
  by_cases e : so b = 1
  · obtain ⟨v, hv5, hv⟩ := tm_cp_in (nu b)
    have hmu : tm_mu N h0 h1 (upd ln l 0) (upd lm l (nI v)) (pc + 1) < tm_mu N h0 h1 ln lm pc := by
      refine tm_mu_in cw1 hpc g0 ?_
      rcases hctx with ⟨c1, c2, c3, c4, c5⟩ | ⟨c1, c2, c3, c4, c5⟩
      · exact Or.inl ⟨c2, c3, c4, c5⟩
      · exact Or.inr ⟨c2, c3, c4, c5, tm_upd_rem ln lm _ _ (by omega)⟩
    have hlp1 : tm_lp h0 h1 (upd ln l 0) (upd lm l (nI v)) (pc + 1) := by
      rcases hctx with ⟨c1, c2, c3, c4, c5⟩ | ⟨c1, c2, c3, c4, c5⟩
      · subst c1
        exact ⟨fun _ => ⟨0, v, by omega, hv5, pk_us, pk_us⟩, fun z => absurd c5 z⟩
      · subst c1
        refine ⟨fun _ => ?_, fun _ => ⟨0, v, by omega, hv5, pk_us, pk_us⟩⟩
        rw [pk_un (by omega), pk_un (by omega)]
        exact hlp.1 c2
    refine tm_gd_step (IH (pc + 1) (xU, xH, xI, xR, so, nu, upd ln l 0, upd lm l (nI v), sv, ka, es, en, ec) (by omega) (tm_MI_mk hiv ⟨X, by omega, hX2, hX3⟩ hlp1 k hk1 (by omega)) hmu) hmu (fun xO oe ol n u post hMR hk => ?_)
    obtain ⟨xU', xH', xI', xR', so', nu', ln', lm', sv', ka', es', en', ec'⟩ := u
    obtain ⟨e1, e2, e3, e4, e5, e6⟩ := hMR
    have hrg := tm_rl_rg e4 hiv.2.1
    show wX_execute_2 post (n + 1) (nI pc) xE xS xC xN xO xU' xH' xI' xR' kd px py wt ks ki al op fx fy fz cO cA cB cC cK wn wr wp wq oe ol oq so' nu' ln' lm' sv' ka' es' en' ec'
    unfold wX_execute_2
    refine br_f (by rw [hN]; exact nI_ge hpc (by omega)) ⟨hpi, ?_⟩
    rw [nI_clamp hpcl]
    refine nm_r hO (nm_r (nI_1 pc) ?_)
    refine br_f (by decide) ?_
    refine br_f (by decide) ?_
    refine br_f (by decide) ?_
    refine br_f (by decide) ?_
    refine br_t (by decide) ?_
    unfold wpX_act
    dsimp only
    rw [nI_clamp hpcl]
    refine ⟨hpi, nm_r hA ?_⟩
    refine br_f (by decide) ?_
    refine br_f (by decide) ?_
    refine br_f (by decide) ?_
    refine br_f (by decide) ?_
    refine br_f (by decide) ?_
    have hlr1 : tm_lr h0 h1 (pc + 1) (upd ln l 0) (upd lm l (nI v)) (upd ln' l 0) (upd lm' l (nI v)) := by
      rcases hctx with ⟨c1, c2, c3, c4, c5⟩ | ⟨c1, c2, c3, c4, c5⟩
      · subst c1
        refine ⟨fun _ => ?_, fun z => absurd c5 z⟩
        rw [pk_us, pk_us, pk_us, pk_us]
        exact ⟨rfl, rfl⟩
      · subst c1
        refine ⟨fun _ => ?_, fun _ => ?_⟩
        · rw [pk_un (by omega), pk_un (by omega), pk_un (by omega), pk_un (by omega)]
          exact e6.1 c2
        · rw [pk_us, pk_us, pk_us, pk_us]
          exact ⟨rfl, rfl⟩
    have fin := hk (xU', xH', xI', xR', so', nu', upd ln' l 0, upd lm' l (nI v), sv', ka', es', en', ec') (tm_MR_mk e1 e2 (fun _ => e3 hpc0) e4 e5 hlr1)
    have hli : vp_in (nI l) 2 := pk_in l 2 hl
    rw [hB, nI_clamp (show b < 2 ^ 31 by omega), nI_clamp (show l < 2 ^ 31 by omega), (e4.1 b hb).1, (e4.1 b hb).2]
    refine ⟨hpi, pk_in b 18 hb, br_t e ⟨hpi, pk_in b 18 hb, nm_e ⟨hli, nm_e ?_⟩⟩⟩
    unfold tm_cp at hv
    by_cases w0 : 0 ≤ nu b
    · rw [if_pos w0] at hv
      by_cases w5 : nu b ≤ 5
      · rw [if_pos w5] at hv
        refine br_t w0 (br_t w5 ⟨hli, nm_r (e' := upd lm' l (nI v)) (by rw [tm_b8' hv (by omega)]) ?_⟩)
        exact br_f (by decide) (br_t rfl fin)
      · rw [if_neg w5] at hv
        refine br_t w0 (br_f w5 ⟨hli, nm_r (e' := upd lm' l (nI v)) (by rw [← hv]; rfl) ?_⟩)
        exact br_f (by decide) (br_t rfl fin)
    · rw [if_neg w0] at hv
      refine br_f w0 ⟨hli, nm_r (e' := upd lm' l (nI v)) (by rw [← hv]; rfl) ?_⟩
      exact br_f (by decide) (br_t rfl fin)
  · refine tm_gd_fail xU (xU, xH, xI, xR, so, nu, ln, lm, sv, ka, es, en, ec) (tm_MO_mk hiv k hk1 (by omega)) (fun xO oe ol n u post hMR hk => ?_)
    obtain ⟨xU', xH', xI', xR', so', nu', ln', lm', sv', ka', es', en', ec'⟩ := u
    obtain ⟨e1, e2, e3, e4, e5, e6⟩ := hMR
    have hrg := tm_rl_rg e4 hiv.2.1
    show wX_execute_2 post (n + 1) (nI pc) xE xS xC xN xO xU' xH' xI' xR' kd px py wt ks ki al op fx fy fz cO cA cB cC cK wn wr wp wq oe ol oq so' nu' ln' lm' sv' ka' es' en' ec'
    unfold wX_execute_2
    refine br_f (by rw [hN]; exact nI_ge hpc (by omega)) ⟨hpi, ?_⟩
    rw [nI_clamp hpcl]
    refine nm_r hO (nm_r (nI_1 pc) ?_)
    refine br_f (by decide) ?_
    refine br_f (by decide) ?_
    refine br_f (by decide) ?_
    refine br_f (by decide) ?_
    refine br_t (by decide) ?_
    unfold wpX_act
    dsimp only
    rw [nI_clamp hpcl]
    refine ⟨hpi, nm_r hA ?_⟩
    refine br_f (by decide) ?_
    refine br_f (by decide) ?_
    refine br_f (by decide) ?_
    refine br_f (by decide) ?_
    refine br_f (by decide) ?_
    rw [hB, nI_clamp (show b < 2 ^ 31 by omega), (e4.1 b hb).1]
    refine ⟨hpi, pk_in b 18 hb, br_f e ?_⟩
    rw [e3 hpc0]
    exact br_t rfl (br_f (by decide) (hk (xU, xH', xI', xR', so', nu', ln', lm', sv', ka', es', en', ec') (tm_ME_mk e1 e2 e4 e5)))
theorem tm_o_next {N : Nat} {h0 h1 ag : Nat → Nat} (hN : xN = nI N) (hcw : tm_cw N cO cA cB cC cK h0 h1 ag) {pc : Nat} (hpc : pc < N) (hO : cO pc = nI 16) (hMI : tm_MI N h0 h1 ag pc (xU, xH, xI, xR, so, nu, ln, lm, sv, ka, es, en, ec))
    (IH : ∀ pc1 m1, pc1 ≤ N → tm_MI N h0 h1 ag pc1 m1 → tm_mu N h0 h1 m1.2.2.2.2.2.2.1 m1.2.2.2.2.2.2.2.1 pc1 < tm_mu N h0 h1 ln lm pc → tm_gd xE xS xC xN kd px py wt ks ki al op fx fy fz cO cA cB cC cK wn wr wp wq oq N h0 h1 pc1 m1) : tm_gd xE xS xC xN kd px py wt ks ki al op fx fy fz cO cA cB cC cK wn wr wp wq oq N h0 h1 pc (xU, xH, xI, xR, so, nu, ln, lm, sv, ka, es, en, ec) := by
  have hpc0 := tm_pc0 hcw hpc hO (by omega) (by omega)
  have hcw0 := hcw
  obtain ⟨cw1, cw2, cw3, cw4, cw5, cw6⟩ := hcw
  obtain ⟨o', ho', hO', k1, k2, k3, k4, k5, k6⟩ := cw5 pc hpc
  have eo : o' = 16 := tm_nIinj (by omega) (by omega) (by rw [← hO', ← hO])
  subst eo
  obtain ⟨hiv, ⟨X, hX1, hX2, hX3⟩, hlp, k, hk1, hk2⟩ := hMI
  have hpcl : pc < 2 ^ 31 := by omega
  have hpi : vp_in (nI pc) 350 := pk_in pc 350 (by omega)
  obtain ⟨l, b, hb, hA, hB, hag, q0, q1, hp0, hctx⟩ := k4 rfl
  obtain ⟨e, j1, j2, j3, j4, j5, j6⟩ := (cw6 pc hpc).2.1 hO
  have hl : l < 2 := by omega
  obtain ⟨v, w, hvw, hw5, hv, hw⟩ : ∃ v w, v ≤ w ∧ w ≤ 5 ∧ ln l = nI v ∧ lm l = nI w := by
    rcases hctx with ⟨c1, c2, c3⟩ | ⟨c1, c2, c3, c4⟩
    · subst c1; exact hlp.1 (by omega)
    · subst c1; exact hlp.2 (by omega)
  have hlr : ∀ ln' lm' : Nat → Int32, tm_lr h0 h1 pc ln lm ln' lm' → ln' l = nI v ∧ lm' l = nI w := by
    intro ln' lm' h
    rcases hctx with ⟨c1, c2, c3⟩ | ⟨c1, c2, c3, c4⟩
    · subst c1
      obtain ⟨i1, i2⟩ := h.1 (by omega)
      rw [i1, i2]; exact ⟨hv, hw⟩
    · subst c1
      obtain ⟨i1, i2⟩ := h.2 (by omega)
      rw [i1, i2]; exact ⟨hv, hw⟩
  have hli : vp_in (nI l) 2 := pk_in l 2 hl
  by_cases z : v < w
  · have hr1 : tm_rem (upd ln l (nI (v + 1))) lm l < tm_rem ln lm l := by
      unfold tm_rem
      rw [pk_us, hv, hw, nI_clamp (show v < 2 ^ 31 by omega), nI_clamp (show w < 2 ^ 31 by omega), nI_clamp (show v + 1 < 2 ^ 31 by omega)]
      omega
    have hmu : tm_mu N h0 h1 (upd ln l (nI (v + 1))) lm (pc + 1) < tm_mu N h0 h1 ln lm pc := by
      refine tm_mu_ps cw1 hpc q0 q1 hp0 ?_
      rcases hctx with ⟨c1, c2, c3⟩ | ⟨c1, c2, c3, c4⟩
      · subst c1; exact Or.inl ⟨c2, c3, hr1⟩
      · subst c1; exact Or.inr ⟨c2, c3, c4, tm_upd_rem1 ln lm _ (by omega), hr1⟩
    have hlp1 : tm_lp h0 h1 (upd ln l (nI (v + 1))) lm (pc + 1) := by
      refine tm_lp_eq q0 q1 ?_
      rcases hctx with ⟨c1, c2, c3⟩ | ⟨c1, c2, c3, c4⟩
      · subst c1
        exact ⟨fun _ => ⟨v + 1, w, by omega, hw5, pk_us, hw⟩, fun y => absurd c3 y⟩
      · subst c1
        refine ⟨fun _ => ?_, fun _ => ⟨v + 1, w, by omega, hw5, pk_us, hw⟩⟩
        rw [pk_un (by omega)]
        exact hlp.1 c3
    refine tm_gd_step (IH (pc + 1) (xU, xH, xI, xR, upd so b 1, upd nu b (nI (v + 1)), upd ln l (nI (v + 1)), lm, sv, ka, es, en, ec) (by omega) (tm_MI_mk (tm_iv_set hiv (tm_vo_1 _ _)) ⟨X, by omega, tm_cr_set hX2 (tm_vo_1 _ _), hX3⟩ hlp1 k hk1 (by omega)) hmu) hmu (fun xO oe ol n u post hMR hk => ?_)
    obtain ⟨xU', xH', xI', xR', so', nu', ln', lm', sv', ka', es', en', ec'⟩ := u
    obtain ⟨e1, e2, e3, e4, e5, e6⟩ := hMR
    have hrg := tm_rl_rg e4 hiv.2.1
    show wX_execute_2 post (n + 1) (nI pc) xE xS xC xN xO xU' xH' xI' xR' kd px py wt ks ki al op fx fy fz cO cA cB cC cK wn wr wp wq oe ol oq so' nu' ln' lm' sv' ka' es' en' ec'
    unfold wX_execute_2
    refine br_f (by rw [hN]; exact nI_ge hpc (by omega)) ⟨hpi, ?_⟩
    rw [nI_clamp hpcl]
    refine nm_r hO (nm_r (nI_1 pc) ?_)
    refine br_f (by decide) ?_
    refine br_f (by decide) ?_
    refine br_f (by decide) ?_
    refine br_t rfl ?_
    obtain ⟨f1, f2⟩ := hlr ln' lm' e6
    have hlr1 : tm_lr h0 h1 (pc + 1) (upd ln l (nI (v + 1))) lm (upd ln' l (nI (v + 1))) lm' := by
      refine tm_lr_eq q0 q1 ?_
      rcases hctx with ⟨c1, c2, c3⟩ | ⟨c1, c2, c3, c4⟩
      · subst c1
        refine ⟨fun y => ?_, fun y => absurd c3 y⟩
        rw [pk_us, pk_us]
        exact ⟨rfl, (e6.1 y).2⟩
      · subst c1
        refine ⟨fun y => ?_, fun y => ?_⟩
        · rw [pk_un (by omega), pk_un (by omega)]
          exact e6.1 y
        · rw [pk_us, pk_us]
          exact ⟨rfl, (e6.2 y).2⟩
    unfold wpX_passLoop
    dsimp only
    rw [nI_clamp hpcl]
    refine ⟨hpi, nm_r hA ?_⟩
    rw [nI_clamp (show l < 2 ^ 31 by omega), f1, f2, nI_1, tm_b8 (v + 1) (by omega)]
    refine ⟨hli, hli, br_t (nI_lt z (by omega)) ⟨hli, hli, nm_e ⟨hpi, hli, ?_⟩⟩⟩
    rw [pk_us]
    refine tm_setReg b hB hb ?_
    exact br_f (by decide) (br_t rfl (hk (xU', xH', xI', xR', upd so' b 1, upd nu' b (nI (v + 1)), upd ln' l (nI (v + 1)), lm', sv', ka', es', en', ec') (tm_MR_mk e1 e2 (fun _ => e3 hpc0) (tm_rl_set e4 b 1 (nI (v + 1))) e5 hlr1)))
  · have hmu : tm_mu N h0 h1 ln lm e < tm_mu N h0 h1 ln lm pc := by
      refine tm_mu_lv cw1 j2 j3 hp0 j5 ?_
      rcases hctx with ⟨c1, c2, c3⟩ | ⟨c1, c2, c3, c4⟩
      · rcases j6 with ⟨i1, i2⟩ | ⟨i1, i2⟩
        · exact Or.inl ⟨c2, c3, i2⟩
        · exact absurd c3 i1
      · rcases j6 with ⟨i1, i2⟩ | ⟨i1, i2⟩
        · omega
        · exact Or.inr ⟨c2, c3, c4, i2⟩
    have hlp1 : tm_lp h0 h1 ln lm e := by
      refine ⟨fun y => ?_, fun y => absurd j5 y⟩
      rcases j6 with ⟨i1, i2⟩ | ⟨i1, i2⟩
      · exact absurd i2 y
      · exact hlp.1 (by omega)
    refine tm_gd_step (IH e (xU, xH, xI, xR, so, nu, ln, lm, sv, ka, es, en, ec) j3 (tm_MI_mk hiv ⟨X, by omega, hX2, hX3⟩ hlp1 k hk1 (by omega)) hmu) hmu (fun xO oe ol n u post hMR hk => ?_)
    obtain ⟨xU', xH', xI', xR', so', nu', ln', lm', sv', ka', es', en', ec'⟩ := u
    obtain ⟨e1, e2, e3, e4, e5, e6⟩ := hMR
    have hrg := tm_rl_rg e4 hiv.2.1
    show wX_execute_2 post (n + 1) (nI pc) xE xS xC xN xO xU' xH' xI' xR' kd px py wt ks ki al op fx fy fz cO cA cB cC cK wn wr wp wq oe ol oq so' nu' ln' lm' sv' ka' es' en' ec'
    unfold wX_execute_2
    refine br_f (by rw [hN]; exact nI_ge hpc (by omega)) ⟨hpi, ?_⟩
    rw [nI_clamp hpcl]
    refine nm_r hO (nm_r (nI_1 pc) ?_)
    refine br_f (by decide) ?_
    refine br_f (by decide) ?_
    refine br_f (by decide) ?_
    refine br_t rfl ?_
    obtain ⟨f1, f2⟩ := hlr ln' lm' e6
    have hlr1 : tm_lr h0 h1 e ln lm ln' lm' := by
      refine ⟨fun y => ?_, fun y => absurd j5 y⟩
      rcases j6 with ⟨i1, i2⟩ | ⟨i1, i2⟩
      · exact absurd i2 y
      · exact e6.1 (by omega)
    unfold wpX_passLoop
    dsimp only
    rw [nI_clamp hpcl]
    refine ⟨hpi, nm_r hA ?_⟩
    rw [nI_clamp (show l < 2 ^ 31 by omega), f1, f2]
    refine ⟨hli, hli, br_f (nI_nlt (by omega) (by omega)) (br_t rfl ⟨hpi, ?_⟩)⟩
    rw [j1]
    exact br_t rfl (hk (xU', xH', xI', xR', so', nu', ln', lm', sv', ka', es', en', ec') (tm_MR_mk e1 e2 (fun _ => e3 hpc0) e4 e5 hlr1))
/-- every run of well-formed code ends, and ends alike -/
theorem tm_exec {N : Nat} {h0 h1 ag : Nat → Nat} (hN : xN = nI N) (hcw : tm_cw N cO cA cB cC cK h0 h1 ag) : ∀ (w pc : Nat) (m : tm_M), tm_mu N h0 h1 m.2.2.2.2.2.2.1 m.2.2.2.2.2.2.2.1 pc < w → pc ≤ N → tm_MI N h0 h1 ag pc m → tm_gd xE xS xC xN kd px py wt ks ki al op fx fy fz cO cA cB cC cK wn wr wp wq oq N h0 h1 pc m := by
  intro w
  induction w with
  | zero => exact fun pc m h => absurd h (by omega)
  | succ w ih =>
    intro pc m hmu hpc hMI
    obtain ⟨xU, xH, xI, xR, so, nu, ln, lm, sv, ka, es, en, ec⟩ := m
    have IH : ∀ pc1 m1, pc1 ≤ N → tm_MI N h0 h1 ag pc1 m1 → tm_mu N h0 h1 m1.2.2.2.2.2.2.1 m1.2.2.2.2.2.2.2.1 pc1 < tm_mu N h0 h1 ln lm pc → tm_gd xE xS xC xN kd px py wt ks ki al op fx fy fz cO cA cB cC cK wn wr wp wq oq N h0 h1 pc1 m1 := by
      intro pc1 m1 h1' h2' h3'
      have hmu' : tm_mu N h0 h1 ln lm pc < w + 1 := hmu
      exact ih pc1 m1 (by omega) h1' h2'
    rcases Nat.lt_or_ge pc N with hlt | hge
    · obtain ⟨o, ho, hO, _⟩ := hcw.2.2.2.2.1 pc hlt
      have c : o ≤ 10 ∨ o = 11 ∨ o = 12 ∨ o = 13 ∨ o = 14 ∨ o = 15 ∨ o = 16 ∨ o = 17 ∨ o = 18 ∨ o = 19 ∨ o = 20 := by omega
      rcases c with c | c | c | c | c | c | c | c | c | c | c
      · exact tm_o_calc hN hcw hlt hO c hMI IH
      · subst c; exact tm_o_new hN hcw hlt hO hMI IH
      · subst c; exact tm_o_cnt hN hcw hlt hO hMI IH
      · subst c; exact tm_o_sto hN hcw hlt hO hMI IH
      · subst c; exact tm_o_show hN hcw hlt hO hMI IH
      · subst c; exact tm_o_set hN hcw hlt hO hMI IH
      · subst c; exact tm_o_next hN hcw hlt hO hMI IH
      · subst c; exact tm_o_jump hN hcw hlt hO hMI IH
      · subst c; exact tm_o_begin hN hcw hlt hO hMI IH
      · subst c; exact tm_o_if19 hN hcw hlt hO hMI IH
      · subst c; exact tm_o_if20 hN hcw hlt hO hMI IH
    · have epc : pc = N := by omega
      subst epc
      obtain ⟨hiv, _, _, k, hk1, hk2⟩ := hMI
      refine tm_gd_fail (-4) (xU, xH, xI, xR, so, nu, ln, lm, sv, ka, es, en, ec) (tm_MO_mk hiv k hk1 (by omega)) (fun xO oe ol n u post hMR hk => ?_)
      obtain ⟨xU', xH', xI', xR', so', nu', ln', lm', sv', ka', es', en', ec'⟩ := u
      obtain ⟨e1, e2, e3, e4, e5, e6⟩ := hMR
      show wX_execute_2 post (n + 1) (nI pc) xE xS xC xN xO xU' xH' xI' xR' kd px py wt ks ki al op fx fy fz cO cA cB cC cK wn wr wp wq oe ol oq so' nu' ln' lm' sv' ka' es' en' ec'
      have cw1 := hcw.1
      unfold wX_execute_2
      exact br_t (by rw [hN]; exact nI_le (Nat.le_refl _) (by omega)) (hk (xU', xH', xI', xR', so', nu', ln', lm', sv', ka', es', en', ec') (tm_ME_mk e1 e2 e4 e5))
end
section
/-! code that is being written: a prefix of n instructions; those in P have no target yet -/
def tm_pf (n : Nat) (P : Nat → Prop) (cO cA cB cC cK : Nat → Int32) (h0 h1 ag : Nat → Nat) : Prop := n ≤ 350 ∧ h0 0 = 0 ∧ h1 0 = 0 ∧ (0 < n → cO 0 = nI 18) ∧ (∀ p, p < n → tm_oi cO cA cB cC h0 h1 ag p) ∧ (∀ p, p < n → ¬ P p → tm_ok n cO cK h0 h1 ag p)
def tm_ud (f : Nat → Nat) (k x : Nat) : Nat → Nat := fun j => if j = k then x else f j
theorem tm_uds {f : Nat → Nat} {k x : Nat} : tm_ud f k x k = x := if_pos rfl
theorem tm_udn {f : Nat → Nat} {k x j : Nat} (h : j ≠ k) : tm_ud f k x j = f j := if_neg h
theorem tm_oi_cg {cO cA cB cC cO' cA' cB' cC' : Nat → Int32} {h0 h1 ag h0' h1' ag' : Nat → Nat} {p : Nat} (eO : cO' p = cO p) (eA : cA' p = cA p) (eB : cB' p = cB p) (eC : cC' p = cC p) (g : ∀ q, q ≤ p + 1 → h0' q = h0 q ∧ h1' q = h1 q ∧ ag' q = ag q) (h : tm_oi cO cA cB cC h0 h1 ag p) : tm_oi cO' cA' cB' cC' h0' h1' ag' p := by
  obtain ⟨a0, a1, a2⟩ := g p (by omega)
  obtain ⟨b0, b1, b2⟩ := g (p + 1) (by omega)
  unfold tm_oi tm_sq at h ⊢
  rw [eO, eA, eB, eC, a0, a1, a2, b0, b1, b2]
  exact h
theorem tm_ok_cg {n n' : Nat} (hn : n ≤ n') {cO cK cO' cK' : Nat → Int32} {h0 h1 ag h0' h1' ag' : Nat → Nat} {p : Nat} (hp : p < n) (eO : ∀ q, q ≤ p → cO' q = cO q) (eK : cK' p = cK p) (g : ∀ q, q ≤ n → h0' q = h0 q ∧ h1' q = h1 q ∧ ag' q = ag q) (h : tm_ok n cO cK h0 h1 ag p) : tm_ok n' cO' cK' h0' h1' ag' p := by
  obtain ⟨a0, a1, a2⟩ := g p (by omega)
  obtain ⟨k1, k2, k3⟩ := h
  unfold tm_ok tm_sq
  rw [eO p (by omega), eK, a0, a1, a2]
  refine ⟨fun z => ?_, fun z => ?_, fun z => ?_⟩
  · obtain ⟨q, i1, i2, i3, i4⟩ := k1 z
    obtain ⟨b0, b1, b2⟩ := g q i3
    exact ⟨q, i1, i2, by omega, by rw [b0, b1, b2]; exact i4⟩
  · obtain ⟨q, i1, i2, i3, i4⟩ := k2 z
    obtain ⟨b0, b1, b2⟩ := g q i3
    exact ⟨q, i1, i2, by omega, by rw [b0, b1, b2]; exact i4⟩
  · obtain ⟨q, i1, i2, i3, i4⟩ := k3 z
    obtain ⟨b0, b1, b2⟩ := g q (by omega)
    exact ⟨q, i1, i2, by rw [eO q (by omega)]; exact i3, by rw [b0, b1, b2]; exact i4⟩
/-- one more instruction -/
theorem tm_pf_add {n : Nat} {P P' : Nat → Prop} {cO cA cB cC cK : Nat → Int32} {h0 h1 ag : Nat → Nat} (h : tm_pf n P cO cA cB cC cK h0 h1 ag) (hn : n < 350) (o a b c k : Int32) (x0 x1 xa : Nat) (h18 : n = 0 → o = nI 18)
    (hoi : tm_oi (upd cO n o) (upd cA n a) (upd cB n b) (upd cC n c) (tm_ud h0 (n + 1) x0) (tm_ud h1 (n + 1) x1) (tm_ud ag (n + 1) xa) n)
    (hok : ¬ P' n → tm_ok (n + 1) (upd cO n o) (upd cK n k) (tm_ud h0 (n + 1) x0) (tm_ud h1 (n + 1) x1) (tm_ud ag (n + 1) xa) n) (hP : ∀ p, p < n → ¬ P' p → ¬ P p) :
    tm_pf (n + 1) P' (upd cO n o) (upd cA n a) (upd cB n b) (upd cC n c) (upd cK n k) (tm_ud h0 (n + 1) x0) (tm_ud h1 (n + 1) x1) (tm_ud ag (n + 1) xa) := by
  obtain ⟨i1, i2, i3, i4, i5, i6⟩ := h
  refine ⟨by omega, by rw [tm_udn (by omega)]; exact i2, by rw [tm_udn (by omega)]; exact i3, fun _ => ?_, fun p hp => ?_, fun p hp hnP => ?_⟩
  · by_cases z : n = 0
    · subst z; rw [pk_us]; exact h18 rfl
    · rw [pk_un (by omega)]; exact i4 (by omega)
  · by_cases z : p = n
    · subst z; exact hoi
    · exact tm_oi_cg (pk_un z) (pk_un z) (pk_un z) (pk_un z) (fun q hq => ⟨tm_udn (by omega), tm_udn (by omega), tm_udn (by omega)⟩) (i5 p (by omega))
  · by_cases z : p = n
    · subst z; exact hok hnP
    · exact tm_ok_cg (by omega) (show p < n by omega) (fun q hq => pk_un (by omega)) (pk_un z) (fun q hq => ⟨tm_udn (by omega), tm_udn (by omega), tm_udn (by omega)⟩) (i6 p (by omega) (hP p (by omega) hnP))
/-- a target is filled in -/
theorem tm_pf_fix {n a : Nat} {P P' : Nat → Prop} {cO cA cB cC cK : Nat → Int32} {h0 h1 ag : Nat → Nat} (h : tm_pf n P cO cA cB cC cK h0 h1 ag) (k : Int32) (hok : tm_ok n cO (upd cK a k) h0 h1 ag a) (hP : ∀ p, p < n → ¬ P' p → ¬ P p ∨ p = a) :
    tm_pf n P' cO cA cB cC (upd cK a k) h0 h1 ag := by
  obtain ⟨i1, i2, i3, i4, i5, i6⟩ := h
  refine ⟨i1, i2, i3, i4, i5, fun p hp hnP => ?_⟩
  by_cases z : p = a
  · subst z; exact hok
  · rcases hP p hp hnP with w | w
    · exact tm_ok_cg (Nat.le_refl n) hp (fun q hq => rfl) (pk_un z) (fun q hq => ⟨rfl, rfl, rfl⟩) (i6 p hp w)
    · exact absurd w z
/-- a place that is no header's -/
def tm_nh (h0 h1 : Nat → Nat) (n : Nat) : Prop := (h0 n < n ∨ h0 n = 0) ∧ (h1 n < n ∨ h1 n = 0)
theorem tm_no {o j : Nat} (ho : o ≤ 20) (hj : j ≤ 20) (h : o ≠ j) {P : Prop} : nI o = nI j → P := fun z => absurd (tm_nIinj (by omega) (by omega) z) h
/-- a plain operation -/
theorem tm_pf_op {n : Nat} {P : Nat → Prop} {cO cA cB cC cK : Nat → Int32} {h0 h1 ag : Nat → Nat} (h : tm_pf n P cO cA cB cC cK h0 h1 ag) (hn : n < 350) (hn0 : 0 < n) (hh : tm_nh h0 h1 n) (o a b c : Nat) (k : Int32) (xa : Nat) (ho : o ≤ 14) (ha : a < 18) (hb : b < 18) (hc : c < 18) (hxa : ag n < xa) (h11 : o = 11 → ag n ≤ 22) :
    tm_pf (n + 1) P (upd cO n (nI o)) (upd cA n (nI a)) (upd cB n (nI b)) (upd cC n (nI c)) (upd cK n k) (tm_ud h0 (n + 1) (h0 n)) (tm_ud h1 (n + 1) (h1 n)) (tm_ud ag (n + 1) xa) := by
  refine tm_pf_add h hn (nI o) (nI a) (nI b) (nI c) k (h0 n) (h1 n) xa (fun z => absurd z (by omega)) ?_ (fun _ => ?_) (fun p hp hnP => hnP)
  · unfold tm_oi tm_sq
    rw [pk_us, pk_us, pk_us, pk_us, tm_uds, tm_uds, tm_uds, tm_udn (by omega), tm_udn (by omega), tm_udn (by omega)]
    exact ⟨o, by omega, rfl, fun _ => hh, fun _ => ⟨⟨a, b, c, ha, hb, hc, rfl, rfl, rfl⟩, ⟨rfl, rfl, hxa⟩, h11⟩, fun z => by omega, fun z => by omega, fun z => by omega, fun z => by omega⟩
  · unfold tm_ok
    rw [pk_us]
    refine ⟨fun z => z.elim (tm_no (by omega) (by omega) (by omega)) (tm_no (by omega) (by omega) (by omega)), tm_no (by omega) (by omega) (by omega), tm_no (by omega) (by omega) (by omega)⟩
/-- a branch whose target is still open -/
theorem tm_pf_if {n : Nat} {P : Nat → Prop} {cO cA cB cC cK : Nat → Int32} {h0 h1 ag : Nat → Nat} (h : tm_pf n P cO cA cB cC cK h0 h1 ag) (hn : n < 350) (hn0 : 0 < n) (hh : tm_nh h0 h1 n) (o a : Nat) (b c k : Int32) (xa : Nat) (ho : o = 19 ∨ o = 20) (ha : a < 18) (hxa : ag n < xa) :
    tm_pf (n + 1) (fun p => P p ∨ p = n) (upd cO n (nI o)) (upd cA n (nI a)) (upd cB n b) (upd cC n c) (upd cK n k) (tm_ud h0 (n + 1) (h0 n)) (tm_ud h1 (n + 1) (h1 n)) (tm_ud ag (n + 1) xa) := by
  refine tm_pf_add h hn (nI o) (nI a) b c k (h0 n) (h1 n) xa (fun z => absurd z (by omega)) ?_ (fun z => absurd (Or.inr rfl) z) (fun p hp hnP z => hnP (Or.inl z))
  unfold tm_oi tm_sq
  rw [pk_us, pk_us, tm_uds, tm_uds, tm_uds, tm_udn (by omega), tm_udn (by omega), tm_udn (by omega)]
  exact ⟨o, by omega, rfl, fun _ => hh, fun z => by omega, fun z => by omega, fun z => by omega, fun z => by omega, fun _ => ⟨⟨a, ha, rfl⟩, rfl, rfl, hxa⟩⟩
/-- the target of a branch is here -/
theorem tm_pf_to {n a : Nat} {P P' : Nat → Prop} {cO cA cB cC cK : Nat → Int32} {h0 h1 ag : Nat → Nat} (h : tm_pf n P cO cA cB cC cK h0 h1 ag) (han : a < n) (hO : cO a = nI 19 ∨ cO a = nI 20) (hs : tm_sq h0 h1 ag a n) (hP : ∀ p, p < n → ¬ P' p → ¬ P p ∨ p = a) :
    tm_pf n P' cO cA cB cC (upd cK a (nI n)) h0 h1 ag := by
  refine tm_pf_fix h (nI n) ?_ hP
  unfold tm_ok
  rw [pk_us]
  refine ⟨fun _ => ⟨n, rfl, han, Nat.le_refl n, hs⟩, fun z => ?_, fun z => ?_⟩
  · rcases hO with w | w <;> (rw [w] at z; exact tm_no (by omega) (by omega) (by omega) z)
  · rcases hO with w | w <;> (rw [w] at z; exact tm_no (by omega) (by omega) (by omega) z)
/-- a statement begins -/
theorem tm_pf_begin {n : Nat} {P : Nat → Prop} {cO cA cB cC cK : Nat → Int32} {h0 h1 ag : Nat → Nat} (h : tm_pf n P cO cA cB cC cK h0 h1 ag) (hn : n < 350) (hh : tm_nh h0 h1 n) (a b c k : Int32) (xa : Nat) :
    tm_pf (n + 1) P (upd cO n (nI 18)) (upd cA n a) (upd cB n b) (upd cC n c) (upd cK n k) (tm_ud h0 (n + 1) (h0 n)) (tm_ud h1 (n + 1) (h1 n)) (tm_ud ag (n + 1) xa) := by
  refine tm_pf_add h hn (nI 18) a b c k (h0 n) (h1 n) xa (fun _ => rfl) ?_ (fun _ => ?_) (fun p hp hnP => hnP)
  · unfold tm_oi tm_sq
    rw [pk_us, tm_uds, tm_uds, tm_uds, tm_udn (by omega), tm_udn (by omega), tm_udn (by omega)]
    exact ⟨18, by omega, rfl, fun _ => hh, fun z => by omega, fun z => by omega, fun z => by omega, fun _ => ⟨rfl, rfl⟩, fun z => by omega⟩
  · unfold tm_ok
    rw [pk_us]
    exact ⟨fun z => z.elim (tm_no (by omega) (by omega) (by omega)) (tm_no (by omega) (by omega) (by omega)), tm_no (by omega) (by omega) (by omega), tm_no (by omega) (by omega) (by omega)⟩
/-- a loop is set, and its header -/
theorem tm_pf_set {n : Nat} {P : Nat → Prop} {cO cA cB cC cK : Nat → Int32} {h0 h1 ag : Nat → Nat} (h : tm_pf n P cO cA cB cC cK h0 h1 ag) (hn : n < 350) (hn0 : 0 < n) (hh : tm_nh h0 h1 n) (l b : Nat) (c k : Int32) (xa : Nat) (hb : b < 18) (hxa : ag n ≤ xa) (x0 x1 : Nat) (hl : (l = 0 ∧ h0 n = 0 ∧ h1 n = 0 ∧ x0 = n + 1 ∧ x1 = 0) ∨ (l = 1 ∧ h0 n ≠ 0 ∧ h1 n = 0 ∧ x0 = h0 n ∧ x1 = n + 1)) :
    tm_pf (n + 1) P (upd cO n (nI 15)) (upd cA n (nI l)) (upd cB n (nI b)) (upd cC n c) (upd cK n k) (tm_ud h0 (n + 1) x0) (tm_ud h1 (n + 1) x1) (tm_ud ag (n + 1) xa) := by
  refine tm_pf_add h hn (nI 15) (nI l) (nI b) c k x0 x1 xa (fun z => absurd z (by omega)) ?_ (fun _ => ?_) (fun p hp hnP => hnP)
  · unfold tm_oi tm_sq
    rw [pk_us, pk_us, pk_us, tm_uds, tm_uds, tm_uds, tm_udn (by omega), tm_udn (by omega), tm_udn (by omega)]
    exact ⟨15, by omega, rfl, fun _ => hh, fun z => by omega, fun _ => ⟨l, b, hb, rfl, rfl, hxa, hl⟩, fun z => by omega, fun z => by omega, fun z => by omega⟩
  · unfold tm_ok
    rw [pk_us]
    exact ⟨fun z => z.elim (tm_no (by omega) (by omega) (by omega)) (tm_no (by omega) (by omega) (by omega)), tm_no (by omega) (by omega) (by omega), tm_no (by omega) (by omega) (by omega)⟩
theorem tm_pf_head {n : Nat} {P : Nat → Prop} {cO cA cB cC cK : Nat → Int32} {h0 h1 ag : Nat → Nat} (h : tm_pf n P cO cA cB cC cK h0 h1 ag) (hn : n < 350) (hn0 : 0 < n) (l b : Nat) (c k : Int32) (xa : Nat) (hb : b < 18) (hxa : ag n ≤ xa) (hl : (l = 0 ∧ h0 n = n ∧ h1 n = 0) ∨ (l = 1 ∧ h0 n < n ∧ h0 n ≠ 0 ∧ h1 n = n)) :
    tm_pf (n + 1) (fun p => P p ∨ p = n) (upd cO n (nI 16)) (upd cA n (nI l)) (upd cB n (nI b)) (upd cC n c) (upd cK n k) (tm_ud h0 (n + 1) (h0 n)) (tm_ud h1 (n + 1) (h1 n)) (tm_ud ag (n + 1) xa) := by
  refine tm_pf_add h hn (nI 16) (nI l) (nI b) c k (h0 n) (h1 n) xa (fun z => absurd z (by omega)) ?_ (fun z => absurd (Or.inr rfl) z) (fun p hp hnP z => hnP (Or.inl z))
  unfold tm_oi tm_sq
  rw [pk_us, pk_us, pk_us, tm_uds, tm_uds, tm_uds, tm_udn (by omega), tm_udn (by omega), tm_udn (by omega)]
  exact ⟨16, by omega, rfl, fun z => absurd rfl z, fun z => by omega, fun z => by omega, fun _ => ⟨l, b, hb, rfl, rfl, hxa, rfl, rfl, hn0, hl⟩, fun z => by omega, fun z => by omega⟩
/-- a loop ends: the jump back to its header a, and the header's target behind it -/
theorem tm_pf_jump {n a : Nat} {P P' : Nat → Prop} {cO cA cB cC cK : Nat → Int32} {h0 h1 ag : Nat → Nat} (h : tm_pf n P cO cA cB cC cK h0 h1 ag) (hn : n < 350) (hn0 : 0 < n) (hh : tm_nh h0 h1 n) (ba bb bc : Int32) (x0 xa : Nat) (han : a < n) (ha0 : 0 < a) (hOa : cO a = nI 16) (e0 : h0 a = h0 n) (e1 : h1 a = h1 n) (hag : ag n ≤ ag a) (hxa : ag a ≤ xa)
    (hc : (h1 n = a ∧ h0 n ≠ 0 ∧ h0 n < a ∧ x0 = h0 n) ∨ (h1 n = 0 ∧ h0 n = a ∧ x0 = 0)) (hPn : ¬ P n) (hP : ∀ p, p < n → ¬ P' p → ¬ P p ∨ p = a) :
    tm_pf (n + 1) P' (upd cO n (nI 17)) (upd cA n ba) (upd cB n bb) (upd cC n bc) (upd (upd cK n (nI a)) a (nI (n + 1))) (tm_ud h0 (n + 1) x0) (tm_ud h1 (n + 1) 0) (tm_ud ag (n + 1) xa) := by
  have H : tm_pf (n + 1) (fun p => P p) (upd cO n (nI 17)) (upd cA n ba) (upd cB n bb) (upd cC n bc) (upd cK n (nI a)) (tm_ud h0 (n + 1) x0) (tm_ud h1 (n + 1) 0) (tm_ud ag (n + 1) xa) := by
    refine tm_pf_add h hn (nI 17) ba bb bc (nI a) x0 0 xa (fun z => absurd z (by omega)) ?_ (fun _ => ?_) (fun p hp hnP => hnP)
    · unfold tm_oi tm_sq
      rw [pk_us, tm_uds, tm_uds, tm_uds, tm_udn (by omega), tm_udn (by omega), tm_udn (by omega)]
      exact ⟨17, by omega, rfl, fun _ => hh, fun z => by omega, fun z => by omega, fun z => by omega, fun z => by omega, fun z => by omega⟩
    · unfold tm_ok
      rw [pk_us, pk_us, tm_udn (show n ≠ n + 1 by omega), tm_udn (show n ≠ n + 1 by omega), tm_udn (show n ≠ n + 1 by omega)]
      refine ⟨fun z => z.elim (tm_no (by omega) (by omega) (by omega)) (tm_no (by omega) (by omega) (by omega)), tm_no (by omega) (by omega) (by omega), fun _ => ⟨a, rfl, han, ?_⟩⟩
      rw [pk_un (show a ≠ n by omega), tm_udn (show a ≠ n + 1 by omega), tm_udn (show a ≠ n + 1 by omega), tm_udn (show a ≠ n + 1 by omega)]
      refine ⟨hOa, e0, e1, hag, ?_⟩
      rcases hc with ⟨c1, c2, c3, _⟩ | ⟨c1, c2, _⟩
      · exact Or.inl ⟨c1, c2, c3⟩
      · exact Or.inr ⟨c1, c2⟩
  refine tm_pf_fix H (nI (n + 1)) ?_ (fun p hp hnP => ?_)
  · unfold tm_ok
    rw [pk_us, pk_un (show a ≠ n by omega), tm_udn (show a ≠ n + 1 by omega), tm_udn (show a ≠ n + 1 by omega), tm_udn (show a ≠ n + 1 by omega), hOa]
    refine ⟨fun z => z.elim (tm_no (by omega) (by omega) (by omega)) (tm_no (by omega) (by omega) (by omega)), fun _ => ⟨n + 1, rfl, by omega, Nat.le_refl _, ?_⟩, tm_no (by omega) (by omega) (by omega)⟩
    rw [tm_uds, tm_uds, tm_uds]
    refine ⟨hxa, rfl, ?_⟩
    rcases hc with ⟨c1, c2, c3, c4⟩ | ⟨c1, c2, c3⟩
    · exact Or.inr ⟨by omega, by omega⟩
    · exact Or.inl ⟨by omega, c3⟩
  · by_cases z : p = n
    · subst z
      exact Or.inl hPn
    · exact hP p (by omega) hnP
end
section
variable {xE xS xC xN xO xU xH xI xR : Int32} {kd px py wt ks ki al op fx fy fz cO cA cB cC cK wn wr wp wq oe ol oq so nu ln lm ka es en ec : Nat → Int32} {sv : Nat → Int64}
/-! walks of the compiler's small methods -/
theorem tm_write_w {post : St1 → Prop} {o a b c k : Int32} (n o' a' b' c' : Nat) (hN : xN = nI n) (hn : n < 350) (ho : o = nI o') (ha : a = nI a') (hb : b = nI b') (hc : c = nI c') (ho' : o' < 128) (ha' : a' < 128) (hb' : b' < 128) (hc' : c' < 128)
    (hp : post (xE, xS, xC, nI (n + 1), xO, xU, xH, xI, xR, kd, px, py, wt, ks, ki, al, op, fx, fy, fz, upd cO n (nI o'), upd cA n (nI a'), upd cB n (nI b'), upd cC n (nI c'), upd cK n k, wn, wr, wp, wq, oe, ol, oq, so, nu, ln, lm, sv, ka, es, en, ec)) : wpX_write post (xE, xS, xC, xN, xO, xU, xH, xI, xR, kd, px, py, wt, ks, ki, al, op, fx, fy, fz, cO, cA, cB, cC, cK, wn, wr, wp, wq, oe, ol, oq, so, nu, ln, lm, sv, ka, es, en, ec) o a b c k := by
  subst hN ho ha hb hc
  unfold wpX_write
  dsimp only
  rw [nI_clamp (show n < 2 ^ 31 by omega), tm_b8 o' ho', tm_b8 a' ha', tm_b8 b' hb', tm_b8 c' hc']
  have hni : vp_in (nI n) 350 := pk_in n 350 hn
  exact ⟨hni, nm_e ⟨hni, nm_e ⟨hni, nm_e ⟨hni, nm_e ⟨hni, nm_e (nm_r (nI_1 n) hp)⟩⟩⟩⟩⟩
/-- what is known of expressions -/
def tm_ei1 (kd px py wt ks al : Nat → Int32) (e k w s : Nat) : Prop :=
  kd e = nI k ∧ k ≤ 12 ∧ wt e = nI w ∧ 1 ≤ w ∧ w ≤ 7 ∧ ks e = nI s ∧ s ≤ 2 ∧ (∃ a wa, a ≤ e ∧ al e = nI a ∧ wt a = nI wa ∧ wa ≤ w) ∧ (k = 0 → s = 1) ∧ (k = 1 → ∃ v, v < 6 ∧ px e = nI v) ∧
  (k = 9 ∨ k = 12 → ∃ x wx, x < e ∧ px e = nI x ∧ wt x = nI wx ∧ w = 1 + wx) ∧
  ((2 ≤ k ∧ k ≤ 8) ∨ k = 10 → ∃ x y wx wy, x < e ∧ y < e ∧ px e = nI x ∧ py e = nI y ∧ wt x = nI wx ∧ wt y = nI wy ∧ w = 1 + wx + wy)
def tm_ei (ne : Nat) (kd px py wt ks al : Nat → Int32) : Prop := ne ≤ 30 ∧ ∀ e, e < ne → ∃ k w s, tm_ei1 kd px py wt ks al e k w s
theorem tm_isch_w {post : Int32 → Prop} {x : Int32} (e k : Nat) (hx : x = nI e) (he : e < 30) (hk : kd e = nI k) (hk12 : k ≤ 12) (hp : post (if k = 7 ∨ k = 8 then 1 else 0)) : wpX_isChoice post (xE, xS, xC, xN, xO, xU, xH, xI, xR, kd, px, py, wt, ks, ki, al, op, fx, fy, fz, cO, cA, cB, cC, cK, wn, wr, wp, wq, oe, ol, oq, so, nu, ln, lm, sv, ka, es, en, ec) x := by
  subst hx
  unfold wpX_isChoice
  dsimp only
  rw [nI_clamp (show e < 2 ^ 31 by omega), hk]
  have hei : vp_in (nI e) 30 := pk_in e 30 he
  refine ⟨hei, pk_eq k 7 (fun z => ?_) (fun z => ⟨hei, pk_eq k 8 (fun y => ?_) (fun y => ?_)⟩)⟩
  · rw [if_pos (Or.inl z)] at hp; exact hp
  · rw [if_pos (Or.inr y)] at hp; exact hp
  · rw [if_neg (by omega)] at hp; exact hp
def tm_smp (kd ks : Nat → Int32) (e : Nat) : Prop := ks e = 0 ∧ kd e = 1
theorem tm_issi_w {post : Int32 → Prop} {x : Int32} (e : Nat) (hx : x = nI e) (he : e < 30) (h1 : tm_smp kd ks e → post 1) (h0 : ¬ tm_smp kd ks e → post 0) : wpX_isSimple post (xE, xS, xC, xN, xO, xU, xH, xI, xR, kd, px, py, wt, ks, ki, al, op, fx, fy, fz, cO, cA, cB, cC, cK, wn, wr, wp, wq, oe, ol, oq, so, nu, ln, lm, sv, ka, es, en, ec) x := by
  subst hx
  unfold wpX_isSimple
  dsimp only
  rw [nI_clamp (show e < 2 ^ 31 by omega)]
  have hei : vp_in (nI e) 30 := pk_in e 30 he
  exact ⟨hei, br_c (fun z => ⟨hei, br_c (fun y => h1 ⟨z, y⟩) (fun y => h0 (fun t => y t.2))⟩) (fun z => h0 (fun t => z t.1))⟩
theorem tm_leaf_w {x y : Int32} (ne e reg n k w s : Nat) (hx : x = nI e) (hy : y = nI reg) (hne : ne ≤ 30) (he : e < ne) (hE : tm_ei1 kd px py wt ks al e k w s) (hreg : reg < 18) (hN : xN = nI n) (hn : n < 350) :
    ∃ o b v, o ≤ 14 ∧ b < 18 ∧ ∀ post : St1 → Prop, post (xE, xS, xC, nI (n + 1), xO, xU, xH, xI, xR, kd, px, py, wt, ks, ki, al, op, fx, fy, fz, upd cO n (nI o), upd cA n (nI reg), upd cB n (nI b), upd cC n (nI 0), upd cK n v, wn, wr, wp, wq, oe, ol, oq, so, nu, ln, lm, sv, ka, es, en, ec) → wpX_compileLeaf post (xE, xS, xC, xN, xO, xU, xH, xI, xR, kd, px, py, wt, ks, ki, al, op, fx, fy, fz, cO, cA, cB, cC, cK, wn, wr, wp, wq, oe, ol, oq, so, nu, ln, lm, sv, ka, es, en, ec) x y := by
  subst hx hy
  have E1 := hE.1
  have E2 := hE.2.1
  have E6 := hE.2.2.2.2.2.1
  have E7 := hE.2.2.2.2.2.2.1
  have E10 := hE.2.2.2.2.2.2.2.2.2.1
  have hei : vp_in (nI e) 30 := pk_in e 30 (by omega)
  have hcl : (nI e).toNatClampNeg = e := nI_clamp (by omega)
  by_cases s1 : s = 1
  · refine ⟨0, 0, ki e, by omega, by omega, fun post hp => ?_⟩
    unfold wpX_compileLeaf
    dsimp only
    rw [hcl, E6]
    subst s1
    exact ⟨hei, br_t rfl ⟨hei, tm_write_w n 0 reg 0 0 hN hn rfl rfl rfl rfl (by omega) (by omega) (by omega) (by omega) hp⟩⟩
  · by_cases s2 : s = 2
    · refine ⟨7, 0, 0, by omega, by omega, fun post hp => ?_⟩
      unfold wpX_compileLeaf
      dsimp only
      rw [hcl, E6]
      subst s2
      exact ⟨hei, br_f (by decide) ⟨hei, br_t rfl (tm_write_w n 7 reg 0 0 hN hn rfl rfl rfl rfl (by omega) (by omega) (by omega) (by omega) hp)⟩⟩
    · have s0 : s = 0 := by omega
      subst s0
      by_cases k1 : k = 1
      · obtain ⟨v, hv, ev⟩ := E10 k1
        refine ⟨1, v, 0, by omega, by omega, fun post hp => ?_⟩
        unfold wpX_compileLeaf
        dsimp only
        rw [hcl, E6, E1]
        subst k1
        exact ⟨hei, br_f (by decide) ⟨hei, br_f (by decide) ⟨hei, br_t rfl ⟨hei, tm_write_w n 1 reg v 0 hN hn rfl rfl ev rfl (by omega) (by omega) (by omega) (by omega) hp⟩⟩⟩⟩
      · refine ⟨11, 0, 0, by omega, by omega, fun post hp => ?_⟩
        unfold wpX_compileLeaf
        dsimp only
        rw [hcl, E6, E1]
        exact ⟨hei, br_f (by decide) ⟨hei, br_f (by decide) ⟨hei, br_f (tm_ne (by omega) 1 (by omega) k1) (tm_write_w n 11 reg 0 0 hN hn rfl rfl rfl rfl (by omega) (by omega) (by omega) (by omega) hp)⟩⟩⟩
end
section
variable {xE xS xC xN xO xU xH xI xR : Int32} {kd px py wt ks ki al op fx fy fz cO cA cB cC cK wn wr wp wq oe ol oq so nu ln lm ka es en ec : Nat → Int32} {sv : Nat → Int64}
/-! the visits of a node of an expression -/
theorem tm_p_leaf {ne e top reg k w s : Nat} {ph : Nat} (hph : ph ≤ 3) (hne : ne ≤ 30) (he : e < ne) (hE : tm_ei1 kd px py wt ks al e k w s) (htop : top < 8) (hwn : wn top = nI e) (hwr : wr top = nI reg) (hwp : wp top = nI ph) (n : Nat) (hN : xN = nI n) (hn : n < 350) (hreg : reg < 18) (hl : ¬ s = 0 ∨ k = 1 ∨ k = 11) :
    ∃ o b v, o ≤ 14 ∧ b < 18 ∧ ∀ post : Int32 → St1 → Prop, post (-1) (xE, xS, xC, nI (n + 1), xO, xU, xH, xI, xR, kd, px, py, wt, ks, ki, al, op, fx, fy, fz, upd cO n (nI o), upd cA n (nI reg), upd cB n (nI b), upd cC n (nI 0), upd cK n v, wn, wr, upd wp top (nI (ph + 1)), wq, oe, ol, oq, so, nu, ln, lm, sv, ka, es, en, ec) → wpX_compilePart post (xE, xS, xC, xN, xO, xU, xH, xI, xR, kd, px, py, wt, ks, ki, al, op, fx, fy, fz, cO, cA, cB, cC, cK, wn, wr, wp, wq, oe, ol, oq, so, nu, ln, lm, sv, ka, es, en, ec) (nI top) := by
  have E1 := hE.1
  have E2 := hE.2.1
  have E6 := hE.2.2.2.2.2.1
  have E7 := hE.2.2.2.2.2.2.1
  have hei : vp_in (nI e) 30 := pk_in e 30 (by omega)
  have hti : vp_in (nI top) 8 := pk_in top 8 htop
  obtain ⟨o, b, v, ho, hb, H⟩ := tm_leaf_w (wp := upd wp top (nI (ph + 1))) (xE := xE) (xS := xS) (xC := xC) (xO := xO) (xU := xU) (xH := xH) (xI := xI) (xR := xR) (ki := ki) (op := op) (fx := fx) (fy := fy) (fz := fz) (cO := cO) (cA := cA) (cB := cB) (cC := cC) (cK := cK) (wn := wn) (wr := wr) (wq := wq) (oe := oe) (ol := ol) (oq := oq) (so := so) (nu := nu) (ln := ln) (lm := lm) (sv := sv) (ka := ka) (es := es) (en := en) (ec := ec) ne e reg n k w s rfl rfl hne he hE hreg hN hn
  refine ⟨o, b, v, ho, hb, fun post hp => ?_⟩
  unfold wpX_compilePart
  dsimp only
  rw [nI_clamp (show top < 2 ^ 31 by omega)]
  refine ⟨hti, nm_r hwn ⟨hti, nm_r hwr ⟨hei, ?_⟩⟩⟩
  rw [nI_clamp (show e < 2 ^ 31 by omega)]
  refine nm_r E1 ⟨hti, nm_r hwp ⟨hti, hti, nm_r (e' := upd wp top (nI (ph + 1))) (by rw [hwp, nI_1, tm_b8 _ (by omega)]) ⟨hei, ?_⟩⟩⟩
  rw [E6]
  by_cases s0 : s = 0
  · subst s0
    refine br_t rfl (pk_eq k 1 (fun z => ?_) (fun z => pk_eq k 11 (fun y => ?_) (fun y => by omega)))
    · exact H _ hp
    · exact H _ hp
  · exact br_f (tm_ne (by omega) 0 (by omega) s0) (H _ hp)
theorem tm_p_ch0 {ne e top reg k w s : Nat} (hne : ne ≤ 30) (he : e < ne) (hE : tm_ei1 kd px py wt ks al e k w s) (htop : top < 8) (hwn : wn top = nI e) (hwr : wr top = nI reg) (hwp : wp top = nI 0) (hs : s = 0) (hk : k = 7 ∨ k = 8) {post : Int32 → St1 → Prop} (hp : post (px e) (xE, xS, xC, xN, xO, xU, xH, xI, xR, kd, px, py, wt, ks, ki, al, op, fx, fy, fz, cO, cA, cB, cC, cK, wn, wr, upd wp top (nI 1), wq, oe, ol, oq, so, nu, ln, lm, sv, ka, es, en, ec)) :
    wpX_compilePart post (xE, xS, xC, xN, xO, xU, xH, xI, xR, kd, px, py, wt, ks, ki, al, op, fx, fy, fz, cO, cA, cB, cC, cK, wn, wr, wp, wq, oe, ol, oq, so, nu, ln, lm, sv, ka, es, en, ec) (nI top) := by
  have E1 := hE.1
  have E2 := hE.2.1
  have E6 := hE.2.2.2.2.2.1
  have E7 := hE.2.2.2.2.2.2.1
  have hei : vp_in (nI e) 30 := pk_in e 30 (by omega)
  have hti : vp_in (nI top) 8 := pk_in top 8 htop
  unfold wpX_compilePart
  dsimp only
  rw [nI_clamp (show top < 2 ^ 31 by omega)]
  refine ⟨hti, nm_r hwn ⟨hti, nm_r hwr ⟨hei, ?_⟩⟩⟩
  rw [nI_clamp (show e < 2 ^ 31 by omega)]
  refine nm_r E1 ⟨hti, nm_r hwp ⟨hti, hti, nm_r (e' := upd wp top (nI (0 + 1))) (by rw [hwp, nI_1, tm_b8 _ (by omega)]) ⟨hei, ?_⟩⟩⟩
  rw [E6]
  subst hs
  refine br_t rfl (br_f (tm_ne (by omega) 1 (by omega) (by omega)) (br_f (tm_ne (by omega) 11 (by omega) (by omega)) (tm_isch_w e k rfl (by omega) E1 E2 ?_)))
  rw [if_pos hk]
  refine br_f (by decide) ?_
  exact br_t rfl ⟨hei, hp⟩
theorem tm_p_ch1 {ne e top reg k w s : Nat} (hne : ne ≤ 30) (he : e < ne) (hE : tm_ei1 kd px py wt ks al e k w s) (htop : top < 8) (hwn : wn top = nI e) (hwr : wr top = nI reg) (hwp : wp top = nI 1) (n : Nat) (hN : xN = nI n) (hn : n < 350) (hreg : reg < 18) (hs : s = 0) (hk : k = 7 ∨ k = 8) :
    ∃ o, (o = 19 ∨ o = 20) ∧ ∀ post : Int32 → St1 → Prop, post (py e) (xE, xS, xC, nI (n + 1), xO, xU, xH, xI, xR, kd, px, py, wt, ks, ki, al, op, fx, fy, fz, upd cO n (nI o), upd cA n (nI reg), upd cB n (nI 0), upd cC n (nI 0), upd cK n 0, wn, wr, upd wp top (nI 2), upd wq top (nI n), oe, ol, oq, so, nu, ln, lm, sv, ka, es, en, ec) → wpX_compilePart post (xE, xS, xC, xN, xO, xU, xH, xI, xR, kd, px, py, wt, ks, ki, al, op, fx, fy, fz, cO, cA, cB, cC, cK, wn, wr, wp, wq, oe, ol, oq, so, nu, ln, lm, sv, ka, es, en, ec) (nI top) := by
  have E1 := hE.1
  have E2 := hE.2.1
  have E6 := hE.2.2.2.2.2.1
  have E7 := hE.2.2.2.2.2.2.1
  have hei : vp_in (nI e) 30 := pk_in e 30 (by omega)
  have hti : vp_in (nI top) 8 := pk_in top 8 htop
  refine ⟨if k = 7 then 19 else 20, by split <;> omega, fun post hp => ?_⟩
  unfold wpX_compilePart
  dsimp only
  rw [nI_clamp (show top < 2 ^ 31 by omega)]
  refine ⟨hti, nm_r hwn ⟨hti, nm_r hwr ⟨hei, ?_⟩⟩⟩
  rw [nI_clamp (show e < 2 ^ 31 by omega)]
  refine nm_r E1 ⟨hti, nm_r hwp ⟨hti, hti, nm_r (e' := upd wp top (nI (1 + 1))) (by rw [hwp, nI_1, tm_b8 _ (by omega)]) ⟨hei, ?_⟩⟩⟩
  rw [E6]
  subst hs
  refine br_t rfl (br_f (tm_ne (by omega) 1 (by omega) (by omega)) (br_f (tm_ne (by omega) 11 (by omega) (by omega)) (tm_isch_w e k rfl (by omega) E1 E2 ?_)))
  rw [if_pos hk]
  refine br_f (by decide) ?_
  refine br_f (by decide) (br_t rfl ⟨hti, nm_r (e' := upd wq top (nI n)) (by rw [hN, tm_b16 n (by omega)]) ?_⟩)
  refine pk_eq k 7 (fun z => ?_) (fun z => ?_)
  · rw [if_pos z] at hp
    unfold wX_compilePart_123
    refine tm_write_w n 19 reg 0 0 hN hn rfl rfl rfl rfl (by omega) (by omega) (by omega) (by omega) ?_
    refine ⟨hei, ?_⟩
    rw [nI_clamp (show e < 2 ^ 31 by omega)]
    exact hp
  · rw [if_neg z] at hp
    unfold wX_compilePart_123
    refine tm_write_w n 20 reg 0 0 hN hn rfl rfl rfl rfl (by omega) (by omega) (by omega) (by omega) ?_
    refine ⟨hei, ?_⟩
    rw [nI_clamp (show e < 2 ^ 31 by omega)]
    exact hp
theorem tm_p_ch2 {ne e top reg k w s : Nat} (hne : ne ≤ 30) (he : e < ne) (hE : tm_ei1 kd px py wt ks al e k w s) (htop : top < 8) (hwn : wn top = nI e) (hwr : wr top = nI reg) (hwp : wp top = nI 2) (a : Nat) (ha : wq top = nI a) (ha350 : a < 350) (hs : s = 0) (hk : k = 7 ∨ k = 8) {post : Int32 → St1 → Prop} (hp : post (-1) (xE, xS, xC, xN, xO, xU, xH, xI, xR, kd, px, py, wt, ks, ki, al, op, fx, fy, fz, cO, cA, cB, cC, upd cK a xN, wn, wr, upd wp top (nI 3), wq, oe, ol, oq, so, nu, ln, lm, sv, ka, es, en, ec)) :
    wpX_compilePart post (xE, xS, xC, xN, xO, xU, xH, xI, xR, kd, px, py, wt, ks, ki, al, op, fx, fy, fz, cO, cA, cB, cC, cK, wn, wr, wp, wq, oe, ol, oq, so, nu, ln, lm, sv, ka, es, en, ec) (nI top) := by
  have E1 := hE.1
  have E2 := hE.2.1
  have E6 := hE.2.2.2.2.2.1
  have E7 := hE.2.2.2.2.2.2.1
  have hei : vp_in (nI e) 30 := pk_in e 30 (by omega)
  have hti : vp_in (nI top) 8 := pk_in top 8 htop
  unfold wpX_compilePart
  dsimp only
  rw [nI_clamp (show top < 2 ^ 31 by omega)]
  refine ⟨hti, nm_r hwn ⟨hti, nm_r hwr ⟨hei, ?_⟩⟩⟩
  rw [nI_clamp (show e < 2 ^ 31 by omega)]
  refine nm_r E1 ⟨hti, nm_r hwp ⟨hti, hti, nm_r (e' := upd wp top (nI (2 + 1))) (by rw [hwp, nI_1, tm_b8 _ (by omega)]) ⟨hei, ?_⟩⟩⟩
  rw [E6]
  subst hs
  refine br_t rfl (br_f (tm_ne (by omega) 1 (by omega) (by omega)) (br_f (tm_ne (by omega) 11 (by omega) (by omega)) (tm_isch_w e k rfl (by omega) E1 E2 ?_)))
  rw [if_pos hk]
  refine br_f (by decide) ?_
  refine br_f (by decide) (br_f (by decide) ⟨hti, ?_⟩)
  rw [ha, nI_clamp (show a < 2 ^ 31 by omega)]
  exact ⟨pk_in a 350 ha350, nm_e hp⟩
theorem tm_p_un0 {ne e top reg k w s : Nat} (hne : ne ≤ 30) (he : e < ne) (hE : tm_ei1 kd px py wt ks al e k w s) (htop : top < 8) (hwn : wn top = nI e) (hwr : wr top = nI reg) (hwp : wp top = nI 0) (hs : s = 0) (hk : k = 9 ∨ k = 12) {post : Int32 → St1 → Prop} (hp : post (px e) (xE, xS, xC, xN, xO, xU, xH, xI, xR, kd, px, py, wt, ks, ki, al, op, fx, fy, fz, cO, cA, cB, cC, cK, wn, wr, upd wp top (nI 1), wq, oe, ol, oq, so, nu, ln, lm, sv, ka, es, en, ec)) :
    wpX_compilePart post (xE, xS, xC, xN, xO, xU, xH, xI, xR, kd, px, py, wt, ks, ki, al, op, fx, fy, fz, cO, cA, cB, cC, cK, wn, wr, wp, wq, oe, ol, oq, so, nu, ln, lm, sv, ka, es, en, ec) (nI top) := by
  have E1 := hE.1
  have E2 := hE.2.1
  have E6 := hE.2.2.2.2.2.1
  have E7 := hE.2.2.2.2.2.2.1
  have hei : vp_in (nI e) 30 := pk_in e 30 (by omega)
  have hti : vp_in (nI top) 8 := pk_in top 8 htop
  unfold wpX_compilePart
  dsimp only
  rw [nI_clamp (show top < 2 ^ 31 by omega)]
  refine ⟨hti, nm_r hwn ⟨hti, nm_r hwr ⟨hei, ?_⟩⟩⟩
  rw [nI_clamp (show e < 2 ^ 31 by omega)]
  refine nm_r E1 ⟨hti, nm_r hwp ⟨hti, hti, nm_r (e' := upd wp top (nI (0 + 1))) (by rw [hwp, nI_1, tm_b8 _ (by omega)]) ⟨hei, ?_⟩⟩⟩
  rw [E6]
  subst hs
  refine br_t rfl (br_f (tm_ne (by omega) 1 (by omega) (by omega)) (br_f (tm_ne (by omega) 11 (by omega) (by omega)) (tm_isch_w e k rfl (by omega) E1 E2 ?_)))
  rw [if_neg (by omega)]
  refine br_t rfl ?_
  have F : wX_compilePart_168 post (nI e) (nI reg) (nI k) (nI 0) xE xS xC xN xO xU xH xI xR kd px py wt ks ki al op fx fy fz cO cA cB cC cK wn wr (upd wp top (nI 1)) wq oe ol oq so nu ln lm sv ka es en ec := by
    unfold wX_compilePart_168
    rw [nI_clamp (show e < 2 ^ 31 by omega)]
    exact br_t rfl ⟨hei, hp⟩
  exact pk_eq k 9 (fun z => F) (fun z => pk_eq k 12 (fun y => F) (fun y => by omega))
theorem tm_p_un1 {ne e top reg k w s : Nat} (hne : ne ≤ 30) (he : e < ne) (hE : tm_ei1 kd px py wt ks al e k w s) (htop : top < 8) (hwn : wn top = nI e) (hwr : wr top = nI reg) (hwp : wp top = nI 1) (n : Nat) (hN : xN = nI n) (hn : n < 350) (hreg : reg < 18) (hs : s = 0) (hk : k = 9 ∨ k = 12) {post : Int32 → St1 → Prop} (hp : post (-1) (xE, xS, xC, nI (n + 1), xO, xU, xH, xI, xR, kd, px, py, wt, ks, ki, al, op, fx, fy, fz, upd cO n (nI k), upd cA n (nI reg), upd cB n (nI reg), upd cC n (nI 0), upd cK n 0, wn, wr, upd wp top (nI 2), wq, oe, ol, oq, so, nu, ln, lm, sv, ka, es, en, ec)) :
    wpX_compilePart post (xE, xS, xC, xN, xO, xU, xH, xI, xR, kd, px, py, wt, ks, ki, al, op, fx, fy, fz, cO, cA, cB, cC, cK, wn, wr, wp, wq, oe, ol, oq, so, nu, ln, lm, sv, ka, es, en, ec) (nI top) := by
  have E1 := hE.1
  have E2 := hE.2.1
  have E6 := hE.2.2.2.2.2.1
  have E7 := hE.2.2.2.2.2.2.1
  have hei : vp_in (nI e) 30 := pk_in e 30 (by omega)
  have hti : vp_in (nI top) 8 := pk_in top 8 htop
  unfold wpX_compilePart
  dsimp only
  rw [nI_clamp (show top < 2 ^ 31 by omega)]
  refine ⟨hti, nm_r hwn ⟨hti, nm_r hwr ⟨hei, ?_⟩⟩⟩
  rw [nI_clamp (show e < 2 ^ 31 by omega)]
  refine nm_r E1 ⟨hti, nm_r hwp ⟨hti, hti, nm_r (e' := upd wp top (nI (1 + 1))) (by rw [hwp, nI_1, tm_b8 _ (by omega)]) ⟨hei, ?_⟩⟩⟩
  rw [E6]
  subst hs
  refine br_t rfl (br_f (tm_ne (by omega) 1 (by omega) (by omega)) (br_f (tm_ne (by omega) 11 (by omega) (by omega)) (tm_isch_w e k rfl (by omega) E1 E2 ?_)))
  rw [if_neg (by omega)]
  refine br_t rfl ?_
  have F : wX_compilePart_168 post (nI e) (nI reg) (nI k) (nI 1) xE xS xC xN xO xU xH xI xR kd px py wt ks ki al op fx fy fz cO cA cB cC cK wn wr (upd wp top (nI 2)) wq oe ol oq so nu ln lm sv ka es en ec := by
    unfold wX_compilePart_168
    exact br_f (by decide) (tm_write_w n k reg reg 0 hN hn rfl rfl rfl rfl (by omega) (by omega) (by omega) (by omega) hp)
  exact pk_eq k 9 (fun z => F) (fun z => pk_eq k 12 (fun y => F) (fun y => by omega))
theorem tm_p_w {reg n k xa ya : Nat} (hN : xN = nI n) (hn : n < 350) (hreg : reg < 17) (hk12 : k ≤ 12) (hxa30 : xa < 30) (hya30 : ya < 30) (hvx : tm_smp kd ks xa → ∃ v, v < 6 ∧ px xa = nI v) (hvy : tm_smp kd ks ya → ∃ v, v < 6 ∧ px ya = nI v) :
    ∃ b c, b < 18 ∧ c < 18 ∧ ∀ post : Int32 → St1 → Prop, post (-1) (xE, xS, xC, nI (n + 1), xO, xU, xH, xI, xR, kd, px, py, wt, ks, ki, al, op, fx, fy, fz, upd cO n (nI k), upd cA n (nI reg), upd cB n (nI b), upd cC n (nI c), upd cK n 0, wn, wr, wp, wq, oe, ol, oq, so, nu, ln, lm, sv, ka, es, en, ec) → wX_compilePart_273 post (nI reg) (nI k) (nI xa) (nI ya) xE xS xC xN xO xU xH xI xR kd px py wt ks ki al op fx fy fz cO cA cB cC cK wn wr wp wq oe ol oq so nu ln lm sv ka es en ec := by
  have G : ∀ b, b < 18 → ∃ c, c < 18 ∧ ∀ post : Int32 → St1 → Prop, post (-1) (xE, xS, xC, nI (n + 1), xO, xU, xH, xI, xR, kd, px, py, wt, ks, ki, al, op, fx, fy, fz, upd cO n (nI k), upd cA n (nI reg), upd cB n (nI b), upd cC n (nI c), upd cK n 0, wn, wr, wp, wq, oe, ol, oq, so, nu, ln, lm, sv, ka, es, en, ec) → wX_compilePart_293 post (nI reg) (nI k) (nI ya) (nI b) xE xS xC xN xO xU xH xI xR kd px py wt ks ki al op fx fy fz cO cA cB cC cK wn wr wp wq oe ol oq so nu ln lm sv ka es en ec := by
    intro b hb
    by_cases sy : tm_smp kd ks ya
    · obtain ⟨v, hv, ev⟩ := hvy sy
      refine ⟨v, by omega, fun post hp => ?_⟩
      unfold wX_compilePart_293
      refine tm_issi_w ya rfl hya30 (fun _ => br_f (by decide) ⟨pk_in ya 30 hya30, ?_⟩) (fun z => absurd sy z)
      rw [nI_clamp (show ya < 2 ^ 31 by omega)]
      unfold wX_compilePart_317
      exact tm_write_w n k reg b v hN hn rfl rfl rfl ev (by omega) (by omega) (by omega) (by omega) hp
    · refine ⟨reg + 1, by omega, fun post hp => ?_⟩
      unfold wX_compilePart_293
      refine tm_issi_w ya rfl hya30 (fun z => absurd z sy) (fun _ => br_t rfl ?_)
      unfold wX_compilePart_317
      exact tm_write_w n k reg b (reg + 1) hN hn rfl rfl rfl (nI_1 reg) (by omega) (by omega) (by omega) (by omega) hp
  by_cases sx : tm_smp kd ks xa
  · obtain ⟨v, hv, ev⟩ := hvx sx
    obtain ⟨c, hc, H⟩ := G v (by omega)
    refine ⟨v, c, by omega, hc, fun post hp => ?_⟩
    unfold wX_compilePart_273
    refine tm_issi_w xa rfl hxa30 (fun _ => br_f (by decide) ⟨pk_in xa 30 hxa30, ?_⟩) (fun z => absurd sx z)
    rw [nI_clamp (show xa < 2 ^ 31 by omega), ev]
    exact H post hp
  · obtain ⟨c, hc, H⟩ := G reg (by omega)
    refine ⟨reg, c, by omega, hc, fun post hp => ?_⟩
    unfold wX_compilePart_273
    exact tm_issi_w xa rfl hxa30 (fun z => absurd z sx) (fun _ => br_t rfl (H post hp))
theorem tm_p_b0x {ne e top reg k w s : Nat} (hne : ne ≤ 30) (he : e < ne) (hE : tm_ei1 kd px py wt ks al e k w s) (htop : top < 8) (hwn : wn top = nI e) (hwr : wr top = nI reg) (hwp : wp top = nI 0) (hs : s = 0) (hk : (2 ≤ k ∧ k ≤ 6) ∨ k = 10) {x y xa ya : Nat} (hx : x < e) (hy : y < e) (hpx : px e = nI x) (hpy : py e = nI y) (hxa : al x = nI xa) (hya : al y = nI ya) (hxa30 : xa < 30) (hya30 : ya < 30) (hvx : tm_smp kd ks xa → ∃ v, v < 6 ∧ px xa = nI v) (hvy : tm_smp kd ks ya → ∃ v, v < 6 ∧ px ya = nI v) (hsx : ¬ tm_smp kd ks xa) {post : Int32 → St1 → Prop} (hp : post (nI xa) (xE, xS, xC, xN, xO, xU, xH, xI, xR, kd, px, py, wt, ks, ki, al, op, fx, fy, fz, cO, cA, cB, cC, cK, wn, wr, upd wp top (nI 1), wq, oe, ol, oq, so, nu, ln, lm, sv, ka, es, en, ec)) :
    wpX_compilePart post (xE, xS, xC, xN, xO, xU, xH, xI, xR, kd, px, py, wt, ks, ki, al, op, fx, fy, fz, cO, cA, cB, cC, cK, wn, wr, wp, wq, oe, ol, oq, so, nu, ln, lm, sv, ka, es, en, ec) (nI top) := by
  have E1 := hE.1
  have E2 := hE.2.1
  have E6 := hE.2.2.2.2.2.1
  have E7 := hE.2.2.2.2.2.2.1
  have hei : vp_in (nI e) 30 := pk_in e 30 (by omega)
  have hti : vp_in (nI top) 8 := pk_in top 8 htop
  unfold wpX_compilePart
  dsimp only
  rw [nI_clamp (show top < 2 ^ 31 by omega)]
  refine ⟨hti, nm_r hwn ⟨hti, nm_r hwr ⟨hei, ?_⟩⟩⟩
  rw [nI_clamp (show e < 2 ^ 31 by omega)]
  refine nm_r E1 ⟨hti, nm_r hwp ⟨hti, hti, nm_r (e' := upd wp top (nI (0 + 1))) (by rw [hwp, nI_1, tm_b8 _ (by omega)]) ⟨hei, ?_⟩⟩⟩
  rw [E6]
  subst hs
  refine br_t rfl (br_f (tm_ne (by omega) 1 (by omega) (by omega)) (br_f (tm_ne (by omega) 11 (by omega) (by omega)) (tm_isch_w e k rfl (by omega) E1 E2 ?_)))
  rw [if_neg (by omega)]
  refine br_t rfl ?_
  refine br_f (tm_ne (by omega) 9 (by omega) (by omega)) (br_f (tm_ne (by omega) 12 (by omega) (by omega)) ⟨hei, ?_⟩)
  rw [hpx, hpy, nI_clamp (show x < 2 ^ 31 by omega), nI_clamp (show y < 2 ^ 31 by omega)]
  refine ⟨pk_in x 30 (by omega), nm_r hxa ⟨hei, pk_in y 30 (by omega), nm_r hya ?_⟩⟩
  exact br_t rfl (tm_issi_w xa rfl hxa30 (fun z => absurd z hsx) (fun _ => br_t rfl hp))
theorem tm_p_b0y {ne e top reg k w s : Nat} (hne : ne ≤ 30) (he : e < ne) (hE : tm_ei1 kd px py wt ks al e k w s) (htop : top < 8) (hwn : wn top = nI e) (hwr : wr top = nI reg) (hwp : wp top = nI 0) (hs : s = 0) (hk : (2 ≤ k ∧ k ≤ 6) ∨ k = 10) {x y xa ya : Nat} (hx : x < e) (hy : y < e) (hpx : px e = nI x) (hpy : py e = nI y) (hxa : al x = nI xa) (hya : al y = nI ya) (hxa30 : xa < 30) (hya30 : ya < 30) (hvx : tm_smp kd ks xa → ∃ v, v < 6 ∧ px xa = nI v) (hvy : tm_smp kd ks ya → ∃ v, v < 6 ∧ px ya = nI v) (hsx : tm_smp kd ks xa) (hsy : ¬ tm_smp kd ks ya) {post : Int32 → St1 → Prop} (hp : post (nI ya) (xE, xS, xC, xN, xO, xU, xH, xI, xR, kd, px, py, wt, ks, ki, al, op, fx, fy, fz, cO, cA, cB, cC, cK, wn, wr, upd (upd wp top (nI 1)) top (nI 2), wq, oe, ol, oq, so, nu, ln, lm, sv, ka, es, en, ec)) :
    wpX_compilePart post (xE, xS, xC, xN, xO, xU, xH, xI, xR, kd, px, py, wt, ks, ki, al, op, fx, fy, fz, cO, cA, cB, cC, cK, wn, wr, wp, wq, oe, ol, oq, so, nu, ln, lm, sv, ka, es, en, ec) (nI top) := by
  have E1 := hE.1
  have E2 := hE.2.1
  have E6 := hE.2.2.2.2.2.1
  have E7 := hE.2.2.2.2.2.2.1
  have hei : vp_in (nI e) 30 := pk_in e 30 (by omega)
  have hti : vp_in (nI top) 8 := pk_in top 8 htop
  unfold wpX_compilePart
  dsimp only
  rw [nI_clamp (show top < 2 ^ 31 by omega)]
  refine ⟨hti, nm_r hwn ⟨hti, nm_r hwr ⟨hei, ?_⟩⟩⟩
  rw [nI_clamp (show e < 2 ^ 31 by omega)]
  refine nm_r E1 ⟨hti, nm_r hwp ⟨hti, hti, nm_r (e' := upd wp top (nI (0 + 1))) (by rw [hwp, nI_1, tm_b8 _ (by omega)]) ⟨hei, ?_⟩⟩⟩
  rw [E6]
  subst hs
  refine br_t rfl (br_f (tm_ne (by omega) 1 (by omega) (by omega)) (br_f (tm_ne (by omega) 11 (by omega) (by omega)) (tm_isch_w e k rfl (by omega) E1 E2 ?_)))
  rw [if_neg (by omega)]
  refine br_t rfl ?_
  refine br_f (tm_ne (by omega) 9 (by omega) (by omega)) (br_f (tm_ne (by omega) 12 (by omega) (by omega)) ⟨hei, ?_⟩)
  rw [hpx, hpy, nI_clamp (show x < 2 ^ 31 by omega), nI_clamp (show y < 2 ^ 31 by omega)]
  refine ⟨pk_in x 30 (by omega), nm_r hxa ⟨hei, pk_in y 30 (by omega), nm_r hya ?_⟩⟩
  refine br_t rfl (tm_issi_w xa rfl hxa30 (fun _ => br_f (by decide) ?_) (fun z => absurd hsx z))
  unfold wX_compilePart_235
  refine br_t rfl ⟨hti, hti, ?_⟩
  rw [nI_clamp (show top < 2 ^ 31 by omega)]
  refine nm_r (e' := upd (upd wp top (nI 1)) top (nI 2)) (by rw [pk_us, nI_1, tm_b8 _ (by omega)]) ?_
  unfold wX_compilePart_251
  refine ⟨hti, ?_⟩
  rw [nI_clamp (show top < 2 ^ 31 by omega), pk_us]
  exact br_t rfl (tm_issi_w ya rfl hya30 (fun z => absurd z hsy) (fun _ => br_t rfl hp))
theorem tm_p_b0w {ne e top reg k w s : Nat} (hne : ne ≤ 30) (he : e < ne) (hE : tm_ei1 kd px py wt ks al e k w s) (htop : top < 8) (hwn : wn top = nI e) (hwr : wr top = nI reg) (hwp : wp top = nI 0) (hs : s = 0) (hk : (2 ≤ k ∧ k ≤ 6) ∨ k = 10) {x y xa ya : Nat} (hx : x < e) (hy : y < e) (hpx : px e = nI x) (hpy : py e = nI y) (hxa : al x = nI xa) (hya : al y = nI ya) (hxa30 : xa < 30) (hya30 : ya < 30) (hvx : tm_smp kd ks xa → ∃ v, v < 6 ∧ px xa = nI v) (hvy : tm_smp kd ks ya → ∃ v, v < 6 ∧ px ya = nI v) (n : Nat) (hN : xN = nI n) (hn : n < 350) (hreg : reg < 17) (hsx : tm_smp kd ks xa) (hsy : tm_smp kd ks ya) :
    ∃ b c, b < 18 ∧ c < 18 ∧ ∀ post : Int32 → St1 → Prop, post (-1) (xE, xS, xC, nI (n + 1), xO, xU, xH, xI, xR, kd, px, py, wt, ks, ki, al, op, fx, fy, fz, upd cO n (nI k), upd cA n (nI reg), upd cB n (nI b), upd cC n (nI c), upd cK n 0, wn, wr, upd (upd wp top (nI 1)) top (nI 2), wq, oe, ol, oq, so, nu, ln, lm, sv, ka, es, en, ec) → wpX_compilePart post (xE, xS, xC, xN, xO, xU, xH, xI, xR, kd, px, py, wt, ks, ki, al, op, fx, fy, fz, cO, cA, cB, cC, cK, wn, wr, wp, wq, oe, ol, oq, so, nu, ln, lm, sv, ka, es, en, ec) (nI top) := by
  have E1 := hE.1
  have E2 := hE.2.1
  have E6 := hE.2.2.2.2.2.1
  have E7 := hE.2.2.2.2.2.2.1
  have hei : vp_in (nI e) 30 := pk_in e 30 (by omega)
  have hti : vp_in (nI top) 8 := pk_in top 8 htop
  obtain ⟨b, c, hb, hc, H⟩ := tm_p_w (wp := upd (upd wp top (nI 1)) top (nI 2)) (xE := xE) (xS := xS) (xC := xC) (xO := xO) (xU := xU) (xH := xH) (xI := xI) (xR := xR) (py := py) (wt := wt) (ki := ki) (al := al) (op := op) (fx := fx) (fy := fy) (fz := fz) (cO := cO) (cA := cA) (cB := cB) (cC := cC) (cK := cK) (wn := wn) (wr := wr) (wq := wq) (oe := oe) (ol := ol) (oq := oq) (so := so) (nu := nu) (ln := ln) (lm := lm) (sv := sv) (ka := ka) (es := es) (en := en) (ec := ec) (k := k) hN hn hreg E2 hxa30 hya30 hvx hvy
  refine ⟨b, c, hb, hc, fun post hp => ?_⟩
  unfold wpX_compilePart
  dsimp only
  rw [nI_clamp (show top < 2 ^ 31 by omega)]
  refine ⟨hti, nm_r hwn ⟨hti, nm_r hwr ⟨hei, ?_⟩⟩⟩
  rw [nI_clamp (show e < 2 ^ 31 by omega)]
  refine nm_r E1 ⟨hti, nm_r hwp ⟨hti, hti, nm_r (e' := upd wp top (nI (0 + 1))) (by rw [hwp, nI_1, tm_b8 _ (by omega)]) ⟨hei, ?_⟩⟩⟩
  rw [E6]
  subst hs
  refine br_t rfl (br_f (tm_ne (by omega) 1 (by omega) (by omega)) (br_f (tm_ne (by omega) 11 (by omega) (by omega)) (tm_isch_w e k rfl (by omega) E1 E2 ?_)))
  rw [if_neg (by omega)]
  refine br_t rfl ?_
  refine br_f (tm_ne (by omega) 9 (by omega) (by omega)) (br_f (tm_ne (by omega) 12 (by omega) (by omega)) ⟨hei, ?_⟩)
  rw [hpx, hpy, nI_clamp (show x < 2 ^ 31 by omega), nI_clamp (show y < 2 ^ 31 by omega)]
  refine ⟨pk_in x 30 (by omega), nm_r hxa ⟨hei, pk_in y 30 (by omega), nm_r hya ?_⟩⟩
  refine br_t rfl (tm_issi_w xa rfl hxa30 (fun _ => br_f (by decide) ?_) (fun z => absurd hsx z))
  unfold wX_compilePart_235
  refine br_t rfl ⟨hti, hti, ?_⟩
  rw [nI_clamp (show top < 2 ^ 31 by omega)]
  refine nm_r (e' := upd (upd wp top (nI 1)) top (nI 2)) (by rw [pk_us, nI_1, tm_b8 _ (by omega)]) ?_
  unfold wX_compilePart_251
  refine ⟨hti, ?_⟩
  rw [nI_clamp (show top < 2 ^ 31 by omega), pk_us]
  exact br_t rfl (tm_issi_w ya rfl hya30 (fun _ => br_f (by decide) (H post hp)) (fun z => absurd hsy z))
theorem tm_p_b1y {ne e top reg k w s : Nat} (hne : ne ≤ 30) (he : e < ne) (hE : tm_ei1 kd px py wt ks al e k w s) (htop : top < 8) (hwn : wn top = nI e) (hwr : wr top = nI reg) (hwp : wp top = nI 1) (hs : s = 0) (hk : (2 ≤ k ∧ k ≤ 6) ∨ k = 10) {x y xa ya : Nat} (hx : x < e) (hy : y < e) (hpx : px e = nI x) (hpy : py e = nI y) (hxa : al x = nI xa) (hya : al y = nI ya) (hxa30 : xa < 30) (hya30 : ya < 30) (hvx : tm_smp kd ks xa → ∃ v, v < 6 ∧ px xa = nI v) (hvy : tm_smp kd ks ya → ∃ v, v < 6 ∧ px ya = nI v) (hsy : ¬ tm_smp kd ks ya) {post : Int32 → St1 → Prop} (hp : post (nI ya) (xE, xS, xC, xN, xO, xU, xH, xI, xR, kd, px, py, wt, ks, ki, al, op, fx, fy, fz, cO, cA, cB, cC, cK, wn, wr, upd wp top (nI 2), wq, oe, ol, oq, so, nu, ln, lm, sv, ka, es, en, ec)) :
    wpX_compilePart post (xE, xS, xC, xN, xO, xU, xH, xI, xR, kd, px, py, wt, ks, ki, al, op, fx, fy, fz, cO, cA, cB, cC, cK, wn, wr, wp, wq, oe, ol, oq, so, nu, ln, lm, sv, ka, es, en, ec) (nI top) := by
  have E1 := hE.1
  have E2 := hE.2.1
  have E6 := hE.2.2.2.2.2.1
  have E7 := hE.2.2.2.2.2.2.1
  have hei : vp_in (nI e) 30 := pk_in e 30 (by omega)
  have hti : vp_in (nI top) 8 := pk_in top 8 htop
  unfold wpX_compilePart
  dsimp only
  rw [nI_clamp (show top < 2 ^ 31 by omega)]
  refine ⟨hti, nm_r hwn ⟨hti, nm_r hwr ⟨hei, ?_⟩⟩⟩
  rw [nI_clamp (show e < 2 ^ 31 by omega)]
  refine nm_r E1 ⟨hti, nm_r hwp ⟨hti, hti, nm_r (e' := upd wp top (nI (1 + 1))) (by rw [hwp, nI_1, tm_b8 _ (by omega)]) ⟨hei, ?_⟩⟩⟩
  rw [E6]
  subst hs
  refine br_t rfl (br_f (tm_ne (by omega) 1 (by omega) (by omega)) (br_f (tm_ne (by omega) 11 (by omega) (by omega)) (tm_isch_w e k rfl (by omega) E1 E2 ?_)))
  rw [if_neg (by omega)]
  refine br_t rfl ?_
  refine br_f (tm_ne (by omega) 9 (by omega) (by omega)) (br_f (tm_ne (by omega) 12 (by omega) (by omega)) ⟨hei, ?_⟩)
  rw [hpx, hpy, nI_clamp (show x < 2 ^ 31 by omega), nI_clamp (show y < 2 ^ 31 by omega)]
  refine ⟨pk_in x 30 (by omega), nm_r hxa ⟨hei, pk_in y 30 (by omega), nm_r hya ?_⟩⟩
  refine br_f (by decide) ?_
  unfold wX_compilePart_235
  refine br_f (by decide) ?_
  unfold wX_compilePart_251
  refine ⟨hti, ?_⟩
  rw [nI_clamp (show top < 2 ^ 31 by omega), pk_us]
  exact br_t rfl (tm_issi_w ya rfl hya30 (fun z => absurd z hsy) (fun _ => br_t rfl hp))
theorem tm_p_b1w {ne e top reg k w s : Nat} (hne : ne ≤ 30) (he : e < ne) (hE : tm_ei1 kd px py wt ks al e k w s) (htop : top < 8) (hwn : wn top = nI e) (hwr : wr top = nI reg) (hwp : wp top = nI 1) (hs : s = 0) (hk : (2 ≤ k ∧ k ≤ 6) ∨ k = 10) {x y xa ya : Nat} (hx : x < e) (hy : y < e) (hpx : px e = nI x) (hpy : py e = nI y) (hxa : al x = nI xa) (hya : al y = nI ya) (hxa30 : xa < 30) (hya30 : ya < 30) (hvx : tm_smp kd ks xa → ∃ v, v < 6 ∧ px xa = nI v) (hvy : tm_smp kd ks ya → ∃ v, v < 6 ∧ px ya = nI v) (n : Nat) (hN : xN = nI n) (hn : n < 350) (hreg : reg < 17) (hsy : tm_smp kd ks ya) :
    ∃ b c, b < 18 ∧ c < 18 ∧ ∀ post : Int32 → St1 → Prop, post (-1) (xE, xS, xC, nI (n + 1), xO, xU, xH, xI, xR, kd, px, py, wt, ks, ki, al, op, fx, fy, fz, upd cO n (nI k), upd cA n (nI reg), upd cB n (nI b), upd cC n (nI c), upd cK n 0, wn, wr, upd wp top (nI 2), wq, oe, ol, oq, so, nu, ln, lm, sv, ka, es, en, ec) → wpX_compilePart post (xE, xS, xC, xN, xO, xU, xH, xI, xR, kd, px, py, wt, ks, ki, al, op, fx, fy, fz, cO, cA, cB, cC, cK, wn, wr, wp, wq, oe, ol, oq, so, nu, ln, lm, sv, ka, es, en, ec) (nI top) := by
  have E1 := hE.1
  have E2 := hE.2.1
  have E6 := hE.2.2.2.2.2.1
  have E7 := hE.2.2.2.2.2.2.1
  have hei : vp_in (nI e) 30 := pk_in e 30 (by omega)
  have hti : vp_in (nI top) 8 := pk_in top 8 htop
  obtain ⟨b, c, hb, hc, H⟩ := tm_p_w (wp := upd wp top (nI 2)) (xE := xE) (xS := xS) (xC := xC) (xO := xO) (xU := xU) (xH := xH) (xI := xI) (xR := xR) (py := py) (wt := wt) (ki := ki) (al := al) (op := op) (fx := fx) (fy := fy) (fz := fz) (cO := cO) (cA := cA) (cB := cB) (cC := cC) (cK := cK) (wn := wn) (wr := wr) (wq := wq) (oe := oe) (ol := ol) (oq := oq) (so := so) (nu := nu) (ln := ln) (lm := lm) (sv := sv) (ka := ka) (es := es) (en := en) (ec := ec) (k := k) hN hn hreg E2 hxa30 hya30 hvx hvy
  refine ⟨b, c, hb, hc, fun post hp => ?_⟩
  unfold wpX_compilePart
  dsimp only
  rw [nI_clamp (show top < 2 ^ 31 by omega)]
  refine ⟨hti, nm_r hwn ⟨hti, nm_r hwr ⟨hei, ?_⟩⟩⟩
  rw [nI_clamp (show e < 2 ^ 31 by omega)]
  refine nm_r E1 ⟨hti, nm_r hwp ⟨hti, hti, nm_r (e' := upd wp top (nI (1 + 1))) (by rw [hwp, nI_1, tm_b8 _ (by omega)]) ⟨hei, ?_⟩⟩⟩
  rw [E6]
  subst hs
  refine br_t rfl (br_f (tm_ne (by omega) 1 (by omega) (by omega)) (br_f (tm_ne (by omega) 11 (by omega) (by omega)) (tm_isch_w e k rfl (by omega) E1 E2 ?_)))
  rw [if_neg (by omega)]
  refine br_t rfl ?_
  refine br_f (tm_ne (by omega) 9 (by omega) (by omega)) (br_f (tm_ne (by omega) 12 (by omega) (by omega)) ⟨hei, ?_⟩)
  rw [hpx, hpy, nI_clamp (show x < 2 ^ 31 by omega), nI_clamp (show y < 2 ^ 31 by omega)]
  refine ⟨pk_in x 30 (by omega), nm_r hxa ⟨hei, pk_in y 30 (by omega), nm_r hya ?_⟩⟩
  refine br_f (by decide) ?_
  unfold wX_compilePart_235
  refine br_f (by decide) ?_
  unfold wX_compilePart_251
  refine ⟨hti, ?_⟩
  rw [nI_clamp (show top < 2 ^ 31 by omega), pk_us]
  exact br_t rfl (tm_issi_w ya rfl hya30 (fun _ => br_f (by decide) (H post hp)) (fun z => absurd hsy z))
theorem tm_p_b2w {ne e top reg k w s : Nat} (hne : ne ≤ 30) (he : e < ne) (hE : tm_ei1 kd px py wt ks al e k w s) (htop : top < 8) (hwn : wn top = nI e) (hwr : wr top = nI reg) (hwp : wp top = nI 2) (hs : s = 0) (hk : (2 ≤ k ∧ k ≤ 6) ∨ k = 10) {x y xa ya : Nat} (hx : x < e) (hy : y < e) (hpx : px e = nI x) (hpy : py e = nI y) (hxa : al x = nI xa) (hya : al y = nI ya) (hxa30 : xa < 30) (hya30 : ya < 30) (hvx : tm_smp kd ks xa → ∃ v, v < 6 ∧ px xa = nI v) (hvy : tm_smp kd ks ya → ∃ v, v < 6 ∧ px ya = nI v) (n : Nat) (hN : xN = nI n) (hn : n < 350) (hreg : reg < 17) :
    ∃ b c, b < 18 ∧ c < 18 ∧ ∀ post : Int32 → St1 → Prop, post (-1) (xE, xS, xC, nI (n + 1), xO, xU, xH, xI, xR, kd, px, py, wt, ks, ki, al, op, fx, fy, fz, upd cO n (nI k), upd cA n (nI reg), upd cB n (nI b), upd cC n (nI c), upd cK n 0, wn, wr, upd wp top (nI 3), wq, oe, ol, oq, so, nu, ln, lm, sv, ka, es, en, ec) → wpX_compilePart post (xE, xS, xC, xN, xO, xU, xH, xI, xR, kd, px, py, wt, ks, ki, al, op, fx, fy, fz, cO, cA, cB, cC, cK, wn, wr, wp, wq, oe, ol, oq, so, nu, ln, lm, sv, ka, es, en, ec) (nI top) := by
  have E1 := hE.1
  have E2 := hE.2.1
  have E6 := hE.2.2.2.2.2.1
  have E7 := hE.2.2.2.2.2.2.1
  have hei : vp_in (nI e) 30 := pk_in e 30 (by omega)
  have hti : vp_in (nI top) 8 := pk_in top 8 htop
  obtain ⟨b, c, hb, hc, H⟩ := tm_p_w (wp := upd wp top (nI 3)) (xE := xE) (xS := xS) (xC := xC) (xO := xO) (xU := xU) (xH := xH) (xI := xI) (xR := xR) (py := py) (wt := wt) (ki := ki) (al := al) (op := op) (fx := fx) (fy := fy) (fz := fz) (cO := cO) (cA := cA) (cB := cB) (cC := cC) (cK := cK) (wn := wn) (wr := wr) (wq := wq) (oe := oe) (ol := ol) (oq := oq) (so := so) (nu := nu) (ln := ln) (lm := lm) (sv := sv) (ka := ka) (es := es) (en := en) (ec := ec) (k := k) hN hn hreg E2 hxa30 hya30 hvx hvy
  refine ⟨b, c, hb, hc, fun post hp => ?_⟩
  unfold wpX_compilePart
  dsimp only
  rw [nI_clamp (show top < 2 ^ 31 by omega)]
  refine ⟨hti, nm_r hwn ⟨hti, nm_r hwr ⟨hei, ?_⟩⟩⟩
  rw [nI_clamp (show e < 2 ^ 31 by omega)]
  refine nm_r E1 ⟨hti, nm_r hwp ⟨hti, hti, nm_r (e' := upd wp top (nI (2 + 1))) (by rw [hwp, nI_1, tm_b8 _ (by omega)]) ⟨hei, ?_⟩⟩⟩
  rw [E6]
  subst hs
  refine br_t rfl (br_f (tm_ne (by omega) 1 (by omega) (by omega)) (br_f (tm_ne (by omega) 11 (by omega) (by omega)) (tm_isch_w e k rfl (by omega) E1 E2 ?_)))
  rw [if_neg (by omega)]
  refine br_t rfl ?_
  refine br_f (tm_ne (by omega) 9 (by omega) (by omega)) (br_f (tm_ne (by omega) 12 (by omega) (by omega)) ⟨hei, ?_⟩)
  rw [hpx, hpy, nI_clamp (show x < 2 ^ 31 by omega), nI_clamp (show y < 2 ^ 31 by omega)]
  refine ⟨pk_in x 30 (by omega), nm_r hxa ⟨hei, pk_in y 30 (by omega), nm_r hya ?_⟩⟩
  refine br_f (by decide) ?_
  unfold wX_compilePart_235
  refine br_f (by decide) ?_
  unfold wX_compilePart_251
  refine ⟨hti, ?_⟩
  rw [nI_clamp (show top < 2 ^ 31 by omega), pk_us]
  exact br_f (by decide) (H post hp)
end
section
variable {xE xS xC xN xO xU xH xI xR : Int32} {kd px py wt ks ki al op fx fy fz cO cA cB cC cK wn wr wp wq oe ol oq so nu ln lm ka es en ec : Nat → Int32} {sv : Nat → Int64}
/-! an expression is compiled -/
def tm_K (post : St1 → Prop) (xE xS xC xO xU xH xI xR : Int32) (kd px py wt ks ki al op fx fy fz oe ol oq so nu ln lm : Nat → Int32) (sv : Nat → Int64) (ka es en ec : Nat → Int32) (top n w : Nat) (P : Nat → Prop) (cO : Nat → Int32) (h0 h1 ag : Nat → Nat) (wn wr wp wq : Nat → Int32) : Prop := ∀ (n' : Nat) (cO' cA' cB' cC' cK' wn' wr' wp' wq' : Nat → Int32) (h0' h1' ag' : Nat → Nat), n ≤ n' → n' ≤ n + w → tm_pf n' P cO' cA' cB' cC' cK' h0' h1' ag' → (∀ p, p < n → cO' p = cO p) → (∀ p, p ≤ n → h0' p = h0 p ∧ h1' p = h1 p ∧ ag' p = ag p) → h0' n' = h0 n → h1' n' = h1 n → ag' n' = ag n + (n' - n) → (∀ j, j < top → wn' j = wn j ∧ wr' j = wr j ∧ wp' j = wp j ∧ wq' j = wq j) → ∃ fu, wX_compileExpression_29 post fu (nI top + (-1)) xE xS xC (nI n') xO xU xH xI xR kd px py wt ks ki al op fx fy fz cO' cA' cB' cC' cK' wn' wr' wp' wq' oe ol oq so nu ln lm sv ka es en ec
def tm_T (post : St1 → Prop) (xE xS xC xO xU xH xI xR : Int32) (kd px py wt ks ki al op fx fy fz oe ol oq so nu ln lm : Nat → Int32) (sv : Nat → Int64) (ka es en ec : Nat → Int32) (top n w : Nat) (P : Nat → Prop) (cO : Nat → Int32) (h0 h1 ag : Nat → Nat) (wn wr wp wq : Nat → Int32) (e reg ph : Nat) (pt : Int32) : Prop := ∀ (n' : Nat) (cO' cA' cB' cC' cK' wn' wr' wp' wq' : Nat → Int32) (h0' h1' ag' : Nat → Nat), n ≤ n' → n' ≤ n + w → tm_pf n' P cO' cA' cB' cC' cK' h0' h1' ag' → (∀ p, p < n → cO' p = cO p) → (∀ p, p ≤ n → h0' p = h0 p ∧ h1' p = h1 p ∧ ag' p = ag p) → h0' n' = h0 n → h1' n' = h1 n → ag' n' = ag n + (n' - n) → (∀ j, j < top → wn' j = wn j ∧ wr' j = wr j ∧ wp' j = wp j ∧ wq' j = wq j) → wn' top = nI e → wr' top = nI reg → wp' top = nI ph → wq' top = pt → ∃ fu, wX_compileExpression_29 post fu (nI top) xE xS xC (nI n') xO xU xH xI xR kd px py wt ks ki al op fx fy fz cO' cA' cB' cC' cK' wn' wr' wp' wq' oe ol oq so nu ln lm sv ka es en ec
/-- what a child leaves is what its parent goes on from -/
theorem tm_K_T {post : St1 → Prop} {top n n1 w wc e reg ph : Nat} {P : Nat → Prop} {pt : Int32} {cO cO1 : Nat → Int32} {h0 h1 ag h01 h11 ag1 : Nat → Nat} {wn wr wp wq wn1 wr1 wp1 wq1 : Nat → Int32}
    (hT : tm_T post xE xS xC xO xU xH xI xR kd px py wt ks ki al op fx fy fz oe ol oq so nu ln lm sv ka es en ec top n w P cO h0 h1 ag wn wr wp wq e reg ph pt) (a1 : n ≤ n1) (a2 : n1 + wc ≤ n + w) (a3 : ∀ p, p < n → cO1 p = cO p) (a4 : ∀ p, p ≤ n → h01 p = h0 p ∧ h11 p = h1 p ∧ ag1 p = ag p) (a5 : h01 n1 = h0 n) (a6 : h11 n1 = h1 n) (a7 : ag1 n1 = ag n + (n1 - n)) (a8 : ∀ j, j < top → wn1 j = wn j ∧ wr1 j = wr j ∧ wp1 j = wp j ∧ wq1 j = wq j)
    (b1 : wn1 top = nI e) (b2 : wr1 top = nI reg) (b3 : wp1 top = nI ph) (b4 : wq1 top = pt) {x y z : Int32} :
    tm_K post xE xS xC xO xU xH xI xR kd px py wt ks ki al op fx fy fz oe ol oq so nu ln lm sv ka es en ec (top + 1) n1 wc P cO1 h01 h11 ag1 (upd wn1 (top + 1) x) (upd wr1 (top + 1) y) (upd wp1 (top + 1) z) wq1 := by
  intro n' cO' cA' cB' cC' cK' wn' wr' wp' wq' h0' h1' ag' c1 c2 c3 c4 c5 c6 c7 c8 c9
  rw [pk_m1 top]
  have d : ∀ j, j < top + 1 → wn' j = wn1 j ∧ wr' j = wr1 j ∧ wp' j = wp1 j ∧ wq' j = wq1 j := by
    intro j hj
    obtain ⟨i1, i2, i3, i4⟩ := c9 j hj
    rw [pk_un (by omega)] at i1 i2 i3
    exact ⟨i1, i2, i3, i4⟩
  obtain ⟨d1, d2, d3, d4⟩ := d top (by omega)
  refine hT n' cO' cA' cB' cC' cK' wn' wr' wp' wq' h0' h1' ag' (by omega) (by omega) c3 (fun p hp => ?_) (fun p hp => ?_) (by rw [c6, a5]) (by rw [c7, a6]) (by rw [c8, a7]; omega) (fun j hj => ?_) (by rw [d1, b1]) (by rw [d2, b2]) (by rw [d3, b3]) (by rw [d4, b4])
  · rw [c4 p (by omega), a3 p hp]
  · obtain ⟨i1, i2, i3⟩ := c5 p (by omega)
    obtain ⟨j1, j2, j3⟩ := a4 p hp
    rw [i1, i2, i3, j1, j2, j3]
    exact ⟨rfl, rfl, rfl⟩
  · obtain ⟨i1, i2, i3, i4⟩ := d j (by omega)
    obtain ⟨j1, j2, j3, j4⟩ := a8 j hj
    rw [i1, i2, i3, i4, j1, j2, j3, j4]
    exact ⟨rfl, rfl, rfl, rfl⟩
theorem tm_push {post : St1 → Prop} {f top x ax rg : Nat} (htop : top + 1 < 8) (hx : x < 30) (hax : al x = nI ax) (hax30 : ax < 30) (hrg : rg < 128) {y z : Int32} (hy : y = nI x) (hz : z = nI rg)
    (h : wX_compileExpression_29 post f (nI (top + 1)) xE xS xC xN xO xU xH xI xR kd px py wt ks ki al op fx fy fz cO cA cB cC cK (upd wn (top + 1) (nI ax)) (upd wr (top + 1) (nI rg)) (upd wp (top + 1) 0) wq oe ol oq so nu ln lm sv ka es en ec) : wX_compileExpression_85 post (wX_compileExpression_29 post f) (nI top) y z xE xS xC xN xO xU xH xI xR kd px py wt ks ki al op fx fy fz cO cA cB cC cK wn wr wp wq oe ol oq so nu ln lm sv ka es en ec := by
  subst hy hz
  unfold wX_compileExpression_85
  refine nm_r (nI_1 top) ?_
  rw [nI_clamp (show x < 2 ^ 31 by omega), nI_clamp (show top + 1 < 2 ^ 31 by omega), hax, tm_nb (by omega), tm_b8 rg hrg]
  exact ⟨pk_in x 30 hx, pk_in (top + 1) 8 htop, nm_e ⟨pk_in (top + 1) 8 htop, nm_e ⟨pk_in (top + 1) 8 htop, nm_e h⟩⟩⟩
/-- a visit that ends a node -/
theorem tm_v_end {post : St1 → Prop} {fu top : Nat} {yN : Int32} {yO yA yB yC yK yp yq : Nat → Int32} (htop : top < 8) (h : ∀ ps : Int32 → St1 → Prop, ps (-1) (xE, xS, xC, yN, xO, xU, xH, xI, xR, kd, px, py, wt, ks, ki, al, op, fx, fy, fz, yO, yA, yB, yC, yK, wn, wr, yp, yq, oe, ol, oq, so, nu, ln, lm, sv, ka, es, en, ec) → wpX_compilePart ps (xE, xS, xC, xN, xO, xU, xH, xI, xR, kd, px, py, wt, ks, ki, al, op, fx, fy, fz, cO, cA, cB, cC, cK, wn, wr, wp, wq, oe, ol, oq, so, nu, ln, lm, sv, ka, es, en, ec) (nI top))
    (hf : wX_compileExpression_29 post fu (nI top + (-1)) xE xS xC yN xO xU xH xI xR kd px py wt ks ki al op fx fy fz yO yA yB yC yK wn wr yp yq oe ol oq so nu ln lm sv ka es en ec) : wX_compileExpression_29 post (fu + 1) (nI top) xE xS xC xN xO xU xH xI xR kd px py wt ks ki al op fx fy fz cO cA cB cC cK wn wr wp wq oe ol oq so nu ln lm sv ka es en ec := by
  unfold wX_compileExpression_29
  exact br_f (nI_pos (by omega)) (h _ (br_f (by decide) (nm_e hf)))
/-- a visit that asks for a part -/
theorem tm_v_go {post : St1 → Prop} {fu top x ax reg ph e k : Nat} {r yN : Int32} {yO yA yB yC yK yp yq : Nat → Int32} (htop : top + 1 < 8) (h : ∀ ps : Int32 → St1 → Prop, ps r (xE, xS, xC, yN, xO, xU, xH, xI, xR, kd, px, py, wt, ks, ki, al, op, fx, fy, fz, yO, yA, yB, yC, yK, wn, wr, yp, yq, oe, ol, oq, so, nu, ln, lm, sv, ka, es, en, ec) → wpX_compilePart ps (xE, xS, xC, xN, xO, xU, xH, xI, xR, kd, px, py, wt, ks, ki, al, op, fx, fy, fz, cO, cA, cB, cC, cK, wn, wr, wp, wq, oe, ol, oq, so, nu, ln, lm, sv, ka, es, en, ec) (nI top))
    (hr : r = nI x) (hx : x < 30) (hax : al x = nI ax) (hax30 : ax < 30) (hwr : wr top = nI reg) (hreg : reg < 100) (hwn : wn top = nI e) (he : e < 30) (hk : kd e = nI k) (hk12 : k ≤ 12) (hp : yp top = nI ph) (hph : ph ≤ 3)
    (hf : wX_compileExpression_29 post fu (nI (top + 1)) xE xS xC yN xO xU xH xI xR kd px py wt ks ki al op fx fy fz yO yA yB yC yK (upd wn (top + 1) (nI ax)) (upd wr (top + 1) (nI (if ph = 2 ∧ ¬ (k = 7 ∨ k = 8) then reg + 1 else reg))) (upd yp (top + 1) 0) yq oe ol oq so nu ln lm sv ka es en ec) : wX_compileExpression_29 post (fu + 1) (nI top) xE xS xC xN xO xU xH xI xR kd px py wt ks ki al op fx fy fz cO cA cB cC cK wn wr wp wq oe ol oq so nu ln lm sv ka es en ec := by
  unfold wX_compileExpression_29
  refine br_f (nI_pos (by omega)) (h _ ?_)
  have hti : vp_in (nI top) 8 := pk_in top 8 (by omega)
  refine br_t (by rw [hr]; exact nI_pos' (by omega)) ⟨hti, ?_⟩
  rw [nI_clamp (show top < 2 ^ 31 by omega), hwr, hwn, hp]
  refine nm_e ⟨hti, pk_eq ph 2 (fun z => ⟨hti, tm_isch_w e k rfl he hk hk12 ?_⟩) (fun z => ?_)⟩
  · by_cases c : k = 7 ∨ k = 8
    · rw [if_pos c]
      rw [if_neg (fun t => t.2 c)] at hf
      exact br_f (by decide) (tm_push htop hx hax hax30 (by omega) hr rfl hf)
    · rw [if_neg c]
      rw [if_pos ⟨z, c⟩] at hf
      exact br_t rfl (nm_e (tm_push htop hx hax hax30 (by omega) hr (nI_1 reg) hf))
  · rw [if_neg (fun t => z t.1)] at hf
    exact tm_push htop hx hax hax30 (by omega) hr rfl hf
end
section
variable {xE xS xC xN xO xU xH xI xR : Int32} {kd px py wt ks ki al op fx fy fz cO cA cB cC cK wn wr wp wq oe ol oq so nu ln lm ka es en ec : Nat → Int32} {sv : Nat → Int64}
theorem tm_fin {post : St1 → Prop} {top n w : Nat} {P : Nat → Prop} {h0 h1 ag : Nat → Nat} (hK : tm_K post xE xS xC xO xU xH xI xR kd px py wt ks ki al op fx fy fz oe ol oq so nu ln lm sv ka es en ec top n w P cO h0 h1 ag wn wr wp wq) {n' : Nat} {cO' cA' cB' cC' cK' wn' wr' wp' wq' : Nat → Int32} {h0' h1' ag' : Nat → Nat} (c1 : n ≤ n') (c2 : n' + 1 ≤ n + w) (c3 : tm_pf n' P cO' cA' cB' cC' cK' h0' h1' ag') (c4 : ∀ p, p < n → cO' p = cO p) (c5 : ∀ p, p ≤ n → h0' p = h0 p ∧ h1' p = h1 p ∧ ag' p = ag p) (c6 : h0' n' = h0 n) (c7 : h1' n' = h1 n) (c8 : ag' n' = ag n + (n' - n)) (c9 : ∀ j, j < top → wn' j = wn j ∧ wr' j = wr j ∧ wp' j = wp j ∧ wq' j = wq j)
    (hn : n + w ≤ 350) (hn0 : 0 < n) (hnh : tm_nh h0 h1 n) (hag : ag n + w ≤ 23) {o a b c : Nat} {v : Int32} (ho : o ≤ 14) (ha : a < 18) (hb : b < 18) (hc : c < 18) {wp'' : Nat → Int32} (hw : ∀ j, j < top → wp'' j = wp' j) :
    ∃ fu, wX_compileExpression_29 post fu (nI top + (-1)) xE xS xC (nI (n' + 1)) xO xU xH xI xR kd px py wt ks ki al op fx fy fz (upd cO' n' (nI o)) (upd cA' n' (nI a)) (upd cB' n' (nI b)) (upd cC' n' (nI c)) (upd cK' n' v) wn' wr' wp'' wq' oe ol oq so nu ln lm sv ka es en ec := by
  have hnh' : tm_nh h0' h1' n' := by
    obtain ⟨g0, g1⟩ := hnh
    unfold tm_nh
    rw [c6, c7]
    exact ⟨by omega, by omega⟩
  refine hK (n' + 1) _ _ _ _ _ wn' wr' wp'' wq' _ _ _ (by omega) (by omega) (tm_pf_op c3 (by omega) (by omega) hnh' o a b c v (ag' n' + 1) ho ha hb hc (by omega) (fun _ => by omega)) (fun p hp => ?_) (fun p hp => ?_) ?_ ?_ ?_ (fun j hj => ?_)
  · rw [pk_un (by omega)]; exact c4 p hp
  · rw [tm_udn (by omega), tm_udn (by omega), tm_udn (by omega)]; exact c5 p hp
  · rw [tm_uds, c6]
  · rw [tm_uds, c7]
  · rw [tm_uds, c8]; omega
  · rw [hw j hj]; exact c9 j hj
theorem tm_ce {post : St1 → Prop} {ne : Nat} (hE : tm_ei ne kd px py wt ks al) : ∀ (W e we top reg n : Nat) (P : Nat → Prop) (cO cA cB cC cK wn wr wp wq : Nat → Int32) (h0 h1 ag : Nat → Nat), e < ne → wt e = nI we → we ≤ W → wn top = nI e → wr top = nI reg → wp top = nI 0 → top + we ≤ 8 → reg + we ≤ 18 → n + we ≤ 350 → ag n + we ≤ 23 → we ≤ 7 → 0 < n → tm_pf n P cO cA cB cC cK h0 h1 ag → tm_nh h0 h1 n → (∀ p, P p → p < n) → tm_K post xE xS xC xO xU xH xI xR kd px py wt ks ki al op fx fy fz oe ol oq so nu ln lm sv ka es en ec top n we P cO h0 h1 ag wn wr wp wq → ∃ fu, wX_compileExpression_29 post fu (nI top) xE xS xC (nI n) xO xU xH xI xR kd px py wt ks ki al op fx fy fz cO cA cB cC cK wn wr wp wq oe ol oq so nu ln lm sv ka es en ec := by
  intro W
  obtain ⟨hne, hEE⟩ := hE
  have WX : ∀ x wx, x < ne → wt x = nI wx → wx ≤ 100 → 1 ≤ wx ∧ wx ≤ 7 := by
    intro x wx hx h hw
    obtain ⟨k, w, s, h1⟩ := hEE x hx
    have : wx = w := tm_nIinj (by omega) (by have := h1.2.2.2.2.1; omega) (by rw [← h, ← h1.2.2.1])
    subst this
    exact ⟨h1.2.2.2.1, h1.2.2.2.2.1⟩
  have AL : ∀ x wx, x < ne → wt x = nI wx → wx ≤ 100 → ∃ ax wax, ax ≤ x ∧ al x = nI ax ∧ wt ax = nI wax ∧ wax ≤ wx := by
    intro x wx hx h hw
    obtain ⟨k, w, s, h1⟩ := hEE x hx
    have : wx = w := tm_nIinj (by omega) (by have := h1.2.2.2.2.1; omega) (by rw [← h, ← h1.2.2.1])
    subst this
    obtain ⟨a, wa, i1, i2, i3, i4⟩ := h1.2.2.2.2.2.2.2.1
    exact ⟨a, wa, i1, i2, i3, i4⟩
  have SM : ∀ x, x < ne → tm_smp kd ks x → ∃ v, v < 6 ∧ px x = nI v := by
    intro x hx h
    obtain ⟨k, w, s, h1⟩ := hEE x hx
    have hk : k = 1 := by
      have e1 : nI k = nI 1 := by rw [← h1.1]; exact h.2
      exact tm_nIinj (by have := h1.2.1; omega) (by omega) e1
    exact h1.2.2.2.2.2.2.2.2.2.1 hk
  induction W with
  | zero =>
    intro e we top reg n P cO cA cB cC cK wn wr wp wq h0 h1 ag he hwe hW
    have := WX e we he hwe (by omega)
    omega
  | succ W ih =>
    intro e we top reg n P cO cA cB cC cK wn wr wp wq h0 h1 ag he hwe hW hwn hwr hwp ht hr hn hag hwe7 hn0 hpf hnh hPn hK
    obtain ⟨k, w, s, E⟩ := hEE e he
    have E1 := E.1
    have E2 := E.2.1
    have E3 := E.2.2.1
    have E5 := E.2.2.2.2.1
    have E7 := E.2.2.2.2.2.2.1
    have E9 := E.2.2.2.2.2.2.2.2.1
    have E11 := E.2.2.2.2.2.2.2.2.2.2.1
    have E12 := E.2.2.2.2.2.2.2.2.2.2.2
    have ew : w = we := tm_nIinj (by omega) (by omega) (by rw [← E3, ← hwe])
    subst ew
    have hw1 := (WX e w he hwe (by omega)).1
    by_cases hl : ¬ s = 0 ∨ k = 1 ∨ k = 11
    · obtain ⟨o, b, v, ho, hb, H⟩ := tm_p_leaf (xE := xE) (xS := xS) (xC := xC) (xN := nI n) (xO := xO) (xU := xU) (xH := xH) (xI := xI) (xR := xR) (kd := kd) (px := px) (py := py) (wt := wt) (ks := ks) (ki := ki) (al := al) (op := op) (fx := fx) (fy := fy) (fz := fz) (cO := cO) (cA := cA) (cB := cB) (cC := cC) (cK := cK) (wn := wn) (wr := wr) (wp := wp) (wq := wq) (oe := oe) (ol := ol) (oq := oq) (so := so) (nu := nu) (ln := ln) (lm := lm) (sv := sv) (ka := ka) (es := es) (en := en) (ec := ec) (ph := 0) (by omega) hne he E (by omega) hwn hwr hwp n rfl (by omega) (by omega) hl
      obtain ⟨fu, hfu⟩ := tm_fin (o := o) (a := reg) (b := b) (c := 0) (v := v) (wp'' := upd wp top (nI (0 + 1))) hK (Nat.le_refl n) (by omega) hpf (fun p _ => rfl) (fun p _ => ⟨rfl, rfl, rfl⟩) rfl rfl (by omega) (fun j _ => ⟨rfl, rfl, rfl, rfl⟩) hn hn0 hnh hag ho (by omega) hb (by omega) (fun j hj => pk_un (by omega))
      exact ⟨fu + 1, tm_v_end (by omega) H hfu⟩
    have hs : s = 0 := by omega
    have hk1 : k ≠ 1 := by omega
    have hk11 : k ≠ 11 := by omega
    have hk0 : k ≠ 0 := by
      intro z
      have := E9 z
      omega
    by_cases hu : k = 9 ∨ k = 12
    · obtain ⟨x, wx, hx, epx, ewx, ew⟩ := E11 hu
      obtain ⟨ax, wax, a1, a2, a3, a4⟩ := AL x wx (by omega) ewx (by omega)
      have wx1 := (WX x wx (by omega) ewx (by omega)).1
      have T1 : tm_T post xE xS xC xO xU xH xI xR kd px py wt ks ki al op fx fy fz oe ol oq so nu ln lm sv ka es en ec top n wx P cO h0 h1 ag wn wr wp wq e reg 1 (wq top) := by
        intro n' cO' cA' cB' cC' cK' wn' wr' wp' wq' h0' h1' ag' c1 c2 c3 c4 c5 c6 c7 c8 c9 t1 t2 t3 t4
        obtain ⟨fu, hfu⟩ := tm_fin (o := k) (a := reg) (b := reg) (c := 0) (v := 0) (wp'' := upd wp' top (nI 2)) hK c1 (by omega) c3 c4 c5 c6 c7 c8 c9 hn hn0 hnh hag (by omega) (by omega) (by omega) (by omega) (fun j hj => pk_un (by omega))
        exact ⟨fu + 1, tm_v_end (by omega) (fun ps hp => tm_p_un1 hne he E (by omega) t1 t2 t3 n' rfl (by omega) (by omega) hs hu hp) hfu⟩
      obtain ⟨fu, hfu⟩ := ih ax wax (top + 1) reg n P cO cA cB cC cK (upd wn (top + 1) (nI ax)) (upd wr (top + 1) (nI reg)) (upd (upd wp top (nI 1)) (top + 1) 0) wq h0 h1 ag (by omega) a3 (by omega) pk_us pk_us pk_us (by omega) (by omega) (by omega) (by omega) (by omega) hn0 hpf hnh hPn (tm_K_T T1 (Nat.le_refl n) (by omega) (fun p _ => rfl) (fun p _ => ⟨rfl, rfl, rfl⟩) rfl rfl (by omega) (fun j hj => ⟨rfl, rfl, pk_un (by omega), rfl⟩) hwn hwr pk_us rfl)
      exact ⟨fu + 1, tm_v_go (ph := 1) (x := x) (reg := reg) (by omega) (fun ps hp => tm_p_un0 hne he E (by omega) hwn hwr hwp hs hu hp) epx (by omega) a2 (by omega) hwr (by omega) hwn (by omega) E1 E2 pk_us (by omega) hfu⟩
    obtain ⟨x, y, wx, wy, hx, hy, epx, epy, ewx, ewy, ew⟩ := E12 (by omega)
    obtain ⟨ax, wax, a1, a2, a3, a4⟩ := AL x wx (by omega) ewx (by omega)
    obtain ⟨ay, way, b1, b2, b3, b4⟩ := AL y wy (by omega) ewy (by omega)
    have wx1 := (WX x wx (by omega) ewx (by omega)).1
    have wy1 := (WX y wy (by omega) ewy (by omega)).1
    by_cases hc : k = 7 ∨ k = 8
    · have T1 : tm_T post xE xS xC xO xU xH xI xR kd px py wt ks ki al op fx fy fz oe ol oq so nu ln lm sv ka es en ec top n wx P cO h0 h1 ag wn wr wp wq e reg 1 (wq top) := by
        intro n' cO' cA' cB' cC' cK' wn' wr' wp' wq' h0' h1' ag' c1 c2 c3 c4 c5 c6 c7 c8 c9 t1 t2 t3 t4
        have hnh' : tm_nh h0' h1' n' := (by unfold tm_nh; rw [c6, c7]; exact ⟨by have := hnh.1; omega, by have := hnh.2; omega⟩)
        obtain ⟨o, ho, H⟩ := tm_p_ch1 (xE := xE) (xS := xS) (xC := xC) (xN := nI n') (xO := xO) (xU := xU) (xH := xH) (xI := xI) (xR := xR) (kd := kd) (px := px) (py := py) (wt := wt) (ks := ks) (ki := ki) (al := al) (op := op) (fx := fx) (fy := fy) (fz := fz) (cO := cO') (cA := cA') (cB := cB') (cC := cC') (cK := cK') (wn := wn') (wr := wr') (wp := wp') (wq := wq') (oe := oe) (ol := ol) (oq := oq) (so := so) (nu := nu) (ln := ln) (lm := lm) (sv := sv) (ka := ka) (es := es) (en := en) (ec := ec) hne he E (by omega) t1 t2 t3 n' rfl (by omega) (by omega) hs hc
        have hpf2 := tm_pf_if c3 (show n' < 350 by omega) (by omega) hnh' o reg (nI 0) (nI 0) 0 (ag' n' + 1) ho (by omega) (by omega)
        have T2 : tm_T post xE xS xC xO xU xH xI xR kd px py wt ks ki al op fx fy fz oe ol oq so nu ln lm sv ka es en ec top (n' + 1) wy (fun p => P p ∨ p = n') (upd cO' n' (nI o)) (tm_ud h0' (n' + 1) (h0' n')) (tm_ud h1' (n' + 1) (h1' n')) (tm_ud ag' (n' + 1) (ag' n' + 1)) wn' wr' wp' (upd wq' top (nI n')) e reg 2 (nI n') := by
          intro n2 cO2 cA2 cB2 cC2 cK2 wn2 wr2 wp2 wq2 h02 h12 ag2 d1 d2 d3 d4 d5 d6 d7 d8 d9 s1 s2 s3 s4
          have f4 : ∀ p, p < n' → cO2 p = cO' p := fun p hp => by rw [d4 p (by omega), pk_un (by omega)]
          have f5 : ∀ p, p ≤ n' → h02 p = h0' p ∧ h12 p = h1' p ∧ ag2 p = ag' p := fun p hp => by
            obtain ⟨i1, i2, i3⟩ := d5 p (by omega)
            rw [tm_udn (by omega)] at i1 i2 i3
            exact ⟨i1, i2, i3⟩
          rw [tm_uds] at d6 d7 d8
          have hOn : cO2 n' = nI o := by rw [d4 n' (by omega), pk_us]
          obtain ⟨i1, i2, i3⟩ := f5 n' (Nat.le_refl n')
          have hpf3 : tm_pf n2 P cO2 cA2 cB2 cC2 (upd cK2 n' (nI n2)) h02 h12 ag2 := by
            refine tm_pf_to d3 (by omega) ?_ ⟨by rw [d6, i1], by rw [d7, i2], by rw [d8, i3]; omega⟩ (fun p hp hnP => ?_)
            · rcases ho with z | z
              · exact Or.inl (by rw [hOn, z])
              · exact Or.inr (by rw [hOn, z])
            · by_cases z : p = n'
              · exact Or.inr z
              · exact Or.inl (fun g => g.elim hnP z)
          obtain ⟨fu, hfu⟩ := hK n2 cO2 cA2 cB2 cC2 (upd cK2 n' (nI n2)) wn2 wr2 (upd wp2 top (nI 3)) wq2 h02 h12 ag2 (by omega) (by omega) hpf3 (fun p hp => by rw [f4 p (by omega), c4 p hp]) (fun p hp => by
              obtain ⟨j1, j2, j3⟩ := f5 p (by omega)
              rw [j1, j2, j3]; exact c5 p hp) (by rw [d6, c6]) (by rw [d7, c7]) (by rw [d8, c8]; omega) (fun j hj => by
              obtain ⟨j1, j2, j3, j4⟩ := d9 j hj
              obtain ⟨l1, l2, l3, l4⟩ := c9 j hj
              rw [pk_un (by omega)] at j4
              rw [pk_un (show j ≠ top by omega), j1, j2, j3, j4, l1, l2, l3, l4]
              exact ⟨rfl, rfl, rfl, rfl⟩)
          exact ⟨fu + 1, tm_v_end (by omega) (fun ps hp => tm_p_ch2 hne he E (by omega) s1 s2 s3 n' s4 (by omega) hs hc hp) hfu⟩
        obtain ⟨fu, hfu⟩ := ih ay way (top + 1) reg (n' + 1) (fun p => P p ∨ p = n') _ _ _ _ _ (upd wn' (top + 1) (nI ay)) (upd wr' (top + 1) (nI reg)) (upd (upd wp' top (nI 2)) (top + 1) 0) (upd wq' top (nI n')) _ _ _ (by omega) b3 (by omega) pk_us pk_us pk_us (by omega) (by omega) (by omega) (by rw [tm_uds]; omega) (by omega) (by omega) hpf2 (by
            obtain ⟨g0, g1⟩ := hnh'
            unfold tm_nh
            rw [tm_uds, tm_uds]
            exact ⟨by omega, by omega⟩) (fun p hp => by
            rcases hp with z | z
            · have := hPn p z; omega
            · omega) (tm_K_T T2 (Nat.le_refl _) (by omega) (fun p _ => rfl) (fun p _ => ⟨rfl, rfl, rfl⟩) rfl rfl (by omega) (fun j hj => ⟨rfl, rfl, pk_un (by omega), rfl⟩) t1 t2 pk_us pk_us)
        exact ⟨fu + 1, tm_v_go (ph := 2) (x := y) (reg := reg) (by omega) H epy (by omega) b2 (by omega) t2 (by omega) t1 (by omega) E1 E2 pk_us (by omega) (by rw [if_neg (fun z => z.2 hc)]; exact hfu)⟩
      obtain ⟨fu, hfu⟩ := ih ax wax (top + 1) reg n P cO cA cB cC cK (upd wn (top + 1) (nI ax)) (upd wr (top + 1) (nI reg)) (upd (upd wp top (nI 1)) (top + 1) 0) wq h0 h1 ag (by omega) a3 (by omega) pk_us pk_us pk_us (by omega) (by omega) (by omega) (by omega) (by omega) hn0 hpf hnh hPn (tm_K_T T1 (Nat.le_refl n) (by omega) (fun p _ => rfl) (fun p _ => ⟨rfl, rfl, rfl⟩) rfl rfl (by omega) (fun j hj => ⟨rfl, rfl, pk_un (by omega), rfl⟩) hwn hwr pk_us rfl)
      exact ⟨fu + 1, tm_v_go (ph := 1) (x := x) (reg := reg) (by omega) (fun ps hp => tm_p_ch0 hne he E (by omega) hwn hwr hwp hs hc hp) epx (by omega) a2 (by omega) hwr (by omega) hwn (by omega) E1 E2 pk_us (by omega) hfu⟩
    have hb : (2 ≤ k ∧ k ≤ 6) ∨ k = 10 := by omega
    obtain ⟨aax, waax, aa1, aa2, aa3, aa4⟩ := AL ax wax (by omega) a3 (by omega)
    obtain ⟨aay, waay, bb1, bb2, bb3, bb4⟩ := AL ay way (by omega) b3 (by omega)
    have SX := SM ax (by omega)
    have SY := SM ay (by omega)
    have T2 : tm_T post xE xS xC xO xU xH xI xR kd px py wt ks ki al op fx fy fz oe ol oq so nu ln lm sv ka es en ec top n (wx + wy) P cO h0 h1 ag wn wr wp wq e reg 2 (wq top) := by
      intro n' cO' cA' cB' cC' cK' wn' wr' wp' wq' h0' h1' ag' c1 c2 c3 c4 c5 c6 c7 c8 c9 t1 t2 t3 t4
      obtain ⟨b, c, hb18, hc18, H⟩ := tm_p_b2w (xE := xE) (xS := xS) (xC := xC) (xN := nI n') (xO := xO) (xU := xU) (xH := xH) (xI := xI) (xR := xR) (kd := kd) (px := px) (py := py) (wt := wt) (ks := ks) (ki := ki) (al := al) (op := op) (fx := fx) (fy := fy) (fz := fz) (cO := cO') (cA := cA') (cB := cB') (cC := cC') (cK := cK') (wn := wn') (wr := wr') (wp := wp') (wq := wq') (oe := oe) (ol := ol) (oq := oq) (so := so) (nu := nu) (ln := ln) (lm := lm) (sv := sv) (ka := ka) (es := es) (en := en) (ec := ec) hne he E (by omega) t1 t2 t3 hs hb hx hy epx epy a2 b2 (by omega) (by omega) SX SY n' rfl (by omega) (by omega)
      obtain ⟨fu, hfu⟩ := tm_fin (o := k) (a := reg) (b := b) (c := c) (v := 0) (wp'' := upd wp' top (nI 3)) hK c1 (by omega) c3 c4 c5 c6 c7 c8 c9 hn hn0 hnh hag (by omega) (by omega) hb18 hc18 (fun j hj => pk_un (by omega))
      exact ⟨fu + 1, tm_v_end (by omega) H hfu⟩
    have T1 : tm_T post xE xS xC xO xU xH xI xR kd px py wt ks ki al op fx fy fz oe ol oq so nu ln lm sv ka es en ec top n wx P cO h0 h1 ag wn wr wp wq e reg 1 (wq top) := by
      intro n' cO' cA' cB' cC' cK' wn' wr' wp' wq' h0' h1' ag' c1 c2 c3 c4 c5 c6 c7 c8 c9 t1 t2 t3 t4
      by_cases sy : tm_smp kd ks ay
      · obtain ⟨b, c, hb18, hc18, H⟩ := tm_p_b1w (xE := xE) (xS := xS) (xC := xC) (xN := nI n') (xO := xO) (xU := xU) (xH := xH) (xI := xI) (xR := xR) (kd := kd) (px := px) (py := py) (wt := wt) (ks := ks) (ki := ki) (al := al) (op := op) (fx := fx) (fy := fy) (fz := fz) (cO := cO') (cA := cA') (cB := cB') (cC := cC') (cK := cK') (wn := wn') (wr := wr') (wp := wp') (wq := wq') (oe := oe) (ol := ol) (oq := oq) (so := so) (nu := nu) (ln := ln) (lm := lm) (sv := sv) (ka := ka) (es := es) (en := en) (ec := ec) hne he E (by omega) t1 t2 t3 hs hb hx hy epx epy a2 b2 (by omega) (by omega) SX SY n' rfl (by omega) (by omega) sy
        obtain ⟨fu, hfu⟩ := tm_fin (o := k) (a := reg) (b := b) (c := c) (v := 0) (wp'' := upd wp' top (nI 2)) hK c1 (by omega) c3 c4 c5 c6 c7 c8 c9 hn hn0 hnh hag (by omega) (by omega) hb18 hc18 (fun j hj => pk_un (by omega))
        exact ⟨fu + 1, tm_v_end (by omega) H hfu⟩
      · obtain ⟨fu, hfu⟩ := ih aay waay (top + 1) (reg + 1) n' P cO' cA' cB' cC' cK' (upd wn' (top + 1) (nI aay)) (upd wr' (top + 1) (nI (reg + 1))) (upd (upd wp' top (nI 2)) (top + 1) 0) wq' h0' h1' ag' (by omega) bb3 (by omega) pk_us pk_us pk_us (by omega) (by omega) (by omega) (by omega) (by omega) (by omega) c3 (by unfold tm_nh; rw [c6, c7]; exact ⟨by have := hnh.1; omega, by have := hnh.2; omega⟩) (fun p hp => by have := hPn p hp; omega) (tm_K_T T2 c1 (by omega) c4 c5 c6 c7 c8 (fun j hj => by
            obtain ⟨l1, l2, l3, l4⟩ := c9 j hj
            rw [pk_un (by omega)]
            exact ⟨l1, l2, l3, l4⟩) t1 t2 pk_us t4)
        exact ⟨fu + 1, tm_v_go (ph := 2) (x := ay) (reg := reg) (by omega) (fun ps hp => tm_p_b1y hne he E (by omega) t1 t2 t3 hs hb hx hy epx epy a2 b2 (by omega) (by omega) SX SY sy hp) rfl (by omega) bb2 (by omega) t2 (by omega) t1 (by omega) E1 E2 pk_us (by omega) (by rw [if_pos ⟨rfl, hc⟩]; exact hfu)⟩
    by_cases sx : tm_smp kd ks ax
    · by_cases sy : tm_smp kd ks ay
      · obtain ⟨b, c, hb18, hc18, H⟩ := tm_p_b0w (xE := xE) (xS := xS) (xC := xC) (xN := nI n) (xO := xO) (xU := xU) (xH := xH) (xI := xI) (xR := xR) (kd := kd) (px := px) (py := py) (wt := wt) (ks := ks) (ki := ki) (al := al) (op := op) (fx := fx) (fy := fy) (fz := fz) (cO := cO) (cA := cA) (cB := cB) (cC := cC) (cK := cK) (wn := wn) (wr := wr) (wp := wp) (wq := wq) (oe := oe) (ol := ol) (oq := oq) (so := so) (nu := nu) (ln := ln) (lm := lm) (sv := sv) (ka := ka) (es := es) (en := en) (ec := ec) hne he E (by omega) hwn hwr hwp hs hb hx hy epx epy a2 b2 (by omega) (by omega) SX SY n rfl (by omega) (by omega) sx sy
        obtain ⟨fu, hfu⟩ := tm_fin (o := k) (a := reg) (b := b) (c := c) (v := 0) (wp'' := upd (upd wp top (nI 1)) top (nI 2)) hK (Nat.le_refl n) (by omega) hpf (fun p _ => rfl) (fun p _ => ⟨rfl, rfl, rfl⟩) rfl rfl (by omega) (fun j _ => ⟨rfl, rfl, rfl, rfl⟩) hn hn0 hnh hag (by omega) (by omega) hb18 hc18 (fun j hj => by rw [pk_un (by omega), pk_un (by omega)])
        exact ⟨fu + 1, tm_v_end (by omega) H hfu⟩
      · obtain ⟨fu, hfu⟩ := ih aay waay (top + 1) (reg + 1) n P cO cA cB cC cK (upd wn (top + 1) (nI aay)) (upd wr (top + 1) (nI (reg + 1))) (upd (upd (upd wp top (nI 1)) top (nI 2)) (top + 1) 0) wq h0 h1 ag (by omega) bb3 (by omega) pk_us pk_us pk_us (by omega) (by omega) (by omega) (by omega) (by omega) hn0 hpf hnh hPn (tm_K_T T2 (Nat.le_refl n) (by omega) (fun p _ => rfl) (fun p _ => ⟨rfl, rfl, rfl⟩) rfl rfl (by omega) (fun j hj => ⟨rfl, rfl, by rw [pk_un (by omega), pk_un (by omega)], rfl⟩) hwn hwr pk_us rfl)
        exact ⟨fu + 1, tm_v_go (ph := 2) (x := ay) (reg := reg) (by omega) (fun ps hp => tm_p_b0y hne he E (by omega) hwn hwr hwp hs hb hx hy epx epy a2 b2 (by omega) (by omega) SX SY sx sy hp) rfl (by omega) bb2 (by omega) hwr (by omega) hwn (by omega) E1 E2 pk_us (by omega) (by rw [if_pos ⟨rfl, hc⟩]; exact hfu)⟩
    · obtain ⟨fu, hfu⟩ := ih aax waax (top + 1) reg n P cO cA cB cC cK (upd wn (top + 1) (nI aax)) (upd wr (top + 1) (nI reg)) (upd (upd wp top (nI 1)) (top + 1) 0) wq h0 h1 ag (by omega) aa3 (by omega) pk_us pk_us pk_us (by omega) (by omega) (by omega) (by omega) (by omega) hn0 hpf hnh hPn (tm_K_T T1 (Nat.le_refl n) (by omega) (fun p _ => rfl) (fun p _ => ⟨rfl, rfl, rfl⟩) rfl rfl (by omega) (fun j hj => ⟨rfl, rfl, pk_un (by omega), rfl⟩) hwn hwr pk_us rfl)
      exact ⟨fu + 1, tm_v_go (ph := 1) (x := ax) (reg := reg) (by omega) (fun ps hp => tm_p_b0x hne he E (by omega) hwn hwr hwp hs hb hx hy epx epy a2 b2 (by omega) (by omega) SX SY sx hp) rfl (by omega) aa2 (by omega) hwr (by omega) hwn (by omega) E1 E2 pk_us (by omega) hfu⟩
end
section
variable {xE xS xC xN xO xU xH xI xR : Int32} {kd px py wt ks ki al op fx fy fz cO cA cB cC cK wn wr wp wq oe ol oq so nu ln lm ka es en ec : Nat → Int32} {sv : Nat → Int64}
/-! statements, and whether they are sound -/
def tm_si1 (ne : Nat) (op fx fy fz : Nat → Int32) (i o : Nat) : Prop := o ≤ 4 ∧ op i = nI o ∧
  (o = 0 → ∃ v y, v < 6 ∧ y < ne ∧ fx i = nI v ∧ fy i = nI y) ∧
  (o = 1 → ∃ x y z, x < ne ∧ y < ne ∧ z < ne ∧ fx i = nI x ∧ fy i = nI y ∧ fz i = nI z) ∧
  (o = 2 → ∃ x y, x < ne ∧ 1 ≤ y ∧ y ≤ 6 ∧ fx i = nI x ∧ fy i = nI y) ∧
  (o = 3 → ∃ v y z, v < 6 ∧ y < ne ∧ 1 ≤ z ∧ z ≤ 6 ∧ fx i = nI v ∧ fy i = nI y ∧ fz i = nI z) ∧
  (o = 4 → ∃ x, x < ne ∧ fx i = nI x)
def tm_si (ne ns : Nat) (op fx fy fz : Nat → Int32) : Prop := ns ≤ 14 ∧ ∀ i, i < ns → ∃ o, tm_si1 ne op fx fy fz i o
def tm_en (op fy fz : Nat → Int32) (i : Nat) : Nat := if op i = 2 then i + 1 + (fy i).toNatClampNeg else if op i = 3 then i + 1 + (fz i).toNatClampNeg else i + 1
def tm_dw (i : Nat) : List (Nat × Bool) → List (Nat × Bool)
  | [] => []
  | x :: s => if x.1 = i then tm_dw i s else x :: s
def tm_st (op fy fz : Nat → Int32) : Nat → List (Nat × Bool)
  | 0 => []
  | i + 1 => if op i = 2 then (tm_en op fy fz i, false) :: tm_dw i (tm_st op fy fz i) else if op i = 3 then (tm_en op fy fz i, true) :: tm_dw i (tm_st op fy fz i) else tm_dw i (tm_st op fy fz i)
def tm_nl : List (Nat × Bool) → Nat
  | [] => 0
  | x :: s => tm_nl s + (if x.2 then 1 else 0)
def tm_sd1 (op fy fz : Nat → Int32) (ns i : Nat) : Prop := (op i = 2 ∨ op i = 3) → tm_en op fy fz i ≤ ns ∧ (∀ x s, tm_dw i (tm_st op fy fz i) = x :: s → tm_en op fy fz i ≤ x.1) ∧ tm_nl (tm_st op fy fz (i + 1)) ≤ 2
def tm_sd (op fy fz : Nat → Int32) (ns : Nat) : Prop := ∀ i, i < ns → tm_sd1 op fy fz ns i
theorem tm_dw_len (i : Nat) : ∀ s, (tm_dw i s).length ≤ s.length := by
  intro s
  induction s with
  | nil => exact Nat.le_refl _
  | cons x s ih =>
    unfold tm_dw
    split
    · have : (x :: s).length = s.length + 1 := rfl
      omega
    · exact Nat.le_refl _
theorem tm_st_len (op fy fz : Nat → Int32) : ∀ i, (tm_st op fy fz i).length ≤ i := by
  intro i
  induction i with
  | zero => exact Nat.le_refl 0
  | succ i ih =>
    have h := tm_dw_len i (tm_st op fy fz i)
    unfold tm_st
    split
    · show (tm_dw i (tm_st op fy fz i)).length + 1 ≤ i + 1
      omega
    split
    · show (tm_dw i (tm_st op fy fz i)).length + 1 ≤ i + 1
      omega
    · omega
theorem tm_nl_len : ∀ s, tm_nl s ≤ s.length := by
  intro s
  induction s with
  | nil => exact Nat.le_refl _
  | cons x s ih =>
    unfold tm_nl
    show tm_nl s + _ ≤ s.length + 1
    split <;> omega
theorem tm_en_w {post : Int32 → Prop} {x : Int32} {ne ns i : Nat} (hx : x = nI i) (hi : i < ns) (hS : tm_si ne ns op fx fy fz) (hp : post (nI (tm_en op fy fz i))) : wpX_endOf post (xE, xS, xC, xN, xO, xU, xH, xI, xR, kd, px, py, wt, ks, ki, al, op, fx, fy, fz, cO, cA, cB, cC, cK, wn, wr, wp, wq, oe, ol, oq, so, nu, ln, lm, sv, ka, es, en, ec) x := by
  subst hx
  obtain ⟨hns, hS⟩ := hS
  obtain ⟨o, ho, eo, s0, s1, s2, s3, s4⟩ := hS i hi
  have hii : vp_in (nI i) 14 := pk_in i 14 (by omega)
  unfold wpX_endOf
  dsimp only
  unfold tm_en at hp
  rw [nI_clamp (show i < 2 ^ 31 by omega)]
  refine ⟨hii, ?_⟩
  by_cases e2 : op i = 2
  · rw [if_pos e2] at hp
    obtain ⟨_, y, _, _, _, _, ey⟩ := s2 (tm_nIinj (by omega) (by omega) (by rw [← eo]; exact e2))
    rw [ey, nI_clamp (show y < 2 ^ 31 by omega)] at hp
    refine br_t e2 ⟨hii, ?_⟩
    rw [ey, nI_1, nI_add]
    exact hp
  · rw [if_neg e2] at hp
    refine br_f e2 ⟨hii, ?_⟩
    by_cases e3 : op i = 3
    · rw [if_pos e3] at hp
      obtain ⟨_, _, z, _, _, _, _, _, _, ez⟩ := s3 (tm_nIinj (by omega) (by omega) (by rw [← eo]; exact e3))
      rw [ez, nI_clamp (show z < 2 ^ 31 by omega)] at hp
      refine br_t e3 ⟨hii, ?_⟩
      rw [ez, nI_1, nI_add]
      exact hp
    · rw [if_neg e3] at hp
      refine br_f e3 ?_
      rw [nI_1]
      exact hp
theorem tm_en_le {ne ns i : Nat} (hi : i < ns) (hS : tm_si ne ns op fx fy fz) : i + 1 ≤ tm_en op fy fz i ∧ tm_en op fy fz i ≤ 21 := by
  obtain ⟨hns, hS⟩ := hS
  obtain ⟨o, ho, eo, s0, s1, s2, s3, s4⟩ := hS i hi
  unfold tm_en
  by_cases e2 : op i = 2
  · rw [if_pos e2]
    obtain ⟨_, y, _, _, _, _, ey⟩ := s2 (tm_nIinj (by omega) (by omega) (by rw [← eo]; exact e2))
    rw [ey, nI_clamp (show y < 2 ^ 31 by omega)]
    omega
  · rw [if_neg e2]
    by_cases e3 : op i = 3
    · rw [if_pos e3]
      obtain ⟨_, _, z, _, _, _, _, _, _, ez⟩ := s3 (tm_nIinj (by omega) (by omega) (by rw [← eo]; exact e3))
      rw [ez, nI_clamp (show z < 2 ^ 31 by omega)]
      omega
    · rw [if_neg e3]
      omega
/-- the arrays hold the stack -/
def tm_k2 (oe ol : Nat → Int32) : List (Nat × Bool) → Prop
  | [] => True
  | x :: s => oe s.length = nI x.1 ∧ x.1 ≤ 14 ∧ ol s.length = (if x.2 then 1 else 0) ∧ tm_k2 oe ol s
theorem tm_k2_dw {oe ol : Nat → Int32} (i : Nat) : ∀ s, tm_k2 oe ol s → tm_k2 oe ol (tm_dw i s) := by
  intro s
  induction s with
  | nil => exact fun h => h
  | cons x s ih =>
    intro h
    unfold tm_dw
    split
    · exact ih h.2.2.2
    · exact h
theorem tm_k2_up {oe ol : Nat → Int32} {x y : Int32} : ∀ (s : List (Nat × Bool)) (n : Nat), s.length ≤ n → tm_k2 oe ol s → tm_k2 (upd oe n x) (upd ol n y) s := by
  intro s
  induction s with
  | nil => exact fun n _ _ => trivial
  | cons z s ih =>
    intro n hn h
    have hn' : s.length + 1 ≤ n := hn
    refine ⟨?_, h.2.1, ?_, ih n (by omega) h.2.2.2⟩
    · rw [pk_un (by omega)]; exact h.1
    · rw [pk_un (by omega)]; exact h.2.2.1
theorem tm_snd17 {post : Int32 → St1 → Prop} {J : Int32 → Int32 → Int32 → (Nat → Int32) → (Nat → Int32) → (Nat → Int32) → (Nat → Int32) → (Nat → Int32) → (Nat → Int32) → (Nat → Int32) → (Nat → Int32) → (Nat → Int32) → (Nat → Int32) → (Nat → Int32) → (Nat → Int32) → (Nat → Int32) → (Nat → Int32) → (Nat → Int32) → (Nat → Int32) → (Nat → Int32) → (Nat → Int32) → (Nat → Int32) → (Nat → Int32) → (Nat → Int32) → (Nat → Int32) → (Nat → Int32) → (Nat → Int32) → (Nat → Int32) → (Nat → Int32) → (Nat → Int32) → (Nat → Int64) → (Nat → Int32) → (Nat → Int32) → (Nat → Int32) → (Nat → Int32) → Prop} {i : Nat} (hi : i < 14) :
    ∀ s : List (Nat × Bool), s.length ≤ 14 → tm_k2 oe ol s → wX_sound_67 post J (nI (tm_nl (tm_dw i s))) (nI i) xE xS xC xN (nI (tm_dw i s).length) xU xH xI xR kd px py wt ks ki al op fx fy fz cO cA cB cC cK wn wr wp wq oe ol oq so nu ln lm sv ka es en ec → ∃ fu, wX_sound_17 post J (nI i) xE xS xC xN xU xH xI xR kd px py wt ks ki al op fx fy fz cO cA cB cC cK wn wr wp wq oe ol oq so nu ln lm sv ka es en ec fu (nI (tm_nl s)) (nI s.length) := by
  intro s
  induction s with
  | nil =>
    intro _ _ h
    refine ⟨0 + 1, ?_⟩
    unfold wX_sound_17
    exact br_t (by decide) h
  | cons x s ih =>
    intro hl hk h
    obtain ⟨k1, k2, k3, k4⟩ := hk
    have hl' : s.length + 1 ≤ 14 := hl
    have e1 : (x :: s).length = s.length + 1 := rfl
    have e2 : tm_nl (x :: s) = tm_nl s + (if x.2 then 1 else 0) := rfl
    unfold tm_dw at h
    by_cases c : x.1 = i
    · rw [if_pos c] at h
      obtain ⟨fu, hfu⟩ := ih (by omega) k4 h
      refine ⟨fu + 1, ?_⟩
      unfold wX_sound_17
      rw [e1, e2, nI_pred, nI_clamp (show s.length < 2 ^ 31 by omega), k1]
      refine br_f (nI_nle (by omega) (by omega)) ⟨pk_in s.length 14 (by omega), br_t (by rw [c]) (nm_e ⟨pk_in s.length 14 (by omega), ?_⟩)⟩
      rw [nI_clamp (show s.length < 2 ^ 31 by omega), k3]
      cases x.2
      · exact br_t rfl hfu
      · exact br_f (by decide) (nm_r (pk_m1 _) hfu)
    · rw [if_neg c] at h
      refine ⟨0 + 1, ?_⟩
      unfold wX_sound_17
      rw [e1, nI_pred, nI_clamp (show s.length < 2 ^ 31 by omega), k1]
      exact br_f (nI_nle (by omega) (by omega)) ⟨pk_in s.length 14 (by omega), br_f (fun z => c (tm_nIinj (by omega) (by omega) z)) h⟩
theorem tm_nb0 : vp_nar .boolean 0 = 0 := rfl
theorem tm_nb1 : vp_nar .boolean 1 = 1 := rfl
theorem tm_sound_w {post : Int32 → St1 → Prop} {ne ns : Nat} (hS : tm_si ne ns op fx fy fz) (hns : xS = nI ns) (h1 : tm_sd op fy fz ns → ∀ oc oe' ol', post 1 (xE, xS, xC, xN, oc, xU, xH, xI, xR, kd, px, py, wt, ks, ki, al, op, fx, fy, fz, cO, cA, cB, cC, cK, wn, wr, wp, wq, oe', ol', oq, so, nu, ln, lm, sv, ka, es, en, ec)) (h0 : ¬ tm_sd op fy fz ns → ∀ oc oe' ol', post 0 (xE, xS, xC, xN, oc, xU, xH, xI, xR, kd, px, py, wt, ks, ki, al, op, fx, fy, fz, cO, cA, cB, cC, cK, wn, wr, wp, wq, oe', ol', oq, so, nu, ln, lm, sv, ka, es, en, ec)) : wpX_sound post (xE, xS, xC, xN, xO, xU, xH, xI, xR, kd, px, py, wt, ks, ki, al, op, fx, fy, fz, cO, cA, cB, cC, cK, wn, wr, wp, wq, oe, ol, oq, so, nu, ln, lm, sv, ka, es, en, ec) := by
  subst hns
  have hS14 := hS.1
  unfold wpX_sound
  dsimp only
  refine pk_loop (σ := Int32 × Int32 × (Nat → Int32) × (Nat → Int32)) (fun f i s => wX_sound_9 post xE (nI ns) xC xN xU xH xI xR f s.1 (nI i) s.2.1 kd px py wt ks ki al op fx fy fz cO cA cB cC cK wn wr wp wq s.2.2.1 s.2.2.2 oq so nu ln lm sv ka es en ec)
    (fun i s => s.1 = nI (tm_nl (tm_st op fy fz i)) ∧ s.2.1 = nI (tm_st op fy fz i).length ∧ tm_k2 s.2.2.1 s.2.2.2 (tm_st op fy fz i) ∧ ∀ j, j < i → tm_sd1 op fy fz ns j) ns 0 (0, 0, oe, ol) (by omega) ⟨rfl, rfl, trivial, fun j hj => absurd hj (by omega)⟩ ?_ ?_
  · rintro f ⟨q1, q2, q3, q4⟩ ⟨_, _, _, g4⟩
    show wX_sound_9 post xE (nI ns) xC xN xU xH xI xR (f + 1) q1 (nI ns) q2 kd px py wt ks ki al op fx fy fz cO cA cB cC cK wn wr wp wq q3 q4 oq so nu ln lm sv ka es en ec
    unfold wX_sound_9
    exact br_t (nI_le (Nat.le_refl ns) (by omega)) (h1 g4 q2 q3 q4)
  · rintro f i ⟨q1, q2, q3, q4⟩ hi ⟨g1, g2, g3, g4⟩ hw
    show wX_sound_9 post xE (nI ns) xC xN xU xH xI xR (f + 1) q1 (nI i) q2 kd px py wt ks ki al op fx fy fz cO cA cB cC cK wn wr wp wq q3 q4 oq so nu ln lm sv ka es en ec
    have g1 : q1 = nI (tm_nl (tm_st op fy fz i)) := g1
    have g2 : q2 = nI (tm_st op fy fz i).length := g2
    have g3 : tm_k2 q3 q4 (tm_st op fy fz i) := g3
    have hii : vp_in (nI i) 14 := pk_in i 14 (by omega)
    have hlen := tm_st_len op fy fz i
    have hdl := tm_dw_len i (tm_st op fy fz i)
    have hnl := tm_nl_len (tm_dw i (tm_st op fy fz i))
    have g5 := tm_k2_dw i _ g3
    rw [g1, g2]
    unfold wX_sound_9
    refine br_f (nI_ge hi (by omega)) (tm_snd17 (by omega) _ (by omega) g3 ?_)
    have fail : ¬ tm_sd1 op fy fz ns i → ¬ tm_sd op fy fz ns := fun a b => a (b i hi)
    have goon : ∀ a1 a2 a3 a4, tm_sd1 op fy fz ns i → a1 = nI (tm_nl (tm_st op fy fz (i + 1))) → a2 = nI (tm_st op fy fz (i + 1)).length → tm_k2 a3 a4 (tm_st op fy fz (i + 1)) → wX_sound_9 post xE (nI ns) xC xN xU xH xI xR f a1 (nI (i + 1)) a2 kd px py wt ks ki al op fx fy fz cO cA cB cC cK wn wr wp wq a3 a4 oq so nu ln lm sv ka es en ec := by
      intro a1 a2 a3 a4 b1 b2 b3 b4
      exact hw (a1, a2, a3, a4) ⟨b2, b3, b4, fun j hj => by
        by_cases z : j = i
        · subst z; exact b1
        · exact g4 j (by omega)⟩
    have hend := tm_en_le hi hS
    -- a stretch is opened
    have H90 : ∀ b : Bool, (op i = 2 ∨ op i = 3) → (op i = 3 ↔ b = true) → tm_st op fy fz (i + 1) = (tm_en op fy fz i, b) :: tm_dw i (tm_st op fy fz i) → wX_sound_90 post (wX_sound_9 post xE (nI ns) xC xN xU xH xI xR f) (nI (tm_nl (tm_dw i (tm_st op fy fz i)))) (nI i) xE (nI ns) xC xN (nI (tm_dw i (tm_st op fy fz i)).length) xU xH xI xR kd px py wt ks ki al op fx fy fz cO cA cB cC cK wn wr wp wq q3 q4 oq so nu ln lm sv ka es en ec := by
      intro b hop hb hst
      unfold wX_sound_90
      refine tm_en_w (ne := ne) (ns := ns) rfl hi hS ?_
      by_cases c1 : tm_en op fy fz i ≤ ns
      · refine br_f (nI_nlt c1 (by omega)) ?_
        have H128 : (∀ x s, tm_dw i (tm_st op fy fz i) = x :: s → tm_en op fy fz i ≤ x.1) → wX_sound_128 post (wX_sound_9 post xE (nI ns) xC xN xU xH xI xR f) (nI (tm_nl (tm_dw i (tm_st op fy fz i)))) (nI i) (nI (tm_en op fy fz i)) xE (nI ns) xC xN (nI (tm_dw i (tm_st op fy fz i)).length) xU xH xI xR kd px py wt ks ki al op fx fy fz cO cA cB cC cK wn wr wp wq q3 q4 oq so nu ln lm sv ka es en ec := by
          intro c2
          have hli : vp_in (nI (tm_dw i (tm_st op fy fz i)).length) 14 := pk_in (tm_dw i (tm_st op fy fz i)).length 14 (by omega)
          have hnl1 : tm_nl (tm_st op fy fz (i + 1)) = tm_nl (tm_dw i (tm_st op fy fz i)) + (if b then 1 else 0) := by rw [hst]; rfl
          have hk1 : ∀ v : Int32, v = (if b then 1 else 0) → tm_k2 (upd q3 (tm_dw i (tm_st op fy fz i)).length (nI (tm_en op fy fz i))) (upd q4 (tm_dw i (tm_st op fy fz i)).length v) (tm_st op fy fz (i + 1)) := by
            intro v hv
            rw [hst]
            exact ⟨pk_us, by show tm_en op fy fz i ≤ 14; omega, by rw [pk_us]; exact hv, tm_k2_up _ _ (Nat.le_refl _) g5⟩
          have hlen1 : nI (tm_dw i (tm_st op fy fz i)).length + 1 = nI (tm_st op fy fz (i + 1)).length := by rw [nI_1, hst]; rfl
          have H186 : ∀ v : Int32, v = (if b then 1 else 0) → wX_sound_186 post (wX_sound_9 post xE (nI ns) xC xN xU xH xI xR f) (nI (tm_nl (tm_st op fy fz (i + 1)))) (nI i) xE (nI ns) xC xN (nI (tm_dw i (tm_st op fy fz i)).length + 1) xU xH xI xR kd px py wt ks ki al op fx fy fz cO cA cB cC cK wn wr wp wq (upd q3 (tm_dw i (tm_st op fy fz i)).length (nI (tm_en op fy fz i))) (upd q4 (tm_dw i (tm_st op fy fz i)).length v) oq so nu ln lm sv ka es en ec := by
            intro v hv
            have hb2 : (if b then 1 else 0) ≤ 1 := by cases b <;> decide
            unfold wX_sound_186
            refine pk_le (tm_nl (tm_st op fy fz (i + 1))) 2 (fun c3 => nm_r (nI_1 i) (goon _ _ _ _ (fun _ => ⟨c1, c2, c3⟩) rfl hlen1 (hk1 v hv))) (fun c3 => ?_) rfl rfl (by omega)
            exact h0 (fail (fun z => by have := (z hop).2.2; omega)) _ _ _
          unfold wX_sound_128
          rw [nI_clamp (show (tm_dw i (tm_st op fy fz i)).length < 2 ^ 31 by omega), nI_clamp (show i < 2 ^ 31 by omega), tm_b8 _ (by omega)]
          refine ⟨hli, nm_e ⟨hii, ?_⟩⟩
          have H162 : ∀ v : Int32, v = (if b then 1 else 0) → vp_nar .boolean v = v → wX_sound_162 post (wX_sound_9 post xE (nI ns) xC xN xU xH xI xR f) (nI (tm_nl (tm_dw i (tm_st op fy fz i)))) (nI i) v (nI (tm_dw i (tm_st op fy fz i)).length) xE (nI ns) xC xN (nI (tm_dw i (tm_st op fy fz i)).length) xU xH xI xR kd px py wt ks ki al op fx fy fz cO cA cB cC cK wn wr wp wq (upd q3 (tm_dw i (tm_st op fy fz i)).length (nI (tm_en op fy fz i))) q4 oq so nu ln lm sv ka es en ec := by
            intro v hv hnv
            unfold wX_sound_162
            rw [nI_clamp (show (tm_dw i (tm_st op fy fz i)).length < 2 ^ 31 by omega), nI_clamp (show i < 2 ^ 31 by omega), hnv]
            refine ⟨hli, nm_e (nm_e ⟨hii, br_c (fun z => ?_) (fun z => ?_)⟩)⟩
            · have hbt := hb.mp z
              subst hbt
              refine nm_r (e' := nI (tm_nl (tm_st op fy fz (i + 1)))) ?_ (H186 v hv)
              rw [hnl1, nI_1]; rfl
            · have hbf : b = false := by
                cases b
                · rfl
                · exact absurd (hb.mpr rfl) z
              subst hbf
              have e : tm_nl (tm_dw i (tm_st op fy fz i)) = tm_nl (tm_st op fy fz (i + 1)) := by rw [hnl1]; rfl
              rw [e]
              exact H186 v hv
          refine br_c (fun z => ?_) (fun z => ?_)
          · have hbt := hb.mp z
            subst hbt
            exact H162 1 rfl tm_nb1
          · have hbf : b = false := by
              cases b
              · rfl
              · exact absurd (hb.mpr rfl) z
            subst hbf
            exact H162 0 rfl tm_nb0
        cases hd : tm_dw i (tm_st op fy fz i) with
        | nil =>
          refine br_t (by decide) ?_
          have := H128 (fun x s z => by rw [hd] at z; exact absurd z (by simp))
          rw [hd] at this
          exact this
        | cons x s =>
          have hl1 : (x :: s).length = s.length + 1 := rfl
          rw [hd] at g5 hdl
          rw [hl1] at hdl
          have gx := g5
          obtain ⟨x1, x2, x3, x4⟩ := gx
          refine br_f ?_ ⟨?_, ?_⟩
          · rw [hl1]; exact nI_nle (by omega) (by omega)
          · rw [hl1, nI_pred]; exact pk_in s.length 14 (by omega)
          · rw [hl1, nI_pred, nI_clamp (show s.length < 2 ^ 31 by omega), x1]
            refine pk_le (tm_en op fy fz i) x.1 (fun c2 => ?_) (fun c2 => ?_)
            · have := H128 (fun x' s' z => by rw [hd] at z; have z1 := (List.cons.inj z).1; rw [← z1]; exact c2)
              rw [hd, hl1] at this
              exact this
            · exact h0 (fail (fun z => by have := (z hop).2.1 x s hd; omega)) _ _ _
      · exact br_t (nI_lt (by omega) (by omega)) (h0 (fail (fun z => c1 (z hop).1)) _ _ _)
    unfold wX_sound_67
    rw [nI_clamp (show i < 2 ^ 31 by omega)]
    refine ⟨hii, br_c (fun e2 => ?_) (fun e2 => ⟨hii, br_c (fun e3 => ?_) (fun e3 => ?_)⟩)⟩
    · exact H90 false (Or.inl e2) ⟨fun z => by rw [z] at e2; exact absurd e2 (by decide), fun z => absurd z (by decide)⟩ (by show (if op i = 2 then _ else _) = _; rw [if_pos e2])
    · exact H90 true (Or.inr e3) ⟨fun _ => rfl, fun _ => e3⟩ (by show (if op i = 2 then _ else _) = _; rw [if_neg e2, if_pos e3])
    · have hst : tm_st op fy fz (i + 1) = tm_dw i (tm_st op fy fz i) := by show (if op i = 2 then _ else _) = _; rw [if_neg e2, if_neg e3]
      exact nm_r (nI_1 i) (goon _ _ _ _ (fun z => z.elim (fun z => absurd z e2) (fun z => absurd z e3)) (by rw [hst]) (by rw [hst]) (by rw [hst]; exact g5))
end
section
variable {xE xS xC xN xO xU xH xI xR : Int32} {kd px py wt ks ki al op fx fy fz cO cA cB cC cK wn wr wp wq oe ol oq so nu ln lm ka es en ec : Nat → Int32} {sv : Nat → Int64}
/-! a whole expression -/
theorem tm_cx_w {post : St1 → Prop} {ne n e reg : Nat} {P : Nat → Prop} {h0 h1 ag : Nat → Nat} {x y : Int32} (hE : tm_ei ne kd px py wt ks al) (hx : x = nI e) (hy : y = nI reg) (he : e < ne) (hreg : reg ≤ 8) (hN : xN = nI n) (hn : n + 7 ≤ 350) (hag : ag n + 7 ≤ 23) (hn0 : 0 < n) (hpf : tm_pf n P cO cA cB cC cK h0 h1 ag) (hnh : tm_nh h0 h1 n) (hPn : ∀ p, P p → p < n)
    (hp : ∀ (n' : Nat) (cO' cA' cB' cC' cK' wn' wr' wp' wq' : Nat → Int32) (h0' h1' ag' : Nat → Nat), n ≤ n' → n' ≤ n + 7 → tm_pf n' P cO' cA' cB' cC' cK' h0' h1' ag' → (∀ p, p < n → cO' p = cO p) → (∀ p, p ≤ n → h0' p = h0 p ∧ h1' p = h1 p ∧ ag' p = ag p) → h0' n' = h0 n → h1' n' = h1 n → ag' n' = ag n + (n' - n) → post (xE, xS, xC, nI n', xO, xU, xH, xI, xR, kd, px, py, wt, ks, ki, al, op, fx, fy, fz, cO', cA', cB', cC', cK', wn', wr', wp', wq', oe, ol, oq, so, nu, ln, lm, sv, ka, es, en, ec)) : wpX_compileExpression post (xE, xS, xC, xN, xO, xU, xH, xI, xR, kd, px, py, wt, ks, ki, al, op, fx, fy, fz, cO, cA, cB, cC, cK, wn, wr, wp, wq, oe, ol, oq, so, nu, ln, lm, sv, ka, es, en, ec) x y := by
  subst hx hy hN
  obtain ⟨k, w, s, E⟩ := hE.2 e he
  have hne := hE.1
  obtain ⟨a, wa, a1, a2, a3, a4⟩ := E.2.2.2.2.2.2.2.1
  have hw7 := E.2.2.2.2.1
  unfold wpX_compileExpression
  dsimp only
  rw [nI_clamp (show e < 2 ^ 31 by omega), a2, tm_nb (by omega), tm_b8 reg (by omega)]
  refine ⟨pk_in e 30 (by omega), nm_e (nm_e (nm_e ?_))⟩
  refine tm_ce hE 7 a wa 0 reg n P cO cA cB cC cK (upd wn 0 (nI a)) (upd wr 0 (nI reg)) (upd wp 0 0) wq h0 h1 ag (by omega) a3 (by omega) pk_us pk_us pk_us (by omega) (by omega) (by omega) (by omega) (by omega) hn0 hpf hnh hPn ?_
  intro n' cO' cA' cB' cC' cK' wn' wr' wp' wq' h0' h1' ag' c1 c2 c3 c4 c5 c6 c7 c8 c9
  refine ⟨0 + 1, ?_⟩
  unfold wX_compileExpression_29
  exact br_t (by decide) (hp n' cO' cA' cB' cC' cK' wn' wr' wp' wq' h0' h1' ag' c1 (by omega) c3 c4 c5 c6 c7 c8)
/-! the stretches that are open: end, whether it is a loop, the instruction that waits for its target -/
def tm_er : List (Nat × Bool × Nat) → List (Nat × Bool)
  | [] => []
  | x :: s => (x.1, x.2.1) :: tm_er s
def tm_ctx : List (Nat × Bool × Nat) → Nat × Nat
  | [] => (0, 0)
  | x :: s => if x.2.1 then (if (tm_ctx s).1 = 0 then (x.2.2, 0) else ((tm_ctx s).1, x.2.2)) else tm_ctx s
def tm_pd (s : List (Nat × Bool × Nat)) (p : Nat) : Prop := ∃ x, x ∈ s ∧ x.2.2 = p
def tm_sk (oe ol oq : Nat → Int32) : List (Nat × Bool × Nat) → Prop
  | [] => True
  | x :: s => oe s.length = nI x.1 ∧ x.1 ≤ 21 ∧ ol s.length = (if x.2.1 then 1 else 0) ∧ oq s.length = nI x.2.2 ∧ tm_sk oe ol oq s
def tm_sf (n : Nat) (cO : Nat → Int32) (h0 h1 ag : Nat → Nat) : List (Nat × Bool × Nat) → Prop
  | [] => True
  | x :: s => 0 < x.2.2 ∧ x.2.2 < n ∧ h0 x.2.2 = (tm_ctx (x :: s)).1 ∧ h1 x.2.2 = (tm_ctx (x :: s)).2 ∧ (x.2.1 = true → cO x.2.2 = nI 16 ∧ ag x.2.2 = 1000 ∧ (tm_ctx s).2 = 0 ∧ (tm_ctx s).1 < x.2.2) ∧ (x.2.1 = false → cO x.2.2 = nI 19 ∧ ag x.2.2 < 1000) ∧ tm_sf n cO h0 h1 ag s
theorem tm_er_len : ∀ s, (tm_er s).length = s.length := by
  intro s
  induction s with
  | nil => rfl
  | cons x s ih => show (tm_er s).length + 1 = s.length + 1; omega
theorem tm_sf_pd {n : Nat} {cO : Nat → Int32} {h0 h1 ag : Nat → Nat} : ∀ s, tm_sf n cO h0 h1 ag s → ∀ p, tm_pd s p → p < n := by
  intro s
  induction s with
  | nil =>
    rintro _ p ⟨x, hx, _⟩
    exact absurd hx (by simp)
  | cons y s ih =>
    rintro h p ⟨x, hx, e⟩
    rcases List.mem_cons.mp hx with z | z
    · subst z; subst e; exact h.2.1
    · exact ih h.2.2.2.2.2.2 p ⟨x, z, e⟩
theorem tm_sf_ctx {n : Nat} {cO : Nat → Int32} {h0 h1 ag : Nat → Nat} : ∀ s, tm_sf n cO h0 h1 ag s → ((tm_ctx s).1 < n ∨ (tm_ctx s).1 = 0) ∧ ((tm_ctx s).2 < n ∨ (tm_ctx s).2 = 0) := by
  intro s
  induction s with
  | nil => exact fun _ => ⟨Or.inr rfl, Or.inr rfl⟩
  | cons x s ih =>
    intro h
    have i := ih h.2.2.2.2.2.2
    have hx := h.2.1
    unfold tm_ctx
    split
    · split
      · exact ⟨Or.inl hx, Or.inr rfl⟩
      · exact ⟨i.1, Or.inl hx⟩
    · exact i
theorem tm_sf_up {n n' : Nat} {cO cO' : Nat → Int32} {h0 h1 ag h0' h1' ag' : Nat → Nat} (hn : n ≤ n') (hO : ∀ p, p < n → cO' p = cO p) (hg : ∀ p, p < n → h0' p = h0 p ∧ h1' p = h1 p ∧ ag' p = ag p) : ∀ s, tm_sf n cO h0 h1 ag s → tm_sf n' cO' h0' h1' ag' s := by
  intro s
  induction s with
  | nil => exact fun _ => trivial
  | cons x s ih =>
    intro h
    obtain ⟨f1, f2, f3, f4, f5, f6, f7⟩ := h
    obtain ⟨g1, g2, g3⟩ := hg x.2.2 f2
    refine ⟨f1, by omega, by rw [g1]; exact f3, by rw [g2]; exact f4, ?_, ?_, ih f7⟩
    · rw [hO _ f2, g3]; exact f5
    · rw [hO _ f2, g3]; exact f6
theorem tm_ctx_nl {n : Nat} {cO : Nat → Int32} {h0 h1 ag : Nat → Nat} : ∀ s, tm_sf n cO h0 h1 ag s → ((tm_ctx s).1 = 0 → tm_nl (tm_er s) = 0) ∧ ((tm_ctx s).1 ≠ 0 → 1 ≤ tm_nl (tm_er s)) ∧ ((tm_ctx s).2 = 0 → tm_nl (tm_er s) ≤ 1) ∧ ((tm_ctx s).2 ≠ 0 → 2 ≤ tm_nl (tm_er s)) := by
  intro s
  induction s with
  | nil => exact fun _ => ⟨fun _ => rfl, fun z => absurd rfl z, fun _ => Nat.zero_le _, fun z => absurd rfl z⟩
  | cons x s ih =>
    intro h
    obtain ⟨f1, f2, f3, f4, f5, f6, f7⟩ := h
    obtain ⟨i1, i2, i3, i4⟩ := ih f7
    have e : tm_nl (tm_er (x :: s)) = tm_nl (tm_er s) + (if x.2.1 then 1 else 0) := rfl
    rw [e]
    unfold tm_ctx
    by_cases c : x.2.1 = true
    · have f5 := f5 c
      rw [if_pos c, if_pos c]
      by_cases d : (tm_ctx s).1 = 0
      · rw [if_pos d]
        have := i1 d
        exact ⟨fun z => absurd z (by show ¬ x.2.2 = 0; omega), fun _ => by omega, fun _ => by omega, fun z => absurd rfl z⟩
      · rw [if_neg d]
        have := i2 d
        exact ⟨fun z => absurd z d, fun _ => by omega, fun z => absurd z (by show ¬ x.2.2 = 0; omega), fun _ => by omega⟩
    · rw [if_neg c, if_neg c]
      exact ⟨i1, i2, i3, i4⟩
theorem tm_sk_up {oe ol oq : Nat → Int32} {x y z : Int32} : ∀ (s : List (Nat × Bool × Nat)) (n : Nat), s.length ≤ n → tm_sk oe ol oq s → tm_sk (upd oe n x) (upd ol n y) (upd oq n z) s := by
  intro s
  induction s with
  | nil => exact fun n _ _ => trivial
  | cons z s ih =>
    intro n hn h
    have hn' : s.length + 1 ≤ n := hn
    refine ⟨?_, h.2.1, ?_, ?_, ih n (by omega) h.2.2.2.2⟩
    · rw [pk_un (by omega)]; exact h.1
    · rw [pk_un (by omega)]; exact h.2.2.1
    · rw [pk_un (by omega)]; exact h.2.2.2.1
theorem tm_sk_ct {oe ol oq : Nat → Int32} : ∀ s : List (Nat × Bool × Nat), tm_sk oe ol oq s → tm_ct (fun k => decide (¬ ol k = 0)) s.length = tm_nl (tm_er s) := by
  intro s
  induction s with
  | nil => exact fun _ => rfl
  | cons x s ih =>
    intro h
    have i := ih h.2.2.2.2
    show tm_ct (fun k => decide (¬ ol k = 0)) s.length + (if decide (¬ ol s.length = 0) = true then 1 else 0) = tm_nl (tm_er s) + (if x.2.1 = true then 1 else 0)
    rw [i, h.2.2.1]
    cases x.2.1 <;> simp
/-- between two statements -/
def tm_bi (s : List (Nat × Bool × Nat)) (n : Nat) (xO : Int32) (cO cA cB cC cK oe ol oq : Nat → Int32) (h0 h1 ag : Nat → Nat) : Prop :=
  xO = nI s.length ∧ s.length ≤ 14 ∧ tm_pf n (tm_pd s) cO cA cB cC cK h0 h1 ag ∧ h0 n = (tm_ctx s).1 ∧ h1 n = (tm_ctx s).2 ∧ ag n = 1000 ∧ tm_sk oe ol oq s ∧ tm_sf n cO h0 h1 ag s
theorem tm_loops_w {post : Int32 → Prop} (s : List (Nat × Bool × Nat)) (hO : xO = nI s.length) (hl : s.length ≤ 14) (hk : tm_sk oe ol oq s) (hp : post (nI (tm_nl (tm_er s)))) : wpX_loopsOpen post (xE, xS, xC, xN, xO, xU, xH, xI, xR, kd, px, py, wt, ks, ki, al, op, fx, fy, fz, cO, cA, cB, cC, cK, wn, wr, wp, wq, oe, ol, oq, so, nu, ln, lm, sv, ka, es, en, ec) := by
  subst hO
  unfold wpX_loopsOpen
  dsimp only
  refine pk_loop (σ := Int32) (fun f i v => wX_loopsOpen_4 post xE xS xC xN (nI s.length) xU xH xI xR kd px py wt ks ki al op fx fy fz cO cA cB cC cK wn wr wp wq oe ol oq so nu ln lm sv ka es en ec f v (nI i)) (fun i v => v = nI (tm_ct (fun k => decide (¬ ol k = 0)) i)) s.length 0 0 (by omega) rfl ?_ ?_
  · intro f v h
    show wX_loopsOpen_4 post xE xS xC xN (nI s.length) xU xH xI xR kd px py wt ks ki al op fx fy fz cO cA cB cC cK wn wr wp wq oe ol oq so nu ln lm sv ka es en ec (f + 1) v (nI s.length)
    subst h
    rw [tm_sk_ct s hk]
    unfold wX_loopsOpen_4
    exact br_t (nI_le (Nat.le_refl _) (by omega)) hp
  · intro f i v hi h hw
    show wX_loopsOpen_4 post xE xS xC xN (nI s.length) xU xH xI xR kd px py wt ks ki al op fx fy fz cO cA cB cC cK wn wr wp wq oe ol oq so nu ln lm sv ka es en ec (f + 1) v (nI i)
    subst h
    unfold wX_loopsOpen_4
    rw [nI_clamp (show i < 2 ^ 31 by omega)]
    refine br_f (nI_ge hi (by omega)) ⟨pk_in i 14 (by omega), br_c (fun z => nm_r (nI_1 i) (hw _ ?_)) (fun z => nm_r (nI_1 _) (nm_r (nI_1 i) (hw _ ?_)))⟩
    · show nI (tm_ct (fun k => decide (¬ ol k = 0)) i) = nI (tm_ct (fun k => decide (¬ ol k = 0)) i + (if decide (¬ ol i = 0) = true then 1 else 0))
      rw [decide_eq_false (show ¬ ¬ ol i = 0 from fun c => c z)]
      rfl
    · show nI (tm_ct (fun k => decide (¬ ol k = 0)) i + 1) = nI (tm_ct (fun k => decide (¬ ol k = 0)) i + (if decide (¬ ol i = 0) = true then 1 else 0))
      rw [decide_eq_true z]
      rfl
def tm_d3 (i : Nat) : List (Nat × Bool × Nat) → List (Nat × Bool × Nat)
  | [] => []
  | x :: s => if x.1 = i then tm_d3 i s else x :: s
theorem tm_d3_er (i : Nat) : ∀ s, tm_er (tm_d3 i s) = tm_dw i (tm_er s) := by
  intro s
  induction s with
  | nil => rfl
  | cons x s ih =>
    show tm_er (if x.1 = i then tm_d3 i s else x :: s) = (if x.1 = i then tm_dw i (tm_er s) else (x.1, x.2.1) :: tm_er s)
    split
    · exact ih
    · rfl
/-- stretches are closed -/
theorem tm_close_w {post : St1 → Prop} {i : Nat} (hi : i ≤ 14) : ∀ (s : List (Nat × Bool × Nat)) (n : Nat) (xO : Int32) (cO cA cB cC cK : Nat → Int32) (h0 h1 ag : Nat → Nat), tm_bi s n xO cO cA cB cC cK oe ol oq h0 h1 ag → n + tm_nl (tm_er s) ≤ 350 → (s ≠ [] → 0 < n) →
    (∀ (n' : Nat) (xO' : Int32) (cO' cA' cB' cC' cK' : Nat → Int32) (h0' h1' ag' : Nat → Nat), tm_bi (tm_d3 i s) n' xO' cO' cA' cB' cC' cK' oe ol oq h0' h1' ag' → n' + tm_nl (tm_er (tm_d3 i s)) ≤ n + tm_nl (tm_er s) → n ≤ n' → post (xE, xS, xC, nI n', xO', xU, xH, xI, xR, kd, px, py, wt, ks, ki, al, op, fx, fy, fz, cO', cA', cB', cC', cK', wn, wr, wp, wq, oe, ol, oq, so, nu, ln, lm, sv, ka, es, en, ec)) →
    ∃ fu, wX_closeStretches_0 post (nI i) fu xE xS xC (nI n) xO xU xH xI xR kd px py wt ks ki al op fx fy fz cO cA cB cC cK wn wr wp wq oe ol oq so nu ln lm sv ka es en ec := by
  intro s
  induction s with
  | nil =>
    intro n xO cO cA cB cC cK h0 h1 ag hb hn _ hp
    refine ⟨0 + 1, ?_⟩
    unfold wX_closeStretches_0
    refine br_t (by rw [hb.1]; decide) ?_
    exact hp n xO cO cA cB cC cK h0 h1 ag hb (Nat.le_refl _) (Nat.le_refl _)
  | cons x s ih =>
    intro n xO cO cA cB cC cK h0 h1 ag hb hn hn0 hp
    have hb0 := hb
    obtain ⟨b1, b2, b3, b4, b5, b6, b7, b8⟩ := hb
    obtain ⟨k1, k2, k3, k4, k5⟩ := b7
    have c8 := b8
    obtain ⟨f1, f2, f3, f4, f5, f6, f7⟩ := b8
    have hn0 := hn0 (by simp)
    have hl : (x :: s).length = s.length + 1 := rfl
    have enl : tm_nl (tm_er (x :: s)) = tm_nl (tm_er s) + (if x.2.1 then 1 else 0) := rfl
    have hsi : vp_in (nI s.length) 14 := pk_in s.length 14 (by omega)
    have hcl : (nI s.length).toNatClampNeg = s.length := nI_clamp (by omega)
    have hd3 : tm_d3 i (x :: s) = if x.1 = i then tm_d3 i s else x :: s := rfl
    have hn350 := b3.1
    rw [hl] at b1 b2
    rw [b1]
    by_cases c : x.1 = i
    · rw [hd3, if_pos c] at hp
      have hai : vp_in (nI x.2.2) 350 := pk_in x.2.2 350 (by omega)
      have hacl : (nI x.2.2).toNatClampNeg = x.2.2 := nI_clamp (by omega)
      by_cases d : x.2.1 = true
      · obtain ⟨f51, f52, f53, f54⟩ := f5 d
        have ec : tm_ctx (x :: s) = if (tm_ctx s).1 = 0 then (x.2.2, 0) else ((tm_ctx s).1, x.2.2) := by
          show (if x.2.1 then _ else _) = _
          rw [if_pos d]
        rw [d] at enl
        have enl' : tm_nl (tm_er (x :: s)) = tm_nl (tm_er s) + 1 := enl
        have hnn : n < 350 := by omega
        have hctx := tm_sf_ctx s f7
        have hnh : tm_nh h0 h1 n := by
          unfold tm_nh
          rw [b4, b5]
          exact tm_sf_ctx (x :: s) c8
        have hpf : tm_pf (n + 1) (tm_pd s) (upd cO n (nI 17)) (upd cA n (nI 0)) (upd cB n (nI 0)) (upd cC n (nI 0)) (upd (upd cK n (nI x.2.2)) x.2.2 (nI (n + 1))) (tm_ud h0 (n + 1) (tm_ctx s).1) (tm_ud h1 (n + 1) 0) (tm_ud ag (n + 1) 1000) := by
          refine tm_pf_jump b3 hnn hn0 hnh (nI 0) (nI 0) (nI 0) (tm_ctx s).1 1000 f2 f1 f51 (by rw [f3, b4]) (by rw [f4, b5]) (by omega) (by omega) ?_ (fun z => ?_) (fun p hp' hnP => ?_)
          · rw [b4, b5, ec]
            by_cases z : (tm_ctx s).1 = 0
            · rw [if_pos z]
              exact Or.inr ⟨rfl, rfl, z⟩
            · rw [if_neg z]
              exact Or.inl ⟨rfl, z, f54, rfl⟩
          · have := tm_sf_pd (x :: s) c8 n z
            omega
          · by_cases z : p = x.2.2
            · exact Or.inr z
            · refine Or.inl ?_
              rintro ⟨y, hy, ey⟩
              rcases List.mem_cons.mp hy with w | w
              · subst w; exact z ey.symm
              · exact hnP ⟨y, w, ey⟩
        have hbi : tm_bi s (n + 1) (nI s.length) (upd cO n (nI 17)) (upd cA n (nI 0)) (upd cB n (nI 0)) (upd cC n (nI 0)) (upd (upd cK n (nI x.2.2)) x.2.2 (nI (n + 1))) oe ol oq (tm_ud h0 (n + 1) (tm_ctx s).1) (tm_ud h1 (n + 1) 0) (tm_ud ag (n + 1) 1000) :=
          ⟨rfl, by omega, hpf, tm_uds, by rw [tm_uds, f53], tm_uds, k5, tm_sf_up (by omega) (fun p hp' => pk_un (by omega)) (fun p hp' => ⟨tm_udn (by omega), tm_udn (by omega), tm_udn (by omega)⟩) s f7⟩
        obtain ⟨fu, hfu⟩ := ih (n + 1) (nI s.length) _ _ _ _ _ _ _ _ hbi (by omega) (fun _ => by omega) (fun n' xO' cO' cA' cB' cC' cK' h0' h1' ag' q1 q2 q3 => hp n' xO' cO' cA' cB' cC' cK' h0' h1' ag' q1 (by omega) (by omega))
        refine ⟨fu + 1, ?_⟩
        unfold wX_closeStretches_0
        rw [nI_pred, hcl, k1]
        refine br_f (nI_nle (by omega) (by omega)) ⟨hsi, br_t (by rw [c]) (nm_e ⟨hsi, ?_⟩)⟩
        rw [hcl, k4, k3]
        refine nm_e ⟨hsi, br_f (by rw [d]; decide) (tm_write_w n 17 0 0 0 rfl hnn rfl rfl rfl rfl (by omega) (by omega) (by omega) (by omega) ⟨hai, ?_⟩)⟩
        rw [hacl]
        exact nm_e hfu
      · have d' : x.2.1 = false := by
          cases z : x.2.1
          · rfl
          · exact absurd z d
        obtain ⟨f61, f62⟩ := f6 d'
        have ec : tm_ctx (x :: s) = tm_ctx s := by
          show (if x.2.1 then _ else _) = _
          rw [if_neg d]
        rw [ec] at f3 f4 b4 b5
        rw [d'] at enl
        have enl' : tm_nl (tm_er (x :: s)) = tm_nl (tm_er s) := enl
        have hpf : tm_pf n (tm_pd s) cO cA cB cC (upd cK x.2.2 (nI n)) h0 h1 ag := by
          refine tm_pf_to b3 f2 (Or.inl f61) ⟨by rw [f3, b4], by rw [f4, b5], by omega⟩ (fun p hp' hnP => ?_)
          by_cases z : p = x.2.2
          · exact Or.inr z
          · refine Or.inl ?_
            rintro ⟨y, hy, ey⟩
            rcases List.mem_cons.mp hy with w | w
            · subst w; exact z ey.symm
            · exact hnP ⟨y, w, ey⟩
        have hbi : tm_bi s n (nI s.length) cO cA cB cC (upd cK x.2.2 (nI n)) oe ol oq h0 h1 ag := ⟨rfl, by omega, hpf, b4, b5, b6, k5, f7⟩
        obtain ⟨fu, hfu⟩ := ih n (nI s.length) _ _ _ _ _ _ _ _ hbi (by omega) (fun _ => hn0) (fun n' xO' cO' cA' cB' cC' cK' h0' h1' ag' q1 q2 q3 => hp n' xO' cO' cA' cB' cC' cK' h0' h1' ag' q1 (by omega) q3)
        refine ⟨fu + 1, ?_⟩
        unfold wX_closeStretches_0
        rw [nI_pred, hcl, k1]
        refine br_f (nI_nle (by omega) (by omega)) ⟨hsi, br_t (by rw [c]) (nm_e ⟨hsi, ?_⟩)⟩
        rw [hcl, k4, k3]
        refine nm_e ⟨hsi, br_t (by rw [d']; rfl) ⟨hai, ?_⟩⟩
        rw [hacl]
        exact nm_e hfu
    · rw [hd3, if_neg c] at hp
      refine ⟨0 + 1, ?_⟩
      unfold wX_closeStretches_0
      rw [nI_pred, hcl, k1]
      refine br_f (nI_nle (by omega) (by omega)) ⟨hsi, br_f (fun z => c (tm_nIinj (by omega) (by omega) z)) ?_⟩
      have := hp n xO cO cA cB cC cK h0 h1 ag hb0 (Nat.le_refl _) (Nat.le_refl _)
      rw [b1] at this
      exact this
end
section
variable {xE xS xC xN xO xU xH xI xR : Int32} {kd px py wt ks ki al op fx fy fz cO cA cB cC cK wn wr wp wq oe ol oq so nu ln lm ka es en ec : Nat → Int32} {sv : Nat → Int64}
/-! within a statement -/
def tm_md (s : List (Nat × Bool × Nat)) (m g : Nat) (cO cA cB cC cK : Nat → Int32) (h0 h1 ag : Nat → Nat) : Prop :=
  0 < m ∧ tm_pf m (tm_pd s) cO cA cB cC cK h0 h1 ag ∧ h0 m = (tm_ctx s).1 ∧ h1 m = (tm_ctx s).2 ∧ ag m = g ∧ tm_sf m cO h0 h1 ag s
theorem tm_md_nh {s : List (Nat × Bool × Nat)} {m g : Nat} {h0 h1 ag : Nat → Nat} (h : tm_md s m g cO cA cB cC cK h0 h1 ag) : tm_nh h0 h1 m := by
  obtain ⟨a1, a2, a3, a4, a5, a6⟩ := h
  unfold tm_nh
  rw [a3, a4]
  exact tm_sf_ctx s a6
theorem tm_md_x {post : St1 → Prop} {ne m g e reg : Nat} {s : List (Nat × Bool × Nat)} {h0 h1 ag : Nat → Nat} {x y : Int32} (hE : tm_ei ne kd px py wt ks al) (hx : x = nI e) (hy : y = nI reg) (he : e < ne) (hreg : reg ≤ 8) (hN : xN = nI m) (hm7 : m + 7 ≤ 350) (hg : g + 7 ≤ 23) (hm : tm_md s m g cO cA cB cC cK h0 h1 ag)
    (hp : ∀ (m' g' : Nat) (cO' cA' cB' cC' cK' wn' wr' wp' wq' : Nat → Int32) (h0' h1' ag' : Nat → Nat), m ≤ m' → m' ≤ m + 7 → g' ≤ g + 7 → tm_md s m' g' cO' cA' cB' cC' cK' h0' h1' ag' → post (xE, xS, xC, nI m', xO, xU, xH, xI, xR, kd, px, py, wt, ks, ki, al, op, fx, fy, fz, cO', cA', cB', cC', cK', wn', wr', wp', wq', oe, ol, oq, so, nu, ln, lm, sv, ka, es, en, ec)) : wpX_compileExpression post (xE, xS, xC, xN, xO, xU, xH, xI, xR, kd, px, py, wt, ks, ki, al, op, fx, fy, fz, cO, cA, cB, cC, cK, wn, wr, wp, wq, oe, ol, oq, so, nu, ln, lm, sv, ka, es, en, ec) x y := by
  have hnh := tm_md_nh hm
  obtain ⟨a1, a2, a3, a4, a5, a6⟩ := hm
  refine tm_cx_w hE hx hy he hreg hN hm7 (by omega) a1 a2 hnh (tm_sf_pd s a6) (fun n' cO' cA' cB' cC' cK' wn' wr' wp' wq' h0' h1' ag' c1 c2 c3 c4 c5 c6 c7 c8 => ?_)
  exact hp n' (ag' n') cO' cA' cB' cC' cK' wn' wr' wp' wq' h0' h1' ag' c1 c2 (by omega) ⟨by omega, c3, by rw [c6, a3], by rw [c7, a4], rfl, tm_sf_up c1 c4 (fun p hp => c5 p (by omega)) s a6⟩
theorem tm_pf_wk {n : Nat} {P P' : Nat → Prop} {h0 h1 ag : Nat → Nat} (h : tm_pf n P cO cA cB cC cK h0 h1 ag) (hP : ∀ p, ¬ P' p → ¬ P p) : tm_pf n P' cO cA cB cC cK h0 h1 ag :=
  ⟨h.1, h.2.1, h.2.2.1, h.2.2.2.1, h.2.2.2.2.1, fun p hp hn => h.2.2.2.2.2 p hp (hP p hn)⟩
/-- the last operation of a plain statement -/
theorem tm_md_end {s : List (Nat × Bool × Nat)} {m g o a b c : Nat} {h0 h1 ag : Nat → Nat} (hm : tm_md s m g cO cA cB cC cK h0 h1 ag) (hO : xO = nI s.length) (hl : s.length ≤ 14) (hk : tm_sk oe ol oq s) (hm350 : m < 350) (hg : g < 1000) (k : Int32) (ho : o ≤ 14) (h11 : o ≠ 11) (ha : a < 18) (hb : b < 18) (hc : c < 18) :
    tm_bi s (m + 1) xO (upd cO m (nI o)) (upd cA m (nI a)) (upd cB m (nI b)) (upd cC m (nI c)) (upd cK m k) oe ol oq (tm_ud h0 (m + 1) (h0 m)) (tm_ud h1 (m + 1) (h1 m)) (tm_ud ag (m + 1) 1000) := by
  have hnh := tm_md_nh hm
  obtain ⟨a1, a2, a3, a4, a5, a6⟩ := hm
  refine ⟨hO, hl, tm_pf_op a2 hm350 a1 hnh o a b c k 1000 ho ha hb hc (by omega) (fun z => absurd z h11), by rw [tm_uds, a3], by rw [tm_uds, a4], tm_uds, hk, tm_sf_up (by omega) (fun p hp => pk_un (by omega)) (fun p hp => ⟨tm_udn (by omega), tm_udn (by omega), tm_udn (by omega)⟩) s a6⟩
theorem tm_open_w {post : St1 → Prop} {ne ns i m l : Nat} {x y : Int32} (hS : tm_si ne ns op fx fy fz) (hi : i < ns) (hx : x = nI i) (hO : xO = nI l) (hl : l < 14) (hN : xN = nI m) (hm : m < 350) (b : Bool) (hy : y = if b then 1 else 0)
    (hp : post (xE, xS, xC, xN, nI (l + 1), xU, xH, xI, xR, kd, px, py, wt, ks, ki, al, op, fx, fy, fz, cO, cA, cB, cC, cK, wn, wr, wp, wq, upd oe l (nI (tm_en op fy fz i)), upd ol l (if b then 1 else 0), upd oq l (nI m), so, nu, ln, lm, sv, ka, es, en, ec)) : wpX_openStretch post (xE, xS, xC, xN, xO, xU, xH, xI, xR, kd, px, py, wt, ks, ki, al, op, fx, fy, fz, cO, cA, cB, cC, cK, wn, wr, wp, wq, oe, ol, oq, so, nu, ln, lm, sv, ka, es, en, ec) x y := by
  have hen := (tm_en_le hi hS).2
  have hnb : vp_nar .boolean y = if b then 1 else 0 := by subst hy; cases b <;> rfl
  subst hO hN
  unfold wpX_openStretch
  dsimp only
  refine tm_en_w hx hi hS ?_
  have hli : vp_in (nI l) 14 := pk_in l 14 hl
  rw [nI_clamp (show l < 2 ^ 31 by omega), tm_b8 _ (by omega), hnb, tm_b16 m (by omega)]
  exact ⟨hli, nm_e ⟨hli, nm_e ⟨hli, nm_e (nm_r (nI_1 l) hp)⟩⟩⟩
/-- a statement is compiled -/
theorem tm_cs_w {post : St1 → Prop} {ne ns i n : Nat} {s : List (Nat × Bool × Nat)} {h0 h1 ag : Nat → Nat} {x : Int32} (hE : tm_ei ne kd px py wt ks al) (hS : tm_si ne ns op fx fy fz) (hx : x = nI i) (hi : i < ns) (hN : xN = nI n) (hn : n + 23 ≤ 350) (hb : tm_bi s n xO cO cA cB cC cK oe ol oq h0 h1 ag) (hs14 : s.length < 14) (h3 : op i = 3 → tm_nl (tm_er s) ≤ 1)
    (hp : ∀ (s' : List (Nat × Bool × Nat)) (n' : Nat) (xO' : Int32) (cO' cA' cB' cC' cK' wn' wr' wp' wq' oe' ol' oq' : Nat → Int32) (h0' h1' ag' : Nat → Nat), tm_er s' = (if op i = 2 then (tm_en op fy fz i, false) :: tm_er s else if op i = 3 then (tm_en op fy fz i, true) :: tm_er s else tm_er s) → tm_bi s' n' xO' cO' cA' cB' cC' cK' oe' ol' oq' h0' h1' ag' → n' + tm_nl (tm_er s') ≤ n + tm_nl (tm_er s) + 23 → 0 < n' → post (xE, xS, xC, nI n', xO', xU, xH, xI, xR, kd, px, py, wt, ks, ki, al, op, fx, fy, fz, cO', cA', cB', cC', cK', wn', wr', wp', wq', oe', ol', oq', so, nu, ln, lm, sv, ka, es, en, ec)) : wpX_compileStatement post (xE, xS, xC, xN, xO, xU, xH, xI, xR, kd, px, py, wt, ks, ki, al, op, fx, fy, fz, cO, cA, cB, cC, cK, wn, wr, wp, wq, oe, ol, oq, so, nu, ln, lm, sv, ka, es, en, ec) x := by
  subst hx
  have hb0 := hb
  obtain ⟨b1, b2, b3, b4, b5, b6, b7, b8⟩ := hb
  have hS0 := hS
  obtain ⟨hns, hSS⟩ := hS
  obtain ⟨o, ho, eo, s0, s1, s2, s3, s4⟩ := hSS i hi
  have hii : vp_in (nI i) 14 := pk_in i 14 (by omega)
  have hicl : (nI i).toNatClampNeg = i := nI_clamp (by omega)
  have hnh : tm_nh h0 h1 n := by
    unfold tm_nh
    rw [b4, b5]
    exact tm_sf_ctx s b8
  have hmd : tm_md s (n + 1) 0 (upd cO n (nI 18)) (upd cA n (nI 0)) (upd cB n (nI 0)) (upd cC n (nI 0)) (upd cK n (nI i)) (tm_ud h0 (n + 1) (h0 n)) (tm_ud h1 (n + 1) (h1 n)) (tm_ud ag (n + 1) 0) :=
    ⟨by omega, tm_pf_begin b3 (by omega) hnh (nI 0) (nI 0) (nI 0) (nI i) 0, by rw [tm_uds, b4], by rw [tm_uds, b5], tm_uds, tm_sf_up (by omega) (fun p hp => pk_un (by omega)) (fun p hp => ⟨tm_udn (by omega), tm_udn (by omega), tm_udn (by omega)⟩) s b8⟩
  unfold wpX_compileStatement
  rw [hicl]
  refine ⟨hii, nm_r eo (tm_write_w n 18 0 0 0 hN (by omega) rfl rfl rfl rfl (by omega) (by omega) (by omega) (by omega) ?_)⟩
  have ner : ∀ j, j ≤ 4 → o ≠ j → ¬ op i = nI j := fun j hj hne z => hne (tm_nIinj (by omega) (by omega) (by rw [← eo]; exact z))
  refine pk_eq o 0 (fun z => ⟨hii, ?_⟩) (fun z0 => pk_eq o 1 (fun z => ⟨hii, ?_⟩) (fun z1 => pk_eq o 2 (fun z => ⟨hii, ?_⟩) (fun z2 => pk_eq o 3 (fun z => ⟨hii, ?_⟩) (fun z3 => ⟨hii, ?_⟩))))
  · obtain ⟨v, y, hv, hy, ev, ey⟩ := s0 z
    refine tm_md_x (reg := 6) hE ey rfl hy (by omega) rfl (by omega) (by omega) hmd (fun m1 g1 cO1 cA1 cB1 cC1 cK1 wn1 wr1 wp1 wq1 h01 h11 ag1 q1 q2 q3 q4 => ⟨hii, ?_⟩)
    refine tm_write_w m1 1 v 6 0 rfl (by omega) rfl ev rfl rfl (by omega) (by omega) (by omega) (by omega) ?_
    exact hp s (m1 + 1) xO _ _ _ _ _ wn1 wr1 wp1 wq1 oe ol oq _ _ _ (by rw [if_neg (show ¬ op i = 2 from ner 2 (by omega) (by omega)), if_neg (show ¬ op i = 3 from ner 3 (by omega) (by omega))]) (tm_md_end q4 b1 b2 b7 (by omega) (by omega) 0 (by omega) (by omega) (by omega) (by omega) (by omega)) (by omega) (by omega)
  · obtain ⟨x, y, w, hx, hy, hw, ex, ey, ew⟩ := s1 z
    refine tm_md_x (reg := 6) hE ex rfl hx (by omega) rfl (by omega) (by omega) hmd (fun m1 g1 cO1 cA1 cB1 cC1 cK1 wn1 wr1 wp1 wq1 h01 h11 ag1 q1 q2 q3 q4 => ⟨hii, ?_⟩)
    refine tm_md_x (reg := 7) hE ey rfl hy (by omega) rfl (by omega) (by omega) q4 (fun m2 g2 cO2 cA2 cB2 cC2 cK2 wn2 wr2 wp2 wq2 h02 h12 ag2 r1 r2 r3 r4 => ⟨hii, ?_⟩)
    refine tm_md_x (reg := 8) hE ew rfl hw (by omega) rfl (by omega) (by omega) r4 (fun m3 g3 cO3 cA3 cB3 cC3 cK3 wn3 wr3 wp3 wq3 h03 h13 ag3 t1 t2 t3 t4 => ?_)
    refine tm_write_w m3 13 6 7 8 rfl (by omega) rfl rfl rfl rfl (by omega) (by omega) (by omega) (by omega) ?_
    exact hp s (m3 + 1) xO _ _ _ _ _ wn3 wr3 wp3 wq3 oe ol oq _ _ _ (by rw [if_neg (show ¬ op i = 2 from ner 2 (by omega) (by omega)), if_neg (show ¬ op i = 3 from ner 3 (by omega) (by omega))]) (tm_md_end t4 b1 b2 b7 (by omega) (by omega) 0 (by omega) (by omega) (by omega) (by omega) (by omega)) (by omega) (by omega)
  · obtain ⟨x, y, hx, hy1, hy2, ex, ey⟩ := s2 z
    refine tm_md_x (reg := 6) hE ex rfl hx (by omega) rfl (by omega) (by omega) hmd (fun m1 g1 cO1 cA1 cB1 cC1 cK1 wn1 wr1 wp1 wq1 h01 h11 ag1 q1 q2 q3 q4 => ?_)
    refine tm_open_w hS0 hi rfl b1 (by omega) rfl (by omega) false rfl ?_
    refine tm_write_w m1 19 6 0 0 rfl (by omega) rfl rfl rfl rfl (by omega) (by omega) (by omega) (by omega) ?_
    have hnh1 := tm_md_nh q4
    obtain ⟨a1, a2, a3, a4, a5, a6⟩ := q4
    have hpf := tm_pf_wk (P' := tm_pd ((tm_en op fy fz i, false, m1) :: s)) (tm_pf_if a2 (show m1 < 350 by omega) a1 hnh1 19 6 (nI 0) (nI 0) 0 1000 (Or.inl rfl) (by omega) (by omega)) (fun p hnP w => by
      rcases w with w | w
      · obtain ⟨y, hy, e⟩ := w
        exact hnP ⟨y, List.mem_cons_of_mem _ hy, e⟩
      · exact hnP ⟨(tm_en op fy fz i, false, m1), List.mem_cons_self, w.symm⟩)
    refine hp ((tm_en op fy fz i, false, m1) :: s) (m1 + 1) (nI (s.length + 1)) _ _ _ _ _ wn1 wr1 wp1 wq1 _ _ _ _ _ _ (by rw [if_pos (show op i = 2 by rw [eo, z]; rfl)]; rfl) ⟨rfl, by show s.length + 1 ≤ 14; omega, hpf, by rw [tm_uds, a3]; rfl, by rw [tm_uds, a4]; rfl, tm_uds, ⟨pk_us, (tm_en_le hi hS0).2, pk_us, pk_us, tm_sk_up s _ (Nat.le_refl _) b7⟩, ⟨a1, by show m1 < m1 + 1; omega, ?_, ?_, fun w => absurd w (by simp), fun _ => ⟨pk_us, ?_⟩, ?_⟩⟩ ?_ (by omega)
    · show tm_ud h01 (m1 + 1) (h01 m1) m1 = (tm_ctx s).1
      rw [tm_udn (by omega), a3]
    · show tm_ud h11 (m1 + 1) (h11 m1) m1 = (tm_ctx s).2
      rw [tm_udn (by omega), a4]
    · show tm_ud ag1 (m1 + 1) 1000 m1 < 1000
      rw [tm_udn (by omega), a5]
      omega
    · exact tm_sf_up (by omega) (fun p hp => pk_un (by omega)) (fun p hp => ⟨tm_udn (by omega), tm_udn (by omega), tm_udn (by omega)⟩) s a6
    · show m1 + 1 + (tm_nl (tm_er s) + 0) ≤ _
      omega
  · obtain ⟨v, y, w, hv, hy, hw1, hw2, ev, ey, ew⟩ := s3 z
    have hnl1 := h3 (by rw [eo, z]; rfl)
    refine tm_md_x (reg := 6) hE ey rfl hy (by omega) rfl (by omega) (by omega) hmd (fun m1 g1 cO1 cA1 cB1 cC1 cK1 wn1 wr1 wp1 wq1 h01 h11 ag1 q1 q2 q3 q4 => ?_)
    refine tm_loops_w s b1 b2 b7 ?_
    have hnh1 := tm_md_nh q4
    obtain ⟨a1, a2, a3, a4, a5, a6⟩ := q4
    obtain ⟨i1, i2, i3, i4⟩ := tm_ctx_nl s a6
    have hc := tm_sf_ctx s a6
    have c2 : (tm_ctx s).2 = 0 := by
      rcases Nat.eq_zero_or_pos (tm_ctx s).2 with w | w
      · exact w
      · have := i4 (by omega); omega
    refine tm_write_w m1 15 (tm_nl (tm_er s)) 6 0 rfl (by omega) rfl rfl rfl rfl (by omega) (by omega) (by omega) (by omega) ?_
    refine tm_open_w (m := m1 + 1) hS0 hi rfl b1 (by omega) rfl (by omega) true rfl ⟨hii, ?_⟩
    refine tm_write_w (m1 + 1) 16 (tm_nl (tm_er s)) v 0 rfl (by omega) rfl rfl ev rfl (by omega) (by omega) (by omega) (by omega) ?_
    have hctx : tm_ctx ((tm_en op fy fz i, true, m1 + 1) :: s) = if (tm_ctx s).1 = 0 then (m1 + 1, 0) else ((tm_ctx s).1, m1 + 1) := rfl
    have hset := tm_pf_set a2 (show m1 < 350 by omega) a1 hnh1 (tm_nl (tm_er s)) 6 (nI 0) 0 1000 (by omega) (by omega) (tm_ctx ((tm_en op fy fz i, true, m1 + 1) :: s)).1 (tm_ctx ((tm_en op fy fz i, true, m1 + 1) :: s)).2 (by
      rw [hctx, a3, a4]
      by_cases w : (tm_ctx s).1 = 0
      · rw [if_pos w]
        exact Or.inl ⟨i1 w, w, c2, rfl, rfl⟩
      · rw [if_neg w]
        have := i2 w
        exact Or.inr ⟨by omega, w, c2, rfl, rfl⟩)
    have hhead := tm_pf_head hset (show m1 + 1 < 350 by omega) (by omega) (tm_nl (tm_er s)) v (nI 0) 0 1000 (by omega) (by rw [tm_uds]; omega) (by
      rw [tm_uds, tm_uds, hctx]
      by_cases w : (tm_ctx s).1 = 0
      · rw [if_pos w]
        exact Or.inl ⟨i1 w, rfl, rfl⟩
      · rw [if_neg w]
        have := i2 w
        exact Or.inr ⟨by omega, by show (tm_ctx s).1 < m1 + 1; omega, w, rfl⟩)
    have hpf := tm_pf_wk (P' := tm_pd ((tm_en op fy fz i, true, m1 + 1) :: s)) hhead (fun p hnP w => by
      rcases w with w | w
      · obtain ⟨y, hy, e⟩ := w
        exact hnP ⟨y, List.mem_cons_of_mem _ hy, e⟩
      · exact hnP ⟨(tm_en op fy fz i, true, m1 + 1), List.mem_cons_self, w.symm⟩)
    refine hp ((tm_en op fy fz i, true, m1 + 1) :: s) (m1 + 1 + 1) (nI (s.length + 1)) _ _ _ _ _ wn1 wr1 wp1 wq1 _ _ _ _ _ _ (by rw [if_neg (show ¬ op i = 2 from ner 2 (by omega) (by omega)), if_pos (show op i = 3 by rw [eo, z]; rfl)]; rfl) ⟨rfl, by show s.length + 1 ≤ 14; omega, hpf, by rw [tm_uds, tm_uds], by rw [tm_uds, tm_uds], tm_uds, ⟨pk_us, (tm_en_le hi hS0).2, pk_us, pk_us, tm_sk_up s _ (Nat.le_refl _) b7⟩, ⟨by show 0 < m1 + 1; omega, by show m1 + 1 < m1 + 1 + 1; omega, ?_, ?_, fun _ => ⟨pk_us, ?_, c2, ?_⟩, fun w => absurd w (by simp), ?_⟩⟩ ?_ (by omega)
    · show tm_ud _ (m1 + 1 + 1) _ (m1 + 1) = _
      rw [tm_udn (by omega), tm_uds]
    · show tm_ud _ (m1 + 1 + 1) _ (m1 + 1) = _
      rw [tm_udn (by omega), tm_uds]
    · show tm_ud _ (m1 + 1 + 1) _ (m1 + 1) = _
      rw [tm_udn (by omega), tm_uds]
    · show (tm_ctx s).1 < m1 + 1
      omega
    · exact tm_sf_up (by omega) (fun p hp => (pk_un (by omega)).trans (pk_un (by omega))) (fun p hp => ⟨(tm_udn (by omega)).trans (tm_udn (by omega)), (tm_udn (by omega)).trans (tm_udn (by omega)), (tm_udn (by omega)).trans (tm_udn (by omega))⟩) s a6
    · show m1 + 1 + 1 + (tm_nl (tm_er s) + 1) ≤ _
      omega
  · obtain ⟨x, hx, ex⟩ := s4 (by omega)
    refine tm_md_x (reg := 6) hE ex rfl hx (by omega) rfl (by omega) (by omega) hmd (fun m1 g1 cO1 cA1 cB1 cC1 cK1 wn1 wr1 wp1 wq1 h01 h11 ag1 q1 q2 q3 q4 => ?_)
    refine tm_write_w m1 14 6 0 0 rfl (by omega) rfl rfl rfl rfl (by omega) (by omega) (by omega) (by omega) ?_
    exact hp s (m1 + 1) xO _ _ _ _ _ wn1 wr1 wp1 wq1 oe ol oq _ _ _ (by rw [if_neg (show ¬ op i = 2 from ner 2 (by omega) (by omega)), if_neg (show ¬ op i = 3 from ner 3 (by omega) (by omega))]) (tm_md_end q4 b1 b2 b7 (by omega) (by omega) 0 (by omega) (by omega) (by omega) (by omega) (by omega)) (by omega) (by omega)
end
section
variable {xE xS xC xN xO xU xH xI xR : Int32} {kd px py wt ks ki al op fx fy fz cO cA cB cC cK wn wr wp wq oe ol oq so nu ln lm ka es en ec : Nat → Int32} {sv : Nat → Int64}
/-! stretches end in order -/
def tm_od (lo hi : Nat) : List (Nat × Bool) → Prop
  | [] => True
  | x :: s => lo ≤ x.1 ∧ x.1 ≤ hi ∧ tm_od x.1 hi s
theorem tm_od_dw {hi i : Nat} : ∀ s, tm_od i hi s → tm_od (i + 1) hi (tm_dw i s) := by
  intro s
  induction s with
  | nil => exact fun _ => trivial
  | cons x s ih =>
    intro h
    obtain ⟨h1, h2, h3⟩ := h
    show tm_od (i + 1) hi (if x.1 = i then tm_dw i s else x :: s)
    by_cases c : x.1 = i
    · rw [if_pos c]
      rw [c] at h3
      exact ih h3
    · rw [if_neg c]
      exact ⟨by omega, h2, h3⟩
theorem tm_od_up {lo lo' hi : Nat} : ∀ s, tm_od lo hi s → (∀ x t, s = x :: t → lo' ≤ x.1) → tm_od lo' hi s := by
  intro s
  cases s with
  | nil => exact fun _ _ => trivial
  | cons x s => exact fun h g => ⟨g x s rfl, h.2.1, h.2.2⟩
theorem tm_od_end {hi : Nat} : ∀ s, tm_od hi hi s → tm_dw hi s = [] := by
  intro s
  induction s with
  | nil => exact fun _ => rfl
  | cons x s ih =>
    intro h
    obtain ⟨h1, h2, h3⟩ := h
    have e : x.1 = hi := by omega
    show (if x.1 = hi then tm_dw hi s else x :: s) = []
    rw [if_pos e]
    rw [e] at h3
    exact ih h3
theorem tm_od_st {ne ns : Nat} (hS : tm_si ne ns op fx fy fz) (hsd : tm_sd op fy fz ns) : ∀ i, i ≤ ns → tm_od i ns (tm_st op fy fz i) := by
  intro i
  induction i with
  | zero => exact fun _ => trivial
  | succ i ih =>
    intro hi
    have h := tm_od_dw _ (ih (by omega))
    have hen := tm_en_le (show i < ns by omega) hS
    have hs := hsd i (by omega)
    show tm_od (i + 1) ns (if op i = 2 then _ else _)
    by_cases e2 : op i = 2
    · rw [if_pos e2]
      obtain ⟨a1, a2, a3⟩ := hs (Or.inl e2)
      exact ⟨hen.1, a1, tm_od_up _ h a2⟩
    · rw [if_neg e2]
      by_cases e3 : op i = 3
      · rw [if_pos e3]
        obtain ⟨a1, a2, a3⟩ := hs (Or.inr e3)
        exact ⟨hen.1, a1, tm_od_up _ h a2⟩
      · rw [if_neg e3]
        exact h
theorem tm_er_nil : ∀ s, tm_er s = [] → s = [] := by
  intro s
  cases s with
  | nil => exact fun _ => rfl
  | cons x s => exact fun h => absurd h (by show ¬ (x.1, x.2.1) :: tm_er s = []; simp)
/-- all statements are compiled -/
theorem tm_comp_w {post : St1 → Prop} {ne ns : Nat} (hE : tm_ei ne kd px py wt ks al) (hS : tm_si ne ns op fx fy fz) (hsd : tm_sd op fy fz ns) (hns : xS = nI ns) (hC : xC = 0)
    (hp : ∀ (N : Nat) (xO' : Int32) (cO' cA' cB' cC' cK' wn' wr' wp' wq' oe' ol' oq' : Nat → Int32) (h0 h1 ag : Nat → Nat), tm_cw N cO' cA' cB' cC' cK' h0 h1 ag → post (xE, xS, 1, nI N, xO', xU, xH, xI, xR, kd, px, py, wt, ks, ki, al, op, fx, fy, fz, cO', cA', cB', cC', cK', wn', wr', wp', wq', oe', ol', oq', so, nu, ln, lm, sv, ka, es, en, ec)) : wpX_compile post (xE, xS, xC, xN, xO, xU, xH, xI, xR, kd, px, py, wt, ks, ki, al, op, fx, fy, fz, cO, cA, cB, cC, cK, wn, wr, wp, wq, oe, ol, oq, so, nu, ln, lm, sv, ka, es, en, ec) := by
  subst hns
  have hns14 := hS.1
  unfold wpX_compile
  dsimp only
  refine br_t hC ?_
  refine pk_loop (σ := Int32 × Int32 × (Nat → Int32) × (Nat → Int32) × (Nat → Int32) × (Nat → Int32) × (Nat → Int32) × (Nat → Int32) × (Nat → Int32) × (Nat → Int32) × (Nat → Int32) × (Nat → Int32) × (Nat → Int32) × (Nat → Int32)) (fun f i s => wX_compile_25 post f (nI i) xE (nI ns) 1 s.1 s.2.1 xU xH xI xR kd px py wt ks ki al op fx fy fz s.2.2.1 s.2.2.2.1 s.2.2.2.2.1 s.2.2.2.2.2.1 s.2.2.2.2.2.2.1 s.2.2.2.2.2.2.2.1 s.2.2.2.2.2.2.2.2.1 s.2.2.2.2.2.2.2.2.2.1 s.2.2.2.2.2.2.2.2.2.2.1 s.2.2.2.2.2.2.2.2.2.2.2.1 s.2.2.2.2.2.2.2.2.2.2.2.2.1 s.2.2.2.2.2.2.2.2.2.2.2.2.2 so nu ln lm sv ka es en ec)
    (fun i s => ∃ (t : List (Nat × Bool × Nat)) (n : Nat) (h0 h1 ag : Nat → Nat), s.1 = nI n ∧ tm_er t = tm_st op fy fz i ∧ tm_bi t n s.2.1 s.2.2.1 s.2.2.2.1 s.2.2.2.2.1 s.2.2.2.2.2.1 s.2.2.2.2.2.2.1 s.2.2.2.2.2.2.2.2.2.2.2.1 s.2.2.2.2.2.2.2.2.2.2.2.2.1 s.2.2.2.2.2.2.2.2.2.2.2.2.2 h0 h1 ag ∧ n + tm_nl (tm_er t) ≤ 23 * i ∧ (t ≠ [] → 0 < n))
    ns 0 (0, 0, cO, cA, cB, cC, cK, wn, wr, wp, wq, oe, ol, oq) (by omega) ⟨[], 0, fun _ => 0, fun _ => 0, fun _ => 1000, rfl, rfl, ⟨rfl, by decide, ⟨by omega, rfl, rfl, fun z => absurd z (by omega), fun p hp => absurd hp (by omega), fun p hp => absurd hp (by omega)⟩, rfl, rfl, rfl, trivial, trivial⟩, by show 0 + 0 ≤ 0; omega, fun z => absurd rfl z⟩ ?_ ?_
  · rintro f ⟨q0, q1, q2, q3, q4, q5, q6, q7, q8, q9, q10, q11, q12, q13⟩ ⟨t, n, h0, h1, ag, g1, g2, g3, g4, g5⟩
    show wX_compile_25 post (f + 1) (nI ns) xE (nI ns) 1 q0 q1 xU xH xI xR kd px py wt ks ki al op fx fy fz q2 q3 q4 q5 q6 q7 q8 q9 q10 q11 q12 q13 so nu ln lm sv ka es en ec
    have g1 : q0 = nI n := g1
    subst g1
    unfold wX_compile_25
    refine br_t (nI_le (Nat.le_refl ns) (by omega)) ?_
    unfold wpX_closeStretches
    dsimp only
    refine tm_close_w (by omega) t n q1 q2 q3 q4 q5 q6 h0 h1 ag g3 (by omega) g5 (fun n' xO' cO' cA' cB' cC' cK' h0' h1' ag' w1 w2 w3 => ?_)
    have hend : tm_d3 ns t = [] := tm_er_nil _ (by rw [tm_d3_er, g2]; exact tm_od_end _ (tm_od_st hS hsd ns (Nat.le_refl ns)))
    rw [hend] at w1 w2
    obtain ⟨v1, v2, v3, v4, v5, v6, v7, v8⟩ := w1
    exact hp n' xO' cO' cA' cB' cC' cK' q7 q8 q9 q10 q11 q12 q13 h0' h1' ag' ⟨v3.1, v3.2.1, v3.2.2.1, v3.2.2.2.1, v3.2.2.2.2.1, fun p hp' => v3.2.2.2.2.2 p hp' (fun z => by obtain ⟨x, hx, _⟩ := z; exact absurd hx (by simp))⟩
  · rintro f i ⟨q0, q1, q2, q3, q4, q5, q6, q7, q8, q9, q10, q11, q12, q13⟩ hi ⟨t, n, h0, h1, ag, g1, g2, g3, g4, g5⟩ hw
    show wX_compile_25 post (f + 1) (nI i) xE (nI ns) 1 q0 q1 xU xH xI xR kd px py wt ks ki al op fx fy fz q2 q3 q4 q5 q6 q7 q8 q9 q10 q11 q12 q13 so nu ln lm sv ka es en ec
    have g1 : q0 = nI n := g1
    subst g1
    have g4 : n + tm_nl (tm_er t) ≤ 23 * i := g4
    unfold wX_compile_25
    refine br_f (nI_ge hi (by omega)) ?_
    unfold wpX_closeStretches
    dsimp only
    refine tm_close_w (by omega) t n q1 q2 q3 q4 q5 q6 h0 h1 ag g3 (by omega) g5 (fun n' xO' cO' cA' cB' cC' cK' h0' h1' ag' w1 w2 w3 => ?_)
    have e3 : tm_er (tm_d3 i t) = tm_dw i (tm_st op fy fz i) := by rw [tm_d3_er, g2]
    have hl1 := tm_st_len op fy fz i
    have hl2 := tm_dw_len i (tm_st op fy fz i)
    have hl3 : (tm_d3 i t).length = (tm_dw i (tm_st op fy fz i)).length := by rw [← tm_er_len, e3]
    refine tm_cs_w hE hS rfl hi rfl (by omega) w1 (by omega) (fun z3 => ?_) (fun s' n2 xO2 cO2 cA2 cB2 cC2 cK2 wn2 wr2 wp2 wq2 oe2 ol2 oq2 h02 h12 ag2 r1 r2 r3 r4 => ?_)
    · have z3 : op i = 3 := z3
      obtain ⟨_, _, a3⟩ := hsd i hi (Or.inr z3)
      have z2 : ¬ op i = 2 := fun z => by rw [z] at z3; exact absurd z3 (by decide)
      have es : tm_st op fy fz (i + 1) = (tm_en op fy fz i, true) :: tm_dw i (tm_st op fy fz i) := by
        show (if op i = 2 then _ else _) = _
        rw [if_neg z2, if_pos z3]
      rw [es] at a3
      have a3 : tm_nl (tm_dw i (tm_st op fy fz i)) + 1 ≤ 2 := a3
      rw [e3]
      omega
    · refine nm_r (nI_1 i) (hw (nI n2, xO2, cO2, cA2, cB2, cC2, cK2, wn2, wr2, wp2, wq2, oe2, ol2, oq2) ⟨s', n2, h02, h12, ag2, rfl, ?_, r2, ?_, fun _ => r4⟩)
      · rw [r1, e3]
        rfl
      · show n2 + tm_nl (tm_er s') ≤ 23 * (i + 1)
        omega
end
section
variable {xE xS xC xN xO xU xH xI xR : Int32} {kd px py wt ks ki al op fx fy fz cO cA cB cC cK wn wr wp wq oe ol oq so nu ln lm ka es en ec : Nat → Int32} {sv : Nat → Int64}
/-! a run -/
theorem tm_iv_rl {xI : Int32} {so nu ka es en ec so' nu' ka' es' en' ec' : Nat → Int32} (hi : tm_iv xI so nu es en ec) (hr : tm_rl xI so nu ka es en ec so' nu' ka' es' en' ec') : tm_iv xI so' nu' es' en' ec' := by
  refine ⟨hr.2.2, tm_rl_rg hr hi.2.1, fun a ha h2 j hj e => ?_, fun t ht hX s hs h2 j hj e => ?_⟩
  · rw [(hr.1 a ha).1] at h2
    rw [(hr.1 a ha).2] at e
    exact hi.2.2.1 a ha h2 j hj e
  · obtain ⟨e1, e2, _⟩ := (hr.2.1 t ht hX).2 s hs
    rw [← e1] at h2
    rw [← e2] at e
    exact hi.2.2.2 t ht hX s hs h2 j hj e
theorem tm_rl_refl {xI : Int32} {so nu ka es en ec : Nat → Int32} (hb : tm_tb es en ec) : tm_rl xI so nu ka es en ec so nu ka es en ec :=
  ⟨fun _ _ => ⟨rfl, rfl⟩, fun _ _ _ => ⟨rfl, fun _ _ => ⟨rfl, rfl, fun _ => rfl⟩⟩, hb⟩
def tm_m0 : tm_M := (0, 0, 0, 0, fun _ => 0, fun _ => 0, fun _ => 0, fun _ => 0, fun _ => 0, fun _ => 0, fun _ => 0, fun _ => 0, fun _ => 0)
theorem tm_tb0 : tm_tb (fun _ => 0) (fun _ => 0) (fun _ => 0) := by
  refine ⟨fun p _ => Or.inl rfl, fun p _ z => absurd (show (0 : Int32) = 2 from z) (by decide), fun t _ => ?_⟩
  have : tm_tc (fun _ => 0) t = 0 := by
    unfold tm_tc
    rw [show (fun s => decide (¬ (0 : Int32) = 0)) = (fun _ : Nat => false) from by funext _; simp]
    rfl
  show (0 : Int32) = nI (tm_tc (fun _ => 0) t) ∧ _
  rw [this]
  exact ⟨rfl, by omega⟩
theorem tm_iv0 : tm_iv 0 (fun _ => 0) (fun _ => 0) (fun _ => 0) (fun _ => 0) (fun _ => 0) :=
  ⟨tm_tb0, fun _ _ => ⟨Or.inl rfl, fun z => absurd (show (0 : Int32) = 2 from z) (by decide)⟩, fun _ _ z => absurd (show (0 : Int32) = 2 from z) (by decide), fun t _ z => by rw [b_0] at z; exact absurd z (by decide)⟩
/-- from cleared registers every run of the code ends alike -/
theorem tm_exec0 {N : Nat} {h0 h1 ag : Nat → Nat} (hN : xN = nI N) (hcw : tm_cw N cO cA cB cC cK h0 h1 ag) : ∃ r m', tm_MO m' ∧ ∀ (xO : Int32) (oe ol : Nat → Int32) (xU xR : Int32) (so nu ln lm ka es en ec : Nat → Int32) (sv : Nat → Int64) (post : Int32 → St1 → Prop), (∀ r, r < 18 → so r = 0 ∧ nu r = 0) → tm_tb es en ec → (∀ u', tm_ME m' u' → post r (xE, xS, xC, xN, xO, u'.1, u'.2.1, u'.2.2.1, u'.2.2.2.1, kd, px, py, wt, ks, ki, al, op, fx, fy, fz, cO, cA, cB, cC, cK, wn, wr, wp, wq, oe, ol, oq, u'.2.2.2.2.1, u'.2.2.2.2.2.1, u'.2.2.2.2.2.2.1, u'.2.2.2.2.2.2.2.1, u'.2.2.2.2.2.2.2.2.1, u'.2.2.2.2.2.2.2.2.2.1, u'.2.2.2.2.2.2.2.2.2.2.1, u'.2.2.2.2.2.2.2.2.2.2.2.1, u'.2.2.2.2.2.2.2.2.2.2.2.2)) → wpX_execute post (xE, xS, xC, xN, xO, xU, 0, 0, xR, kd, px, py, wt, ks, ki, al, op, fx, fy, fz, cO, cA, cB, cC, cK, wn, wr, wp, wq, oe, ol, oq, so, nu, ln, lm, sv, ka, es, en, ec) := by
  have h := tm_exec (xE := xE) (xS := xS) (xC := xC) (kd := kd) (px := px) (py := py) (wt := wt) (ks := ks) (ki := ki) (al := al) (op := op) (fx := fx) (fy := fy) (fz := fz) (wn := wn) (wr := wr) (wp := wp) (wq := wq) (oq := oq) hN hcw (tm_mu N h0 h1 (fun _ => 0) (fun _ => 0) 0 + 1) 0 tm_m0 (by show tm_mu N h0 h1 (fun _ => 0) (fun _ => 0) 0 < _; omega) (by omega) (tm_MI_mk tm_iv0 ⟨fun _ => false, by show 0 ≤ _; omega, fun _ _ z => absurd (show (0 : Int32) = 2 from z) (by decide), fun _ _ z => absurd (show false = true from z) (by decide)⟩ ⟨fun z => absurd hcw.2.1 z, fun z => absurd hcw.2.2.1 z⟩ 0 rfl (by have := tm_mu_max hcw.1 h0 h1 (fun _ => 0) (fun _ => 0) 0; omega))
  obtain ⟨r, m', hO, H⟩ := h
  refine ⟨r, m', hO, fun xO oe ol xU xR so nu ln lm ka es en ec sv post hz hb hp => ?_⟩
  unfold wpX_execute
  dsimp only
  refine ⟨tm_mu N h0 h1 (fun _ => 0) (fun _ => 0) 0 + 1, ?_⟩
  exact H xO oe ol _ (xU, 0, 0, xR, so, nu, ln, lm, sv, ka, es, en, ec) post (by show tm_mu N h0 h1 (fun _ => 0) (fun _ => 0) 0 < _; omega) (tm_MR_mk rfl rfl (fun z => absurd rfl z) ⟨fun r hr => hz r hr, fun t _ z => by rw [b_0] at z; exact absurd z (by decide), hb⟩ (fun k j e hk hj => by have : k = 0 := tm_nIinj hk (by omega) e.symm; omega) ⟨fun z => absurd hcw.2.1 z, fun z => absurd hcw.2.2.1 z⟩) hp
theorem tm_run16 {post : Int32 → St1 → Prop} (hp : wpX_execute (fun r u => post r u) (xE, xS, xC, xN, xO, xU, 0, 0, xR, kd, px, py, wt, ks, ki, al, op, fx, fy, fz, cO, cA, cB, cC, cK, wn, wr, wp, wq, oe, ol, oq, tm_zr so 0 18, tm_zr nu 0 18, ln, lm, sv, ka, es, en, ec)) : ∃ fu, wX_run_16 post fu 0 xE xS xC xN xO xU xH xI xR kd px py wt ks ki al op fx fy fz cO cA cB cC cK wn wr wp wq oe ol oq so nu ln lm sv ka es en ec := by
  refine pk_loop (σ := (Nat → Int32) × (Nat → Int32)) (fun f i s => wX_run_16 post f (nI i) xE xS xC xN xO xU xH xI xR kd px py wt ks ki al op fx fy fz cO cA cB cC cK wn wr wp wq oe ol oq s.1 s.2 ln lm sv ka es en ec) (fun i s => s = (tm_zr so 0 i, tm_zr nu 0 i)) 18 0 (so, nu) (by omega) (by rw [tm_zr_0, tm_zr_0]) ?_ ?_
  · intro f s h
    subst h
    show wX_run_16 post (f + 1) (nI 18) xE xS xC xN xO xU xH xI xR kd px py wt ks ki al op fx fy fz cO cA cB cC cK wn wr wp wq oe ol oq (tm_zr so 0 18) (tm_zr nu 0 18) ln lm sv ka es en ec
    unfold wX_run_16
    exact br_t (nI_le (Nat.le_refl 18) (by omega)) hp
  · intro f i s hi h hw
    subst h
    have hw' := hw (tm_zr so 0 (i + 1), tm_zr nu 0 (i + 1)) rfl
    show wX_run_16 post (f + 1) (nI i) xE xS xC xN xO xU xH xI xR kd px py wt ks ki al op fx fy fz cO cA cB cC cK wn wr wp wq oe ol oq (tm_zr so 0 i) (tm_zr nu 0 i) ln lm sv ka es en ec
    unfold wX_run_16
    refine br_f (nI_ge (b := 18) hi (by omega)) (tm_clReg i rfl hi (nm_r (nI_1 i) ?_))
    rw [tm_zr_s so (by omega), tm_zr_s nu (by omega)]
    exact hw'
/-- what holds of the object between calls -/
def tm_GI (ne : Nat) (u : St1) : Prop := match u with
  | (xE, xS, xC, xN, xO, xU, xH, xI, xR, kd, px, py, wt, ks, ki, al, op, fx, fy, fz, cO, cA, cB, cC, cK, wn, wr, wp, wq, oe, ol, oq, so, nu, ln, lm, sv, ka, es, en, ec) => ∃ ns, xE = nI ne ∧ xS = nI ns ∧ tm_ei ne kd px py wt ks al ∧ tm_si ne ns op fx fy fz ∧ (¬ xC = 0 → ∃ N h0 h1 ag, xN = nI N ∧ tm_cw N cO cA cB cC cK h0 h1 ag) ∧ tm_iv xI so nu es en ec ∧ ∃ k, xH = nI k ∧ k < 2 ^ 31
/-- a state from which every further run answers r and ends like m -/
def tm_AG (ne : Nat) (u : St1) (r : Int32) (m : tm_M) : Prop := match u with
  | (xE, xS, xC, xN, xO, xU, xH, xI, xR, kd, px, py, wt, ks, ki, al, op, fx, fy, fz, cO, cA, cB, cC, cK, wn, wr, wp, wq, oe, ol, oq, so, nu, ln, lm, sv, ka, es, en, ec) => tm_GI ne (xE, xS, xC, xN, xO, xU, xH, xI, xR, kd, px, py, wt, ks, ki, al, op, fx, fy, fz, cO, cA, cB, cC, cK, wn, wr, wp, wq, oe, ol, oq, so, nu, ln, lm, sv, ka, es, en, ec) ∧ tm_ME m (xU, xH, xI, xR, so, nu, ln, lm, sv, ka, es, en, ec) ∧ tm_MO m ∧ ∀ (yR : Int32) (post : Int32 → St1 → Prop), (∀ (yO : Int32) (ye yl : Nat → Int32) (u' : tm_M), tm_GI ne (xE, xS, xC, xN, yO, u'.1, u'.2.1, u'.2.2.1, u'.2.2.2.1, kd, px, py, wt, ks, ki, al, op, fx, fy, fz, cO, cA, cB, cC, cK, wn, wr, wp, wq, ye, yl, oq, u'.2.2.2.2.1, u'.2.2.2.2.2.1, u'.2.2.2.2.2.2.1, u'.2.2.2.2.2.2.2.1, u'.2.2.2.2.2.2.2.2.1, u'.2.2.2.2.2.2.2.2.2.1, u'.2.2.2.2.2.2.2.2.2.2.1, u'.2.2.2.2.2.2.2.2.2.2.2.1, u'.2.2.2.2.2.2.2.2.2.2.2.2) → tm_ME m u' → post r (xE, xS, xC, xN, yO, u'.1, u'.2.1, u'.2.2.1, u'.2.2.2.1, kd, px, py, wt, ks, ki, al, op, fx, fy, fz, cO, cA, cB, cC, cK, wn, wr, wp, wq, ye, yl, oq, u'.2.2.2.2.1, u'.2.2.2.2.2.1, u'.2.2.2.2.2.2.1, u'.2.2.2.2.2.2.2.1, u'.2.2.2.2.2.2.2.2.1, u'.2.2.2.2.2.2.2.2.2.1, u'.2.2.2.2.2.2.2.2.2.2.1, u'.2.2.2.2.2.2.2.2.2.2.2.1, u'.2.2.2.2.2.2.2.2.2.2.2.2)) → wpX_run post (xE, xS, xC, xN, xO, xU, xH, xI, yR, kd, px, py, wt, ks, ki, al, op, fx, fy, fz, cO, cA, cB, cC, cK, wn, wr, wp, wq, oe, ol, oq, so, nu, ln, lm, sv, ka, es, en, ec)
theorem tm_GI_mk {ne ns k : Nat} (a1 : xE = nI ne) (a2 : xS = nI ns) (a3 : tm_ei ne kd px py wt ks al) (a4 : tm_si ne ns op fx fy fz) (a5 : ¬ xC = 0 → ∃ N h0 h1 ag, xN = nI N ∧ tm_cw N cO cA cB cC cK h0 h1 ag) (a6 : tm_iv xI so nu es en ec) (a7 : xH = nI k) (a8 : k < 2 ^ 31) : tm_GI ne (xE, xS, xC, xN, xO, xU, xH, xI, xR, kd, px, py, wt, ks, ki, al, op, fx, fy, fz, cO, cA, cB, cC, cK, wn, wr, wp, wq, oe, ol, oq, so, nu, ln, lm, sv, ka, es, en, ec) := by
  unfold tm_GI
  dsimp only
  exact ⟨ns, a1, a2, a3, a4, a5, a6, k, a7, a8⟩
theorem tm_GI_me {ne ns : Nat} {m u : tm_M} (a1 : xE = nI ne) (a2 : xS = nI ns) (a3 : tm_ei ne kd px py wt ks al) (a4 : tm_si ne ns op fx fy fz) (a5 : ¬ xC = 0 → ∃ N h0 h1 ag, xN = nI N ∧ tm_cw N cO cA cB cC cK h0 h1 ag) (hO : tm_MO m) (hE : tm_ME m u) : tm_GI ne (xE, xS, xC, xN, xO, u.1, u.2.1, u.2.2.1, u.2.2.2.1, kd, px, py, wt, ks, ki, al, op, fx, fy, fz, cO, cA, cB, cC, cK, wn, wr, wp, wq, oe, ol, oq, u.2.2.2.2.1, u.2.2.2.2.2.1, u.2.2.2.2.2.2.1, u.2.2.2.2.2.2.2.1, u.2.2.2.2.2.2.2.2.1, u.2.2.2.2.2.2.2.2.2.1, u.2.2.2.2.2.2.2.2.2.2.1, u.2.2.2.2.2.2.2.2.2.2.2.1, u.2.2.2.2.2.2.2.2.2.2.2.2) := by
  obtain ⟨xU, xH, xI, xR, so, nu, ln, lm, sv, ka, es, en, ec⟩ := m
  obtain ⟨xU', xH', xI', xR', so', nu', ln', lm', sv', ka', es', en', ec'⟩ := u
  obtain ⟨e1, e2, e3, e4⟩ := hE
  obtain ⟨hiv, k, hk1, hk2⟩ := hO
  have := tm_iv_rl hiv e3
  rw [← e1] at this
  exact tm_GI_mk a1 a2 a3 a4 a5 this (by rw [e2, hk1]) hk2
theorem tm_zr18 (f : Nat → Int32) : ∀ r, r < 18 → tm_zr f 0 18 r = 0 := fun r hr => tm_zr_in f (by omega) hr
/-- a run over code that is there -/
theorem tm_run_c {N ne ns : Nat} {h0 h1 ag : Nat → Nat} (hyC : ¬ xC = 0) (hN : xN = nI N) (hcw : tm_cw N cO cA cB cC cK h0 h1 ag) (a1 : xE = nI ne) (a2 : xS = nI ns) (a3 : tm_ei ne kd px py wt ks al) (a4 : tm_si ne ns op fx fy fz) (hsd : tm_sd op fy fz ns) :
    ∃ r m, ∀ (xO : Int32) (oe ol : Nat → Int32) (xU xH xI xR : Int32) (so nu ln lm ka es en ec : Nat → Int32) (sv : Nat → Int64), tm_tb es en ec → ∀ post : Int32 → St1 → Prop, (∀ u, tm_AG ne u r m → post r u) → ∃ fu, wX_run_16 post fu 0 xE xS xC xN xO xU xH xI xR kd px py wt ks ki al op fx fy fz cO cA cB cC cK wn wr wp wq oe ol oq so nu ln lm sv ka es en ec := by
  obtain ⟨r, m, hO, H⟩ := tm_exec0 (xE := xE) (xS := xS) (xC := xC) (kd := kd) (px := px) (py := py) (wt := wt) (ks := ks) (ki := ki) (al := al) (op := op) (fx := fx) (fy := fy) (fz := fz) (wn := wn) (wr := wr) (wp := wp) (wq := wq) (oq := oq) hN hcw
  have a5 : ¬ xC = 0 → ∃ N h0 h1 ag, xN = nI N ∧ tm_cw N cO cA cB cC cK h0 h1 ag := fun _ => ⟨N, h0, h1, ag, hN, hcw⟩
  have again : ∀ (xO : Int32) (oe ol : Nat → Int32) (u : tm_M), tm_ME m u → tm_AG ne (xE, xS, xC, xN, xO, u.1, u.2.1, u.2.2.1, u.2.2.2.1, kd, px, py, wt, ks, ki, al, op, fx, fy, fz, cO, cA, cB, cC, cK, wn, wr, wp, wq, oe, ol, oq, u.2.2.2.2.1, u.2.2.2.2.2.1, u.2.2.2.2.2.2.1, u.2.2.2.2.2.2.2.1, u.2.2.2.2.2.2.2.2.1, u.2.2.2.2.2.2.2.2.2.1, u.2.2.2.2.2.2.2.2.2.2.1, u.2.2.2.2.2.2.2.2.2.2.2.1, u.2.2.2.2.2.2.2.2.2.2.2.2) r m := by
    intro xO oe ol u hE
    have hG := tm_GI_me (xO := xO) (wn := wn) (wr := wr) (wp := wp) (wq := wq) (oe := oe) (ol := ol) (oq := oq) (ki := ki) a1 a2 a3 a4 a5 hO hE
    obtain ⟨xU', xH', xI', xR', so', nu', ln', lm', sv', ka', es', en', ec'⟩ := u
    refine ⟨hG, hE, hO, fun yR post hp => ?_⟩
    obtain ⟨ns', g1, g2, g3, g4, g5, giv, k, g6, g7⟩ := hG
    unfold wpX_run
    dsimp only
    refine tm_sound_w a4 a2 (fun _ oc oe' ol' => br_f (by decide) ?_) (fun z => absurd hsd z)
    unfold wpX_compile
    dsimp only
    refine br_f hyC (tm_run16 (H oc oe' ol' _ _ _ _ _ _ _ _ _ _ _ _ (fun r hr => ⟨tm_zr18 _ r hr, tm_zr18 _ r hr⟩) giv.1 (fun u' hu' => ?_)))
    exact hp oc oe' ol' u' (tm_GI_me a1 a2 a3 a4 a5 hO hu') hu'
  refine ⟨r, m, fun xO oe ol xU xH xI xR so nu ln lm ka es en ec sv hb post hp => ?_⟩
  refine tm_run16 (H xO oe ol _ _ _ _ _ _ _ _ _ _ _ _ (fun r hr => ⟨tm_zr18 _ r hr, tm_zr18 _ r hr⟩) hb (fun u' hu' => ?_))
  exact hp _ (again xO oe ol u' hu')
theorem tm_run_w {post : Int32 → St1 → Prop} {ne : Nat} (hG : tm_GI ne (xE, xS, xC, xN, xO, xU, xH, xI, xR, kd, px, py, wt, ks, ki, al, op, fx, fy, fz, cO, cA, cB, cC, cK, wn, wr, wp, wq, oe, ol, oq, so, nu, ln, lm, sv, ka, es, en, ec)) (hp : ∀ r m u, tm_AG ne u r m → post r u) : wpX_run post (xE, xS, xC, xN, xO, xU, xH, xI, xR, kd, px, py, wt, ks, ki, al, op, fx, fy, fz, cO, cA, cB, cC, cK, wn, wr, wp, wq, oe, ol, oq, so, nu, ln, lm, sv, ka, es, en, ec) := by
  have hG0 := hG
  obtain ⟨ns, hne, hns, hE, hS, hC, hiv, k, hk1, hk2⟩ := hG
  by_cases hsd : tm_sd op fy fz ns
  · unfold wpX_run
    dsimp only
    refine tm_sound_w hS hns (fun _ oc oe' ol' => br_f (by decide) ?_) (fun z => absurd hsd z)
    by_cases c : xC = 0
    · refine tm_comp_w hE hS hsd hns c (fun N xO' cO' cA' cB' cC' cK' wn' wr' wp' wq' oe2 ol2 oq2 h0 h1 ag hcw => ?_)
      obtain ⟨r, m, H⟩ := tm_run_c (xC := 1) (xN := nI N) (cO := cO') (cA := cA') (cB := cB') (cC := cC') (cK := cK') (ki := ki) (wn := wn') (wr := wr') (wp := wp') (wq := wq') (oq := oq2) (by decide) rfl hcw hne hns hE hS hsd
      exact H xO' oe2 ol2 xU xH xI xR so nu ln lm ka es en ec sv hiv.1 post (fun u hu => hp r m u hu)
    · obtain ⟨N, h0, h1, ag, hN, hcw⟩ := hC c
      obtain ⟨r, m, H⟩ := tm_run_c (ki := ki) (wn := wn) (wr := wr) (wp := wp) (wq := wq) (oq := oq) c hN hcw hne hns hE hS hsd
      unfold wpX_compile
      dsimp only
      exact br_f c (H oc oe' ol' xU xH xI xR so nu ln lm ka es en ec sv hiv.1 post (fun u hu => hp r m u hu))
  · have hMO : tm_MO (xU, xH, xI, xR, so, nu, ln, lm, sv, ka, es, en, ec) := tm_MO_mk hiv k hk1 hk2
    have snd : ∀ (xO : Int32) (oe ol : Nat → Int32) (xR : Int32) (post : Int32 → St1 → Prop), (∀ (yO : Int32) (ye yl : Nat → Int32), post (-3) (xE, xS, xC, xN, yO, xU, xH, xI, xR, kd, px, py, wt, ks, ki, al, op, fx, fy, fz, cO, cA, cB, cC, cK, wn, wr, wp, wq, ye, yl, oq, so, nu, ln, lm, sv, ka, es, en, ec)) → wpX_run post (xE, xS, xC, xN, xO, xU, xH, xI, xR, kd, px, py, wt, ks, ki, al, op, fx, fy, fz, cO, cA, cB, cC, cK, wn, wr, wp, wq, oe, ol, oq, so, nu, ln, lm, sv, ka, es, en, ec) := by
      intro xO oe ol xR post hp
      unfold wpX_run
      dsimp only
      exact tm_sound_w hS hns (fun z => absurd z hsd) (fun _ oc oe' ol' => br_t rfl (hp oc oe' ol'))
    refine snd xO oe ol xR post (fun yO ye yl => hp (-3) (xU, xH, xI, xR, so, nu, ln, lm, sv, ka, es, en, ec) (xE, xS, xC, xN, yO, xU, xH, xI, xR, kd, px, py, wt, ks, ki, al, op, fx, fy, fz, cO, cA, cB, cC, cK, wn, wr, wp, wq, ye, yl, oq, so, nu, ln, lm, sv, ka, es, en, ec) ?_)
    have hG1 : ∀ (yR yO : Int32) (ye yl : Nat → Int32), tm_GI ne (xE, xS, xC, xN, yO, xU, xH, xI, yR, kd, px, py, wt, ks, ki, al, op, fx, fy, fz, cO, cA, cB, cC, cK, wn, wr, wp, wq, ye, yl, oq, so, nu, ln, lm, sv, ka, es, en, ec) := fun yR yO ye yl => tm_GI_mk hne hns hE hS hC hiv hk1 hk2
    have hME : ∀ yR : Int32, tm_ME (xU, xH, xI, xR, so, nu, ln, lm, sv, ka, es, en, ec) (xU, xH, xI, yR, so, nu, ln, lm, sv, ka, es, en, ec) := fun yR => tm_ME_mk rfl rfl (tm_rl_refl hiv.1) (fun k j _ _ _ _ => rfl)
    refine ⟨hG1 xR yO ye yl, hME xR, hMO, fun yR post hp => ?_⟩
    exact snd yO ye yl yR post (fun yO' ye' yl' => hp yO' ye' yl' (xU, xH, xI, yR, so, nu, ln, lm, sv, ka, es, en, ec) (hG1 yR yO' ye' yl') (hME yR))
end
section
variable {xE xS xC xN xO xU xH xI xR : Int32} {kd px py wt ks ki al op fx fy fz cO cA cB cC cK wn wr wp wq oe ol oq so nu ln lm ka es en ec : Nat → Int32} {sv : Nat → Int64}
/-! what is seen from outside, and the law's sum over it -/
def tm_it (g : Nat → Int32 → Int32) (h : Int32) : Nat → Int32
  | 0 => h
  | k + 1 => g k (tm_it g h k)
theorem tm_it_cg {g g' : Nat → Int32 → Int32} {h : Int32} : ∀ n, (∀ k, k < n → ∀ x, g k x = g' k x) → tm_it g h n = tm_it g' h n := by
  intro n
  induction n with
  | zero => exact fun _ => rfl
  | succ n ih =>
    intro hg
    show g n (tm_it g h n) = g' n (tm_it g' h n)
    rw [ih (fun k hk => hg k (by omega)), hg n (by omega)]
def tm_ou (xH : Int32) (sv : Nat → Int64) (k : Nat) : Int64 := if xH ≤ nI k then -1 else sv k
def tm_es (so nu ka es : Nat → Int32) (v k : Nat) : Int32 := if so v = 2 then es (tm_place ka es (nu v).toNatClampNeg (nI k)) else -4
def tm_eu (so nu ka es en ec : Nat → Int32) (v k : Nat) : Int32 := if so v = 2 then tm_num (es (tm_place ka es (nu v).toNatClampNeg (nI k))) (en (tm_place ka es (nu v).toNatClampNeg (nI k))) ec else 0
def tm_sa (so nu : Nat → Int32) (v k : Nat) : Int32 := if decide (so v = so k ∧ nu v = nu k) then 7 else 0
def tm_g1 (xH : Int32) (sv : Nat → Int64) (k : Nat) (x : Int32) : Int32 := (31 * x) + ((tm_ou xH sv k ^^^ (((tm_ou xH sv k).toUInt64 >>> ((32 : Int32).toInt64.toUInt64 &&& Int64.toUInt64 63)).toInt64)).toInt32)
def tm_g3 (so nu ka es en ec : Nat → Int32) (v k : Nat) (x : Int32) : Int32 := (((31 * x) + tm_es so nu ka es v k) + (5 * tm_eu so nu ka es en ec v k)) + tm_sa so nu v k
def tm_g2 (so nu ka es en ec : Nat → Int32) (v : Nat) (x : Int32) : Int32 := tm_it (tm_g3 so nu ka es en ec v) (((31 * x) + so v) + (3 * tm_num (so v) (nu v) ec)) 6
def tm_sum (xH : Int32) (so nu : Nat → Int32) (sv : Nat → Int64) (ka es en ec : Nat → Int32) (r : Int32) : Int32 := tm_it (tm_g2 so nu ka es en ec) (tm_it (tm_g1 xH sv) ((31 * xH) + nI (tm_ct (bt r) 32)) 30) 6
theorem tm_isv_w {post : Int32 → Prop} {x : Int32} (v : Nat) (hx : x = nI v) (hv : v < 6) (hp : post 1) : wpX_isVariable post (xE, xS, xC, xN, xO, xU, xH, xI, xR, kd, px, py, wt, ks, ki, al, op, fx, fy, fz, cO, cA, cB, cC, cK, wn, wr, wp, wq, oe, ol, oq, so, nu, ln, lm, sv, ka, es, en, ec) x := by
  subst hx
  unfold wpX_isVariable
  dsimp only
  exact br_f (nI_pos (by omega)) (br_f (nI_ge (b := 6) hv (by omega)) hp)
theorem tm_sort_w {post : Int32 → Prop} {x : Int32} (v : Nat) (hx : x = nI v) (hv : v < 6) (hp : post (so v)) : wpX_sort post (xE, xS, xC, xN, xO, xU, xH, xI, xR, kd, px, py, wt, ks, ki, al, op, fx, fy, fz, cO, cA, cB, cC, cK, wn, wr, wp, wq, oe, ol, oq, so, nu, ln, lm, sv, ka, es, en, ec) x := by
  unfold wpX_sort
  dsimp only
  refine tm_isv_w v hx hv (br_f (by decide) ⟨pk_in v 18 (by omega) hx, ?_⟩)
  rw [hx, nI_clamp (show v < 2 ^ 31 by omega)]
  exact hp
theorem tm_number_w {post : Int32 → Prop} {x : Int32} (v : Nat) (hx : x = nI v) (hv : v < 6) (hg : tm_rg so nu) (hp : post (tm_num (so v) (nu v) ec)) : wpX_number post (xE, xS, xC, xN, xO, xU, xH, xI, xR, kd, px, py, wt, ks, ki, al, op, fx, fy, fz, cO, cA, cB, cC, cK, wn, wr, wp, wq, oe, ol, oq, so, nu, ln, lm, sv, ka, es, en, ec) x := by
  unfold wpX_number
  dsimp only
  refine tm_isv_w v hx hv (br_f (by decide) ⟨pk_in v 18 (by omega) hx, pk_in v 18 (by omega) hx, ?_⟩)
  rw [hx, nI_clamp (show v < 2 ^ 31 by omega)]
  exact tm_num_w (hg v (by omega)).1 (hg v (by omega)).2 hp
theorem tm_esort_w {post : Int32 → Prop} {x y : Int32} (v k : Nat) (hx : x = nI v) (hy : y = nI k) (hv : v < 6) (hb : tm_tb es en ec) (hg : tm_rg so nu) (hp : post (tm_es so nu ka es v k)) : wpX_entrySort post (xE, xS, xC, xN, xO, xU, xH, xI, xR, kd, px, py, wt, ks, ki, al, op, fx, fy, fz, cO, cA, cB, cC, cK, wn, wr, wp, wq, oe, ol, oq, so, nu, ln, lm, sv, ka, es, en, ec) x y := by
  subst hy
  unfold wpX_entrySort
  dsimp only
  refine tm_isv_w v hx hv (br_f (by decide) ⟨pk_in v 18 (by omega) hx, ?_⟩)
  rw [hx, nI_clamp (show v < 2 ^ 31 by omega)]
  unfold tm_es at hp
  by_cases e : so v = 2
  · rw [if_pos e] at hp
    obtain ⟨t, ht, et⟩ := (hg v (by omega)).2 e
    rw [et, nI_clamp (show t < 2 ^ 31 by omega)] at hp
    obtain ⟨q, hq, eq⟩ := tm_place_in ka es t (nI k)
    refine br_t e ⟨pk_in v 18 (by omega), tm_place_w t et ht (hb.2.2 t ht).2 ⟨pk_in (8 * t + q) 256 (by omega) (by rw [eq]), ?_⟩⟩
    rw [nI_clamp (show tm_place ka es t (nI k) < 2 ^ 31 by omega)]
    exact hp
  · rw [if_neg e] at hp
    exact br_f e hp
theorem tm_enum_w {post : Int32 → Prop} {x y : Int32} (v k : Nat) (hx : x = nI v) (hy : y = nI k) (hv : v < 6) (hb : tm_tb es en ec) (hg : tm_rg so nu) (hp : post (tm_eu so nu ka es en ec v k)) : wpX_entryNumber post (xE, xS, xC, xN, xO, xU, xH, xI, xR, kd, px, py, wt, ks, ki, al, op, fx, fy, fz, cO, cA, cB, cC, cK, wn, wr, wp, wq, oe, ol, oq, so, nu, ln, lm, sv, ka, es, en, ec) x y := by
  subst hy
  unfold wpX_entryNumber
  dsimp only
  refine tm_isv_w v hx hv (br_f (by decide) ⟨pk_in v 18 (by omega) hx, ?_⟩)
  rw [hx, nI_clamp (show v < 2 ^ 31 by omega)]
  unfold tm_eu at hp
  by_cases e : so v = 2
  · rw [if_pos e] at hp
    obtain ⟨t, ht, et⟩ := (hg v (by omega)).2 e
    rw [et, nI_clamp (show t < 2 ^ 31 by omega)] at hp
    obtain ⟨q, hq, eq⟩ := tm_place_in ka es t (nI k)
    refine br_t e ⟨pk_in v 18 (by omega), tm_place_w t et ht (hb.2.2 t ht).2 ⟨pk_in (8 * t + q) 256 (by omega) (by rw [eq]), pk_in (8 * t + q) 256 (by omega) (by rw [eq]), ?_⟩⟩
    rw [nI_clamp (show tm_place ka es t (nI k) < 2 ^ 31 by omega)]
    exact tm_num_w (hb.1 _ (by omega)) (hb.2.1 _ (by omega)) hp
  · rw [if_neg e] at hp
    exact br_f e hp
theorem tm_smv_w {post : Int32 → Prop} {x y : Int32} (v k : Nat) (hx : x = nI v) (hy : y = nI k) (hv : v < 6) (hk : k < 6) (hp : post (if decide (so v = so k ∧ nu v = nu k) then 1 else 0)) : wpX_same post (xE, xS, xC, xN, xO, xU, xH, xI, xR, kd, px, py, wt, ks, ki, al, op, fx, fy, fz, cO, cA, cB, cC, cK, wn, wr, wp, wq, oe, ol, oq, so, nu, ln, lm, sv, ka, es, en, ec) x y := by
  unfold wpX_same
  dsimp only
  refine tm_isv_w v hx hv (br_f (by decide) (tm_isv_w k hy hk (br_f (by decide) (tm_same_w v k hx hy (by omega) (by omega) ?_))))
  cases c : decide (so v = so k ∧ nu v = nu k)
  · rw [c] at hp; exact br_t rfl hp
  · rw [c] at hp; exact br_f (by decide) hp
theorem tm_out_w {post : Int64 → Prop} {x : Int32} (k : Nat) (hx : x = nI k) (hk : k < 30) (hp : post (tm_ou xH sv k)) : wpX_output post (xE, xS, xC, xN, xO, xU, xH, xI, xR, kd, px, py, wt, ks, ki, al, op, fx, fy, fz, cO, cA, cB, cC, cK, wn, wr, wp, wq, oe, ol, oq, so, nu, ln, lm, sv, ka, es, en, ec) x := by
  subst hx
  unfold wpX_output
  dsimp only
  unfold tm_ou at hp
  refine br_f (nI_pos (by omega)) ?_
  rw [nI_clamp (show k < 2 ^ 31 by omega)]
  by_cases e : xH ≤ nI k
  · rw [if_pos e] at hp
    exact br_t e hp
  · rw [if_neg e] at hp
    exact br_f e (br_t (nI_le (b := 29) (by omega) (by omega)) ⟨pk_in k 30 hk, hp⟩)
theorem tm_s77 {post : Int32 → St1 → Prop} {J : Int32 → Int32 → Prop} {v : Nat} {h : Int32} (hv : v < 6) (hb : tm_tb es en ec) (hg : tm_rg so nu) (hp : J (tm_it (tm_g3 so nu ka es en ec v) h 6) (nI (v + 1))) : ∃ fu, wL_sum_77 post J (nI v) xE xS xC xN xO xU xH xI xR kd px py wt ks ki al op fx fy fz cO cA cB cC cK wn wr wp wq oe ol oq so nu ln lm sv ka es en ec fu h 0 := by
  refine pk_loop (σ := Int32) (fun f i s => wL_sum_77 post J (nI v) xE xS xC xN xO xU xH xI xR kd px py wt ks ki al op fx fy fz cO cA cB cC cK wn wr wp wq oe ol oq so nu ln lm sv ka es en ec f s (nI i)) (fun i s => s = tm_it (tm_g3 so nu ka es en ec v) h i) 6 0 h (by omega) rfl ?_ ?_
  · intro f s hs
    subst hs
    show wL_sum_77 post J (nI v) xE xS xC xN xO xU xH xI xR kd px py wt ks ki al op fx fy fz cO cA cB cC cK wn wr wp wq oe ol oq so nu ln lm sv ka es en ec (f + 1) _ (nI 6)
    unfold wL_sum_77
    exact br_t (nI_le (Nat.le_refl 6) (by omega)) (nm_r (nI_1 v) hp)
  · intro f i s hi hs hw
    subst hs
    show wL_sum_77 post J (nI v) xE xS xC xN xO xU xH xI xR kd px py wt ks ki al op fx fy fz cO cA cB cC cK wn wr wp wq oe ol oq so nu ln lm sv ka es en ec (f + 1) _ (nI i)
    have hw' := hw _ rfl
    unfold wL_sum_77
    refine br_f (nI_ge (b := 6) hi (by omega)) (tm_esort_w v i rfl rfl hv hb hg (tm_enum_w v i rfl rfl hv hb hg (tm_smv_w v i rfl rfl hv hi ?_)))
    have e : tm_it (tm_g3 so nu ka es en ec v) h (i + 1) = (((31 * tm_it (tm_g3 so nu ka es en ec v) h i) + tm_es so nu ka es v i) + (5 * tm_eu so nu ka es en ec v i)) + tm_sa so nu v i := rfl
    unfold tm_sa at e
    cases c : decide (so v = so i ∧ nu v = nu i)
    · rw [c] at e
      exact br_t rfl (nm_r (e' := tm_it (tm_g3 so nu ka es en ec v) h (i + 1)) e.symm (nm_r (nI_1 i) hw'))
    · rw [c] at e
      exact br_f (by decide) (nm_r (e' := tm_it (tm_g3 so nu ka es en ec v) h (i + 1)) e.symm (nm_r (nI_1 i) hw'))
theorem tm_s50 {post : Int32 → St1 → Prop} {h : Int32} (hb : tm_tb es en ec) (hg : tm_rg so nu) (hp : post (tm_it (tm_g2 so nu ka es en ec) h 6) (xE, xS, xC, xN, xO, xU, xH, xI, xR, kd, px, py, wt, ks, ki, al, op, fx, fy, fz, cO, cA, cB, cC, cK, wn, wr, wp, wq, oe, ol, oq, so, nu, ln, lm, sv, ka, es, en, ec)) : ∃ fu, wL_sum_50 post xE xS xC xN xO xU xH xI xR kd px py wt ks ki al op fx fy fz cO cA cB cC cK wn wr wp wq oe ol oq so nu ln lm sv ka es en ec fu h 0 := by
  refine pk_loop (σ := Int32) (fun f i s => wL_sum_50 post xE xS xC xN xO xU xH xI xR kd px py wt ks ki al op fx fy fz cO cA cB cC cK wn wr wp wq oe ol oq so nu ln lm sv ka es en ec f s (nI i)) (fun i s => s = tm_it (tm_g2 so nu ka es en ec) h i) 6 0 h (by omega) rfl ?_ ?_
  · intro f s hs
    subst hs
    show wL_sum_50 post xE xS xC xN xO xU xH xI xR kd px py wt ks ki al op fx fy fz cO cA cB cC cK wn wr wp wq oe ol oq so nu ln lm sv ka es en ec (f + 1) _ (nI 6)
    unfold wL_sum_50
    exact br_t (nI_le (Nat.le_refl 6) (by omega)) hp
  · intro f i s hi hs hw
    subst hs
    show wL_sum_50 post xE xS xC xN xO xU xH xI xR kd px py wt ks ki al op fx fy fz cO cA cB cC cK wn wr wp wq oe ol oq so nu ln lm sv ka es en ec (f + 1) _ (nI i)
    have hw' := hw _ rfl
    unfold wL_sum_50
    exact br_f (nI_ge (b := 6) hi (by omega)) (tm_sort_w i rfl hi (tm_number_w i rfl hi hg (nm_e (tm_s77 hi hb hg hw'))))
theorem tm_sum_w {post : Int32 → St1 → Prop} (hb : tm_tb es en ec) (hg : tm_rg so nu) (hp : ∀ r, tm_ls 6 so nu es en r → post (tm_sum xH so nu sv ka es en ec r) (xE, xS, xC, xN, xO, xU, xH, xI, r, kd, px, py, wt, ks, ki, al, op, fx, fy, fz, cO, cA, cB, cC, cK, wn, wr, wp, wq, oe, ol, oq, so, nu, ln, lm, sv, ka, es, en, ec)) : wpL_sum post (xE, xS, xC, xN, xO, xU, xH, xI, xR, kd, px, py, wt, ks, ki, al, op, fx, fy, fz, cO, cA, cB, cC, cK, wn, wr, wp, wq, oe, ol, oq, so, nu, ln, lm, sv, ka, es, en, ec) := by
  unfold wpL_sum
  dsimp only
  unfold wpX_shown
  dsimp only
  refine tm_tables_w hb hg (fun r hr => nm_e ?_)
  refine pk_loop (σ := Int32) (fun f i s => wL_sum_15 post xE xS xC xN xO xU xH xI r kd px py wt ks ki al op fx fy fz cO cA cB cC cK wn wr wp wq oe ol oq so nu ln lm sv ka es en ec f s (nI i)) (fun i s => s = tm_it (tm_g1 xH sv) ((31 * xH) + nI (tm_ct (bt r) 32)) i) 30 0 _ (by omega) rfl ?_ ?_
  · intro f s hs
    subst hs
    show wL_sum_15 post xE xS xC xN xO xU xH xI r kd px py wt ks ki al op fx fy fz cO cA cB cC cK wn wr wp wq oe ol oq so nu ln lm sv ka es en ec (f + 1) _ (nI 30)
    unfold wL_sum_15
    exact br_t (nI_le (Nat.le_refl 30) (by omega)) (tm_s50 hb hg (hp r hr))
  · intro f i s hi hs hw
    subst hs
    show wL_sum_15 post xE xS xC xN xO xU xH xI r kd px py wt ks ki al op fx fy fz cO cA cB cC cK wn wr wp wq oe ol oq so nu ln lm sv ka es en ec (f + 1) _ (nI i)
    have hw' := hw _ rfl
    unfold wL_sum_15
    exact br_f (nI_ge (b := 30) hi (by omega)) (tm_out_w i rfl hi (tm_out_w i rfl hi (nm_e (nm_r (nI_1 i) hw'))))
/-- related machines have the same sum -/
theorem tm_sum_eq {xI xH r : Int32} {so nu ka es en ec so' nu' ka' es' en' ec' : Nat → Int32} {sv sv' : Nat → Int64} (hi : tm_iv xI so nu es en ec) (hr : tm_rl xI so nu ka es en ec so' nu' ka' es' en' ec') (hsr : tm_sr xH sv sv') {k : Nat} (hk : xH = nI k) (hk2 : k < 2 ^ 31) :
    tm_sum xH so' nu' sv' ka' es' en' ec' r = tm_sum xH so nu sv ka es en ec r := by
  have o1 : ∀ j, j < 30 → tm_ou xH sv' j = tm_ou xH sv j := by
    intro j hj
    unfold tm_ou
    by_cases e : xH ≤ nI j
    · rw [if_pos e, if_pos e]
    · rw [if_neg e, if_neg e]
      refine hsr k j hk hk2 ?_ hj
      rcases Nat.lt_or_ge j k with z | z
      · exact z
      · rw [hk] at e
        exact absurd (nI_le z (by omega)) e
  have pe : ∀ v, v < 6 → so v = 2 → ∀ j : Nat, ∃ t q, t < 32 ∧ q < 8 ∧ nu v = nI t ∧ bt xI t = true ∧ tm_place ka es t (nI j) = 8 * t + q ∧ tm_place ka' es' t (nI j) = 8 * t + q := by
    intro v hv e j
    obtain ⟨t, ht, et⟩ := (hi.2.1 v (by omega)).2 e
    have hX := hi.2.2.1 v (by omega) e t ht et
    obtain ⟨q, hq, eq⟩ := tm_place_in ka es t (nI j)
    exact ⟨t, q, ht, hq, et, hX, eq, by rw [← tm_place_eq (hr.2.1 t ht hX).2, eq]⟩
  have o2 : ∀ v, v < 6 → ∀ j, tm_es so' nu' ka' es' v j = tm_es so nu ka es v j := by
    intro v hv j
    unfold tm_es
    rw [(hr.1 v (by omega)).1, (hr.1 v (by omega)).2]
    by_cases e : so v = 2
    · rw [if_pos e, if_pos e]
      obtain ⟨t, q, ht, hq, et, hX, p1, p2⟩ := pe v hv e j
      rw [et, nI_clamp (show t < 2 ^ 31 by omega), p1, p2]
      exact (((hr.2.1 t ht hX).2 q hq).1).symm
    · rw [if_neg e, if_neg e]
  have o3 : ∀ v, v < 6 → ∀ j, tm_eu so' nu' ka' es' en' ec' v j = tm_eu so nu ka es en ec v j := by
    intro v hv j
    unfold tm_eu
    rw [(hr.1 v (by omega)).1, (hr.1 v (by omega)).2]
    by_cases e : so v = 2
    · rw [if_pos e, if_pos e]
      obtain ⟨t, q, ht, hq, et, hX, p1, p2⟩ := pe v hv e j
      rw [et, nI_clamp (show t < 2 ^ 31 by omega), p1, p2]
      obtain ⟨i1, i2, _⟩ := (hr.2.1 t ht hX).2 q hq
      rw [← i1, ← i2]
      unfold tm_num
      by_cases e0 : es (8 * t + q) = 0
      · rw [if_pos e0, if_pos e0]
      · rw [if_neg e0, if_neg e0]
        by_cases e1 : es (8 * t + q) = 1
        · rw [if_pos e1, if_pos e1]
        · rw [if_neg e1, if_neg e1]
          have e2 : es (8 * t + q) = 2 := by
            rcases hi.1.1 (8 * t + q) (by omega) with z | z | z
            · exact absurd z e0
            · exact absurd z e1
            · exact z
          obtain ⟨j', hj', ej'⟩ := hi.1.2.1 (8 * t + q) (by omega) e2
          rw [ej', nI_clamp (show j' < 2 ^ 31 by omega)]
          exact ((hr.2.1 j' hj' (hi.2.2.2 t ht hX q hq e2 j' hj' ej')).1).symm
    · rw [if_neg e, if_neg e]
  have o4 : ∀ v, v < 6 → ∀ j, j < 6 → tm_sa so' nu' v j = tm_sa so nu v j := by
    intro v hv j hj
    unfold tm_sa
    rw [(hr.1 v (by omega)).1, (hr.1 v (by omega)).2, (hr.1 j (by omega)).1, (hr.1 j (by omega)).2]
  unfold tm_sum
  have e1 : tm_it (tm_g1 xH sv') ((31 * xH) + nI (tm_ct (bt r) 32)) 30 = tm_it (tm_g1 xH sv) ((31 * xH) + nI (tm_ct (bt r) 32)) 30 := by
    refine tm_it_cg 30 (fun j hj x => ?_)
    unfold tm_g1
    rw [o1 j hj]
  rw [e1]
  refine tm_it_cg 6 (fun v hv x => ?_)
  unfold tm_g2
  rw [tm_num_eq hi hr (show v < 18 by omega), (hr.1 v (by omega)).1]
  refine tm_it_cg 6 (fun j hj y => ?_)
  unfold tm_g3
  rw [o2 v hv j, o3 v hv j, o4 v hv j hj]
/-! holds -/
theorem tm_h30 {post : Int32 → St1 → Prop} (hi : tm_iv xI so nu es en ec) (hp : post 1 (xE, xS, xC, xN, xO, xU, xH, xI, xR, kd, px, py, wt, ks, ki, al, op, fx, fy, fz, cO, cA, cB, cC, cK, wn, wr, wp, wq, oe, ol, oq, so, nu, ln, lm, sv, ka, es, en, ec)) : ∃ fu, wL_holds_30 post xE xS xC xN xO xU xH xI xR kd px py wt ks ki al op fx fy fz cO cA cB cC cK wn wr wp wq oe ol oq so nu ln lm sv ka es en ec fu 0 := by
  refine pk_loop (σ := Unit) (fun f i _ => wL_holds_30 post xE xS xC xN xO xU xH xI xR kd px py wt ks ki al op fx fy fz cO cA cB cC cK wn wr wp wq oe ol oq so nu ln lm sv ka es en ec f (nI i)) (fun _ _ => True) 6 0 () (by omega) trivial ?_ ?_
  · intro f _ _
    show wL_holds_30 post xE xS xC xN xO xU xH xI xR kd px py wt ks ki al op fx fy fz cO cA cB cC cK wn wr wp wq oe ol oq so nu ln lm sv ka es en ec (f + 1) (nI 6)
    unfold wL_holds_30
    exact br_t (nI_le (Nat.le_refl 6) (by omega)) hp
  · intro f i _ hi6 _ hw
    show wL_holds_30 post xE xS xC xN xO xU xH xI xR kd px py wt ks ki al op fx fy fz cO cA cB cC cK wn wr wp wq oe ol oq so nu ln lm sv ka es en ec (f + 1) (nI i)
    have hw' := hw () trivial
    unfold wL_holds_30
    refine br_f (nI_ge (b := 6) hi6 (by omega)) (tm_smv_w i i rfl rfl hi6 hi6 ?_)
    rw [decide_eq_true (And.intro rfl rfl)]
    refine br_f (by decide) (tm_sort_w i rfl hi6 (br_c (fun e => ?_) (fun e => nm_r (nI_1 i) hw')))
    obtain ⟨t, ht, et⟩ := (hi.2.1 i (by omega)).2 e
    obtain ⟨c1, c2⟩ := hi.1.2.2 t ht
    have en : tm_num (so i) (nu i) ec = nI (tm_tc es t) := by
      unfold tm_num
      rw [e, if_neg (by decide), if_neg (by decide), et, nI_clamp (show t < 2 ^ 31 by omega), c1]
    refine tm_number_w i rfl hi6 hi.2.1 ?_
    rw [en]
    refine br_f (nI_pos (by omega)) (tm_number_w i rfl hi6 hi.2.1 ?_)
    rw [en]
    exact br_t (nI_le (b := 6) c2 (by omega)) (nm_r (nI_1 i) hw')
theorem tm_holds_w {post : Int32 → St1 → Prop} {ne : Nat} (hG : tm_GI ne (xE, xS, xC, xN, xO, xU, xH, xI, xR, kd, px, py, wt, ks, ki, al, op, fx, fy, fz, cO, cA, cB, cC, cK, wn, wr, wp, wq, oe, ol, oq, so, nu, ln, lm, sv, ka, es, en, ec)) (hp : ∀ u, tm_GI ne u → post 1 u) : wpL_holds post (xE, xS, xC, xN, xO, xU, xH, xI, xR, kd, px, py, wt, ks, ki, al, op, fx, fy, fz, cO, cA, cB, cC, cK, wn, wr, wp, wq, oe, ol, oq, so, nu, ln, lm, sv, ka, es, en, ec) := by
  unfold wpL_holds
  dsimp only
  refine tm_run_w hG (fun r m u hAG => ?_)
  obtain ⟨xE, xS, xC, xN, xO, xU, xH, xI, xR, kd, px, py, wt, ks, ki, al, op, fx, fy, fz, cO, cA, cB, cC, cK, wn, wr, wp, wq, oe, ol, oq, so, nu, ln, lm, sv, ka, es, en, ec⟩ := u
  obtain ⟨zU, zH, zI, zR, zso, znu, zln, zlm, zsv, zka, zes, zen, zec⟩ := m
  obtain ⟨hG1, ⟨m1, m2, m3, m4⟩, ⟨o1, k, o2, o3⟩, again⟩ := hAG
  have i1 := tm_iv_rl o1 m3
  obtain ⟨rm, hrm⟩ := tm_ls_ex 6 zso znu zes zen
  refine tm_sum_w i1.1 i1.2.1 (fun r1 hr1 => ?_)
  refine again r1 _ (fun yO ye yl u' hG2 hME2 => ?_)
  obtain ⟨xU', xH', xI', xR', so', nu', ln', lm', sv', ka', es', en', ec'⟩ := u'
  obtain ⟨n1, n2, n3, n4⟩ := hME2
  have i2 := tm_iv_rl o1 n3
  refine br_t rfl (tm_sum_w i2.1 i2.2.1 (fun r2 hr2 => ?_))
  have q1 : r1 = rm := tm_ls_eq (by omega) o1 m3 hrm hr1
  have q2 : r2 = rm := tm_ls_eq (by omega) o1 n3 hrm hr2
  have s1 : tm_sum xH so nu sv ka es en ec r1 = tm_sum zH zso znu zsv zka zes zen zec rm := by
    rw [m2, q1]
    exact tm_sum_eq o1 m3 m4 o2 o3
  have s2 : tm_sum xH' so' nu' sv' ka' es' en' ec' r2 = tm_sum zH zso znu zsv zka zes zen zec rm := by
    rw [n2, q2]
    exact tm_sum_eq o1 n3 n4 o2 o3
  refine br_t (by rw [s1]; exact s2) (tm_h30 ?_ (hp _ hG2))
  rw [n1]
  exact i2
end
section
variable {xE xS xC xN xO xU xH xI xR : Int32} {kd px py wt ks ki al op fx fy fz cO cA cB cC cK wn wr wp wq oe ol oq so nu ln lm ka es en ec : Nat → Int32} {sv : Nat → Int64}
/-! expressions are made -/
theorem tm_know_w {post : St1 → Prop} {x s n : Int32} (e : Nat) (hx : x = nI e) (he : e < 30) (hp : post (xE, xS, xC, xN, xO, xU, xH, xI, xR, kd, px, py, wt, upd ks e s.toInt8.toInt32, upd ki e n, al, op, fx, fy, fz, cO, cA, cB, cC, cK, wn, wr, wp, wq, oe, ol, oq, so, nu, ln, lm, sv, ka, es, en, ec)) : wpX_know post (xE, xS, xC, xN, xO, xU, xH, xI, xR, kd, px, py, wt, ks, ki, al, op, fx, fy, fz, cO, cA, cB, cC, cK, wn, wr, wp, wq, oe, ol, oq, so, nu, ln, lm, sv, ka, es, en, ec) x s n := by
  subst hx
  unfold wpX_know
  dsimp only
  rw [nI_clamp (show e < 2 ^ 31 by omega)]
  exact ⟨pk_in e 30 he, nm_e ⟨pk_in e 30 he, nm_e hp⟩⟩
/-- what is known beforehand: any sort 0, 1, 2 -/
theorem tm_ktr_w {post : St1 → Prop} {x y : Int32} (e : Nat) (hx : x = nI e) (he : e < 30) (hp : ∀ s n, s ≤ 2 → post (xE, xS, xC, xN, xO, xU, xH, xI, xR, kd, px, py, wt, upd ks e (nI s), upd ki e n, al, op, fx, fy, fz, cO, cA, cB, cC, cK, wn, wr, wp, wq, oe, ol, oq, so, nu, ln, lm, sv, ka, es, en, ec)) : wpX_knowTruth post (xE, xS, xC, xN, xO, xU, xH, xI, xR, kd, px, py, wt, ks, ki, al, op, fx, fy, fz, cO, cA, cB, cC, cK, wn, wr, wp, wq, oe, ol, oq, so, nu, ln, lm, sv, ka, es, en, ec) x y := by
  unfold wpX_knowTruth
  dsimp only
  have G : ∀ s : Nat, s ≤ 2 → wX_knowTruth_11 post y (nI s) x xE xS xC xN xO xU xH xI xR kd px py wt ks ki al op fx fy fz cO cA cB cC cK wn wr wp wq oe ol oq so nu ln lm sv ka es en ec := by
    intro s hs
    unfold wX_knowTruth_11
    have F : ∀ v : Int32, wX_knowTruth_20 post v (nI s) x xE xS xC xN xO xU xH xI xR kd px py wt ks ki al op fx fy fz cO cA cB cC cK wn wr wp wq oe ol oq so nu ln lm sv ka es en ec := by
      intro v
      unfold wX_knowTruth_20
      refine tm_know_w e hx he ?_
      rw [tm_b8 s (by omega)]
      exact hp s v hs
    exact br_c (fun _ => F 0) (fun _ => F 1)
  exact br_c (fun _ => G 2 (by omega)) (fun _ => G 1 (by omega))
theorem tm_comb_w {post : St1 → Prop} {x y z w : Int32} (e a b : Nat) (hx : x = nI e) (he : e < 30) (hz : z = nI a) (hw : w = nI b) (ha : a < 30) (hb : b < 30) (h0 : post (xE, xS, xC, xN, xO, xU, xH, xI, xR, kd, px, py, wt, ks, ki, al, op, fx, fy, fz, cO, cA, cB, cC, cK, wn, wr, wp, wq, oe, ol, oq, so, nu, ln, lm, sv, ka, es, en, ec)) (hp : ∀ s n, s ≤ 2 → post (xE, xS, xC, xN, xO, xU, xH, xI, xR, kd, px, py, wt, upd ks e (nI s), upd ki e n, al, op, fx, fy, fz, cO, cA, cB, cC, cK, wn, wr, wp, wq, oe, ol, oq, so, nu, ln, lm, sv, ka, es, en, ec)) : wpX_combineKnown post (xE, xS, xC, xN, xO, xU, xH, xI, xR, kd, px, py, wt, ks, ki, al, op, fx, fy, fz, cO, cA, cB, cC, cK, wn, wr, wp, wq, oe, ol, oq, so, nu, ln, lm, sv, ka, es, en, ec) x y z w := by
  subst hz hw
  have hai : vp_in (nI a) 30 := pk_in a 30 ha
  have hbi : vp_in (nI b) 30 := pk_in b 30 hb
  unfold wpX_combineKnown
  dsimp only
  have T65 : ∀ v : Int32, wX_combineKnown_65 post v x xE xS xC xN xO xU xH xI xR kd px py wt ks ki al op fx fy fz cO cA cB cC cK wn wr wp wq oe ol oq so nu ln lm sv ka es en ec := by
    intro v
    unfold wX_combineKnown_65
    exact tm_ktr_w e hx he hp
  have T64 : wX_combineKnown_64 post x xE xS xC xN xO xU xH xI xR kd px py wt ks ki al op fx fy fz cO cA cB cC cK wn wr wp wq oe ol oq so nu ln lm sv ka es en ec := by
    unfold wX_combineKnown_64
    exact T65 0
  have T119 : ∀ v : Int32, wX_combineKnown_119 post v x xE xS xC xN xO xU xH xI xR kd px py wt ks ki al op fx fy fz cO cA cB cC cK wn wr wp wq oe ol oq so nu ln lm sv ka es en ec := by
    intro v
    unfold wX_combineKnown_119
    exact tm_ktr_w e hx he hp
  refine ⟨hai, br_c (fun _ => h0) (fun _ => ⟨hbi, br_c (fun _ => h0) (fun _ => br_c (fun _ => ⟨hai, hbi, br_c (fun _ => ⟨hai, hbi, br_c (fun _ => T65 1) (fun _ => T64)⟩) (fun _ => T64)⟩) (fun _ => ⟨hai, br_c (fun _ => h0) (fun _ => ⟨hbi, br_c (fun _ => h0) (fun _ => br_c (fun _ => ⟨hai, hbi, br_c (fun _ => T119 0) (fun _ => T119 1)⟩) (fun _ => ⟨hai, hbi, ?_⟩))⟩)⟩))⟩)⟩
  unfold wpX_arithmetic
  dsimp only
  have K : ∀ n : Int32, wpX_know (fun u => match u with | (xE, xS, xC, xN, xO, xU, xH, xI, xR, kd, px, py, wt, ks, ki, al, op, fx, fy, fz, cO, cA, cB, cC, cK, wn, wr, wp, wq, oe, ol, oq, so, nu, ln, lm, sv, ka, es, en, ec) => post (xE, xS, xC, xN, xO, xU, xH, xI, xR, kd, px, py, wt, ks, ki, al, op, fx, fy, fz, cO, cA, cB, cC, cK, wn, wr, wp, wq, oe, ol, oq, so, nu, ln, lm, sv, ka, es, en, ec)) (xE, xS, xC, xN, xO, xU, xH, xI, xR, kd, px, py, wt, ks, ki, al, op, fx, fy, fz, cO, cA, cB, cC, cK, wn, wr, wp, wq, oe, ol, oq, so, nu, ln, lm, sv, ka, es, en, ec) x 1 n := fun n => tm_know_w e hx he (hp 1 n (by omega))
  exact br_c (fun _ => K _) (fun _ => br_c (fun _ => K _) (fun _ => K _))
/-- what the compiler needs of earlier expressions -/
def tm_pv (ks al wt : Nat → Int32) (j : Nat) : Prop := ∃ s a wj wa, ks j = nI s ∧ s ≤ 2 ∧ al j = nI a ∧ a ≤ j ∧ wt j = nI wj ∧ wj ≤ 7 ∧ wt a = nI wa ∧ wa ≤ wj
theorem tm_wo_w {post : St1 → Prop} {x : Int32} {e k w : Nat} (hx : x = nI e) (he : e < 30) (hkd : kd e = nI k) (hk12 : k ≤ 12) (hwt : wt e = nI w) (hpv : ∀ j, j < e → tm_pv ks al wt j)
    (hX : (2 ≤ k ∧ k ≤ 9) → ∃ a wa, a < e ∧ px e = nI a ∧ wt a = nI wa ∧ wa ≤ w ∧ wa ≤ 7) (hY : (2 ≤ k ∧ k ≤ 8) → ∃ b wb, b < e ∧ py e = nI b ∧ wt b = nI wb ∧ wb ≤ w ∧ wb ≤ 7)
    (hp : ∀ (ks' ki' al' : Nat → Int32) (s a wa : Nat), (∀ j, j ≠ e → ks' j = ks j) → (∀ j, j ≠ e → al' j = al j) → ks' e = nI s → s ≤ 2 → (k = 0 → s = 1) → al' e = nI a → a ≤ e → wt a = nI wa → wa ≤ w → post (xE, xS, xC, xN, xO, xU, xH, xI, xR, kd, px, py, wt, ks', ki', al', op, fx, fy, fz, cO, cA, cB, cC, cK, wn, wr, wp, wq, oe, ol, oq, so, nu, ln, lm, sv, ka, es, en, ec)) : wpX_workOutBeforehand post (xE, xS, xC, xN, xO, xU, xH, xI, xR, kd, px, py, wt, ks, ki, al, op, fx, fy, fz, cO, cA, cB, cC, cK, wn, wr, wp, wq, oe, ol, oq, so, nu, ln, lm, sv, ka, es, en, ec) x := by
  subst hx
  have hei : vp_in (nI e) 30 := pk_in e 30 he
  have hcl : (nI e).toNatClampNeg = e := nI_clamp (by omega)
  have p0 : k ≠ 0 → post (xE, xS, xC, xN, xO, xU, xH, xI, xR, kd, px, py, wt, upd ks e 0, upd ki e 0, upd al e (nI e), op, fx, fy, fz, cO, cA, cB, cC, cK, wn, wr, wp, wq, oe, ol, oq, so, nu, ln, lm, sv, ka, es, en, ec) := fun hk => hp _ _ _ 0 e w (fun j hj => pk_un hj) (fun j hj => pk_un hj) pk_us (by omega) (fun z => absurd z hk) pk_us (Nat.le_refl e) hwt (Nat.le_refl w)
  have p1 : ∀ s n, s ≤ 2 → (k = 0 → s = 1) → post (xE, xS, xC, xN, xO, xU, xH, xI, xR, kd, px, py, wt, upd (upd ks e 0) e (nI s), upd (upd ki e 0) e n, upd al e (nI e), op, fx, fy, fz, cO, cA, cB, cC, cK, wn, wr, wp, wq, oe, ol, oq, so, nu, ln, lm, sv, ka, es, en, ec) := fun s n hs hk => hp _ _ _ s e w (fun j hj => by rw [pk_un hj, pk_un hj]) (fun j hj => pk_un hj) pk_us hs hk pk_us (Nat.le_refl e) hwt (Nat.le_refl w)
  unfold wpX_workOutBeforehand
  dsimp only
  rw [hcl]
  refine ⟨hei, nm_r hkd (tm_know_w e rfl he ⟨hei, ?_⟩)⟩
  rw [tm_b8 e (by omega)]
  refine nm_e (pk_eq k 0 (fun z => ⟨hei, ?_⟩) (fun z0 => pk_eq k 1 (fun z => p0 z0) (fun z1 => pk_lt k 10 (fun z10 => ⟨hei, ?_⟩) (fun z10 => p0 z0))))
  · exact tm_know_w e rfl he (p1 1 _ (by omega) (fun _ => rfl))
  · obtain ⟨a, wa, ha1, ha2, ha3, ha4, ha5⟩ := hX (by omega)
    have hai : vp_in (nI a) 30 := pk_in a 30 (by omega)
    have hacl : (nI a).toNatClampNeg = a := nI_clamp (by omega)
    refine nm_r ha2 ?_
    rw [hacl]
    refine pk_eq k 9 (fun z => ⟨hai, ?_⟩) (fun z9 => ?_)
    · have T : ∀ v : Int32, wX_workOutBeforehand_90 post v (nI e) xE xS xC xN xO xU xH xI xR kd px py wt (upd ks e 0) (upd ki e 0) (upd al e (nI e)) op fx fy fz cO cA cB cC cK wn wr wp wq oe ol oq so nu ln lm sv ka es en ec := by
        intro v
        unfold wX_workOutBeforehand_90
        exact tm_ktr_w e rfl he (fun s n hs => p1 s n hs (fun z => absurd z z0))
      exact br_c (fun _ => p0 z0) (fun _ => ⟨hai, br_c (fun _ => T 1) (fun _ => T 0)⟩)
    · obtain ⟨b, wb, hb1, hb2, hb3, hb4, hb5⟩ := hY (by omega)
      have T155 : ∀ (c wc : Nat), c < e → wt c = nI wc → wc ≤ w → wc ≤ 7 → wX_workOutBeforehand_155 post (nI e) (nI c) xE xS xC xN xO xU xH xI xR kd px py wt (upd ks e 0) (upd ki e 0) (upd al e (nI e)) op fx fy fz cO cA cB cC cK wn wr wp wq oe ol oq so nu ln lm sv ka es en ec := by
        intro c wc hc hwc hcw hc7
        obtain ⟨s, d, wj, wd, g1, g2, g3, g4, g5, g6, g7, g8⟩ := hpv c hc
        have ewj : wj = wc := tm_nIinj (by omega) (by omega) (by rw [← g5, ← hwc])
        have hci : vp_in (nI c) 30 := pk_in c 30 (by omega)
        unfold wX_workOutBeforehand_155
        rw [hcl, nI_clamp (show c < 2 ^ 31 by omega), pk_un (show c ≠ e by omega), g3, tm_nb (by omega)]
        refine ⟨hci, hei, nm_e ⟨hci, hci, tm_know_w e rfl he ?_⟩⟩
        rw [pk_un (show c ≠ e by omega), g1, tm_b8 s (by omega)]
        exact hp _ _ _ s d wd (fun j hj => by rw [pk_un hj, pk_un hj]) (fun j hj => by rw [pk_un hj, pk_un hj]) pk_us g2 (fun z => absurd z z0) pk_us (by omega) g7 (by omega)
      have T142 : ∀ v1 v2 : Int32, wX_workOutBeforehand_142 post (nI e) (nI a) v1 v2 xE xS xC xN xO xU xH xI xR kd px py wt (upd ks e 0) (upd ki e 0) (upd al e (nI e)) op fx fy fz cO cA cB cC cK wn wr wp wq oe ol oq so nu ln lm sv ka es en ec := by
        intro v1 v2
        unfold wX_workOutBeforehand_142
        rw [hcl, hb2]
        exact br_c (fun _ => ⟨hei, T155 b wb hb1 hb3 hb4 hb5⟩) (fun _ => T155 a wa ha1 ha3 ha4 ha5)
      have T131 : ∀ v : Int32, wX_workOutBeforehand_131 post (nI e) (nI k) (nI a) v xE xS xC xN xO xU xH xI xR kd px py wt (upd ks e 0) (upd ki e 0) (upd al e (nI e)) op fx fy fz cO cA cB cC cK wn wr wp wq oe ol oq so nu ln lm sv ka es en ec := by
        intro v
        unfold wX_workOutBeforehand_131
        exact br_c (fun _ => T142 _ _) (fun _ => T142 _ _)
      have T106 : wX_workOutBeforehand_106 post (nI e) (nI k) (nI a) xE xS xC xN xO xU xH xI xR kd px py wt (upd ks e 0) (upd ki e 0) (upd al e (nI e)) op fx fy fz cO cA cB cC cK wn wr wp wq oe ol oq so nu ln lm sv ka es en ec := by
        unfold wX_workOutBeforehand_106
        exact ⟨hai, br_c (fun _ => p0 z0) (fun _ => ⟨hai, br_c (fun _ => T131 _) (fun _ => T131 _)⟩)⟩
      refine br_c (fun _ => T106) (fun _ => br_c (fun _ => T106) (fun _ => ⟨hei, ?_⟩))
      exact tm_comb_w e a b rfl he rfl hb2 (by omega) (by omega) (p0 z0) (fun s n hs => p1 s n hs (fun z => absurd z z0))
theorem tm_ei_add {ne k w s : Nat} {kd' px' py' wt' ks' al' : Nat → Int32} (hE : tm_ei ne kd px py wt ks al) (hne : ne < 30) (c1 : ∀ j, j ≠ ne → kd' j = kd j) (c2 : ∀ j, j ≠ ne → px' j = px j) (c3 : ∀ j, j ≠ ne → py' j = py j) (c4 : ∀ j, j ≠ ne → wt' j = wt j) (c5 : ∀ j, j ≠ ne → ks' j = ks j) (c6 : ∀ j, j ≠ ne → al' j = al j) (h : tm_ei1 kd' px' py' wt' ks' al' ne k w s) : tm_ei (ne + 1) kd' px' py' wt' ks' al' := by
  refine ⟨by omega, fun e he => ?_⟩
  by_cases z : e = ne
  · subst z; exact ⟨k, w, s, h⟩
  · have hel : e < ne := by omega
    obtain ⟨k', w', s', E1, E2, E3, E4, E5, E6, E7, ⟨a, wa, a1, a2, a3, a4⟩, E9, E10, E11, E12⟩ := hE.2 e hel
    refine ⟨k', w', s', by rw [c1 e z]; exact E1, E2, by rw [c4 e z]; exact E3, E4, E5, by rw [c5 e z]; exact E6, E7, ⟨a, wa, a1, by rw [c6 e z]; exact a2, by rw [c4 a (Nat.ne_of_lt (Nat.lt_of_le_of_lt a1 hel))]; exact a3, a4⟩, E9, by rw [c2 e z]; exact E10, fun y => ?_, fun y => ?_⟩
    · obtain ⟨x, wx, i1, i2, i3, i4⟩ := E11 y
      exact ⟨x, wx, i1, by rw [c2 e z]; exact i2, by rw [c4 x (Nat.ne_of_lt (Nat.lt_trans i1 hel))]; exact i3, i4⟩
    · obtain ⟨x, y', wx, wy, i1, i2, i3, i4, i5, i6, i7⟩ := E12 y
      exact ⟨x, y', wx, wy, i1, i2, by rw [c2 e z]; exact i3, by rw [c3 e z]; exact i4, by rw [c4 x (Nat.ne_of_lt (Nat.lt_trans i1 hel))]; exact i5, by rw [c4 y' (Nat.ne_of_lt (Nat.lt_trans i2 hel))]; exact i6, i7⟩
theorem tm_si_mono {ne ne' ns : Nat} (h : ne ≤ ne') (hS : tm_si ne ns op fx fy fz) : tm_si ne' ns op fx fy fz := by
  refine ⟨hS.1, fun i hi => ?_⟩
  obtain ⟨o, s1, s2, s3, s4, s5, s6, s7⟩ := hS.2 i hi
  refine ⟨o, s1, s2, fun z => ?_, fun z => ?_, fun z => ?_, fun z => ?_, fun z => ?_⟩
  · obtain ⟨v, y, i1, i2, i3⟩ := s3 z
    exact ⟨v, y, i1, by omega, i3⟩
  · obtain ⟨x, y, w, i1, i2, i3, i4⟩ := s4 z
    exact ⟨x, y, w, by omega, by omega, by omega, i4⟩
  · obtain ⟨x, y, i1, i2⟩ := s5 z
    exact ⟨x, y, by omega, i2⟩
  · obtain ⟨v, y, w, i1, i2, i3⟩ := s6 z
    exact ⟨v, y, w, i1, by omega, i3⟩
  · obtain ⟨x, i1, i2⟩ := s7 z
    exact ⟨x, by omega, i2⟩
theorem tm_isx_w {post : Int32 → Prop} {x : Int32} {ne : Nat} (hE : xE = nI ne) (hne : ne ≤ 30) (h0 : post 0) (h1 : ∀ j, j < ne → x = nI j → post 1) : wpX_isExpression post (xE, xS, xC, xN, xO, xU, xH, xI, xR, kd, px, py, wt, ks, ki, al, op, fx, fy, fz, cO, cA, cB, cC, cK, wn, wr, wp, wq, oe, ol, oq, so, nu, ln, lm, sv, ka, es, en, ec) x := by
  subst hE
  unfold wpX_isExpression
  dsimp only
  rcases pk_ix x (show ne < 2 ^ 31 by omega) with z | z | ⟨j, hj, ej⟩
  · exact br_t z h0
  · by_cases w : x < 0
    · exact br_t w h0
    · exact br_f w (br_t z h0)
  · have := h1 j hj ej
    subst ej
    exact br_f (nI_pos (by omega)) (br_f (nI_ge hj (by omega)) this)
theorem tm_ku {k : Nat} (h : k = 9 ∨ k = 12) : ¬ ((2 ≤ k ∧ k ≤ 8) ∨ k = 10) ∧ ¬ (k = 0 ∨ k = 11 ∨ k = 1) := by omega
theorem tm_kb {k : Nat} (h : (2 ≤ k ∧ k ≤ 8) ∨ k = 10) : ¬ (k = 9 ∨ k = 12) ∧ ¬ (k = 0 ∨ k = 11 ∨ k = 1) := by omega
/-- an expression is made, or not: then nothing changes -/
theorem tm_express_w {post : Int32 → St1 → Prop} {x y z : Int32} {ne k : Nat} (hG : tm_GI ne (xE, xS, xC, xN, xO, xU, xH, xI, xR, kd, px, py, wt, ks, ki, al, op, fx, fy, fz, cO, cA, cB, cC, cK, wn, wr, wp, wq, oe, ol, oq, so, nu, ln, lm, sv, ka, es, en, ec)) (hx : x = nI k) (hk12 : k ≤ 12) (hfull : 30 ≤ ne → post (-2) (xE, xS, xC, xN, xO, xU, xH, xI, xR, kd, px, py, wt, ks, ki, al, op, fx, fy, fz, cO, cA, cB, cC, cK, wn, wr, wp, wq, oe, ol, oq, so, nu, ln, lm, sv, ka, es, en, ec)) (hv : k = 1 → ∃ v, v < 6 ∧ y = nI v)
    (hbad : ¬ (k = 0 ∨ k = 11 ∨ k = 1) → ∀ r : Int32, r = -1 ∨ r = -2 → post r (xE, xS, xC, xN, xO, xU, xH, xI, xR, kd, px, py, wt, ks, ki, al, op, fx, fy, fz, cO, cA, cB, cC, cK, wn, wr, wp, wq, oe, ol, oq, so, nu, ln, lm, sv, ka, es, en, ec)) (hok : ∀ u, tm_GI (ne + 1) u → post (nI ne) u) : wpX_express post (xE, xS, xC, xN, xO, xU, xH, xI, xR, kd, px, py, wt, ks, ki, al, op, fx, fy, fz, cO, cA, cB, cC, cK, wn, wr, wp, wq, oe, ol, oq, so, nu, ln, lm, sv, ka, es, en, ec) x y z := by
  subst hx
  obtain ⟨ns, hne, hns, hE, hS, hC, hiv, kk, hk1, hk2⟩ := hG
  have hne30 := hE.1
  subst hne
  -- the making itself
  have T159 : ∀ w : Nat, 1 ≤ w → w ≤ 100 → ne < 30 → (k = 9 ∨ k = 12 → ∃ a wa, a < ne ∧ y = nI a ∧ wt a = nI wa ∧ w = 1 + wa) → ((2 ≤ k ∧ k ≤ 8) ∨ k = 10 → ∃ a b wa wb, a < ne ∧ b < ne ∧ y = nI a ∧ z = nI b ∧ wt a = nI wa ∧ wt b = nI wb ∧ w = 1 + wa + wb) → (k = 0 ∨ k = 11 ∨ k = 1 → w = 1) → wX_express_159 post (nI k) y z (nI w) (nI ne) xS xC xN xO xU xH xI xR kd px py wt ks ki al op fx fy fz cO cA cB cC cK wn wr wp wq oe ol oq so nu ln lm sv ka es en ec := by
    intro w hw1 hw100 hlt hu hb hl
    unfold wX_express_159
    refine pk_le w 7 (fun hw7 => ?_) (fun hw7 => ?_)
    · have hni : vp_in (nI ne) 30 := pk_in ne 30 hlt
      rw [nI_clamp (show ne < 2 ^ 31 by omega), tm_b8 k (by omega), tm_b8 w (by omega)]
      refine nm_r (nI_1 ne) ⟨hni, nm_e ⟨hni, nm_e ⟨hni, nm_e ⟨hni, nm_e ?_⟩⟩⟩⟩
      have hpv : ∀ j, j < ne → tm_pv ks al (upd wt ne (nI w)) j := by
        intro j hj
        obtain ⟨k', w', s', E1, E2, E3, E4, E5, E6, E7, ⟨a, wa, a1, a2, a3, a4⟩, _⟩ := hE.2 j hj
        exact ⟨s', a, w', wa, E6, E7, a2, a1, by rw [pk_un (by omega)]; exact E3, E5, by rw [pk_un (by omega)]; exact a3, a4⟩
      refine tm_wo_w (k := k) (w := w) rfl hlt pk_us hk12 pk_us hpv (fun c => ?_) (fun c => ?_) (fun ks' ki' al' s a wa d1 d2 d3 d4 d5 d6 d7 d8 d9 => ?_)
      · rw [pk_us]
        by_cases c9 : k = 9
        · obtain ⟨a, wa, i1, i2, i3, i4⟩ := hu (Or.inl c9)
          exact ⟨a, wa, i1, i2, by rw [pk_un (by omega)]; exact i3, by omega, by omega⟩
        · obtain ⟨a, b, wa, wb, i1, i2, i3, i4, i5, i6, i7⟩ := hb (by omega)
          exact ⟨a, wa, i1, i3, by rw [pk_un (by omega)]; exact i5, by omega, by omega⟩
      · rw [pk_us]
        obtain ⟨a, b, wa, wb, i1, i2, i3, i4, i5, i6, i7⟩ := hb (by omega)
        exact ⟨b, wb, i2, i4, by rw [pk_un (by omega)]; exact i6, by omega, by omega⟩
      · refine hok _ (tm_GI_mk rfl hns (tm_ei_add (k := k) (w := w) (s := s) hE hlt (fun j hj => pk_un hj) (fun j hj => pk_un hj) (fun j hj => pk_un hj) (fun j hj => pk_un hj) d1 d2 ⟨pk_us, hk12, pk_us, hw1, hw7, d3, d4, ⟨a, wa, d7, d6, d8, d9⟩, d5, fun c => ?_, fun c => ?_, fun c => ?_⟩) (tm_si_mono (by omega) hS) hC hiv hk1 hk2)
        · rw [pk_us]; exact hv c
        · obtain ⟨a, wa, i1, i2, i3, i4⟩ := hu c
          exact ⟨a, wa, i1, by rw [pk_us]; exact i2, by rw [pk_un (by omega)]; exact i3, i4⟩
        · obtain ⟨a, b, wa, wb, i1, i2, i3, i4, i5, i6, i7⟩ := hb c
          exact ⟨a, b, wa, wb, i1, i2, by rw [pk_us]; exact i3, by rw [pk_us]; exact i4, by rw [pk_un (by omega)]; exact i5, by rw [pk_un (by omega)]; exact i6, i7⟩
    · exact hbad (fun c => by have := hl c; omega) (-2) (Or.inr rfl)
  have wtE : ∀ a, a < ne → ∃ wa, wt a = nI wa ∧ 1 ≤ wa ∧ wa ≤ 7 := by
    intro a ha
    obtain ⟨k', w', s', E1, E2, E3, E4, E5, _⟩ := hE.2 a ha
    exact ⟨w', E3, E4, E5⟩
  have n1 : ¬ nI k < 0 := nI_pos (by omega)
  have T41 : ne < 30 → wX_express_41 post (nI k) y z (nI ne) xS xC xN xO xU xH xI xR kd px py wt ks ki al op fx fy fz cO cA cB cC cK wn wr wp wq oe ol oq so nu ln lm sv ka es en ec := by
    intro hlt
    by_cases cu : k = 9 ∨ k = 12
    · have T58 : wX_express_58 post (nI k) y z 1 (nI ne) xS xC xN xO xU xH xI xR kd px py wt ks ki al op fx fy fz cO cA cB cC cK wn wr wp wq oe ol oq so nu ln lm sv ka es en ec := by
        have T82 : wX_express_82 post (nI k) y z 1 0 (nI ne) xS xC xN xO xU xH xI xR kd px py wt ks ki al op fx fy fz cO cA cB cC cK wn wr wp wq oe ol oq so nu ln lm sv ka es en ec := by
          unfold wX_express_82
          refine br_f (by decide) ?_
          unfold wX_express_94
          refine tm_isx_w rfl hne30 (br_t rfl (hbad (by omega) (-1) (Or.inl rfl))) (fun a ha ea => br_f (by decide) ?_)
          unfold wX_express_104
          refine br_t rfl ?_
          unfold wX_express_119
          refine br_f (by decide) ?_
          unfold wX_express_132
          subst ea
          obtain ⟨wa, i1, i2, i3⟩ := wtE a ha
          rw [nI_clamp (show a < 2 ^ 31 by omega), i1]
          refine ⟨pk_in a 30 (by omega), nm_r (nI_add 1 wa) ?_⟩
          unfold wX_express_143
          exact br_t rfl (T159 (1 + wa) (by omega) (by omega) hlt (fun _ => ⟨a, wa, ha, rfl, i1, rfl⟩) (fun c => absurd c (tm_ku cu).1) (fun c => absurd c (tm_ku cu).2))
        unfold wX_express_58
        have T71 : wX_express_71 post (nI k) y z 1 (nI ne) xS xC xN xO xU xH xI xR kd px py wt ks ki al op fx fy fz cO cA cB cC cK wn wr wp wq oe ol oq so nu ln lm sv ka es en ec := by
          unfold wX_express_71
          exact br_f (tm_ne (by omega) 10 (by omega) (by omega)) T82
        exact br_f (nI_nlt (b := 2) (by omega) (by omega)) (br_f (nI_ge (a := 8) (by omega) (by omega)) T71)
      unfold wX_express_41
      refine pk_eq k 9 (fun c => ?_) (fun c => pk_eq k 12 (fun c => ?_) (fun c' => by omega))
      · exact T58
      · exact T58
    · by_cases cb : (2 ≤ k ∧ k ≤ 8) ∨ k = 10
      · have T77 : wX_express_77 post (nI k) y z 0 (nI ne) xS xC xN xO xU xH xI xR kd px py wt ks ki al op fx fy fz cO cA cB cC cK wn wr wp wq oe ol oq so nu ln lm sv ka es en ec := by
          unfold wX_express_77 wX_express_82
          refine br_t rfl (br_f (by decide) ?_)
          unfold wX_express_94
          refine tm_isx_w rfl hne30 (br_t rfl (hbad (by omega) (-1) (Or.inl rfl))) (fun a ha ea => br_f (by decide) ?_)
          unfold wX_express_104
          refine br_f (by decide) (tm_isx_w rfl hne30 (br_t rfl (hbad (by omega) (-1) (Or.inl rfl))) (fun b hb eb => br_f (by decide) ?_))
          unfold wX_express_119
          refine br_t rfl (br_f (by decide) ?_)
          unfold wX_express_132
          subst ea eb
          obtain ⟨wa, i1, i2, i3⟩ := wtE a ha
          obtain ⟨wb, j1, j2, j3⟩ := wtE b hb
          rw [nI_clamp (show a < 2 ^ 31 by omega), i1]
          refine ⟨pk_in a 30 (by omega), nm_r (nI_add 1 wa) ?_⟩
          unfold wX_express_143
          rw [nI_clamp (show b < 2 ^ 31 by omega), j1]
          exact br_f (by decide) ⟨pk_in b 30 (by omega), nm_r (nI_add (1 + wa) wb) (T159 (1 + wa + wb) (by omega) (by omega) hlt (fun c => absurd c cu) (fun _ => ⟨a, b, wa, wb, ha, hb, rfl, rfl, i1, j1, rfl⟩) (fun c => absurd c (tm_kb cb).2))⟩
        unfold wX_express_41
        refine br_f (tm_ne (by omega) 9 (by omega) (by omega)) (br_f (tm_ne (by omega) 12 (by omega) (by omega)) ?_)
        unfold wX_express_58
        refine br_f (nI_nlt (b := 2) (by omega) (by omega)) (pk_le k 8 (fun c => T77) (fun c => ?_))
        unfold wX_express_71
        exact br_t (by rw [show k = 10 by omega]; rfl) T77
      · have T82 : wX_express_82 post (nI k) y z 0 0 (nI ne) xS xC xN xO xU xH xI xR kd px py wt ks ki al op fx fy fz cO cA cB cC cK wn wr wp wq oe ol oq so nu ln lm sv ka es en ec := by
          unfold wX_express_82
          refine br_t rfl (br_t rfl ?_)
          unfold wX_express_104
          refine br_t rfl ?_
          unfold wX_express_119
          refine br_t rfl (br_t rfl ?_)
          unfold wX_express_143
          exact br_t rfl (T159 1 (by omega) (by omega) hlt (fun c => absurd c cu) (fun c => absurd c cb) (fun _ => rfl))
        have T71 : wX_express_71 post (nI k) y z 0 (nI ne) xS xC xN xO xU xH xI xR kd px py wt ks ki al op fx fy fz cO cA cB cC cK wn wr wp wq oe ol oq so nu ln lm sv ka es en ec := by
          unfold wX_express_71
          exact br_f (tm_ne (by omega) 10 (by omega) (by omega)) T82
        unfold wX_express_41
        refine br_f (tm_ne (by omega) 9 (by omega) (by omega)) (br_f (tm_ne (by omega) 12 (by omega) (by omega)) ?_)
        unfold wX_express_58
        exact pk_lt k 2 (fun c => T71) (fun c => br_f (nI_ge (a := 8) (by omega) (by omega)) T71)
  unfold wpX_express
  dsimp only
  refine pk_lt ne 30 (fun hlt => br_f n1 (br_t (nI_le (b := 12) hk12 (by omega)) (pk_eq k 1 (fun c => ?_) (fun c => T41 hlt)))) (fun hge => hfull hge)
  obtain ⟨v, hv6, ev⟩ := hv c
  have := T41 hlt
  exact br_f (by rw [ev]; exact nI_pos (by omega)) (br_t (by rw [ev]; exact nI_lt (b := 6) hv6 (by omega)) this)
end
section
variable {xE xS xC xN xO xU xH xI xR : Int32} {kd px py wt ks ki al op fx fy fz cO cA cB cC cK wn wr wp wq oe ol oq so nu ln lm ka es en ec : Nat → Int32} {sv : Nat → Int64}
/-! statements are made and taken back; the law -/
theorem tm_16 {x : Int32} (h1 : ¬ x < 1) (h6 : x ≤ 6) : ∃ j, 1 ≤ j ∧ j ≤ 6 ∧ x = nI j := by
  have e1 : (1 : Int32).toInt = 1 := by decide
  have e6 : (6 : Int32).toInt = 6 := by decide
  have e7 : (nI 7).toInt = 7 := by decide
  have e0 : (0 : Int32).toInt = 0 := by decide
  rw [Int32.lt_iff_toInt_lt, e1] at h1
  rw [Int32.le_iff_toInt_le, e6] at h6
  rcases pk_ix x (show 7 < 2 ^ 31 by omega) with z | z | ⟨j, hj, ej⟩
  · rw [Int32.lt_iff_toInt_lt, e0] at z; omega
  · rw [Int32.le_iff_toInt_le, e7] at z; omega
  · refine ⟨j, ?_, by omega, ej⟩
    rw [ej, nI_toInt (by omega)] at h1
    omega
theorem tm_06 {x : Int32} (h0 : ¬ x < 0) (h6 : x < 6) : ∃ j, j < 6 ∧ x = nI j := by
  have e6 : (6 : Int32).toInt = 6 := by decide
  have e7 : (nI 6).toInt = 6 := by decide
  rw [Int32.lt_iff_toInt_lt, e6] at h6
  rcases pk_ix x (show 6 < 2 ^ 31 by omega) with z | z | ⟨j, hj, ej⟩
  · exact absurd z h0
  · rw [Int32.le_iff_toInt_le, e7] at z; omega
  · exact ⟨j, hj, ej⟩
theorem tm_si_add {ne ns o : Nat} {a b c d : Int32} (hS : tm_si ne ns op fx fy fz) (h14 : ns < 14) (h : tm_si1 ne (upd op ns a) (upd fx ns b) (upd fy ns c) (upd fz ns d) ns o) : tm_si ne (ns + 1) (upd op ns a) (upd fx ns b) (upd fy ns c) (upd fz ns d) := by
  refine ⟨by omega, fun i hi => ?_⟩
  by_cases z : i = ns
  · subst z; exact ⟨o, h⟩
  · obtain ⟨o', h'⟩ := hS.2 i (by omega)
    refine ⟨o', ?_⟩
    unfold tm_si1
    rw [pk_un z, pk_un z, pk_un z, pk_un z]
    exact h'
theorem tm_state_w {post : Int32 → St1 → Prop} {x y z w : Int32} {ne o : Nat} (hG : tm_GI ne (xE, xS, xC, xN, xO, xU, xH, xI, xR, kd, px, py, wt, ks, ki, al, op, fx, fy, fz, cO, cA, cB, cC, cK, wn, wr, wp, wq, oe, ol, oq, so, nu, ln, lm, sv, ka, es, en, ec)) (hx : x = nI o) (ho : o ≤ 4) (hp : ∀ r u, tm_GI ne u → post r u) : wpX_state post (xE, xS, xC, xN, xO, xU, xH, xI, xR, kd, px, py, wt, ks, ki, al, op, fx, fy, fz, cO, cA, cB, cC, cK, wn, wr, wp, wq, oe, ol, oq, so, nu, ln, lm, sv, ka, es, en, ec) x y z w := by
  subst hx
  have bad : ∀ r, post r (xE, xS, xC, xN, xO, xU, xH, xI, xR, kd, px, py, wt, ks, ki, al, op, fx, fy, fz, cO, cA, cB, cC, cK, wn, wr, wp, wq, oe, ol, oq, so, nu, ln, lm, sv, ka, es, en, ec) := fun r => hp r _ hG
  obtain ⟨ns, hne, hns, hE, hS, hC, hiv, kk, hk1, hk2⟩ := hG
  have hne30 := hE.1
  have hns14 := hS.1
  subst hns
  have T141 : ns < 14 → (∀ b c d : Int32, b = y.toInt8.toInt32 → c = z.toInt8.toInt32 → d = w.toInt8.toInt32 → tm_si1 ne (upd op ns (nI o)) (upd fx ns b) (upd fy ns c) (upd fz ns d) ns o) → wX_state_141 post (nI o) y z w xE (nI ns) xC xN xO xU xH xI xR kd px py wt ks ki al op fx fy fz cO cA cB cC cK wn wr wp wq oe ol oq so nu ln lm sv ka es en ec := by
    intro hlt h
    have hni : vp_in (nI ns) 14 := pk_in ns 14 hlt
    unfold wX_state_141
    rw [nI_clamp (show ns < 2 ^ 31 by omega), tm_b8 o (by omega)]
    exact ⟨hni, nm_e ⟨hni, nm_e ⟨hni, nm_e ⟨hni, nm_e (nm_r (nI_1 ns) (hp _ _ (tm_GI_mk hne rfl hE (tm_si_add hS hlt (h _ _ _ rfl rfl rfl)) (fun c => absurd rfl c) hiv hk1 hk2)))⟩⟩⟩⟩
  unfold wpX_state
  dsimp only
  refine pk_lt ns 14 (fun hlt => br_f (nI_pos (by omega)) (br_t (nI_le (b := 4) ho (by omega)) ?_)) (fun _ => bad _)
  -- the variable, if there is one
  have C0 : o = 0 → wX_state_32 post (nI o) y z w xE (nI ns) xC xN xO xU xH xI xR kd px py wt ks ki al op fx fy fz cO cA cB cC cK wn wr wp wq oe ol oq so nu ln lm sv ka es en ec := by
    intro eo
    subst eo
    unfold wX_state_32 wX_state_37
    refine br_f (by decide) (br_c (fun _ => bad _) (fun y0 => br_c (fun y6 => ?_) (fun _ => bad _)))
    obtain ⟨v, hv, ev⟩ := tm_06 y0 y6
    unfold wX_state_67
    refine br_f (by decide) ?_
    unfold wX_state_77
    refine tm_isx_w hne hne30 (br_t rfl (bad _)) (fun b hb eb => br_f (by decide) ?_)
    unfold wX_state_87
    refine br_f (by decide) ?_
    unfold wX_state_103
    refine br_f (by decide) ?_
    unfold wX_state_121
    refine br_f (by decide) (T141 hlt (fun b' c' d' e1 e2 e3 => ?_))
    unfold tm_si1
    rw [pk_us, pk_us, pk_us, pk_us]
    exact ⟨by omega, rfl, fun _ => ⟨v, b, hv, hb, by rw [e1, ev, tm_b8 v (by omega)], by rw [e2, eb, tm_b8 b (by omega)]⟩, fun q => by omega, fun q => by omega, fun q => by omega, fun q => by omega⟩
  have C3 : o = 3 → wX_state_32 post (nI o) y z w xE (nI ns) xC xN xO xU xH xI xR kd px py wt ks ki al op fx fy fz cO cA cB cC cK wn wr wp wq oe ol oq so nu ln lm sv ka es en ec := by
    intro eo
    subst eo
    unfold wX_state_32 wX_state_37
    refine br_f (by decide) (br_c (fun _ => bad _) (fun y0 => br_c (fun y6 => ?_) (fun _ => bad _)))
    obtain ⟨v, hv, ev⟩ := tm_06 y0 y6
    unfold wX_state_67
    refine br_f (by decide) ?_
    unfold wX_state_77
    refine tm_isx_w hne hne30 (br_t rfl (bad _)) (fun b hb eb => br_f (by decide) ?_)
    unfold wX_state_87
    refine br_f (by decide) ?_
    unfold wX_state_103
    refine br_f (by decide) ?_
    unfold wX_state_121
    refine br_t rfl (br_c (fun _ => bad _) (fun w1 => br_c (fun w6 => T141 hlt (fun b' c' d' e1 e2 e3 => ?_)) (fun _ => bad _)))
    obtain ⟨j, hj1, hj6, ej⟩ := tm_16 w1 w6
    unfold tm_si1
    rw [pk_us, pk_us, pk_us, pk_us]
    exact ⟨by omega, rfl, fun q => by omega, fun q => by omega, fun q => by omega, fun _ => ⟨v, b, j, hv, hb, hj1, hj6, by rw [e1, ev, tm_b8 v (by omega)], by rw [e2, eb, tm_b8 b (by omega)], by rw [e3, ej, tm_b8 j (by omega)]⟩, fun q => by omega⟩
  refine pk_eq o 0 (fun e => C0 e) (fun e0 => pk_eq o 3 (fun e => C3 e) (fun e3 => ?_))
  unfold wX_state_37
  refine br_t rfl (tm_isx_w hne hne30 (br_t rfl (bad _)) (fun a ha ea => br_f (by decide) ?_))
  unfold wX_state_67
  refine br_t rfl (pk_eq o 1 (fun e1 => ?_) (fun e1 => ?_))
  · subst e1
    unfold wX_state_77
    refine tm_isx_w hne hne30 (br_t rfl (bad _)) (fun b hb eb => br_f (by decide) ?_)
    unfold wX_state_87
    refine br_t rfl (tm_isx_w hne hne30 (br_t rfl (bad _)) (fun c hc ec => br_f (by decide) ?_))
    unfold wX_state_103
    refine br_f (by decide) ?_
    unfold wX_state_121
    refine br_f (by decide) (T141 hlt (fun b' c' d' q1 q2 q3 => ?_))
    unfold tm_si1
    rw [pk_us, pk_us, pk_us, pk_us]
    exact ⟨by omega, rfl, fun q => by omega, fun _ => ⟨a, b, c, ha, hb, hc, by rw [q1, ea, tm_b8 a (by omega)], by rw [q2, eb, tm_b8 b (by omega)], by rw [q3, ec, tm_b8 c (by omega)]⟩, fun q => by omega, fun q => by omega, fun q => by omega⟩
  · unfold wX_state_87
    refine br_f (tm_ne (by omega) 1 (by omega) e1) ?_
    unfold wX_state_103
    refine pk_eq o 2 (fun e2 => ?_) (fun e2 => ?_)
    · subst e2
      refine br_c (fun _ => bad _) (fun z1 => br_c (fun z6 => ?_) (fun _ => bad _))
      obtain ⟨j, hj1, hj6, ej⟩ := tm_16 z1 z6
      unfold wX_state_121
      refine br_f (by decide) (T141 hlt (fun b' c' d' q1 q2 q3 => ?_))
      unfold tm_si1
      rw [pk_us, pk_us, pk_us, pk_us]
      exact ⟨by omega, rfl, fun q => by omega, fun q => by omega, fun _ => ⟨a, j, ha, hj1, hj6, by rw [q1, ea, tm_b8 a (by omega)], by rw [q2, ej, tm_b8 j (by omega)]⟩, fun q => by omega, fun q => by omega⟩
    · have e4 : o = 4 := by omega
      subst e4
      unfold wX_state_121
      refine br_f (by decide) (T141 hlt (fun b' c' d' q1 q2 q3 => ?_))
      unfold tm_si1
      rw [pk_us, pk_us, pk_us, pk_us]
      exact ⟨by omega, rfl, fun q => by omega, fun q => by omega, fun q => by omega, fun q => by omega, fun _ => ⟨a, ha, by rw [q1, ea, tm_b8 a (by omega)]⟩⟩
theorem tm_retract_w {post : Int32 → St1 → Prop} {ne : Nat} (hG : tm_GI ne (xE, xS, xC, xN, xO, xU, xH, xI, xR, kd, px, py, wt, ks, ki, al, op, fx, fy, fz, cO, cA, cB, cC, cK, wn, wr, wp, wq, oe, ol, oq, so, nu, ln, lm, sv, ka, es, en, ec)) (hp : ∀ r u, tm_GI ne u → post r u) : wpX_retract post (xE, xS, xC, xN, xO, xU, xH, xI, xR, kd, px, py, wt, ks, ki, al, op, fx, fy, fz, cO, cA, cB, cC, cK, wn, wr, wp, wq, oe, ol, oq, so, nu, ln, lm, sv, ka, es, en, ec) := by
  have bad : ∀ r, post r (xE, xS, xC, xN, xO, xU, xH, xI, xR, kd, px, py, wt, ks, ki, al, op, fx, fy, fz, cO, cA, cB, cC, cK, wn, wr, wp, wq, oe, ol, oq, so, nu, ln, lm, sv, ka, es, en, ec) := fun r => hp r _ hG
  obtain ⟨ns, hne, hns, hE, hS, hC, hiv, kk, hk1, hk2⟩ := hG
  have hns14 := hS.1
  subst hns
  unfold wpX_retract
  dsimp only
  refine pk_eq ns 0 (fun _ => bad _) (fun z => ?_)
  obtain ⟨n', rfl⟩ : ∃ n', ns = n' + 1 := ⟨ns - 1, by omega⟩
  exact nm_r (nI_pred n') (hp _ _ (tm_GI_mk hne rfl hE ⟨by omega, fun i hi => hS.2 i (by omega)⟩ (fun c => absurd rfl c) hiv hk1 hk2))
theorem tm_l384 {L : Nat} {xs : Nat → Int32} {kc ks' ne : Nat} (u : St1) (hG : tm_GI ne u) : ∃ fu, wL_law_384 (fun r => r = 1) L xs kc ks' fu 0 u.1 u.2.1 u.2.2.1 u.2.2.2.1 u.2.2.2.2.1 u.2.2.2.2.2.1 u.2.2.2.2.2.2.1 u.2.2.2.2.2.2.2.1 u.2.2.2.2.2.2.2.2.1 u.2.2.2.2.2.2.2.2.2.1 u.2.2.2.2.2.2.2.2.2.2.1 u.2.2.2.2.2.2.2.2.2.2.2.1 u.2.2.2.2.2.2.2.2.2.2.2.2.1 u.2.2.2.2.2.2.2.2.2.2.2.2.2.1 u.2.2.2.2.2.2.2.2.2.2.2.2.2.2.1 u.2.2.2.2.2.2.2.2.2.2.2.2.2.2.2.1 u.2.2.2.2.2.2.2.2.2.2.2.2.2.2.2.2.1 u.2.2.2.2.2.2.2.2.2.2.2.2.2.2.2.2.2.1 u.2.2.2.2.2.2.2.2.2.2.2.2.2.2.2.2.2.2.1 u.2.2.2.2.2.2.2.2.2.2.2.2.2.2.2.2.2.2.2.1 u.2.2.2.2.2.2.2.2.2.2.2.2.2.2.2.2.2.2.2.2.1 u.2.2.2.2.2.2.2.2.2.2.2.2.2.2.2.2.2.2.2.2.2.1 u.2.2.2.2.2.2.2.2.2.2.2.2.2.2.2.2.2.2.2.2.2.2.1 u.2.2.2.2.2.2.2.2.2.2.2.2.2.2.2.2.2.2.2.2.2.2.2.1 u.2.2.2.2.2.2.2.2.2.2.2.2.2.2.2.2.2.2.2.2.2.2.2.2.1 u.2.2.2.2.2.2.2.2.2.2.2.2.2.2.2.2.2.2.2.2.2.2.2.2.2.1 u.2.2.2.2.2.2.2.2.2.2.2.2.2.2.2.2.2.2.2.2.2.2.2.2.2.2.1 u.2.2.2.2.2.2.2.2.2.2.2.2.2.2.2.2.2.2.2.2.2.2.2.2.2.2.2.1 u.2.2.2.2.2.2.2.2.2.2.2.2.2.2.2.2.2.2.2.2.2.2.2.2.2.2.2.2.1 u.2.2.2.2.2.2.2.2.2.2.2.2.2.2.2.2.2.2.2.2.2.2.2.2.2.2.2.2.2.1 u.2.2.2.2.2.2.2.2.2.2.2.2.2.2.2.2.2.2.2.2.2.2.2.2.2.2.2.2.2.2.1 u.2.2.2.2.2.2.2.2.2.2.2.2.2.2.2.2.2.2.2.2.2.2.2.2.2.2.2.2.2.2.2.1 u.2.2.2.2.2.2.2.2.2.2.2.2.2.2.2.2.2.2.2.2.2.2.2.2.2.2.2.2.2.2.2.2.1 u.2.2.2.2.2.2.2.2.2.2.2.2.2.2.2.2.2.2.2.2.2.2.2.2.2.2.2.2.2.2.2.2.2.1 u.2.2.2.2.2.2.2.2.2.2.2.2.2.2.2.2.2.2.2.2.2.2.2.2.2.2.2.2.2.2.2.2.2.2.1 u.2.2.2.2.2.2.2.2.2.2.2.2.2.2.2.2.2.2.2.2.2.2.2.2.2.2.2.2.2.2.2.2.2.2.2.1 u.2.2.2.2.2.2.2.2.2.2.2.2.2.2.2.2.2.2.2.2.2.2.2.2.2.2.2.2.2.2.2.2.2.2.2.2.1 u.2.2.2.2.2.2.2.2.2.2.2.2.2.2.2.2.2.2.2.2.2.2.2.2.2.2.2.2.2.2.2.2.2.2.2.2.2.1 u.2.2.2.2.2.2.2.2.2.2.2.2.2.2.2.2.2.2.2.2.2.2.2.2.2.2.2.2.2.2.2.2.2.2.2.2.2.2.1 u.2.2.2.2.2.2.2.2.2.2.2.2.2.2.2.2.2.2.2.2.2.2.2.2.2.2.2.2.2.2.2.2.2.2.2.2.2.2.2.1 u.2.2.2.2.2.2.2.2.2.2.2.2.2.2.2.2.2.2.2.2.2.2.2.2.2.2.2.2.2.2.2.2.2.2.2.2.2.2.2.2 := by
  refine pk_loop (σ := St1) (fun f i s => wL_law_384 (fun r => r = 1) L xs kc ks' f (nI i) s.1 s.2.1 s.2.2.1 s.2.2.2.1 s.2.2.2.2.1 s.2.2.2.2.2.1 s.2.2.2.2.2.2.1 s.2.2.2.2.2.2.2.1 s.2.2.2.2.2.2.2.2.1 s.2.2.2.2.2.2.2.2.2.1 s.2.2.2.2.2.2.2.2.2.2.1 s.2.2.2.2.2.2.2.2.2.2.2.1 s.2.2.2.2.2.2.2.2.2.2.2.2.1 s.2.2.2.2.2.2.2.2.2.2.2.2.2.1 s.2.2.2.2.2.2.2.2.2.2.2.2.2.2.1 s.2.2.2.2.2.2.2.2.2.2.2.2.2.2.2.1 s.2.2.2.2.2.2.2.2.2.2.2.2.2.2.2.2.1 s.2.2.2.2.2.2.2.2.2.2.2.2.2.2.2.2.2.1 s.2.2.2.2.2.2.2.2.2.2.2.2.2.2.2.2.2.2.1 s.2.2.2.2.2.2.2.2.2.2.2.2.2.2.2.2.2.2.2.1 s.2.2.2.2.2.2.2.2.2.2.2.2.2.2.2.2.2.2.2.2.1 s.2.2.2.2.2.2.2.2.2.2.2.2.2.2.2.2.2.2.2.2.2.1 s.2.2.2.2.2.2.2.2.2.2.2.2.2.2.2.2.2.2.2.2.2.2.1 s.2.2.2.2.2.2.2.2.2.2.2.2.2.2.2.2.2.2.2.2.2.2.2.1 s.2.2.2.2.2.2.2.2.2.2.2.2.2.2.2.2.2.2.2.2.2.2.2.2.1 s.2.2.2.2.2.2.2.2.2.2.2.2.2.2.2.2.2.2.2.2.2.2.2.2.2.1 s.2.2.2.2.2.2.2.2.2.2.2.2.2.2.2.2.2.2.2.2.2.2.2.2.2.2.1 s.2.2.2.2.2.2.2.2.2.2.2.2.2.2.2.2.2.2.2.2.2.2.2.2.2.2.2.1 s.2.2.2.2.2.2.2.2.2.2.2.2.2.2.2.2.2.2.2.2.2.2.2.2.2.2.2.2.1 s.2.2.2.2.2.2.2.2.2.2.2.2.2.2.2.2.2.2.2.2.2.2.2.2.2.2.2.2.2.1 s.2.2.2.2.2.2.2.2.2.2.2.2.2.2.2.2.2.2.2.2.2.2.2.2.2.2.2.2.2.2.1 s.2.2.2.2.2.2.2.2.2.2.2.2.2.2.2.2.2.2.2.2.2.2.2.2.2.2.2.2.2.2.2.1 s.2.2.2.2.2.2.2.2.2.2.2.2.2.2.2.2.2.2.2.2.2.2.2.2.2.2.2.2.2.2.2.2.1 s.2.2.2.2.2.2.2.2.2.2.2.2.2.2.2.2.2.2.2.2.2.2.2.2.2.2.2.2.2.2.2.2.2.1 s.2.2.2.2.2.2.2.2.2.2.2.2.2.2.2.2.2.2.2.2.2.2.2.2.2.2.2.2.2.2.2.2.2.2.1 s.2.2.2.2.2.2.2.2.2.2.2.2.2.2.2.2.2.2.2.2.2.2.2.2.2.2.2.2.2.2.2.2.2.2.2.1 s.2.2.2.2.2.2.2.2.2.2.2.2.2.2.2.2.2.2.2.2.2.2.2.2.2.2.2.2.2.2.2.2.2.2.2.2.1 s.2.2.2.2.2.2.2.2.2.2.2.2.2.2.2.2.2.2.2.2.2.2.2.2.2.2.2.2.2.2.2.2.2.2.2.2.2.1 s.2.2.2.2.2.2.2.2.2.2.2.2.2.2.2.2.2.2.2.2.2.2.2.2.2.2.2.2.2.2.2.2.2.2.2.2.2.2.1 s.2.2.2.2.2.2.2.2.2.2.2.2.2.2.2.2.2.2.2.2.2.2.2.2.2.2.2.2.2.2.2.2.2.2.2.2.2.2.2.1 s.2.2.2.2.2.2.2.2.2.2.2.2.2.2.2.2.2.2.2.2.2.2.2.2.2.2.2.2.2.2.2.2.2.2.2.2.2.2.2.2) (fun _ s => tm_GI ne s) 4 0 u (by omega) hG ?_ ?_
  · intro f s h
    obtain ⟨xE, xS, xC, xN, xO, xU, xH, xI, xR, kd, px, py, wt, ks, ki, al, op, fx, fy, fz, cO, cA, cB, cC, cK, wn, wr, wp, wq, oe, ol, oq, so, nu, ln, lm, sv, ka, es, en, ec⟩ := s
    show wL_law_384 (fun r => r = 1) L xs kc ks' (f + 1) (nI 4) xE xS xC xN xO xU xH xI xR kd px py wt ks ki al op fx fy fz cO cA cB cC cK wn wr wp wq oe ol oq so nu ln lm sv ka es en ec
    unfold wL_law_384
    exact br_t (nI_le (Nat.le_refl 4) (by omega)) rfl
  · intro f i s hi h hw
    obtain ⟨xE, xS, xC, xN, xO, xU, xH, xI, xR, kd, px, py, wt, ks, ki, al, op, fx, fy, fz, cO, cA, cB, cC, cK, wn, wr, wp, wq, oe, ol, oq, so, nu, ln, lm, sv, ka, es, en, ec⟩ := s
    show wL_law_384 (fun r => r = 1) L xs kc ks' (f + 1) (nI i) xE xS xC xN xO xU xH xI xR kd px py wt ks ki al op fx fy fz cO cA cB cC cK wn wr wp wq oe ol oq so nu ln lm sv ka es en ec
    unfold wL_law_384
    refine br_f (nI_ge (b := 4) hi (by omega)) (tm_state_w (o := 4) h rfl (by omega) (fun r u hu => ?_))
    obtain ⟨xE, xS, xC, xN, xO, xU, xH, xI, xR, kd, px, py, wt, ks, ki, al, op, fx, fy, fz, cO, cA, cB, cC, cK, wn, wr, wp, wq, oe, ol, oq, so, nu, ln, lm, sv, ka, es, en, ec⟩ := u
    refine tm_holds_w hu (fun u hu => ?_)
    obtain ⟨xE, xS, xC, xN, xO, xU, xH, xI, xR, kd, px, py, wt, ks, ki, al, op, fx, fy, fz, cO, cA, cB, cC, cK, wn, wr, wp, wq, oe, ol, oq, so, nu, ln, lm, sv, ka, es, en, ec⟩ := u
    exact br_f (by decide) (nm_r (nI_1 i) (hw (xE, xS, xC, xN, xO, xU, xH, xI, xR, kd, px, py, wt, ks, ki, al, op, fx, fy, fz, cO, cA, cB, cC, cK, wn, wr, wp, wq, oe, ol, oq, so, nu, ln, lm, sv, ka, es, en, ec) hu))
theorem tm_L4 {L j : Nat} (hL : L ≤ 260) (hj : j ≤ 400) : (Int32.ofNat L) - 4 < nI j ↔ L < j + 4 := by
  have h : ((Int32.ofNat L) - 4).toInt = (L : Int) - 4 := pk_sub_toInt (a := L) (b := 4) (by omega) (by omega)
  rw [Int32.lt_iff_toInt_lt, h, nI_toInt (by omega)]
  omega
theorem tm_l84 {L : Nat} {xs : Nat → Int32} {kc ks' ne0 : Nat} (hL : L ≤ 260) (u : St1) (hG : tm_GI ne0 u) (h11 : 11 ≤ ne0) {x : Int32} (hx : x = nI ne0) : ∃ fu, wL_law_84 (fun r => r = 1) L xs kc ks' fu x 0 u.1 u.2.1 u.2.2.1 u.2.2.2.1 u.2.2.2.2.1 u.2.2.2.2.2.1 u.2.2.2.2.2.2.1 u.2.2.2.2.2.2.2.1 u.2.2.2.2.2.2.2.2.1 u.2.2.2.2.2.2.2.2.2.1 u.2.2.2.2.2.2.2.2.2.2.1 u.2.2.2.2.2.2.2.2.2.2.2.1 u.2.2.2.2.2.2.2.2.2.2.2.2.1 u.2.2.2.2.2.2.2.2.2.2.2.2.2.1 u.2.2.2.2.2.2.2.2.2.2.2.2.2.2.1 u.2.2.2.2.2.2.2.2.2.2.2.2.2.2.2.1 u.2.2.2.2.2.2.2.2.2.2.2.2.2.2.2.2.1 u.2.2.2.2.2.2.2.2.2.2.2.2.2.2.2.2.2.1 u.2.2.2.2.2.2.2.2.2.2.2.2.2.2.2.2.2.2.1 u.2.2.2.2.2.2.2.2.2.2.2.2.2.2.2.2.2.2.2.1 u.2.2.2.2.2.2.2.2.2.2.2.2.2.2.2.2.2.2.2.2.1 u.2.2.2.2.2.2.2.2.2.2.2.2.2.2.2.2.2.2.2.2.2.1 u.2.2.2.2.2.2.2.2.2.2.2.2.2.2.2.2.2.2.2.2.2.2.1 u.2.2.2.2.2.2.2.2.2.2.2.2.2.2.2.2.2.2.2.2.2.2.2.1 u.2.2.2.2.2.2.2.2.2.2.2.2.2.2.2.2.2.2.2.2.2.2.2.2.1 u.2.2.2.2.2.2.2.2.2.2.2.2.2.2.2.2.2.2.2.2.2.2.2.2.2.1 u.2.2.2.2.2.2.2.2.2.2.2.2.2.2.2.2.2.2.2.2.2.2.2.2.2.2.1 u.2.2.2.2.2.2.2.2.2.2.2.2.2.2.2.2.2.2.2.2.2.2.2.2.2.2.2.1 u.2.2.2.2.2.2.2.2.2.2.2.2.2.2.2.2.2.2.2.2.2.2.2.2.2.2.2.2.1 u.2.2.2.2.2.2.2.2.2.2.2.2.2.2.2.2.2.2.2.2.2.2.2.2.2.2.2.2.2.1 u.2.2.2.2.2.2.2.2.2.2.2.2.2.2.2.2.2.2.2.2.2.2.2.2.2.2.2.2.2.2.1 u.2.2.2.2.2.2.2.2.2.2.2.2.2.2.2.2.2.2.2.2.2.2.2.2.2.2.2.2.2.2.2.1 u.2.2.2.2.2.2.2.2.2.2.2.2.2.2.2.2.2.2.2.2.2.2.2.2.2.2.2.2.2.2.2.2.1 u.2.2.2.2.2.2.2.2.2.2.2.2.2.2.2.2.2.2.2.2.2.2.2.2.2.2.2.2.2.2.2.2.2.1 u.2.2.2.2.2.2.2.2.2.2.2.2.2.2.2.2.2.2.2.2.2.2.2.2.2.2.2.2.2.2.2.2.2.2.1 u.2.2.2.2.2.2.2.2.2.2.2.2.2.2.2.2.2.2.2.2.2.2.2.2.2.2.2.2.2.2.2.2.2.2.2.1 u.2.2.2.2.2.2.2.2.2.2.2.2.2.2.2.2.2.2.2.2.2.2.2.2.2.2.2.2.2.2.2.2.2.2.2.2.1 u.2.2.2.2.2.2.2.2.2.2.2.2.2.2.2.2.2.2.2.2.2.2.2.2.2.2.2.2.2.2.2.2.2.2.2.2.2.1 u.2.2.2.2.2.2.2.2.2.2.2.2.2.2.2.2.2.2.2.2.2.2.2.2.2.2.2.2.2.2.2.2.2.2.2.2.2.2.1 u.2.2.2.2.2.2.2.2.2.2.2.2.2.2.2.2.2.2.2.2.2.2.2.2.2.2.2.2.2.2.2.2.2.2.2.2.2.2.2.1 u.2.2.2.2.2.2.2.2.2.2.2.2.2.2.2.2.2.2.2.2.2.2.2.2.2.2.2.2.2.2.2.2.2.2.2.2.2.2.2.2 := by
  refine pk_loop (σ := Int32 × St1) (fun f i s => wL_law_84 (fun r => r = 1) L xs kc ks' f s.1 (nI (4 * i)) s.2.1 s.2.2.1 s.2.2.2.1 s.2.2.2.2.1 s.2.2.2.2.2.1 s.2.2.2.2.2.2.1 s.2.2.2.2.2.2.2.1 s.2.2.2.2.2.2.2.2.1 s.2.2.2.2.2.2.2.2.2.1 s.2.2.2.2.2.2.2.2.2.2.1 s.2.2.2.2.2.2.2.2.2.2.2.1 s.2.2.2.2.2.2.2.2.2.2.2.2.1 s.2.2.2.2.2.2.2.2.2.2.2.2.2.1 s.2.2.2.2.2.2.2.2.2.2.2.2.2.2.1 s.2.2.2.2.2.2.2.2.2.2.2.2.2.2.2.1 s.2.2.2.2.2.2.2.2.2.2.2.2.2.2.2.2.1 s.2.2.2.2.2.2.2.2.2.2.2.2.2.2.2.2.2.1 s.2.2.2.2.2.2.2.2.2.2.2.2.2.2.2.2.2.2.1 s.2.2.2.2.2.2.2.2.2.2.2.2.2.2.2.2.2.2.2.1 s.2.2.2.2.2.2.2.2.2.2.2.2.2.2.2.2.2.2.2.2.1 s.2.2.2.2.2.2.2.2.2.2.2.2.2.2.2.2.2.2.2.2.2.1 s.2.2.2.2.2.2.2.2.2.2.2.2.2.2.2.2.2.2.2.2.2.2.1 s.2.2.2.2.2.2.2.2.2.2.2.2.2.2.2.2.2.2.2.2.2.2.2.1 s.2.2.2.2.2.2.2.2.2.2.2.2.2.2.2.2.2.2.2.2.2.2.2.2.1 s.2.2.2.2.2.2.2.2.2.2.2.2.2.2.2.2.2.2.2.2.2.2.2.2.2.1 s.2.2.2.2.2.2.2.2.2.2.2.2.2.2.2.2.2.2.2.2.2.2.2.2.2.2.1 s.2.2.2.2.2.2.2.2.2.2.2.2.2.2.2.2.2.2.2.2.2.2.2.2.2.2.2.1 s.2.2.2.2.2.2.2.2.2.2.2.2.2.2.2.2.2.2.2.2.2.2.2.2.2.2.2.2.1 s.2.2.2.2.2.2.2.2.2.2.2.2.2.2.2.2.2.2.2.2.2.2.2.2.2.2.2.2.2.1 s.2.2.2.2.2.2.2.2.2.2.2.2.2.2.2.2.2.2.2.2.2.2.2.2.2.2.2.2.2.2.1 s.2.2.2.2.2.2.2.2.2.2.2.2.2.2.2.2.2.2.2.2.2.2.2.2.2.2.2.2.2.2.2.1 s.2.2.2.2.2.2.2.2.2.2.2.2.2.2.2.2.2.2.2.2.2.2.2.2.2.2.2.2.2.2.2.2.1 s.2.2.2.2.2.2.2.2.2.2.2.2.2.2.2.2.2.2.2.2.2.2.2.2.2.2.2.2.2.2.2.2.2.1 s.2.2.2.2.2.2.2.2.2.2.2.2.2.2.2.2.2.2.2.2.2.2.2.2.2.2.2.2.2.2.2.2.2.2.1 s.2.2.2.2.2.2.2.2.2.2.2.2.2.2.2.2.2.2.2.2.2.2.2.2.2.2.2.2.2.2.2.2.2.2.2.1 s.2.2.2.2.2.2.2.2.2.2.2.2.2.2.2.2.2.2.2.2.2.2.2.2.2.2.2.2.2.2.2.2.2.2.2.2.1 s.2.2.2.2.2.2.2.2.2.2.2.2.2.2.2.2.2.2.2.2.2.2.2.2.2.2.2.2.2.2.2.2.2.2.2.2.2.1 s.2.2.2.2.2.2.2.2.2.2.2.2.2.2.2.2.2.2.2.2.2.2.2.2.2.2.2.2.2.2.2.2.2.2.2.2.2.2.1 s.2.2.2.2.2.2.2.2.2.2.2.2.2.2.2.2.2.2.2.2.2.2.2.2.2.2.2.2.2.2.2.2.2.2.2.2.2.2.2.1 s.2.2.2.2.2.2.2.2.2.2.2.2.2.2.2.2.2.2.2.2.2.2.2.2.2.2.2.2.2.2.2.2.2.2.2.2.2.2.2.2.1 s.2.2.2.2.2.2.2.2.2.2.2.2.2.2.2.2.2.2.2.2.2.2.2.2.2.2.2.2.2.2.2.2.2.2.2.2.2.2.2.2.2) (fun _ s => ∃ ne, s.1 = nI ne ∧ 11 ≤ ne ∧ tm_GI ne s.2) (L / 4) 0 (x, u) (by omega) ⟨ne0, hx, h11, hG⟩ ?_ ?_
  · rintro f ⟨x, s⟩ ⟨ne, h1, h2, h3⟩
    obtain ⟨xE, xS, xC, xN, xO, xU, xH, xI, xR, kd, px, py, wt, ks, ki, al, op, fx, fy, fz, cO, cA, cB, cC, cK, wn, wr, wp, wq, oe, ol, oq, so, nu, ln, lm, sv, ka, es, en, ec⟩ := s
    show wL_law_84 (fun r => r = 1) L xs kc ks' (f + 1) x (nI (4 * (L / 4))) xE xS xC xN xO xU xH xI xR kd px py wt ks ki al op fx fy fz cO cA cB cC cK wn wr wp wq oe ol oq so nu ln lm sv ka es en ec
    unfold wL_law_84
    exact br_t ((tm_L4 hL (by omega)).mpr (by omega)) (tm_l384 (xE, xS, xC, xN, xO, xU, xH, xI, xR, kd, px, py, wt, ks, ki, al, op, fx, fy, fz, cO, cA, cB, cC, cK, wn, wr, wp, wq, oe, ol, oq, so, nu, ln, lm, sv, ka, es, en, ec) h3)
  · rintro f i ⟨x, s⟩ hi ⟨ne, h1, h2, h3⟩ hw
    obtain ⟨xE, xS, xC, xN, xO, xU, xH, xI, xR, kd, px, py, wt, ks, ki, al, op, fx, fy, fz, cO, cA, cB, cC, cK, wn, wr, wp, wq, oe, ol, oq, so, nu, ln, lm, sv, ka, es, en, ec⟩ := s
    have h1 : x = nI ne := h1
    have hne30 : ne ≤ 30 := by
      obtain ⟨_, _, _, hE, _⟩ := h3
      exact hE.1
    subst h1
    show wL_law_84 (fun r => r = 1) L xs kc ks' (f + 1) (nI ne) (nI (4 * i)) xE xS xC xN xO xU xH xI xR kd px py wt ks ki al op fx fy fz cO cA cB cC cK wn wr wp wq oe ol oq so nu ln lm sv ka es en ec
    -- behind a call: the checks, and on
    have T367 : ∀ (ne' : Nat) (u : St1), 11 ≤ ne' → tm_GI ne' u → wL_law_367 (fun r => r = 1) L xs (wL_law_84 (fun r => r = 1) L xs kc ks' f) (nI ne') (nI (4 * i)) kc ks' u.1 u.2.1 u.2.2.1 u.2.2.2.1 u.2.2.2.2.1 u.2.2.2.2.2.1 u.2.2.2.2.2.2.1 u.2.2.2.2.2.2.2.1 u.2.2.2.2.2.2.2.2.1 u.2.2.2.2.2.2.2.2.2.1 u.2.2.2.2.2.2.2.2.2.2.1 u.2.2.2.2.2.2.2.2.2.2.2.1 u.2.2.2.2.2.2.2.2.2.2.2.2.1 u.2.2.2.2.2.2.2.2.2.2.2.2.2.1 u.2.2.2.2.2.2.2.2.2.2.2.2.2.2.1 u.2.2.2.2.2.2.2.2.2.2.2.2.2.2.2.1 u.2.2.2.2.2.2.2.2.2.2.2.2.2.2.2.2.1 u.2.2.2.2.2.2.2.2.2.2.2.2.2.2.2.2.2.1 u.2.2.2.2.2.2.2.2.2.2.2.2.2.2.2.2.2.2.1 u.2.2.2.2.2.2.2.2.2.2.2.2.2.2.2.2.2.2.2.1 u.2.2.2.2.2.2.2.2.2.2.2.2.2.2.2.2.2.2.2.2.1 u.2.2.2.2.2.2.2.2.2.2.2.2.2.2.2.2.2.2.2.2.2.1 u.2.2.2.2.2.2.2.2.2.2.2.2.2.2.2.2.2.2.2.2.2.2.1 u.2.2.2.2.2.2.2.2.2.2.2.2.2.2.2.2.2.2.2.2.2.2.2.1 u.2.2.2.2.2.2.2.2.2.2.2.2.2.2.2.2.2.2.2.2.2.2.2.2.1 u.2.2.2.2.2.2.2.2.2.2.2.2.2.2.2.2.2.2.2.2.2.2.2.2.2.1 u.2.2.2.2.2.2.2.2.2.2.2.2.2.2.2.2.2.2.2.2.2.2.2.2.2.2.1 u.2.2.2.2.2.2.2.2.2.2.2.2.2.2.2.2.2.2.2.2.2.2.2.2.2.2.2.1 u.2.2.2.2.2.2.2.2.2.2.2.2.2.2.2.2.2.2.2.2.2.2.2.2.2.2.2.2.1 u.2.2.2.2.2.2.2.2.2.2.2.2.2.2.2.2.2.2.2.2.2.2.2.2.2.2.2.2.2.1 u.2.2.2.2.2.2.2.2.2.2.2.2.2.2.2.2.2.2.2.2.2.2.2.2.2.2.2.2.2.2.1 u.2.2.2.2.2.2.2.2.2.2.2.2.2.2.2.2.2.2.2.2.2.2.2.2.2.2.2.2.2.2.2.1 u.2.2.2.2.2.2.2.2.2.2.2.2.2.2.2.2.2.2.2.2.2.2.2.2.2.2.2.2.2.2.2.2.1 u.2.2.2.2.2.2.2.2.2.2.2.2.2.2.2.2.2.2.2.2.2.2.2.2.2.2.2.2.2.2.2.2.2.1 u.2.2.2.2.2.2.2.2.2.2.2.2.2.2.2.2.2.2.2.2.2.2.2.2.2.2.2.2.2.2.2.2.2.2.1 u.2.2.2.2.2.2.2.2.2.2.2.2.2.2.2.2.2.2.2.2.2.2.2.2.2.2.2.2.2.2.2.2.2.2.2.1 u.2.2.2.2.2.2.2.2.2.2.2.2.2.2.2.2.2.2.2.2.2.2.2.2.2.2.2.2.2.2.2.2.2.2.2.2.1 u.2.2.2.2.2.2.2.2.2.2.2.2.2.2.2.2.2.2.2.2.2.2.2.2.2.2.2.2.2.2.2.2.2.2.2.2.2.1 u.2.2.2.2.2.2.2.2.2.2.2.2.2.2.2.2.2.2.2.2.2.2.2.2.2.2.2.2.2.2.2.2.2.2.2.2.2.2.1 u.2.2.2.2.2.2.2.2.2.2.2.2.2.2.2.2.2.2.2.2.2.2.2.2.2.2.2.2.2.2.2.2.2.2.2.2.2.2.2.1 u.2.2.2.2.2.2.2.2.2.2.2.2.2.2.2.2.2.2.2.2.2.2.2.2.2.2.2.2.2.2.2.2.2.2.2.2.2.2.2.2 := by
      intro ne' u hne' hu
      obtain ⟨xE, xS, xC, xN, xO, xU, xH, xI, xR, kd, px, py, wt, ks, ki, al, op, fx, fy, fz, cO, cA, cB, cC, cK, wn, wr, wp, wq, oe, ol, oq, so, nu, ln, lm, sv, ka, es, en, ec⟩ := u
      show wL_law_367 (fun r => r = 1) L xs (wL_law_84 (fun r => r = 1) L xs kc ks' f) (nI ne') (nI (4 * i)) kc ks' xE xS xC xN xO xU xH xI xR kd px py wt ks ki al op fx fy fz cO cA cB cC cK wn wr wp wq oe ol oq so nu ln lm sv ka es en ec
      unfold wL_law_367
      refine tm_holds_w hu (fun u hu => ?_)
      obtain ⟨xE, xS, xC, xN, xO, xU, xH, xI, xR, kd, px, py, wt, ks, ki, al, op, fx, fy, fz, cO, cA, cB, cC, cK, wn, wr, wp, wq, oe, ol, oq, so, nu, ln, lm, sv, ka, es, en, ec⟩ := u
      exact br_f (by decide) (nm_r (e' := nI (4 * (i + 1))) (nI_add (4 * i) 4) (hw (nI ne', (xE, xS, xC, xN, xO, xU, xH, xI, xR, kd, px, py, wt, ks, ki, al, op, fx, fy, fz, cO, cA, cB, cC, cK, wn, wr, wp, wq, oe, ol, oq, so, nu, ln, lm, sv, ka, es, en, ec)) ⟨ne', rfl, hne', hu⟩))
    have T356 : ∀ (r : Int32) (u : St1), r < 0 → tm_GI ne u → wL_law_356 (fun r => r = 1) L xs (wL_law_84 (fun r => r = 1) L xs kc ks' f) (nI ne) (nI (4 * i)) r kc ks' u.1 u.2.1 u.2.2.1 u.2.2.2.1 u.2.2.2.2.1 u.2.2.2.2.2.1 u.2.2.2.2.2.2.1 u.2.2.2.2.2.2.2.1 u.2.2.2.2.2.2.2.2.1 u.2.2.2.2.2.2.2.2.2.1 u.2.2.2.2.2.2.2.2.2.2.1 u.2.2.2.2.2.2.2.2.2.2.2.1 u.2.2.2.2.2.2.2.2.2.2.2.2.1 u.2.2.2.2.2.2.2.2.2.2.2.2.2.1 u.2.2.2.2.2.2.2.2.2.2.2.2.2.2.1 u.2.2.2.2.2.2.2.2.2.2.2.2.2.2.2.1 u.2.2.2.2.2.2.2.2.2.2.2.2.2.2.2.2.1 u.2.2.2.2.2.2.2.2.2.2.2.2.2.2.2.2.2.1 u.2.2.2.2.2.2.2.2.2.2.2.2.2.2.2.2.2.2.1 u.2.2.2.2.2.2.2.2.2.2.2.2.2.2.2.2.2.2.2.1 u.2.2.2.2.2.2.2.2.2.2.2.2.2.2.2.2.2.2.2.2.1 u.2.2.2.2.2.2.2.2.2.2.2.2.2.2.2.2.2.2.2.2.2.1 u.2.2.2.2.2.2.2.2.2.2.2.2.2.2.2.2.2.2.2.2.2.2.1 u.2.2.2.2.2.2.2.2.2.2.2.2.2.2.2.2.2.2.2.2.2.2.2.1 u.2.2.2.2.2.2.2.2.2.2.2.2.2.2.2.2.2.2.2.2.2.2.2.2.1 u.2.2.2.2.2.2.2.2.2.2.2.2.2.2.2.2.2.2.2.2.2.2.2.2.2.1 u.2.2.2.2.2.2.2.2.2.2.2.2.2.2.2.2.2.2.2.2.2.2.2.2.2.2.1 u.2.2.2.2.2.2.2.2.2.2.2.2.2.2.2.2.2.2.2.2.2.2.2.2.2.2.2.1 u.2.2.2.2.2.2.2.2.2.2.2.2.2.2.2.2.2.2.2.2.2.2.2.2.2.2.2.2.1 u.2.2.2.2.2.2.2.2.2.2.2.2.2.2.2.2.2.2.2.2.2.2.2.2.2.2.2.2.2.1 u.2.2.2.2.2.2.2.2.2.2.2.2.2.2.2.2.2.2.2.2.2.2.2.2.2.2.2.2.2.2.1 u.2.2.2.2.2.2.2.2.2.2.2.2.2.2.2.2.2.2.2.2.2.2.2.2.2.2.2.2.2.2.2.1 u.2.2.2.2.2.2.2.2.2.2.2.2.2.2.2.2.2.2.2.2.2.2.2.2.2.2.2.2.2.2.2.2.1 u.2.2.2.2.2.2.2.2.2.2.2.2.2.2.2.2.2.2.2.2.2.2.2.2.2.2.2.2.2.2.2.2.2.1 u.2.2.2.2.2.2.2.2.2.2.2.2.2.2.2.2.2.2.2.2.2.2.2.2.2.2.2.2.2.2.2.2.2.2.1 u.2.2.2.2.2.2.2.2.2.2.2.2.2.2.2.2.2.2.2.2.2.2.2.2.2.2.2.2.2.2.2.2.2.2.2.1 u.2.2.2.2.2.2.2.2.2.2.2.2.2.2.2.2.2.2.2.2.2.2.2.2.2.2.2.2.2.2.2.2.2.2.2.2.1 u.2.2.2.2.2.2.2.2.2.2.2.2.2.2.2.2.2.2.2.2.2.2.2.2.2.2.2.2.2.2.2.2.2.2.2.2.2.1 u.2.2.2.2.2.2.2.2.2.2.2.2.2.2.2.2.2.2.2.2.2.2.2.2.2.2.2.2.2.2.2.2.2.2.2.2.2.2.1 u.2.2.2.2.2.2.2.2.2.2.2.2.2.2.2.2.2.2.2.2.2.2.2.2.2.2.2.2.2.2.2.2.2.2.2.2.2.2.2.1 u.2.2.2.2.2.2.2.2.2.2.2.2.2.2.2.2.2.2.2.2.2.2.2.2.2.2.2.2.2.2.2.2.2.2.2.2.2.2.2.2 := by
      intro r u hr hu
      obtain ⟨xE, xS, xC, xN, xO, xU, xH, xI, xR, kd, px, py, wt, ks, ki, al, op, fx, fy, fz, cO, cA, cB, cC, cK, wn, wr, wp, wq, oe, ol, oq, so, nu, ln, lm, sv, ka, es, en, ec⟩ := u
      show wL_law_356 (fun r => r = 1) L xs (wL_law_84 (fun r => r = 1) L xs kc ks' f) (nI ne) (nI (4 * i)) r kc ks' xE xS xC xN xO xU xH xI xR kd px py wt ks ki al op fx fy fz cO cA cB cC cK wn wr wp wq oe ol oq so nu ln lm sv ka es en ec
      unfold wL_law_356
      refine br_t ?_ (T367 ne (xE, xS, xC, xN, xO, xU, xH, xI, xR, kd, px, py, wt, ks, ki, al, op, fx, fy, fz, cO, cA, cB, cC, cK, wn, wr, wp, wq, oe, ol, oq, so, nu, ln, lm, sv, ka, es, en, ec) h2 hu)
      have e0 : (0 : Int32).toInt = 0 := by decide
      rw [Int32.lt_iff_toInt_lt, e0] at hr
      rw [Int32.lt_iff_toInt_lt, nI_toInt (by omega)]
      omega
    have TST : ∀ (o : Nat) (y z w : Int32), o ≤ 4 → wpX_state (fun r u => match u with | (xE, xS, xC, xN, xO, xU, xH, xI, xR, kd, px, py, wt, ks, ki, al, op, fx, fy, fz, cO, cA, cB, cC, cK, wn, wr, wp, wq, oe, ol, oq, so, nu, ln, lm, sv, ka, es, en, ec) => wL_law_356 (fun r => r = 1) L xs (wL_law_84 (fun r => r = 1) L xs kc ks' f) (nI ne) (nI (4 * i)) (-1) kc ks' xE xS xC xN xO xU xH xI xR kd px py wt ks ki al op fx fy fz cO cA cB cC cK wn wr wp wq oe ol oq so nu ln lm sv ka es en ec) (xE, xS, xC, xN, xO, xU, xH, xI, xR, kd, px, py, wt, ks, ki, al, op, fx, fy, fz, cO, cA, cB, cC, cK, wn, wr, wp, wq, oe, ol, oq, so, nu, ln, lm, sv, ka, es, en, ec) (nI o) y z w := by
      intro o y z w ho
      refine tm_state_w h3 rfl ho (fun r u hu => ?_)
      obtain ⟨xE, xS, xC, xN, xO, xU, xH, xI, xR, kd, px, py, wt, ks, ki, al, op, fx, fy, fz, cO, cA, cB, cC, cK, wn, wr, wp, wq, oe, ol, oq, so, nu, ln, lm, sv, ka, es, en, ec⟩ := u
      exact T356 (-1) (xE, xS, xC, xN, xO, xU, xH, xI, xR, kd, px, py, wt, ks, ki, al, op, fx, fy, fz, cO, cA, cB, cC, cK, wn, wr, wp, wq, oe, ol, oq, so, nu, ln, lm, sv, ka, es, en, ec) (by decide) hu
    unfold wL_law_84
    have i1 : nI (4 * i) + 1 = nI (4 * i + 1) := nI_1 _
    have i2 : nI (4 * i) + 2 = nI (4 * i + 2) := nI_add (4 * i) 2
    have i3 : nI (4 * i) + 3 = nI (4 * i + 3) := nI_add (4 * i) 3
    have n0 : ¬ nI ne = 0 := nI_ne0 (by omega) (by omega)
    refine br_f (fun z => by have := (tm_L4 hL (by omega)).mp z; omega) ?_
    rw [i1, i2, i3]
    refine ⟨pk_in (4 * i + 1) L (by omega), n0, nm_e ⟨pk_in (4 * i + 2) L (by omega), n0, nm_e ⟨pk_in (4 * i + 3) L (by omega), n0, nm_e ⟨pk_in (4 * i + 1) L (by omega), by decide, nm_e ⟨pk_in (4 * i) L (by omega), ?_⟩⟩⟩⟩⟩
    obtain ⟨j8, hj8, ej8⟩ := pk_andE ((xs (nI (4 * i)).toNatClampNeg) >>> ((4 : Int32) &&& 31)) (m := 15) 4 (by decide)
    obtain ⟨j, hj, ej⟩ := pk_andE (xs (nI (4 * i)).toNatClampNeg) (m := 15) 4 (by decide)
    refine nm_r ej8 ⟨pk_in (4 * i) L (by omega), nm_r ej ?_⟩
    have TEX : ∀ y z : Int32, wL_law_236 (fun r => r = 1) L xs (wL_law_84 (fun r => r = 1) L xs kc ks' f) (nI ne) (nI (4 * i)) y z (nI j8) kc ks' xE xS xC xN xO xU xH xI xR kd px py wt ks ki al op fx fy fz cO cA cB cC cK wn wr wp wq oe ol oq so nu ln lm sv ka es en ec := by
      intro y z
      unfold wL_law_236
      rw [show nI j8 - nI j8 / 11 * 11 = nI (j8 % 11) from pk_rem (d := 11) (by omega) (by omega) (by omega), show (2 : Int32) + nI (j8 % 11) = nI (2 + j8 % 11) from nI_add 2 (j8 % 11)]
      refine ⟨by decide, tm_express_w h3 rfl (by omega) (fun _ => T356 (-2) (xE, xS, xC, xN, xO, xU, xH, xI, xR, kd, px, py, wt, ks, ki, al, op, fx, fy, fz, cO, cA, cB, cC, cK, wn, wr, wp, wq, oe, ol, oq, so, nu, ln, lm, sv, ka, es, en, ec) (by decide) h3) (fun c => by omega) (fun _ r hr => ?_) (fun u hu => ?_)⟩
      · rcases hr with hr | hr <;> subst hr
        · exact T356 (-1) (xE, xS, xC, xN, xO, xU, xH, xI, xR, kd, px, py, wt, ks, ki, al, op, fx, fy, fz, cO, cA, cB, cC, cK, wn, wr, wp, wq, oe, ol, oq, so, nu, ln, lm, sv, ka, es, en, ec) (by decide) h3
        · exact T356 (-2) (xE, xS, xC, xN, xO, xU, xH, xI, xR, kd, px, py, wt, ks, ki, al, op, fx, fy, fz, cO, cA, cB, cC, cK, wn, wr, wp, wq, oe, ol, oq, so, nu, ln, lm, sv, ka, es, en, ec) (by decide) h3
      · obtain ⟨xE, xS, xC, xN, xO, xU, xH, xI, xR, kd, px, py, wt, ks, ki, al, op, fx, fy, fz, cO, cA, cB, cC, cK, wn, wr, wp, wq, oe, ol, oq, so, nu, ln, lm, sv, ka, es, en, ec⟩ := u
        show wL_law_356 (fun r => r = 1) L xs (wL_law_84 (fun r => r = 1) L xs kc ks' f) (nI ne) (nI (4 * i)) (nI ne) kc ks' xE xS xC xN xO xU xH xI xR kd px py wt ks ki al op fx fy fz cO cA cB cC cK wn wr wp wq oe ol oq so nu ln lm sv ka es en ec
        unfold wL_law_356
        exact br_f (nI_nlt (Nat.le_refl ne) (by omega)) (nm_r (nI_1 ne) (T367 (ne + 1) (xE, xS, xC, xN, xO, xU, xH, xI, xR, kd, px, py, wt, ks, ki, al, op, fx, fy, fz, cO, cA, cB, cC, cK, wn, wr, wp, wq, oe, ol, oq, so, nu, ln, lm, sv, ka, es, en, ec) (by omega) hu))
    have T274 : ∀ x6 x7 : Int32, wL_law_274 (fun r => r = 1) L xs (wL_law_84 (fun r => r = 1) L xs kc ks' f) (nI ne) (nI (4 * i)) x6 x7 (nI j8) (-1) kc ks' xE xS xC xN xO xU xH xI xR kd px py wt ks ki al op fx fy fz cO cA cB cC cK wn wr wp wq oe ol oq so nu ln lm sv ka es en ec := by
      intro x6 x7
      unfold wL_law_274
      exact ⟨by decide, TST 3 _ _ _ (by omega)⟩
    have T298 : ∀ x6 x7 : Int32, wL_law_298 (fun r => r = 1) L xs (wL_law_84 (fun r => r = 1) L xs kc ks' f) (nI ne) (nI (4 * i)) x6 x7 (nI j8) (-1) kc ks' xE xS xC xN xO xU xH xI xR kd px py wt ks ki al op fx fy fz cO cA cB cC cK wn wr wp wq oe ol oq so nu ln lm sv ka es en ec := by
      intro x6 x7
      unfold wL_law_298
      exact ⟨by decide, TST 1 _ _ _ (by omega)⟩
    refine br_f (nI_pos (by omega)) (br_c (fun _ => TST 0 _ _ _ (by omega)) (fun _ => br_c (fun _ => ?_) (fun _ => br_c (fun _ => TEX _ _) (fun _ => br_c (fun _ => TEX _ _) (fun _ => br_c (fun _ => TEX _ _) (fun _ => br_c (fun _ => TEX _ _) (fun _ => br_c (fun _ => ⟨by decide, TST 2 _ _ _ (by omega)⟩) (fun _ => br_c (fun _ => T274 _ _) (fun _ => br_c (fun _ => T274 _ _) (fun _ => br_c (fun _ => T298 _ _) (fun _ => br_c (fun _ => T298 _ _) (fun _ => br_c (fun _ => TST 0 _ _ _ (by omega)) (fun _ => br_c (fun _ => TST 4 _ _ _ (by omega)) (fun _ => trivial))))))))))))))
    refine tm_retract_w h3 (fun r u hu => ?_)
    obtain ⟨xE, xS, xC, xN, xO, xU, xH, xI, xR, kd, px, py, wt, ks, ki, al, op, fx, fy, fz, cO, cA, cB, cC, cK, wn, wr, wp, wq, oe, ol, oq, so, nu, ln, lm, sv, ka, es, en, ec⟩ := u
    exact T356 (-1) (xE, xS, xC, xN, xO, xU, xH, xI, xR, kd, px, py, wt, ks, ki, al, op, fx, fy, fz, cO, cA, cB, cC, cK, wn, wr, wp, wq, oe, ol, oq, so, nu, ln, lm, sv, ka, es, en, ec) (by decide) hu
theorem tm_l37 {L : Nat} {xs : Nat → Int32} {kc ks' : Nat} (hL : L ≤ 260) (u : St1) (hG : tm_GI 6 u) : ∃ fu, wL_law_37 (fun r => r = 1) L xs kc ks' fu 0 u.1 u.2.1 u.2.2.1 u.2.2.2.1 u.2.2.2.2.1 u.2.2.2.2.2.1 u.2.2.2.2.2.2.1 u.2.2.2.2.2.2.2.1 u.2.2.2.2.2.2.2.2.1 u.2.2.2.2.2.2.2.2.2.1 u.2.2.2.2.2.2.2.2.2.2.1 u.2.2.2.2.2.2.2.2.2.2.2.1 u.2.2.2.2.2.2.2.2.2.2.2.2.1 u.2.2.2.2.2.2.2.2.2.2.2.2.2.1 u.2.2.2.2.2.2.2.2.2.2.2.2.2.2.1 u.2.2.2.2.2.2.2.2.2.2.2.2.2.2.2.1 u.2.2.2.2.2.2.2.2.2.2.2.2.2.2.2.2.1 u.2.2.2.2.2.2.2.2.2.2.2.2.2.2.2.2.2.1 u.2.2.2.2.2.2.2.2.2.2.2.2.2.2.2.2.2.2.1 u.2.2.2.2.2.2.2.2.2.2.2.2.2.2.2.2.2.2.2.1 u.2.2.2.2.2.2.2.2.2.2.2.2.2.2.2.2.2.2.2.2.1 u.2.2.2.2.2.2.2.2.2.2.2.2.2.2.2.2.2.2.2.2.2.1 u.2.2.2.2.2.2.2.2.2.2.2.2.2.2.2.2.2.2.2.2.2.2.1 u.2.2.2.2.2.2.2.2.2.2.2.2.2.2.2.2.2.2.2.2.2.2.2.1 u.2.2.2.2.2.2.2.2.2.2.2.2.2.2.2.2.2.2.2.2.2.2.2.2.1 u.2.2.2.2.2.2.2.2.2.2.2.2.2.2.2.2.2.2.2.2.2.2.2.2.2.1 u.2.2.2.2.2.2.2.2.2.2.2.2.2.2.2.2.2.2.2.2.2.2.2.2.2.2.1 u.2.2.2.2.2.2.2.2.2.2.2.2.2.2.2.2.2.2.2.2.2.2.2.2.2.2.2.1 u.2.2.2.2.2.2.2.2.2.2.2.2.2.2.2.2.2.2.2.2.2.2.2.2.2.2.2.2.1 u.2.2.2.2.2.2.2.2.2.2.2.2.2.2.2.2.2.2.2.2.2.2.2.2.2.2.2.2.2.1 u.2.2.2.2.2.2.2.2.2.2.2.2.2.2.2.2.2.2.2.2.2.2.2.2.2.2.2.2.2.2.1 u.2.2.2.2.2.2.2.2.2.2.2.2.2.2.2.2.2.2.2.2.2.2.2.2.2.2.2.2.2.2.2.1 u.2.2.2.2.2.2.2.2.2.2.2.2.2.2.2.2.2.2.2.2.2.2.2.2.2.2.2.2.2.2.2.2.1 u.2.2.2.2.2.2.2.2.2.2.2.2.2.2.2.2.2.2.2.2.2.2.2.2.2.2.2.2.2.2.2.2.2.1 u.2.2.2.2.2.2.2.2.2.2.2.2.2.2.2.2.2.2.2.2.2.2.2.2.2.2.2.2.2.2.2.2.2.2.1 u.2.2.2.2.2.2.2.2.2.2.2.2.2.2.2.2.2.2.2.2.2.2.2.2.2.2.2.2.2.2.2.2.2.2.2.1 u.2.2.2.2.2.2.2.2.2.2.2.2.2.2.2.2.2.2.2.2.2.2.2.2.2.2.2.2.2.2.2.2.2.2.2.2.1 u.2.2.2.2.2.2.2.2.2.2.2.2.2.2.2.2.2.2.2.2.2.2.2.2.2.2.2.2.2.2.2.2.2.2.2.2.2.1 u.2.2.2.2.2.2.2.2.2.2.2.2.2.2.2.2.2.2.2.2.2.2.2.2.2.2.2.2.2.2.2.2.2.2.2.2.2.2.1 u.2.2.2.2.2.2.2.2.2.2.2.2.2.2.2.2.2.2.2.2.2.2.2.2.2.2.2.2.2.2.2.2.2.2.2.2.2.2.2.1 u.2.2.2.2.2.2.2.2.2.2.2.2.2.2.2.2.2.2.2.2.2.2.2.2.2.2.2.2.2.2.2.2.2.2.2.2.2.2.2.2 := by
  refine pk_loop (σ := St1) (fun f i s => wL_law_37 (fun r => r = 1) L xs kc ks' f (nI i) s.1 s.2.1 s.2.2.1 s.2.2.2.1 s.2.2.2.2.1 s.2.2.2.2.2.1 s.2.2.2.2.2.2.1 s.2.2.2.2.2.2.2.1 s.2.2.2.2.2.2.2.2.1 s.2.2.2.2.2.2.2.2.2.1 s.2.2.2.2.2.2.2.2.2.2.1 s.2.2.2.2.2.2.2.2.2.2.2.1 s.2.2.2.2.2.2.2.2.2.2.2.2.1 s.2.2.2.2.2.2.2.2.2.2.2.2.2.1 s.2.2.2.2.2.2.2.2.2.2.2.2.2.2.1 s.2.2.2.2.2.2.2.2.2.2.2.2.2.2.2.1 s.2.2.2.2.2.2.2.2.2.2.2.2.2.2.2.2.1 s.2.2.2.2.2.2.2.2.2.2.2.2.2.2.2.2.2.1 s.2.2.2.2.2.2.2.2.2.2.2.2.2.2.2.2.2.2.1 s.2.2.2.2.2.2.2.2.2.2.2.2.2.2.2.2.2.2.2.1 s.2.2.2.2.2.2.2.2.2.2.2.2.2.2.2.2.2.2.2.2.1 s.2.2.2.2.2.2.2.2.2.2.2.2.2.2.2.2.2.2.2.2.2.1 s.2.2.2.2.2.2.2.2.2.2.2.2.2.2.2.2.2.2.2.2.2.2.1 s.2.2.2.2.2.2.2.2.2.2.2.2.2.2.2.2.2.2.2.2.2.2.2.1 s.2.2.2.2.2.2.2.2.2.2.2.2.2.2.2.2.2.2.2.2.2.2.2.2.1 s.2.2.2.2.2.2.2.2.2.2.2.2.2.2.2.2.2.2.2.2.2.2.2.2.2.1 s.2.2.2.2.2.2.2.2.2.2.2.2.2.2.2.2.2.2.2.2.2.2.2.2.2.2.1 s.2.2.2.2.2.2.2.2.2.2.2.2.2.2.2.2.2.2.2.2.2.2.2.2.2.2.2.1 s.2.2.2.2.2.2.2.2.2.2.2.2.2.2.2.2.2.2.2.2.2.2.2.2.2.2.2.2.1 s.2.2.2.2.2.2.2.2.2.2.2.2.2.2.2.2.2.2.2.2.2.2.2.2.2.2.2.2.2.1 s.2.2.2.2.2.2.2.2.2.2.2.2.2.2.2.2.2.2.2.2.2.2.2.2.2.2.2.2.2.2.1 s.2.2.2.2.2.2.2.2.2.2.2.2.2.2.2.2.2.2.2.2.2.2.2.2.2.2.2.2.2.2.2.1 s.2.2.2.2.2.2.2.2.2.2.2.2.2.2.2.2.2.2.2.2.2.2.2.2.2.2.2.2.2.2.2.2.1 s.2.2.2.2.2.2.2.2.2.2.2.2.2.2.2.2.2.2.2.2.2.2.2.2.2.2.2.2.2.2.2.2.2.1 s.2.2.2.2.2.2.2.2.2.2.2.2.2.2.2.2.2.2.2.2.2.2.2.2.2.2.2.2.2.2.2.2.2.2.1 s.2.2.2.2.2.2.2.2.2.2.2.2.2.2.2.2.2.2.2.2.2.2.2.2.2.2.2.2.2.2.2.2.2.2.2.1 s.2.2.2.2.2.2.2.2.2.2.2.2.2.2.2.2.2.2.2.2.2.2.2.2.2.2.2.2.2.2.2.2.2.2.2.2.1 s.2.2.2.2.2.2.2.2.2.2.2.2.2.2.2.2.2.2.2.2.2.2.2.2.2.2.2.2.2.2.2.2.2.2.2.2.2.1 s.2.2.2.2.2.2.2.2.2.2.2.2.2.2.2.2.2.2.2.2.2.2.2.2.2.2.2.2.2.2.2.2.2.2.2.2.2.2.1 s.2.2.2.2.2.2.2.2.2.2.2.2.2.2.2.2.2.2.2.2.2.2.2.2.2.2.2.2.2.2.2.2.2.2.2.2.2.2.2.1 s.2.2.2.2.2.2.2.2.2.2.2.2.2.2.2.2.2.2.2.2.2.2.2.2.2.2.2.2.2.2.2.2.2.2.2.2.2.2.2.2) (fun i s => tm_GI (6 + i) s) 4 0 u (by omega) hG ?_ ?_
  · intro f s h
    obtain ⟨xE, xS, xC, xN, xO, xU, xH, xI, xR, kd, px, py, wt, ks, ki, al, op, fx, fy, fz, cO, cA, cB, cC, cK, wn, wr, wp, wq, oe, ol, oq, so, nu, ln, lm, sv, ka, es, en, ec⟩ := s
    show wL_law_37 (fun r => r = 1) L xs kc ks' (f + 1) (nI 4) xE xS xC xN xO xU xH xI xR kd px py wt ks ki al op fx fy fz cO cA cB cC cK wn wr wp wq oe ol oq so nu ln lm sv ka es en ec
    unfold wL_law_37
    refine br_t (nI_le (Nat.le_refl 4) (by omega)) (tm_express_w (k := 11) h rfl (by omega) (fun z => by omega) (fun c => by omega) (fun c => absurd (Or.inr (Or.inl rfl)) c) (fun u hu => ?_))
    obtain ⟨xE, xS, xC, xN, xO, xU, xH, xI, xR, kd, px, py, wt, ks, ki, al, op, fx, fy, fz, cO, cA, cB, cC, cK, wn, wr, wp, wq, oe, ol, oq, so, nu, ln, lm, sv, ka, es, en, ec⟩ := u
    exact br_t rfl (tm_l84 hL (xE, xS, xC, xN, xO, xU, xH, xI, xR, kd, px, py, wt, ks, ki, al, op, fx, fy, fz, cO, cA, cB, cC, cK, wn, wr, wp, wq, oe, ol, oq, so, nu, ln, lm, sv, ka, es, en, ec) hu (by omega) rfl)
  · intro f i s hi h hw
    obtain ⟨xE, xS, xC, xN, xO, xU, xH, xI, xR, kd, px, py, wt, ks, ki, al, op, fx, fy, fz, cO, cA, cB, cC, cK, wn, wr, wp, wq, oe, ol, oq, so, nu, ln, lm, sv, ka, es, en, ec⟩ := s
    show wL_law_37 (fun r => r = 1) L xs kc ks' (f + 1) (nI i) xE xS xC xN xO xU xH xI xR kd px py wt ks ki al op fx fy fz cO cA cB cC cK wn wr wp wq oe ol oq so nu ln lm sv ka es en ec
    unfold wL_law_37
    refine br_f (nI_ge (b := 4) hi (by omega)) (tm_express_w (k := 0) h rfl (by omega) (fun z => by omega) (fun c => by omega) (fun c => absurd (Or.inl rfl) c) (fun u hu => ?_))
    obtain ⟨xE, xS, xC, xN, xO, xU, xH, xI, xR, kd, px, py, wt, ks, ki, al, op, fx, fy, fz, cO, cA, cB, cC, cK, wn, wr, wp, wq, oe, ol, oq, so, nu, ln, lm, sv, ka, es, en, ec⟩ := u
    exact br_t (nI_add 6 i).symm (nm_r (nI_1 i) (hw (xE, xS, xC, xN, xO, xU, xH, xI, xR, kd, px, py, wt, ks, ki, al, op, fx, fy, fz, cO, cA, cB, cC, cK, wn, wr, wp, wq, oe, ol, oq, so, nu, ln, lm, sv, ka, es, en, ec) hu))
theorem tm_l10 {L : Nat} {xs : Nat → Int32} {kc ks' : Nat} (hL : L ≤ 260) (u : St1) (hG : tm_GI 0 u) : ∃ fu, wL_law_10 (fun r => r = 1) L xs kc ks' fu 0 u.1 u.2.1 u.2.2.1 u.2.2.2.1 u.2.2.2.2.1 u.2.2.2.2.2.1 u.2.2.2.2.2.2.1 u.2.2.2.2.2.2.2.1 u.2.2.2.2.2.2.2.2.1 u.2.2.2.2.2.2.2.2.2.1 u.2.2.2.2.2.2.2.2.2.2.1 u.2.2.2.2.2.2.2.2.2.2.2.1 u.2.2.2.2.2.2.2.2.2.2.2.2.1 u.2.2.2.2.2.2.2.2.2.2.2.2.2.1 u.2.2.2.2.2.2.2.2.2.2.2.2.2.2.1 u.2.2.2.2.2.2.2.2.2.2.2.2.2.2.2.1 u.2.2.2.2.2.2.2.2.2.2.2.2.2.2.2.2.1 u.2.2.2.2.2.2.2.2.2.2.2.2.2.2.2.2.2.1 u.2.2.2.2.2.2.2.2.2.2.2.2.2.2.2.2.2.2.1 u.2.2.2.2.2.2.2.2.2.2.2.2.2.2.2.2.2.2.2.1 u.2.2.2.2.2.2.2.2.2.2.2.2.2.2.2.2.2.2.2.2.1 u.2.2.2.2.2.2.2.2.2.2.2.2.2.2.2.2.2.2.2.2.2.1 u.2.2.2.2.2.2.2.2.2.2.2.2.2.2.2.2.2.2.2.2.2.2.1 u.2.2.2.2.2.2.2.2.2.2.2.2.2.2.2.2.2.2.2.2.2.2.2.1 u.2.2.2.2.2.2.2.2.2.2.2.2.2.2.2.2.2.2.2.2.2.2.2.2.1 u.2.2.2.2.2.2.2.2.2.2.2.2.2.2.2.2.2.2.2.2.2.2.2.2.2.1 u.2.2.2.2.2.2.2.2.2.2.2.2.2.2.2.2.2.2.2.2.2.2.2.2.2.2.1 u.2.2.2.2.2.2.2.2.2.2.2.2.2.2.2.2.2.2.2.2.2.2.2.2.2.2.2.1 u.2.2.2.2.2.2.2.2.2.2.2.2.2.2.2.2.2.2.2.2.2.2.2.2.2.2.2.2.1 u.2.2.2.2.2.2.2.2.2.2.2.2.2.2.2.2.2.2.2.2.2.2.2.2.2.2.2.2.2.1 u.2.2.2.2.2.2.2.2.2.2.2.2.2.2.2.2.2.2.2.2.2.2.2.2.2.2.2.2.2.2.1 u.2.2.2.2.2.2.2.2.2.2.2.2.2.2.2.2.2.2.2.2.2.2.2.2.2.2.2.2.2.2.2.1 u.2.2.2.2.2.2.2.2.2.2.2.2.2.2.2.2.2.2.2.2.2.2.2.2.2.2.2.2.2.2.2.2.1 u.2.2.2.2.2.2.2.2.2.2.2.2.2.2.2.2.2.2.2.2.2.2.2.2.2.2.2.2.2.2.2.2.2.1 u.2.2.2.2.2.2.2.2.2.2.2.2.2.2.2.2.2.2.2.2.2.2.2.2.2.2.2.2.2.2.2.2.2.2.1 u.2.2.2.2.2.2.2.2.2.2.2.2.2.2.2.2.2.2.2.2.2.2.2.2.2.2.2.2.2.2.2.2.2.2.2.1 u.2.2.2.2.2.2.2.2.2.2.2.2.2.2.2.2.2.2.2.2.2.2.2.2.2.2.2.2.2.2.2.2.2.2.2.2.1 u.2.2.2.2.2.2.2.2.2.2.2.2.2.2.2.2.2.2.2.2.2.2.2.2.2.2.2.2.2.2.2.2.2.2.2.2.2.1 u.2.2.2.2.2.2.2.2.2.2.2.2.2.2.2.2.2.2.2.2.2.2.2.2.2.2.2.2.2.2.2.2.2.2.2.2.2.2.1 u.2.2.2.2.2.2.2.2.2.2.2.2.2.2.2.2.2.2.2.2.2.2.2.2.2.2.2.2.2.2.2.2.2.2.2.2.2.2.2.1 u.2.2.2.2.2.2.2.2.2.2.2.2.2.2.2.2.2.2.2.2.2.2.2.2.2.2.2.2.2.2.2.2.2.2.2.2.2.2.2.2 := by
  refine pk_loop (σ := St1) (fun f i s => wL_law_10 (fun r => r = 1) L xs kc ks' f (nI i) s.1 s.2.1 s.2.2.1 s.2.2.2.1 s.2.2.2.2.1 s.2.2.2.2.2.1 s.2.2.2.2.2.2.1 s.2.2.2.2.2.2.2.1 s.2.2.2.2.2.2.2.2.1 s.2.2.2.2.2.2.2.2.2.1 s.2.2.2.2.2.2.2.2.2.2.1 s.2.2.2.2.2.2.2.2.2.2.2.1 s.2.2.2.2.2.2.2.2.2.2.2.2.1 s.2.2.2.2.2.2.2.2.2.2.2.2.2.1 s.2.2.2.2.2.2.2.2.2.2.2.2.2.2.1 s.2.2.2.2.2.2.2.2.2.2.2.2.2.2.2.1 s.2.2.2.2.2.2.2.2.2.2.2.2.2.2.2.2.1 s.2.2.2.2.2.2.2.2.2.2.2.2.2.2.2.2.2.1 s.2.2.2.2.2.2.2.2.2.2.2.2.2.2.2.2.2.2.1 s.2.2.2.2.2.2.2.2.2.2.2.2.2.2.2.2.2.2.2.1 s.2.2.2.2.2.2.2.2.2.2.2.2.2.2.2.2.2.2.2.2.1 s.2.2.2.2.2.2.2.2.2.2.2.2.2.2.2.2.2.2.2.2.2.1 s.2.2.2.2.2.2.2.2.2.2.2.2.2.2.2.2.2.2.2.2.2.2.1 s.2.2.2.2.2.2.2.2.2.2.2.2.2.2.2.2.2.2.2.2.2.2.2.1 s.2.2.2.2.2.2.2.2.2.2.2.2.2.2.2.2.2.2.2.2.2.2.2.2.1 s.2.2.2.2.2.2.2.2.2.2.2.2.2.2.2.2.2.2.2.2.2.2.2.2.2.1 s.2.2.2.2.2.2.2.2.2.2.2.2.2.2.2.2.2.2.2.2.2.2.2.2.2.2.1 s.2.2.2.2.2.2.2.2.2.2.2.2.2.2.2.2.2.2.2.2.2.2.2.2.2.2.2.1 s.2.2.2.2.2.2.2.2.2.2.2.2.2.2.2.2.2.2.2.2.2.2.2.2.2.2.2.2.1 s.2.2.2.2.2.2.2.2.2.2.2.2.2.2.2.2.2.2.2.2.2.2.2.2.2.2.2.2.2.1 s.2.2.2.2.2.2.2.2.2.2.2.2.2.2.2.2.2.2.2.2.2.2.2.2.2.2.2.2.2.2.1 s.2.2.2.2.2.2.2.2.2.2.2.2.2.2.2.2.2.2.2.2.2.2.2.2.2.2.2.2.2.2.2.1 s.2.2.2.2.2.2.2.2.2.2.2.2.2.2.2.2.2.2.2.2.2.2.2.2.2.2.2.2.2.2.2.2.1 s.2.2.2.2.2.2.2.2.2.2.2.2.2.2.2.2.2.2.2.2.2.2.2.2.2.2.2.2.2.2.2.2.2.1 s.2.2.2.2.2.2.2.2.2.2.2.2.2.2.2.2.2.2.2.2.2.2.2.2.2.2.2.2.2.2.2.2.2.2.1 s.2.2.2.2.2.2.2.2.2.2.2.2.2.2.2.2.2.2.2.2.2.2.2.2.2.2.2.2.2.2.2.2.2.2.2.1 s.2.2.2.2.2.2.2.2.2.2.2.2.2.2.2.2.2.2.2.2.2.2.2.2.2.2.2.2.2.2.2.2.2.2.2.2.1 s.2.2.2.2.2.2.2.2.2.2.2.2.2.2.2.2.2.2.2.2.2.2.2.2.2.2.2.2.2.2.2.2.2.2.2.2.2.1 s.2.2.2.2.2.2.2.2.2.2.2.2.2.2.2.2.2.2.2.2.2.2.2.2.2.2.2.2.2.2.2.2.2.2.2.2.2.2.1 s.2.2.2.2.2.2.2.2.2.2.2.2.2.2.2.2.2.2.2.2.2.2.2.2.2.2.2.2.2.2.2.2.2.2.2.2.2.2.2.1 s.2.2.2.2.2.2.2.2.2.2.2.2.2.2.2.2.2.2.2.2.2.2.2.2.2.2.2.2.2.2.2.2.2.2.2.2.2.2.2.2) (fun i s => tm_GI i s) 6 0 u (by omega) hG ?_ ?_
  · intro f s h
    obtain ⟨xE, xS, xC, xN, xO, xU, xH, xI, xR, kd, px, py, wt, ks, ki, al, op, fx, fy, fz, cO, cA, cB, cC, cK, wn, wr, wp, wq, oe, ol, oq, so, nu, ln, lm, sv, ka, es, en, ec⟩ := s
    show wL_law_10 (fun r => r = 1) L xs kc ks' (f + 1) (nI 6) xE xS xC xN xO xU xH xI xR kd px py wt ks ki al op fx fy fz cO cA cB cC cK wn wr wp wq oe ol oq so nu ln lm sv ka es en ec
    unfold wL_law_10
    exact br_t (nI_le (Nat.le_refl 6) (by omega)) (tm_l37 hL (xE, xS, xC, xN, xO, xU, xH, xI, xR, kd, px, py, wt, ks, ki, al, op, fx, fy, fz, cO, cA, cB, cC, cK, wn, wr, wp, wq, oe, ol, oq, so, nu, ln, lm, sv, ka, es, en, ec) h)
  · intro f i s hi h hw
    obtain ⟨xE, xS, xC, xN, xO, xU, xH, xI, xR, kd, px, py, wt, ks, ki, al, op, fx, fy, fz, cO, cA, cB, cC, cK, wn, wr, wp, wq, oe, ol, oq, so, nu, ln, lm, sv, ka, es, en, ec⟩ := s
    show wL_law_10 (fun r => r = 1) L xs kc ks' (f + 1) (nI i) xE xS xC xN xO xU xH xI xR kd px py wt ks ki al op fx fy fz cO cA cB cC cK wn wr wp wq oe ol oq so nu ln lm sv ka es en ec
    unfold wL_law_10
    refine br_f (nI_ge (b := 6) hi (by omega)) (tm_express_w (k := 1) h rfl (by omega) (fun z => by omega) (fun _ => ⟨i, hi, rfl⟩) (fun c => absurd (Or.inr (Or.inr rfl)) c) (fun u hu => ?_))
    obtain ⟨xE, xS, xC, xN, xO, xU, xH, xI, xR, kd, px, py, wt, ks, ki, al, op, fx, fy, fz, cO, cA, cB, cC, cK, wn, wr, wp, wq, oe, ol, oq, so, nu, ln, lm, sv, ka, es, en, ec⟩ := u
    exact br_t rfl (nm_r (nI_1 i) (hw (xE, xS, xC, xN, xO, xU, xH, xI, xR, kd, px, py, wt, ks, ki, al, op, fx, fy, fz, cO, cA, cB, cC, cK, wn, wr, wp, wq, oe, ol, oq, so, nu, ln, lm, sv, ka, es, en, ec) hu))
end
section
theorem i_vc (xs : Nat → Int32) (L : Nat) (hL : L ≤ 260) : wpL_law (fun r => r = 1) L xs := by
  unfold wpL_law
  refine ⟨32, 2960, by omega, by omega, ?_⟩
  unfold wpX_init
  dsimp only
  refine ⟨by omega, by omega, by omega, by omega, by omega, by omega, by omega, by omega, by omega, by omega, by omega, by omega, by omega, by omega, by omega, by omega, by omega, by omega, by omega, by omega, by omega, by omega, by omega, by omega, by omega, by omega, by omega, by omega, by omega, by omega, by omega, by omega, by omega, by omega, by omega, by omega, by omega, by omega, by omega, by omega, by omega, by omega, by omega, by omega, by omega, by omega, by omega, by omega, by omega, by omega, by omega, by omega, by omega, by omega, by omega, by omega, by omega, by omega, by omega, by omega, by omega, by omega, by omega, by omega, ?_⟩
  exact tm_l10 hL (0, 0, 0, 0, 0, 0, 0, 0, 0, (fun _ => 0), (fun _ => 0), (fun _ => 0), (fun _ => 0), (fun _ => 0), (fun _ => 0), (fun _ => 0), (fun _ => 0), (fun _ => 0), (fun _ => 0), (fun _ => 0), (fun _ => 0), (fun _ => 0), (fun _ => 0), (fun _ => 0), (fun _ => 0), (fun _ => 0), (fun _ => 0), (fun _ => 0), (fun _ => 0), (fun _ => 0), (fun _ => 0), (fun _ => 0), (fun _ => 0), (fun _ => 0), (fun _ => 0), (fun _ => 0), (fun _ => 0), (fun _ => 0), (fun _ => 0), (fun _ => 0), (fun _ => 0)) (tm_GI_mk (ne := 0) (ns := 0) (k := 0) rfl rfl ⟨by omega, fun e he => absurd he (by omega)⟩ ⟨by omega, fun i hi => absurd hi (by omega)⟩ (fun c => absurd rfl c) tm_iv0 rfl (by omega))
end
