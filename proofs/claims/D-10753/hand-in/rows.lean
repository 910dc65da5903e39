section
/-! the calendar: pure picture -/
/-- the first day of year y -/
def dz_yS (y : Nat) : Nat := 365 * y + (y + 3) / 4
/-- the length of month m of year y -/
def dz_mL (y m : Nat) : Nat := if m = 1 then (if y % 4 = 0 then 29 else 28) else if m = 3 ∨ m = 5 ∨ m = 8 ∨ m = 10 then 30 else 31
/-- the first day of month m of year y -/
def dz_mS (y : Nat) : Nat → Nat
  | 0 => dz_yS y
  | m + 1 => dz_mS y m + dz_mL y m
theorem dz_mL_lo (y m : Nat) : 28 ≤ dz_mL y m := by
  unfold dz_mL
  split
  · split <;> omega
  · split <;> omega
theorem dz_mL_hi (y m : Nat) : dz_mL y m ≤ 31 := by
  unfold dz_mL
  split
  · split <;> omega
  · split <;> omega
theorem dz_yS_hi {y : Nat} (h : y ≤ 20) : dz_yS y ≤ 7305 := by
  unfold dz_yS
  omega
theorem dz_yS_mono {a b : Nat} (h : a ≤ b) : dz_yS a ≤ dz_yS b := by
  unfold dz_yS
  omega
theorem dz_mS_12 : ∀ y, y < 20 → dz_mS y 12 = dz_yS (y + 1) := by decide +kernel
theorem dz_mS_step (y m : Nat) : dz_mS y m ≤ dz_mS y (m + 1) := Nat.le_add_right _ _
theorem dz_mS_mono (y : Nat) {a b : Nat} (h : a ≤ b) : dz_mS y a ≤ dz_mS y b := by
  induction h with
  | refl => exact Nat.le_refl _
  | step _ ih => exact Nat.le_trans ih (dz_mS_step y _)
theorem dz_mS_hi {y m : Nat} (hy : y < 20) (hm : m ≤ 12) : dz_mS y m ≤ 7305 := by
  have h1 := dz_mS_mono y hm
  have h2 := dz_mS_12 y hy
  have h3 := dz_yS_hi (y := y + 1) (by omega)
  omega
/-- every day has its year and its month -/
theorem dz_cal {d : Nat} (hd : d ≤ 7304) : ∃ y m, y < 20 ∧ m < 12 ∧ dz_yS y ≤ d ∧ d < dz_yS (y + 1) ∧ dz_mS y m ≤ d ∧ d < dz_mS y (m + 1) := by
  obtain ⟨y, h1, h2⟩ := pk_least (fun k => d < dz_yS (k + 1)) ⟨19, by show d < dz_yS 20; unfold dz_yS; omega⟩
  have hy : y < 20 := by
    rcases Nat.lt_or_ge y 20 with z | z
    · exact z
    · exact absurd (show d < dz_yS (19 + 1) by unfold dz_yS; omega) (h2 19 (by omega))
  have hl : dz_yS y ≤ d := by
    cases y with
    | zero => exact Nat.zero_le _
    | succ y => exact Nat.le_of_not_lt (h2 y (by omega))
  obtain ⟨m, g1, g2⟩ := pk_least (fun k => d < dz_mS y (k + 1)) ⟨11, by
    show d < dz_mS y 12
    rw [dz_mS_12 y hy]
    exact h1⟩
  have hm : m < 12 := by
    rcases Nat.lt_or_ge m 12 with z | z
    · exact z
    · have t := g2 11 (by omega)
      have t' : ¬ d < dz_mS y 12 := t
      rw [dz_mS_12 y hy] at t'
      exact absurd h1 t'
  have gl : dz_mS y m ≤ d := by
    cases m with
    | zero => exact hl
    | succ m => exact Nat.le_of_not_lt (g2 m (by omega))
  exact ⟨y, m, hy, hm, hl, h1, gl, g1⟩
/-! the calendar: the walks -/
theorem dz_bad0 {post : Int32 → Prop} {x : Int32} (d : Nat) (hd : d ≤ 7304) (h : post 0) (hx : x = nI d := by rfl) : wpX_badDay post () x :=
  pk_lt d 0 (fun z => absurd z (by omega)) (fun _ => pk_le d 7304 (fun _ => h) (fun z => absurd z (by omega)) hx) hx
theorem dz_big {x : Int32} (h : nI 7305 ≤ x) : ¬ x < 0 ∧ ¬ x ≤ 7304 ∧ 7304 < x := by
  have e : (nI 7305).toInt = 7305 := by decide
  have e2 : (7304 : Int32).toInt = 7304 := by decide
  have e3 : (0 : Int32).toInt = 0 := by decide
  rw [Int32.le_iff_toInt_le] at h
  rw [Int32.le_iff_toInt_le, Int32.lt_iff_toInt_lt, Int32.lt_iff_toInt_lt]
  omega
theorem dz_bad1 {post : Int32 → Prop} {x : Int32} (hx : x < 0 ∨ nI 7305 ≤ x) (h : post 1) : wpX_badDay post () x := by
  rcases hx with z | z
  · exact br_t z h
  · exact br_f (dz_big z).1 (br_f (dz_big z).2.1 h)
theorem dz_good1 {post : Int32 → Prop} {x : Int32} (d : Nat) (hd : d ≤ 7304) (h : post 1) (hx : x = nI d := by rfl) : wpL_good post () x :=
  pk_lt d 0 (fun z => absurd z (by omega)) (fun _ => pk_lt 7304 d (fun z => absurd z (by omega)) (fun _ => h) rfl hx) hx
theorem dz_good0 {post : Int32 → Prop} {x : Int32} (hx : x < 0 ∨ nI 7305 ≤ x) (h : post 0) : wpL_good post () x := by
  rcases hx with z | z
  · exact br_t z h
  · exact br_f (dz_big z).1 (br_t (dz_big z).2.2 h)
theorem dz_yearStart {post : Int32 → Prop} {x : Int32} (y : Nat) (hy : y ≤ 20) (h : post (nI (dz_yS y))) (hx : x = nI y := by rfl) : wpX_yearStart post () x := by
  subst hx
  have e : (365 * nI y) + ((nI y + 3) / 4) = nI (dz_yS y) := by
    show (nI 365 * nI y) + ((nI y + nI 3) / nI 4) = _
    rw [pk_mul, nI_add, pk_div (by omega) (by omega) (by omega), nI_add]
    rfl
  exact ⟨by decide, ek_v (P := post) e h⟩
theorem dz_yearOf {post : Int32 → Prop} {x : Int32} (d y : Nat) (hd : d ≤ 7304) (hy : y < 20) (h1 : dz_yS y ≤ d) (h2 : d < dz_yS (y + 1)) (h : post (nI y)) (hx : x = nI d := by rfl) : wpX_yearOf post () x := by
  subst hx
  exact pk_loop (σ := Unit) (fun n i _ => wX_yearOf_2 post (nI d) n (nI i)) (fun _ _ => True) y 0 () (by omega) trivial
    (fun n _ _ => pk_le 19 y (fun _ => h) (fun z => dz_yearStart (y + 1) (by omega) (pk_lt d (dz_yS (y + 1)) (fun _ => h) (fun z => absurd h2 (by omega)) rfl rfl (by omega) (by have := dz_yS_hi (y := y + 1) (by omega); omega)) (nI_1 y)))
    (fun n i _ hi _ hw => pk_le 19 i (fun z => absurd z (by omega)) (fun _ => dz_yearStart (i + 1) (by omega) (pk_lt d (dz_yS (i + 1)) (fun z => absurd (dz_yS_mono (show i + 1 ≤ y by omega)) (by omega)) (fun _ => nm_r (nI_1 i) (hw () trivial)) rfl rfl (by omega) (by have := dz_yS_hi (y := i + 1) (by omega); omega)) (nI_1 i)))
theorem dz_monthLength {post : Int32 → Prop} {x z : Int32} (y m : Nat) (hy : y < 20) (hm : m < 12) (h : post (nI (dz_mL y m))) (hx : x = nI y := by rfl) (hz : z = nI m := by rfl) : wpX_monthLength post () x z := by
  subst hx hz
  have k : ∀ l, dz_mL y m = l → post (nI l) := fun l e => e ▸ h
  refine pk_eq m 1 (fun g => ?_) (fun g => ?_)
  · have e : nI y &&& 3 = nI (y % 4) := pk_andN (by omega) 2 (by decide)
    exact pk_eq (y % 4) 0 (fun q => br_f (by decide) (k 29 (by simp [dz_mL, g, q]))) (fun q => br_t rfl (k 28 (by simp [dz_mL, g, q]))) e
  · refine pk_eq m 3 (fun q => k 30 (by simp [dz_mL, q])) (fun q3 => ?_)
    refine pk_eq m 5 (fun q => k 30 (by simp [dz_mL, q])) (fun q5 => ?_)
    refine pk_eq m 8 (fun q => k 30 (by simp [dz_mL, q])) (fun q8 => ?_)
    exact pk_eq m 10 (fun q => k 30 (by simp [dz_mL, q])) (fun q10 => k 31 (by simp [dz_mL, g, q3, q5, q8, q10]))
theorem dz_monthStart {post : Int32 → Prop} {x z : Int32} (y m : Nat) (hy : y < 20) (hm : m ≤ 12) (h : post (nI (dz_mS y m))) (hx : x = nI y := by rfl) (hz : z = nI m := by rfl) : wpX_monthStart post () x z := by
  subst hx hz
  exact dz_yearStart y (by omega) (pk_loop (σ := Unit) (fun n i _ => wX_monthStart_7 post (nI y) (nI m) n (nI (dz_mS y i)) (nI i)) (fun _ _ => True) m 0 () (by omega) trivial
    (fun n _ _ => pk_le m m (fun _ => h) (fun z => absurd z (by omega)))
    (fun n i _ hi _ hw => pk_le m i (fun z => absurd z (by omega)) (fun _ => dz_monthLength y i hy (by omega) (nm_r (nI_add _ _) (nm_r (nI_1 i) (hw () trivial))))))
theorem dz_monthOf {post : Int32 → Prop} {x z : Int32} (d y m : Nat) (hd : d ≤ 7304) (hy : y < 20) (hm : m < 12) (h1 : dz_mS y m ≤ d) (h2 : d < dz_mS y (m + 1)) (h : post (nI m)) (hx : x = nI d := by rfl) (hz : z = nI y := by rfl) : wpX_monthOf post () x z := by
  subst hx hz
  exact pk_loop (σ := Unit) (fun n i _ => wX_monthOf_2 post (nI d) (nI y) n (nI i)) (fun _ _ => True) m 0 () (by omega) trivial
    (fun n _ _ => pk_le 11 m (fun _ => h) (fun z => dz_monthStart y (m + 1) hy (by omega) (pk_lt d (dz_mS y (m + 1)) (fun _ => h) (fun z => absurd h2 (by omega)) rfl rfl (by omega) (by have := dz_mS_hi (m := m + 1) hy (by omega); omega)) rfl (nI_1 m)))
    (fun n i _ hi _ hw => pk_le 11 i (fun z => absurd z (by omega)) (fun _ => dz_monthStart y (i + 1) hy (by omega) (pk_lt d (dz_mS y (i + 1)) (fun z => absurd (dz_mS_mono y (show i + 1 ≤ m by omega)) (by omega)) (fun _ => nm_r (nI_1 i) (hw () trivial)) rfl rfl (by omega) (by have := dz_mS_hi (m := i + 1) hy (by omega); omega)) rfl (nI_1 i)))
theorem dz_weekdayOf {post : Int32 → Prop} {x : Int32} (h : ∀ r, post r) : wpX_weekdayOf post () x := ⟨by decide, h _⟩
theorem dz_bits {post : Int32 → Prop} {x : Int32} (h : ∀ r, post r) : wpX_bits post () x :=
  pk_loop (σ := Int32) (fun n i s => wX_bits_4 post x n s (nI i)) (fun _ _ => True) 32 0 0 (by omega) trivial
    (fun n s _ => pk_le 32 32 (fun _ => h s) (fun z => absurd z (by omega)))
    (fun n i s hi _ hw => pk_le 32 i (fun z => absurd z (by omega)) (fun _ => fun s' _ => nm_r (nI_1 i) (hw s' trivial)))
end
section
/-! the days as bits of an array of longs -/
def dz_gb (a : Nat → Int64) (e : Nat) : Bool := (a (e / 64)).toBitVec.getLsbD (e % 64)
def dz_bit (j : Nat) : Int64 := (1 : Int64) <<< ((nI j &&& 63).toInt64 &&& 63)
theorem dz_tp0 : ∀ k, k < 64 → ((1 : Int64) <<< ((nI k).toInt64 &&& 63)).toBitVec = BitVec.twoPow 64 k := by decide +kernel
theorem dz_cu : ∀ k, k < 64 → ((nI k).toInt64.toUInt64 &&& Int64.toUInt64 63) = UInt64.ofNat k := by decide +kernel
theorem dz_and63 {j : Nat} (h : j < 2 ^ 31) : nI j &&& 63 = nI (j % 64) := pk_andN (by omega) 6 (by decide)
theorem dz_shr6 {j : Nat} (h : j < 2 ^ 31) : nI j >>> ((6 : Int32) &&& 31) = nI (j / 64) := pk_shrN h _ 6 (by decide)
theorem dz_ix {j : Nat} (h : j < 2 ^ 31) : (nI j >>> ((6 : Int32) &&& 31)).toNatClampNeg = j / 64 := by
  rw [dz_shr6 h, nI_clamp (by omega)]
theorem dz_in {j : Nat} (h : j ≤ 7304) : vp_in (nI j >>> ((6 : Int32) &&& 31)) 115 := pk_in (j / 64) 115 (by omega) (dz_shr6 (by omega))
theorem dz_bit_tp {j : Nat} (h : j < 2 ^ 31) : (dz_bit j).toBitVec = BitVec.twoPow 64 (j % 64) := by
  unfold dz_bit
  rw [dz_and63 h]
  exact dz_tp0 (j % 64) (by omega)
/-- a day set, a day cleared -/
def dz_set (a : Nat → Int64) (j : Nat) : Nat → Int64 := vp_updL a (j / 64) (a (j / 64) ||| dz_bit j)
def dz_clr (a : Nat → Int64) (j : Nat) : Nat → Int64 := vp_updL a (j / 64) (a (j / 64) &&& (dz_bit j ^^^ (-1)))
theorem dz_gb_set (a : Nat → Int64) {j : Nat} (h : j < 2 ^ 31) (e : Nat) : dz_gb (dz_set a j) e = (decide (e = j) || dz_gb a e) := by
  unfold dz_gb dz_set
  by_cases q : e / 64 = j / 64
  · rw [q, pk_uLs, Int64.toBitVec_or, dz_bit_tp h, BitVec.getLsbD_or, BitVec.getLsbD_twoPow]
    by_cases g : e = j
    · subst g
      simp [Nat.mod_lt]
    · have g2 : ¬ j % 64 = e % 64 := by omega
      simp [g, g2]
  · rw [pk_uLn q]
    have g : ¬ e = j := fun t => q (by rw [t])
    simp [g]
theorem dz_gb_clr (a : Nat → Int64) {j : Nat} (h : j < 2 ^ 31) : dz_gb (dz_clr a j) j = false := by
  have ha : (-1 : Int64).toBitVec = BitVec.allOnes 64 := by decide
  have hj : j % 64 < 64 := Nat.mod_lt _ (by decide)
  unfold dz_gb dz_clr
  rw [pk_uLs, Int64.toBitVec_and, Int64.toBitVec_xor, dz_bit_tp h, ha, BitVec.getLsbD_and, BitVec.getLsbD_xor, BitVec.getLsbD_twoPow, BitVec.getLsbD_allOnes]
  simp [hj]
theorem dz_bit1 {w : Int64} {s : UInt64} {j : Nat} (hj : j < 64) (hs : s.toNat = j) : ((w.toUInt64 >>> s).toInt64 &&& 1) = 1 ↔ w.toBitVec.getLsbD j = true := by
  have e : (w.toUInt64 >>> s).toInt64.toBitVec = w.toBitVec >>> j := by
    apply BitVec.eq_of_toNat_eq
    show (w.toUInt64 >>> s).toNat = _
    rw [UInt64.toNat_shiftRight, hs, Nat.mod_eq_of_lt hj, BitVec.toNat_ushiftRight]
    rfl
  rw [← Int64.toBitVec_inj, Int64.toBitVec_and, e]
  show w.toBitVec >>> j &&& 1#64 = 1#64 ↔ _
  rw [BitVec.and_one_eq_setWidth_ofBool_getLsbD, BitVec.getLsbD_ushiftRight, Nat.add_zero]
  cases w.toBitVec.getLsbD j
  · exact ⟨fun z => absurd z (by decide), fun z => absurd z (by decide)⟩
  · exact ⟨fun _ => rfl, fun _ => by decide⟩
theorem dz_test (a : Nat → Int64) {e : Nat} (h : e < 2 ^ 31) : ((((a (nI e >>> ((6 : Int32) &&& 31)).toNatClampNeg).toUInt64 >>> ((nI e &&& 63).toInt64.toUInt64 &&& Int64.toUInt64 63)).toInt64) &&& 1) = 1 ↔ dz_gb a e = true := by
  rw [dz_ix h, dz_and63 h, dz_cu (e % 64) (by omega)]
  exact dz_bit1 (by omega) (Nat.mod_eq_of_lt (by omega))
/-- the day's days: bits of one step more -/
theorem dz_next {s t k e : Nat} (hk : 0 < k) (hst : s ≤ t) (hm : (t - s) % k = 0) : (s ≤ e ∧ e < t + k ∧ (e - s) % k = 0) ↔ (e = t ∨ (s ≤ e ∧ e < t ∧ (e - s) % k = 0)) := by
  constructor
  · intro ⟨h1, h2, h3⟩
    rcases Nat.lt_trichotomy e t with z | z | z
    · exact Or.inr ⟨h1, z, h3⟩
    · exact Or.inl z
    · exfalso
      have q := Nat.div_add_mod (t - s) k
      rw [hm, Nat.add_zero] at q
      have e1 : e - s = k * ((t - s) / k) + (e - t) := by omega
      rw [e1, Nat.mul_add_mod, Nat.mod_eq_of_lt (by omega)] at h3
      omega
  · intro h
    rcases h with z | ⟨h1, h2, h3⟩
    · subst z
      exact ⟨hst, by omega, hm⟩
    · exact ⟨h1, by omega, h3⟩
/-- a month's full mask -/
def dz_full (l : Nat) : Int32 := ((-1 : Int32).toUInt32 >>> ((32 - nI l).toUInt32 &&& Int32.toUInt32 31)).toInt32
theorem dz_fullB : ∀ l, l < 32 → 28 ≤ l → ∀ o, o < l → (((dz_full l).toUInt32 >>> ((nI o).toUInt32 &&& Int32.toUInt32 31)).toInt32) &&& 1 = 1 := by decide +kernel
/-- the mask of one day: no other bit -/
theorem dz_one : ∀ i, i < 32 → 1 ≤ i → ¬ (((1 : Int32).toUInt32 >>> ((nI i).toUInt32 &&& Int32.toUInt32 31)).toInt32) &&& 1 = 1 := by decide +kernel
/-- steps that don't wrap -/
theorem dz_mu7 {l : Nat} {b b' : Int32} (hl : l ≤ 31) (z : ¬ nI l ≤ b) (eb : b' = b + 7) : (31 - b'.toInt).toNat < (31 - b.toInt).toNat := by
  have h1 := b.le_toInt
  rw [Int32.le_iff_toInt_le, nI_toInt (by omega)] at z
  have h2 : b'.toInt = b.toInt + 7 := by
    rw [eb, Int32.toInt_add, show (7 : Int32).toInt = 7 from by decide]
    exact Int.bmod_eq_of_le (by omega) (by omega)
  omega
theorem dz_muW {k : Nat} {b b' : Int32} (hk : 1 ≤ k) (hk2 : k ≤ 20) (z : ¬ (7304 : Int32) < b) (eb : b' = b + 7 * nI k) : (7305 - b'.toInt).toNat < (7305 - b.toInt).toNat := by
  have h1 := b.le_toInt
  rw [Int32.lt_iff_toInt_lt, show (7304 : Int32).toInt = 7304 from by decide] at z
  have h3 : (7 * nI k : Int32) = nI (7 * k) := pk_mul 7 k
  have h2 : b'.toInt = b.toInt + (7 * k : Nat) := by
    rw [eb, h3, Int32.toInt_add, nI_toInt (by omega)]
    exact Int.bmod_eq_of_le (by omega) (by omega)
  omega
theorem dz_lo {x : Int32} {s : Nat} (hs : s ≤ 7304) (g : ¬ x < nI s) (g2 : ¬ 7304 < x) : ∃ j, s ≤ j ∧ j ≤ 7304 ∧ x = nI j := by
  rw [Int32.lt_iff_toInt_lt, nI_toInt (by omega)] at g
  have h0 : ¬ x < 0 := by
    rw [Int32.lt_iff_toInt_lt, show (0 : Int32).toInt = 0 from by decide]
    omega
  obtain ⟨j, hj, rfl⟩ := nI_of h0
  rw [nI_toInt hj] at g
  rw [Int32.lt_iff_toInt_lt, nI_toInt hj, show (7304 : Int32).toInt = 7304 from by decide] at g2
  exact ⟨j, by omega, by omega, rfl⟩
/-- any int: a day or not -/
theorem dz_badC {post : Int32 → Prop} {x : Int32} (h0 : ∀ d, d ≤ 7304 → x = nI d → post 0) (h1 : post 1) : wpX_badDay post () x := by
  rcases pk_ix x (n := 7305) (by decide) with z | z | ⟨j, hj, e⟩
  · exact dz_bad1 (Or.inl z) h1
  · exact dz_bad1 (Or.inr z) h1
  · exact dz_bad0 j (by omega) (h0 j (by omega) e) e
end
section
/-! the walks that store days, whatever days these are -/
/-- the states that the law reaches: no sets, no place, no count, the last end -/
abbrev dz_S (st fr iv ex um ud uw km kk rd md : Int32) (a1 a2 a3 : Nat → Int32) (a4 : Nat → Int64) : St2 := (st, fr, iv, 0, 0, 0, 0, 0, 0, 0, 7304, ex, um, ud, uw, 0, km, kk, rd, md, a1, a2, a3, a4)
section
variable {st fr iv ex um ud uw km kk rd md : Int32} {a1 a2 a3 : Nat → Int32} {a4 : Nat → Int64}
theorem dz_wanted {post : Int32 → Prop} (h : post 1) : wpX_wanted post (dz_S st fr iv ex um ud uw km kk rd md a1 a2 a3 a4) := br_t rfl h
theorem dz_stays {post : Int32 → Prop} {p q : Int32} (h : post 1) : wpX_stays post (dz_S st fr iv ex um ud uw km kk rd md a1 a2 a3 a4) p q := br_t rfl h
theorem dz_add {post : St2 → Prop} {p : Int32} (s : Nat) (hs : s ≤ 7304) (h : ∀ md a4, post (dz_S (nI s) fr iv ex um ud uw km kk rd md a1 a2 a3 a4)) : wpX_add post (dz_S (nI s) fr iv ex um ud uw km kk rd md a1 a2 a3 a4) p := by
  refine br_c (fun _ => h md a4) (fun g => br_c (fun _ => h md a4) (fun g2 => ?_))
  obtain ⟨j, _, hj, rfl⟩ := dz_lo hs g g2
  exact dz_wanted (br_f (by decide) ⟨dz_in hj, dz_in hj, fun a _ f _ => h f a⟩)
theorem dz_addMask {post : St2 → Prop} {mk fm : Int32} (s : Nat) (hs : s ≤ 7304) (h : ∀ md a4, post (dz_S (nI s) fr iv ex um ud uw km kk rd md a1 a2 a3 a4)) : wpX_addMask post (dz_S (nI s) fr iv ex um ud uw km kk rd md a1 a2 a3 a4) mk fm :=
  dz_bits (fun r => pk_loop (σ := Int32 × Int32 × (Nat → Int64)) (fun n i t => wX_addMask_11 post mk fm r n t.1 (nI i) (nI s) fr iv 0 0 0 0 0 0 0 7304 ex um ud uw 0 km kk rd t.2.1 a1 a2 a3 t.2.2) (fun _ _ => True) 32 0 (0, md, a4) (by omega) trivial
    (fun n t _ => pk_le 32 32 (fun _ => h t.2.1 t.2.2) (fun z => absurd z (by omega)))
    (fun n i t hi _ hw => pk_le 32 i (fun z => absurd z (by omega)) (fun _ => br_c
      (fun _ => dz_stays (br_f (by decide) (dz_add s hs (fun md' a4' => nm_e (nm_r (nI_1 i) (hw (t.1 + 1, md', a4') trivial))))))
      (fun _ => nm_r (nI_1 i) (hw t trivial)))))
theorem dz_addPart {post : St2 → Prop} {mk fm b4 nn : Int32} (s : Nat) (hs : s ≤ 7304) (h : ∀ md a4, post (dz_S (nI s) fr iv ex um ud uw km kk rd md a1 a2 a3 a4)) : wpX_addPart post (dz_S (nI s) fr iv ex um ud uw km kk rd md a1 a2 a3 a4) mk fm b4 nn :=
  pk_loop (σ := Int32 × Int32 × (Nat → Int64)) (fun n i t => wX_addPart_6 post mk fm nn n t.1 (nI i) (nI s) fr iv 0 0 0 0 0 0 0 7304 ex um ud uw 0 km kk rd t.2.1 a1 a2 a3 t.2.2) (fun _ _ => True) 31 0 (b4, md, a4) (by omega) trivial
    (fun n t _ => pk_le 31 31 (fun _ => h t.2.1 t.2.2) (fun z => absurd z (by omega)))
    (fun n i t hi _ hw => pk_le 31 i (fun z => absurd z (by omega)) (fun _ => br_c
      (fun _ => dz_stays (br_f (by decide) (dz_add s hs (fun md' a4' => nm_e (nm_r (nI_1 i) (hw (t.1 + 1, md', a4') trivial))))))
      (fun _ => nm_r (nI_1 i) (hw t trivial))))
/-! the masks of a month, whatever they are -/
theorem dz_numbered {post : Int32 → Prop} (l : Nat) (hl : l ≤ 31) (h : ∀ r, post r) : wpX_numberedDays post (dz_S st fr iv ex um ud uw km kk rd md a1 a2 a3 a4) (nI l) :=
  pk_loop (σ := Int32) (fun n i t => wX_numberedDays_7 post (nI l) st fr iv 0 0 0 0 0 0 0 7304 ex um ud uw 0 km kk rd md a1 a2 a3 a4 n t (nI i)) (fun _ _ => True) l 0 ud (by omega) trivial
    (fun n t _ => pk_le l l (fun _ => h t) (fun z => absurd z (by omega)))
    (fun n i t hi _ hw => pk_le l i (fun z => absurd z (by omega)) (fun _ => fun t' _ => nm_r (nI_1 i) (hw t' trivial)))
theorem dz_weekdayMask {post : Int32 → Prop} {w : Int32} (y m : Nat) (hy : y < 20) (hm : m < 12) (h : ∀ r, post r) : wpX_weekdayMask post (dz_S st fr iv ex um ud uw km kk rd md a1 a2 a3 a4) (nI y) (nI m) w :=
  dz_monthStart y m hy (by omega) (dz_monthLength y m hy hm (dz_weekdayOf (fun r => ⟨by decide, fun x6 _ => br_t rfl
    (lp2 (fun n a b => wX_weekdayMask_43 post (nI (dz_mL y m)) st fr iv 0 0 0 0 0 0 0 7304 ex um ud uw 0 km kk rd md a1 a2 a3 a4 n a b) (fun _ _ => True) (fun _ b => (31 - b.toInt).toNat)
      (fun n a b _ hw => br_c (fun _ => h a) (fun z => fun a' _ b' eb => hw a' b' trivial (dz_mu7 (dz_mL_hi y m) z eb))) 0 x6 trivial)⟩)))
theorem dz_mm56 {post : Int32 → Prop} {x4 : Int32} (y m : Nat) (hy : y < 20) (hm : m < 12) (h : ∀ r, post r) : wX_monthMask_56 post (nI y) (nI m) x4 st fr iv 0 0 0 0 0 0 0 7304 ex um ud uw 0 km kk rd md a1 a2 a3 a4 :=
  br_c (fun _ => h x4) (fun _ => pk_loop (σ := Int32) (fun n i t => wX_monthMask_72 post (nI y) (nI m) x4 st fr iv 0 0 0 0 0 0 0 7304 ex um ud uw 0 km kk rd md a1 a2 a3 a4 n t (nI i)) (fun _ _ => True) 7 0 0 (by omega) trivial
    (fun n t _ => pk_le 7 7 (fun _ => h _) (fun z => absurd z (by omega)))
    (fun n i t hi _ hw => pk_le 7 i (fun z => absurd z (by omega)) (fun _ => br_c
      (fun _ => dz_weekdayMask y m hy hm (fun r => fun t' _ => nm_r (nI_1 i) (hw t' trivial)))
      (fun _ => nm_r (nI_1 i) (hw t trivial)))))
theorem dz_mm20 {post : Int32 → Prop} (y m : Nat) (hy : y < 20) (hm : m < 12) (h : ∀ r, post r) : wX_monthMask_20 post (nI y) (nI m) st fr iv 0 0 0 0 0 0 0 7304 ex um ud uw 0 km kk rd md a1 a2 a3 a4 :=
  dz_monthLength y m hy hm (fun x4 _ => br_c (fun _ => dz_mm56 y m hy hm h) (fun _ => dz_numbered (dz_mL y m) (dz_mL_hi y m) (fun r => fun x4' _ => dz_mm56 y m hy hm h)))
theorem dz_monthMask {post : Int32 → Prop} {x z : Int32} (y m : Nat) (hy : y < 20) (hm : m < 12) (h : ∀ r, post r) (hx : x = nI y := by rfl) (hz : z = nI m := by rfl) : wpX_monthMask post (dz_S st fr iv ex um ud uw km kk rd md a1 a2 a3 a4) x z := by
  subst hx hz
  exact br_c (fun _ => dz_mm20 y m hy hm h) (fun _ => br_c (fun _ => h 0) (fun _ => dz_mm20 y m hy hm h))
theorem dz_passes {post : Int32 → St2 → Prop} {x : Int32} (d : Nat) (hd : d ≤ 7304) (h : ∀ r km kk, post r (dz_S st fr iv ex um ud uw km kk rd md a1 a2 a3 a4)) (hx : x = nI d := by rfl) : wpX_passes post (dz_S st fr iv ex um ud uw km kk rd md a1 a2 a3 a4) x := by
  subst hx
  obtain ⟨y, m, hy, hm, y1, y2, m1, m2⟩ := dz_cal hd
  have k : ∀ km kk, wX_passes_44 post (nI d) (nI y) (nI m) st fr iv 0 0 0 0 0 0 0 7304 ex um ud uw 0 km kk rd md a1 a2 a3 a4 := fun km kk =>
    dz_monthStart y m hy (by omega) (br_c (fun _ => h 1 km kk) (fun _ => h 0 km kk))
  exact dz_yearOf d y hd hy y1 y2 (dz_monthOf d y m hd hy hm m1 m2 (br_c (fun _ => k km kk) (fun _ => fun f _ => dz_monthMask y m hy hm (fun r => k f r))))
/-! the four ways through the periods: safe -/
theorem dz_goWeekly {post : St2 → Prop} (s k : Nat) (hs : s ≤ 7304) (hk : 1 ≤ k) (hk2 : k ≤ 20) (h : ∀ km kk md a4, post (dz_S (nI s) fr (nI k) ex um ud uw km kk rd md a1 a2 a3 a4)) : wpX_goWeekly post (dz_S (nI s) fr (nI k) ex um ud uw km kk rd md a1 a2 a3 a4) := by
  unfold wpX_goWeekly
  exact dz_weekdayOf (fun r => fun x1 _ => loop_m (σ := Int32 × Int32 × Int32 × Int32 × (Nat → Int64)) (fun n t => wX_goWeekly_13 post n t.1 (nI s) fr (nI k) 0 0 0 0 0 0 0 7304 ex um ud uw 0 t.2.1 t.2.2.1 rd t.2.2.2.1 a1 a2 a3 t.2.2.2.2) (fun _ => True) (fun t => (7305 - t.1.toInt).toNat)
    (fun n t _ hw => br_c (fun _ => h _ _ _ _) (fun g => dz_wanted (br_f (by decide)
      (pk_loop (σ := Int32 × Int32 × Int32) (fun f i q => wX_goWeekly_32 post (wX_goWeekly_13 post n) t.1 f q.1 (nI i) (nI s) fr (nI k) 0 0 0 0 0 0 0 7304 ex um ud uw 0 q.2.1 q.2.2 rd t.2.2.2.1 a1 a2 a3 t.2.2.2.2) (fun _ _ => True) 7 0 (0, t.2.1, t.2.2.1) (by omega) trivial
        (fun f q _ => pk_le 7 7 (fun _ => dz_addMask s hs (fun md' a4' => fun x1' e => hw (x1', q.2.1, q.2.2, md', a4') trivial (dz_muW hk hk2 g e))) (fun z => absurd z (by omega)))
        (fun f i q hi _ hv => pk_le 7 i (fun z => absurd z (by omega)) (fun _ => dz_badC
          (fun d hd e => br_t rfl (dz_passes d hd (fun r km' kk' => br_c
            (fun _ => br_t rfl (nm_r (nI_1 i) (hv (q.1, km', kk') trivial)))
            (fun _ => br_f (by decide) (fun x2' _ => nm_r (nI_1 i) (hv (x2', km', kk') trivial)))) e))
          (br_f (by decide) (br_t rfl (nm_r (nI_1 i) (hv q trivial))))))))))
    (x1, km, kk, md, a4) trivial)
theorem dz_goMonthly {post : St2 → Prop} (s k : Nat) (hs : s ≤ 7304) (hk : 1 ≤ k) (hk2 : k ≤ 20) (h : ∀ md a4, post (dz_S (nI s) fr (nI k) ex um ud uw km kk rd md a1 a2 a3 a4)) : wpX_goMonthly post (dz_S (nI s) fr (nI k) ex um ud uw km kk rd md a1 a2 a3 a4) := by
  obtain ⟨y, m, hy, hm, y1, y2, m1, m2⟩ := dz_cal hs
  have e0 : nI y * 12 + nI m = nI (y * 12 + m) := by
    show nI y * nI 12 + nI m = _
    rw [pk_mul, nI_add]
  refine dz_yearOf s y hs hy y1 y2 (dz_monthOf s y m hs hy hm m1 m2 (nm_r e0 ?_))
  exact loop_m (σ := Nat × Int32 × (Nat → Int64)) (fun n t => wX_goMonthly_24 post n (nI t.1) (nI s) fr (nI k) 0 0 0 0 0 0 0 7304 ex um ud uw 0 km kk rd t.2.1 a1 a2 a3 t.2.2) (fun t => t.1 ≤ 300) (fun t => 240 - t.1)
    (fun n t ht hw => pk_le 240 t.1 (fun _ => h _ _) (fun g => dz_wanted (br_f (by decide) ⟨by decide, by decide, dz_monthMask (t.1 / 12) (t.1 % 12) (by omega) (by omega)
      (fun r => ⟨by decide, by decide, dz_monthStart (t.1 / 12) (t.1 % 12) (by omega) (by omega) (dz_addMask s hs (fun md' a4' => nm_r (nI_add t.1 k) (hw (t.1 + k, md', a4') (show t.1 + k ≤ 300 by omega) (show 240 - (t.1 + k) < 240 - t.1 by omega))))
        (pk_div (d := 12) (by omega) (by omega) (by omega)) (pk_rem (d := 12) (by omega) (by omega) (by omega))⟩)
      (pk_div (d := 12) (by omega) (by omega) (by omega)) (pk_rem (d := 12) (by omega) (by omega) (by omega))⟩)) rfl rfl (by omega) (by have : t.1 ≤ 300 := ht; omega))
    (y * 12 + m, md, a4) (show y * 12 + m ≤ 300 by omega)
theorem dz_addYear {post : St2 → Prop} {x : Int32} (s y : Nat) (hs : s ≤ 7304) (hy : y < 20) (h : ∀ md a3 a4, post (dz_S (nI s) fr iv ex um ud uw km kk rd md a1 a2 a3 a4)) (hx : x = nI y := by rfl) : wpX_addYear post (dz_S (nI s) fr iv ex um ud uw km kk rd md a1 a2 a3 a4) x := by
  subst hx
  exact pk_loop (σ := Int32 × (Nat → Int32)) (fun n i t => wX_addYear_4 post (nI y) (nI s) fr iv 0 0 0 0 0 0 0 7304 ex um ud uw 0 km kk rd md n t.1 (nI i) a1 a2 t.2 a4) (fun _ _ => True) 12 0 (0, a3) (by omega) trivial
    (fun n t _ => pk_le 12 12 (fun _ => pk_loop (σ := Int32 × Int32 × (Nat → Int64)) (fun n i q => wX_addYear_45 post (nI y) t.1 n q.1 (nI i) (nI s) fr iv 0 0 0 0 0 0 0 7304 ex um ud uw 0 km kk rd q.2.1 a1 a2 t.2 q.2.2) (fun _ _ => True) 12 0 (0, md, a4) (by omega) trivial
      (fun n q _ => pk_le 12 12 (fun _ => h _ _ _) (fun z => absurd z (by omega)))
      (fun n i q hi _ hv => pk_le 12 i (fun z => absurd z (by omega)) (fun _ => dz_monthStart y i hy (by omega) ⟨pk_in i 12 hi, dz_addPart s hs (fun md' a4' => ⟨pk_in i 12 hi, dz_bits (fun b => fun x3' _ => nm_r (nI_1 i) (hv (x3', md', a4') trivial))⟩)⟩)))
      (fun z => absurd z (by omega)))
    (fun n i t hi _ hw => pk_le 12 i (fun z => absurd z (by omega)) (fun _ => dz_monthMask y i hy hi (fun r => ⟨pk_in i 12 hi, fun a3' _ => ⟨pk_in i 12 hi, dz_bits (fun b => fun x2' _ => nm_r (nI_1 i) (hw (x2', a3') trivial))⟩⟩)))
theorem dz_goYearly {post : St2 → Prop} (s k : Nat) (hs : s ≤ 7304) (hk : 1 ≤ k) (hk2 : k ≤ 20) (h : ∀ md a3 a4, post (dz_S (nI s) fr (nI k) ex um ud uw km kk rd md a1 a2 a3 a4)) : wpX_goYearly post (dz_S (nI s) fr (nI k) ex um ud uw km kk rd md a1 a2 a3 a4) := by
  obtain ⟨y, m, hy, hm, y1, y2, m1, m2⟩ := dz_cal hs
  refine dz_yearOf s y hs hy y1 y2 ?_
  exact loop_m (σ := Nat × Int32 × (Nat → Int32) × (Nat → Int64)) (fun n t => wX_goYearly_8 post n (nI t.1) (nI s) fr (nI k) 0 0 0 0 0 0 0 7304 ex um ud uw 0 km kk rd t.2.1 a1 a2 t.2.2.1 t.2.2.2) (fun t => t.1 ≤ 60) (fun t => 20 - t.1)
    (fun n t ht hw => pk_le 20 t.1 (fun _ => h _ _ _) (fun g => dz_wanted (br_f (by decide) (dz_addYear s t.1 hs g (fun md' a3' a4' => nm_r (nI_add t.1 k) (hw (t.1 + k, md', a3', a4') (show t.1 + k ≤ 60 by omega) (show 20 - (t.1 + k) < 20 - t.1 by omega)))))) rfl rfl (by omega) (by have : t.1 ≤ 60 := ht; omega))
    (y, md, a3, a4) (show y ≤ 60 by omega)
end
end
section
/-! the daily rule: exactly its days -/
/-- the month that is kept, with its mask -/
def dz_K (km kk : Int32) : Prop := km = -1 ∨ ∃ y m, y < 20 ∧ m < 12 ∧ km = nI (y * 12 + m) ∧ kk = dz_full (dz_mL y m)
theorem dz_m1 {n : Nat} (h : n < 2 ^ 31) : ¬ nI n = -1 := by
  intro e
  have t := congrArg Int32.toInt e
  rw [nI_toInt h, show (-1 : Int32).toInt = -1 from by decide] at t
  omega
/-- the daily rule's days below t are set -/
def dz_D (s k t : Nat) (km kk : Int32) (a4 : Nat → Int64) : Prop := s ≤ t ∧ t ≤ 7400 ∧ (t - s) % k = 0 ∧ dz_K km kk ∧ ∀ e, e ≤ 7304 → dz_gb a4 e = decide (s ≤ e ∧ e < t ∧ (e - s) % k = 0)
theorem dz_D_0 {s k : Nat} {km kk : Int32} {a4 : Nat → Int64} (hs : s ≤ 7304) (hK : dz_K km kk) (hz : ∀ e, e ≤ 7304 → dz_gb a4 e = false) : dz_D s k s km kk a4 := by
  refine ⟨Nat.le_refl _, by omega, by rw [Nat.sub_self, Nat.zero_mod], hK, fun e he => ?_⟩
  rw [hz e he, decide_eq_false (by omega)]
theorem dz_D_s {s k t : Nat} {km kk km' kk' : Int32} {a4 : Nat → Int64} (hk : 1 ≤ k) (hk2 : k ≤ 20) (ht : t ≤ 7304) (h : dz_D s k t km kk a4) (hK : dz_K km' kk') : dz_D s k (t + k) km' kk' (dz_set a4 t) := by
  obtain ⟨h1, h2, h3, h4, h5⟩ := h
  refine ⟨by omega, by omega, ?_, hK, fun e he => ?_⟩
  · rw [show t + k - s = (t - s) + k by omega, Nat.add_mod_right, h3]
  · rw [dz_gb_set a4 (by omega) e, h5 e he]
    have q := dz_next (s := s) (t := t) (k := k) (e := e) (by omega) h1 h3
    by_cases z : s ≤ e ∧ e < t + k ∧ (e - s) % k = 0
    · rw [decide_eq_true z]
      rcases q.mp z with g | g
      · rw [decide_eq_true g, Bool.true_or]
      · rw [decide_eq_true g, Bool.or_true]
    · rw [decide_eq_false z, decide_eq_false (fun g => z (q.mpr (Or.inl g))), decide_eq_false (fun g => z (q.mpr (Or.inr g)))]
      rfl
theorem dz_D_e {s k t : Nat} {km kk : Int32} {a4 : Nat → Int64} (ht : 7304 < t) (h : dz_D s k t km kk a4) : ∀ e, e ≤ 7304 → dz_gb a4 e = decide (s ≤ e ∧ (e - s) % k = 0) := by
  intro e he
  rw [h.2.2.2.2 e he]
  by_cases z : s ≤ e ∧ (e - s) % k = 0
  · rw [decide_eq_true z, decide_eq_true ⟨z.1, by omega, z.2⟩]
  · rw [decide_eq_false z, decide_eq_false (fun g => z ⟨g.1, g.2.2⟩)]
section
variable {st fr iv ex um ud uw km kk rd md : Int32} {a1 a2 a3 : Nat → Int32} {a4 : Nat → Int64}
theorem dz_passesD {post : Int32 → St2 → Prop} (d : Nat) (hd : d ≤ 7304) (hK : dz_K km kk) (h : ∀ km kk, dz_K km kk → post 1 (dz_S st fr iv ex 0 0 0 km kk rd md a1 a2 a3 a4)) : wpX_passes post (dz_S st fr iv ex 0 0 0 km kk rd md a1 a2 a3 a4) (nI d) := by
  obtain ⟨y, m, hy, hm, y1, y2, m1, m2⟩ := dz_cal hd
  have m3 : d < dz_mS y m + dz_mL y m := m2
  have lo := dz_mL_lo y m
  have hi := dz_mL_hi y m
  have e0 : nI y * 12 + nI m = nI (y * 12 + m) := by
    show nI y * nI 12 + nI m = _
    rw [pk_mul, nI_add]
  have k : ∀ km, km = nI (y * 12 + m) → wX_passes_44 post (nI d) (nI y) (nI m) st fr iv 0 0 0 0 0 0 0 7304 ex 0 0 0 0 km (dz_full (dz_mL y m)) rd md a1 a2 a3 a4 := fun km ekm =>
    dz_monthStart y m hy (by omega) (br_t (by rw [pk_sub m1]; exact dz_fullB _ (by omega) lo _ (by omega)) (h km _ (Or.inr ⟨y, m, hy, hm, ekm, rfl⟩)))
  refine dz_yearOf d y hd hy y1 y2 (dz_monthOf d y m hd hy hm m1 m2 (br_c (fun e => ?_) (fun _ => nm_r e0 (br_t rfl (dz_monthLength y m hy hm (nm_e (br_t (by decide) (br_t rfl (k _ rfl)))))))))
  rw [e0] at e
  rcases hK with z | ⟨y', m', hy', hm', z, z2⟩
  · exact absurd (e.trans z) (dz_m1 (by omega))
  · have q : y * 12 + m = y' * 12 + m' := (nI_eq (by omega) (by omega)).mp (e.trans z)
    have q1 : y' = y := by omega
    have q2 : m' = m := by omega
    subst q1 q2 z2
    exact k km z
theorem dz_addD {post : St2 → Prop} {x : Int32} (s j : Nat) (hs : s ≤ j) (hj : j ≤ 7304) (h : post (dz_S (nI s) fr iv ex um ud uw km kk rd (md + 1) a1 a2 a3 (dz_set a4 j))) (hx : x = nI j := by rfl) : wpX_add post (dz_S (nI s) fr iv ex um ud uw km kk rd md a1 a2 a3 a4) x := by
  subst hx
  have e : vp_updL a4 (nI j >>> ((6 : Int32) &&& 31)).toNatClampNeg ((a4 (nI j >>> ((6 : Int32) &&& 31)).toNatClampNeg) ||| ((1 : Int64) <<< ((nI j &&& 63).toInt64 &&& 63))) = dz_set a4 j := by
    rw [dz_ix (by omega)]
    rfl
  exact pk_lt j s (fun z => absurd z (by omega)) (fun _ => pk_lt 7304 j (fun z => absurd z (by omega)) (fun _ => dz_wanted (br_f (by decide) ⟨dz_in hj, dz_in hj, nm_r e (nm_e h)⟩)))
theorem dz_addMask1 {post : St2 → Prop} (s j : Nat) (hs : s ≤ j) (hj : j ≤ 7304) (h : post (dz_S (nI s) fr iv ex um ud uw km kk rd (md + 1) a1 a2 a3 (dz_set a4 j))) : wpX_addMask post (dz_S (nI s) fr iv ex um ud uw km kk rd md a1 a2 a3 a4) 1 (nI j) :=
  dz_bits (fun r => by
    obtain ⟨n, hn⟩ := pk_loop (σ := Unit) (fun n i _ => wX_addMask_11 post 1 (nI j) r n (0 + 1) (nI i) (nI s) fr iv 0 0 0 0 0 0 0 7304 ex um ud uw 0 km kk rd (md + 1) a1 a2 a3 (dz_set a4 j)) (fun i _ => 1 ≤ i) 32 1 () (by omega) (Nat.le_refl 1)
      (fun n _ _ => pk_le 32 32 (fun _ => h) (fun z => absurd z (by omega)))
      (fun n i _ hi h1 hw => pk_le 32 i (fun z => absurd z (by omega)) (fun _ => br_f (dz_one i hi h1) (nm_r (nI_1 i) (hw () (by omega)))))
    have hn' : wX_addMask_11 post 1 (nI j) r n (0 + 1) (nI 1) (nI s) fr iv 0 0 0 0 0 0 0 7304 ex um ud uw 0 km kk rd (md + 1) a1 a2 a3 (dz_set a4 j) := hn
    exact ⟨n + 1, pk_le 32 0 (fun z => absurd z (by omega)) (fun _ => br_t (by decide) (dz_stays (br_f (by decide) (dz_addD s j hs hj (nm_e (nm_r (e' := nI 1) (by decide) hn')) (nI_add j 0)))))⟩)
theorem dz_goDaily {post : St2 → Prop} (s k : Nat) (hs : s ≤ 7304) (hk : 1 ≤ k) (hk2 : k ≤ 20) (hK : dz_K km kk) (hz : ∀ e, e ≤ 7304 → dz_gb a4 e = false)
    (h : ∀ km kk md a4, (∀ e, e ≤ 7304 → dz_gb a4 e = decide (s ≤ e ∧ (e - s) % k = 0)) → post (dz_S (nI s) fr (nI k) ex 0 0 0 km kk rd md a1 a2 a3 a4)) : wpX_goDaily post (dz_S (nI s) fr (nI k) ex 0 0 0 km kk rd md a1 a2 a3 a4) :=
  loop_m (σ := Nat × Int32 × Int32 × Int32 × (Nat → Int64)) (fun n t => wX_goDaily_5 post n (nI t.1) (nI s) fr (nI k) 0 0 0 0 0 0 0 7304 ex 0 0 0 0 t.2.1 t.2.2.1 rd t.2.2.2.1 a1 a2 a3 t.2.2.2.2) (fun t => dz_D s k t.1 t.2.1 t.2.2.1 t.2.2.2.2) (fun t => 7305 - t.1)
    (fun n t ht hw => pk_lt 7304 t.1 (fun g => h _ _ _ _ (dz_D_e g ht)) (fun g => dz_wanted (br_f (by decide) (dz_passesD t.1 g ht.2.2.2.1 (fun km' kk' hK' => br_f (by decide) (dz_addMask1 s t.1 ht.1 g
      (nm_r (nI_add t.1 k) (hw (t.1 + k, km', kk', t.2.2.2.1 + 1, dz_set t.2.2.2.2 t.1) (dz_D_s hk hk2 g ht hK') (show 7305 - (t.1 + k) < 7305 - t.1 by omega)))))))) rfl rfl (by omega) (by have := ht.2.1; omega))
    (s, km, kk, md, a4) (dz_D_0 hs hK hz)
/-! what is meant by empty sets -/
theorem dz_fillIn {post : St2 → Prop} (s f : Nat) (hs : s ≤ 7304) (hf : f < 4) (h : ∀ um ud uw, (f = 0 → um = 0 ∧ ud = 0 ∧ uw = 0) → post (dz_S (nI s) (nI f) iv ex um ud uw (-1) kk rd md a1 a2 a3 a4)) : wpX_fillIn post (dz_S (nI s) (nI f) iv ex um ud uw km kk rd md a1 a2 a3 a4) := by
  obtain ⟨y, m, hy, hm, y1, y2, m1, m2⟩ := dz_cal hs
  have k : wX_fillIn_41 post 0 (nI s) (nI f) iv 0 0 0 0 0 0 0 7304 ex 0 0 0 0 km kk rd md a1 a2 a3 a4 :=
    br_t (by decide) (pk_eq f 0 (fun _ => h 0 0 0 (fun _ => ⟨rfl, rfl, rfl⟩)) (fun z => pk_eq f 1
      (fun _ => dz_weekdayOf (fun r => fun g _ => h 0 0 g (fun q => absurd q z)))
      (fun _ => dz_yearOf s y hs hy y1 y2 (dz_monthOf s y m hs hy hm m1 m2 (dz_monthStart y m hy (by omega) (fun g _ => pk_eq f 3
        (fun _ => br_t rfl (fun g' _ => h g' g 0 (fun q => absurd q z)))
        (fun _ => h 0 g 0 (fun q => absurd q z))))))))
  exact br_c (fun _ => k) (fun _ => k)
/-! days included and excluded -/
theorem dz_93 {post : St2 → Prop} (d : Nat) (hd : d ≤ 7304) (b : Bool) (hE : (ex = 0 ∧ dz_gb a4 d = b) ∨ (ex = 1 ∧ a1 0 = nI d ∧ a2 0 = 1 ∧ b = true) ∨ (ex = 1 ∧ a1 0 = nI d ∧ a2 0 = 0 ∧ b = false))
    (h : ∀ a4, dz_gb a4 d = b → post (dz_S st fr iv ex um ud uw km kk rd md a1 a2 a3 a4)) : ∃ n, wX_prepare_93 post st fr iv 0 0 0 0 0 0 0 7304 ex um ud uw 0 km kk rd md n 0 a1 a2 a3 a4 := by
  rcases hE with ⟨e1, g⟩ | ⟨e1, g1, g2, g3⟩ | ⟨e1, g1, g2, g3⟩
  · subst e1
    exact ⟨1, br_t (by decide) (h a4 g)⟩
  · subst e1
    have q : vp_updL a4 (nI d >>> ((6 : Int32) &&& 31)).toNatClampNeg ((a4 (nI d >>> ((6 : Int32) &&& 31)).toNatClampNeg) ||| dz_bit d) = dz_set a4 d := by
      rw [dz_ix (by omega)]
      rfl
    refine ⟨2, br_f (by decide) ⟨pk_in 0 12 (by decide), nm_r (e' := nI d) (by rw [sb_cl0]; exact g1) (nm_r (e' := dz_bit d) rfl ⟨pk_in 0 12 (by decide), br_f ?_ ⟨dz_in hd, dz_in hd, nm_r q (nm_r (e' := 1) (by decide) (br_t (by decide) (h _ ?_)))⟩⟩)⟩⟩
    · rw [sb_cl0, g2]
      decide
    · rw [dz_gb_set a4 (by omega), decide_eq_true rfl, g3]
      rfl
  · subst e1
    have q : vp_updL a4 (nI d >>> ((6 : Int32) &&& 31)).toNatClampNeg ((a4 (nI d >>> ((6 : Int32) &&& 31)).toNatClampNeg) &&& (dz_bit d ^^^ (-1))) = dz_clr a4 d := by
      rw [dz_ix (by omega)]
      rfl
    refine ⟨2, br_f (by decide) ⟨pk_in 0 12 (by decide), nm_r (e' := nI d) (by rw [sb_cl0]; exact g1) (nm_r (e' := dz_bit d) rfl ⟨pk_in 0 12 (by decide), br_t ?_ ⟨dz_in hd, dz_in hd, nm_r q (nm_r (e' := 1) (by decide) (br_t (by decide) (h _ ?_)))⟩⟩)⟩⟩
    · rw [sb_cl0, g2]
    · rw [dz_gb_clr a4 (by omega), g3]
/-! the whole preparation, for the day that is asked -/
theorem dz_upd0 {t : Nat → Int64} {i c : Nat} (hc : c = i) (h : ∀ j, j < i → t j = 0) : ∀ j, j < i + 1 → vp_updL t c 0 j = 0 := by
  subst hc
  intro j hj
  by_cases e : j = c
  · rw [e, pk_uLs]
  · rw [pk_uLn e]
    exact h j (by omega)
theorem dz_gb0 {t : Nat → Int64} (h : ∀ j, j < 115 → t j = 0) : ∀ e, e ≤ 7304 → dz_gb t e = false := by
  intro e he
  unfold dz_gb
  rw [h (e / 64) (by omega)]
  exact BitVec.getLsbD_zero
theorem dz_prepare {post : St2 → Prop} (s f k d : Nat) (hs : s ≤ 7304) (hf : f < 4) (hk : 1 ≤ k) (hk2 : k ≤ 20) (hd : d ≤ 7304) (b : Bool)
    (hE : (ex = 0 ∧ f = 0 ∧ b = decide (s ≤ d ∧ (d - s) % k = 0)) ∨ (ex = 1 ∧ a1 0 = nI d ∧ a2 0 = 1 ∧ b = true) ∨ (ex = 1 ∧ a1 0 = nI d ∧ a2 0 = 0 ∧ b = false))
    (h : ∀ um ud uw km kk md a3 a4, dz_gb a4 d = b → post (dz_S (nI s) (nI f) (nI k) ex um ud uw km kk 1 md a1 a2 a3 a4)) : wpX_prepare post (dz_S (nI s) (nI f) (nI k) ex um ud uw km kk 0 md a1 a2 a3 a4) := by
  have ne : ¬ f = 0 → ∀ a4 : Nat → Int64, (ex = 0 ∧ dz_gb a4 d = b) ∨ (ex = 1 ∧ a1 0 = nI d ∧ a2 0 = 1 ∧ b = true) ∨ (ex = 1 ∧ a1 0 = nI d ∧ a2 0 = 0 ∧ b = false) := by
    intro hf a4
    rcases hE with g | g
    · exact absurd g.2.1 hf
    · exact Or.inr g
  refine br_t rfl (pk_loop (σ := Nat → Int64) (fun n i t => wX_prepare_20 post (nI s) (nI f) (nI k) 0 0 0 0 0 0 0 7304 ex um ud uw 0 km kk 1 0 n (nI i) a1 a2 a3 t) (fun i t => ∀ j, j < i → t j = 0) 115 0 a4 (by omega) (fun j hj => absurd hj (by omega)) (fun n t ht => ?_)
    (fun n i t hi ht hw => pk_le 115 i (fun z => absurd z (by omega)) (fun _ => ⟨pk_in i 115 hi, nm_e (nm_r (nI_1 i) (hw _ (dz_upd0 (nI_clamp (by omega)) ht)))⟩)))
  refine pk_le 115 115 (fun _ => dz_fillIn s f hs hf (fun um ud uw hu => pk_eq f 0 (fun z => ?_) (fun z => pk_eq f 1
    (fun _ => dz_goWeekly s k hs hk hk2 (fun km kk md a4 => dz_93 d hd b (ne z a4) (fun a4 g => h _ _ _ _ _ _ _ a4 g)))
    (fun _ => pk_eq f 2
      (fun _ => dz_goMonthly s k hs hk hk2 (fun md a4 => dz_93 d hd b (ne z a4) (fun a4 g => h _ _ _ _ _ _ _ a4 g)))
      (fun _ => dz_goYearly s k hs hk hk2 (fun md a3 a4 => dz_93 d hd b (ne z a4) (fun a4 g => h _ _ _ _ _ _ _ a4 g))))))) (fun z => absurd z (by omega))
  obtain ⟨rfl, rfl, rfl⟩ := hu z
  refine dz_goDaily s k hs hk hk2 (Or.inl rfl) (dz_gb0 ht) (fun km kk md a4 ha => dz_93 d hd b ?_ (fun a4 g => h _ _ _ _ _ _ _ a4 g))
  rcases hE with g | g
  · exact Or.inl ⟨g.1, by rw [ha d hd, g.2.2]⟩
  · exact Or.inr g
theorem dz_occurs {post : Int32 → St2 → Prop} (s f k d : Nat) (hs : s ≤ 7304) (hf : f < 4) (hk : 1 ≤ k) (hk2 : k ≤ 20) (hd : d ≤ 7304) (b : Bool)
    (hE : (ex = 0 ∧ f = 0 ∧ b = decide (s ≤ d ∧ (d - s) % k = 0)) ∨ (ex = 1 ∧ a1 0 = nI d ∧ a2 0 = 1 ∧ b = true) ∨ (ex = 1 ∧ a1 0 = nI d ∧ a2 0 = 0 ∧ b = false))
    (h1 : b = true → ∀ um ud uw km kk md a3 a4, post 1 (dz_S (nI s) (nI f) (nI k) ex um ud uw km kk 1 md a1 a2 a3 a4))
    (h0 : b = false → ∀ um ud uw km kk md a3 a4, post 0 (dz_S (nI s) (nI f) (nI k) ex um ud uw km kk 1 md a1 a2 a3 a4)) : wpX_occurs post (dz_S (nI s) (nI f) (nI k) ex um ud uw km kk 0 md a1 a2 a3 a4) (nI d) := by
  unfold wpX_occurs
  exact dz_bad0 d hd (br_t rfl (dz_prepare s f k d hs hf hk hk2 hd b hE (fun um ud uw km kk md a3 a4 g => ⟨dz_in hd, ek_if (dz_test a4 (by omega))
    (fun t => ⟨congrArg Value.int (by decide), h1 (g.symm.trans t) um ud uw km kk md a3 a4⟩)
    (fun t => ⟨congrArg Value.int (by decide), h0 (g.symm.trans (Bool.eq_false_iff.mpr t)) um ud uw km kk md a3 a4⟩)⟩)))
end
end
section
/-! the law -/
theorem dz_a0 {a : Nat → Int32} {v : Int32} : upd a (0 : Int32).toNatClampNeg v 0 = v := by
  rw [sb_cl0]
  exact pk_us
section
variable {st fr iv ex um ud uw km kk rd md : Int32} {g1 g2 g3 g4 g5 g6 g7 g8 g9 g10 g11 g12 g13 g14 g15 g16 g17 g18 g19 g20 : Int32} {a1 a2 a3 : Nat → Int32} {a4 : Nat → Int64}
/-! the outer names, by the day that is asked -/
theorem dz_occB {post : Int32 → St2 → Prop} {x : Int32} (q : x < 0 ∨ nI 7305 ≤ x) (h : post 0 (g1, g2, g3, g4, g5, g6, g7, g8, g9, g10, g11, g12, g13, g14, g15, g16, g17, g18, g19, g20, a1, a2, a3, a4)) : wpX_occurs post (g1, g2, g3, g4, g5, g6, g7, g8, g9, g10, g11, g12, g13, g14, g15, g16, g17, g18, g19, g20, a1, a2, a3, a4) x := by
  unfold wpX_occurs
  exact dz_bad1 q (br_f (by decide) h)
theorem dz_weekdayB {post : Int32 → Prop} {x : Int32} (q : x < 0 ∨ nI 7305 ≤ x) (h : post (-1)) : wpX_weekday post (g1, g2, g3, g4, g5, g6, g7, g8, g9, g10, g11, g12, g13, g14, g15, g16, g17, g18, g19, g20, a1, a2, a3, a4) x := by
  unfold wpX_weekday
  exact dz_bad1 q (br_f (by decide) h)
theorem dz_weekdayG {post : Int32 → Prop} {x : Int32} (d : Nat) (hd : d ≤ 7304) (e : x = nI d) (h : post ((x + 5) - (x + 5) / 7 * 7)) : wpX_weekday post (g1, g2, g3, g4, g5, g6, g7, g8, g9, g10, g11, g12, g13, g14, g15, g16, g17, g18, g19, g20, a1, a2, a3, a4) x := by
  unfold wpX_weekday
  exact dz_bad0 d hd (br_t rfl ⟨by decide, h⟩) e
theorem dz_startB {post : Int32 → St2 → Prop} {x : Int32} (q : x < 0 ∨ nI 7305 ≤ x) (h : post (-1) (g1, g2, g3, g4, g5, g6, g7, g8, g9, g10, g11, g12, g13, g14, g15, g16, g17, g18, g19, g20, a1, a2, a3, a4)) : wpX_start post (g1, g2, g3, g4, g5, g6, g7, g8, g9, g10, g11, g12, g13, g14, g15, g16, g17, g18, g19, g20, a1, a2, a3, a4) x := by
  unfold wpX_start
  exact dz_bad1 q (br_f (by decide) h)
theorem dz_startG {post : Int32 → St2 → Prop} (d : Nat) (hd : d ≤ 7304) (h : post ((nI d + 5) - (nI d + 5) / 7 * 7) (dz_S (nI d) fr iv ex um ud uw km kk 0 md a1 a2 a3 a4)) : wpX_start post (dz_S st fr iv ex um ud uw km kk rd md a1 a2 a3 a4) (nI d) := by
  unfold wpX_start
  exact dz_bad0 d hd (br_t rfl ⟨by decide, h⟩)
theorem dz_extraB {post : Int32 → St2 → Prop} {x how : Int32} (q : x < 0 ∨ nI 7305 ≤ x) (h : post (-1) (g1, g2, g3, g4, g5, g6, g7, g8, g9, g10, g11, g12, g13, g14, g15, g16, g17, g18, g19, g20, a1, a2, a3, a4)) : wpX_extra post (g1, g2, g3, g4, g5, g6, g7, g8, g9, g10, g11, g12, g13, g14, g15, g16, g17, g18, g19, g20, a1, a2, a3, a4) x how := by
  unfold wpX_extra
  exact dz_bad1 q (br_f (by decide) h)
/-- an extra day is said, or not: the first one -/
theorem dz_extraG {post : Int32 → St2 → Prop} {how : Int32} (d : Nat) (hd : d ≤ 7304)
    (h1 : how = 1 → ∀ a1 a2, a1 0 = nI d → a2 0 = 1 → post 1 (dz_S st fr iv 1 um ud uw km kk 0 md a1 a2 a3 a4))
    (h2 : how = 2 → ∀ a1 a2, a1 0 = nI d → a2 0 = 0 → post 1 (dz_S st fr iv 1 um ud uw km kk 0 md a1 a2 a3 a4))
    (h0 : ¬ how = 1 → ¬ how = 2 → post 0 (dz_S st fr iv 0 um ud uw km kk rd md a1 a2 a3 a4)) : wpX_extra post (dz_S st fr iv 0 um ud uw km kk rd md a1 a2 a3 a4) (nI d) how := by
  unfold wpX_extra
  refine dz_bad0 d hd (br_t rfl ⟨1, br_t (by decide) (br_c (fun q => ?_) (fun q1 => br_c (fun q => ?_) (fun q2 => br_t (by decide) (h0 q1 q2))))⟩)
  · exact br_f (by decide) (br_t rfl (nm_r (e' := 1) (by decide) ⟨pk_in 0 12 (by decide), nm_e (br_t q ⟨pk_in 0 12 (by decide), nm_e (h1 q _ _ dz_a0 dz_a0)⟩)⟩))
  · exact br_f (by decide) (br_t rfl (nm_r (e' := 1) (by decide) ⟨pk_in 0 12 (by decide), nm_e (br_f q1 ⟨pk_in 0 12 (by decide), nm_e (h2 q _ _ dz_a0 dz_a0)⟩)⟩))
end
section
variable {post : Int32 → St0 → Prop} {mc ms kc ks : Nat} {x0 x1 x2 x3 x4 x6 x7 : Int32} {g1 g2 g3 g4 g5 g6 g7 g8 g9 g10 g11 g12 g13 g14 g15 g16 g17 g18 g19 g20 : Int32} {a1 a2 a3 : Nat → Int32} {a4 : Nat → Int64}
theorem dz_271 (hp : post 1 ()) (z : Int32) : wL_lawOf_271 post mc ms x0 z z kc ks g1 g2 g3 g4 g5 g6 g7 g8 g9 g10 g11 g12 g13 g14 g15 g16 g17 g18 g19 g20 a1 a2 a3 a4 := by
  refine br_t rfl ?_
  rcases pk_ix x0 (n := 7305) (by decide) with q | q | ⟨j, hj, e⟩
  · exact dz_good0 (Or.inl q) (br_t rfl (dz_occB (Or.inl q) (br_t rfl hp)))
  · exact dz_good0 (Or.inr q) (br_t rfl (dz_occB (Or.inr q) (br_t rfl hp)))
  · exact dz_good1 j (by omega) (br_f (by decide) hp) e
theorem dz_248 (hp : post 1 ()) : wL_lawOf_248 post mc ms x0 x3 kc ks g1 g2 g3 g4 g5 g6 g7 g8 g9 g10 g11 g12 g13 g14 g15 g16 g17 g18 g19 g20 a1 a2 a3 a4 := by
  unfold wL_lawOf_248
  rcases pk_ix x3 (n := 7305) (by decide) with q | q | ⟨j, hj, e⟩
  · exact dz_weekdayB (Or.inl q) (dz_good0 (Or.inl q) (br_t rfl (dz_271 hp _)))
  · exact dz_weekdayB (Or.inr q) (dz_good0 (Or.inr q) (br_t rfl (dz_271 hp _)))
  · exact dz_weekdayG j (by omega) e (dz_good1 j (by omega) (br_f (by decide) ⟨by decide, dz_271 hp _⟩) e)
/-- a day that is none: nothing is asked -/
theorem dz_192b {z : Int32} (hp : post 1 ()) (q : x3 < 0 ∨ nI 7305 ≤ x3) : wL_lawOf_192 post mc ms x0 x1 x3 x4 x6 x7 z kc ks g1 g2 g3 g4 g5 g6 g7 g8 g9 g10 g11 g12 g13 g14 g15 g16 g17 g18 g19 g20 a1 a2 a3 a4 := by
  unfold wL_lawOf_192
  exact dz_good0 q (br_t rfl (dz_248 hp))
/-- the remainder -/
theorem dz_183 {v : Int32} (s f k : Nat) (hs : s ≤ 7304) (hk : 1 ≤ k) (hk2 : k ≤ 20) (g : ¬ x3 < nI s)
    (H : ∀ z : Int32, (∀ d, d ≤ 7304 → x3 = nI d → f = 0 → z = if s ≤ d ∧ (d - s) % k = 0 then 1 else 0) → wL_lawOf_192 post mc ms x0 x1 x3 x4 x6 x7 z kc ks g1 g2 g3 g4 g5 g6 g7 g8 g9 g10 g11 g12 g13 g14 g15 g16 g17 g18 g19 g20 a1 a2 a3 a4)
    (hv : v = nI k) : wL_lawOf_183 post mc ms x0 x1 x3 x4 x6 x7 v (x3 - nI s) kc ks g1 g2 g3 g4 g5 g6 g7 g8 g9 g10 g11 g12 g13 g14 g15 g16 g17 g18 g19 g20 a1 a2 a3 a4 := by
  subst hv
  have e : ∀ d, d ≤ 7304 → x3 = nI d → s ≤ d ∧ (x3 - nI s) - (x3 - nI s) / nI k * nI k = nI ((d - s) % k) := by
    intro d hd e
    rw [e] at g ⊢
    have hsd : s ≤ d := by
      rcases Nat.lt_or_ge d s with z | z
      · exact absurd (nI_lt z (by omega)) g
      · exact z
    exact ⟨hsd, by rw [pk_sub hsd, pk_rem (by omega) (by omega) (by omega)]⟩
  refine ⟨nI_ne0 (by omega) (by omega), br_c (fun q => H 1 (fun d hd ed _ => ?_)) (fun q => H 0 (fun d hd ed _ => ?_))⟩
  · obtain ⟨h1, h2⟩ := e d hd ed
    have h3 := Nat.mod_lt (d - s) (show k > 0 by omega)
    have h4 : nI ((d - s) % k) = nI 0 := h2.symm.trans q
    rw [if_pos ⟨h1, (nI_eq (by omega) (by omega)).mp h4⟩]
  · obtain ⟨h1, h2⟩ := e d hd ed
    refine (if_neg (fun t => q ?_)).symm
    rw [h2, t.2]
    rfl
theorem dz_152 {v : Int32} (s f k : Nat) (hs : s ≤ 7304) (hk : 1 ≤ k) (hk2 : k ≤ 20) (hset : (x6 = 0 ∧ f = 0 ∧ k = 1) ∨ (x6 = 1 ∧ x1 = nI f ∧ x2 = nI k))
    (H : ∀ z : Int32, (∀ d, d ≤ 7304 → x3 = nI d → f = 0 → z = if s ≤ d ∧ (d - s) % k = 0 then 1 else 0) → wL_lawOf_192 post mc ms x0 x1 x3 x4 x6 x7 z kc ks g1 g2 g3 g4 g5 g6 g7 g8 g9 g10 g11 g12 g13 g14 g15 g16 g17 g18 g19 g20 a1 a2 a3 a4)
    (hv : v = nI s) : wL_lawOf_152 post mc ms x0 x1 x2 x3 x4 x6 x7 v kc ks g1 g2 g3 g4 g5 g6 g7 g8 g9 g10 g11 g12 g13 g14 g15 g16 g17 g18 g19 g20 a1 a2 a3 a4 := by
  subst hv
  refine br_c (fun g => H 0 (fun d hd e _ => (if_neg (fun t => ?_)).symm)) (fun g => ?_)
  · rw [e] at g
    exact absurd g (nI_nlt t.1 (by omega))
  · rcases hset with ⟨q1, q2, q3⟩ | ⟨q1, q2, q3⟩
    · exact br_t q1 (br_t q1 (dz_183 s f k hs hk hk2 g H (by rw [q3]; rfl)))
    · exact br_f (by rw [q1]; decide) (br_c (fun _ => br_f (by rw [q1]; decide) (dz_183 s f k hs hk hk2 g H q3)) (fun n1 => H 0 (fun d hd e hf => absurd (by rw [q2, hf]; rfl) n1)))
theorem dz_135 {v : Int32} (s f k : Nat) (hs : s ≤ 7304) (hk : 1 ≤ k) (hk2 : k ≤ 20) (hx0 : ((x0 < 0 ∨ nI 7305 ≤ x0) ∧ s = 0) ∨ x0 = nI s) (hset : (x6 = 0 ∧ f = 0 ∧ k = 1) ∨ (x6 = 1 ∧ x1 = nI f ∧ x2 = nI k))
    (H : ∀ z : Int32, (∀ d, d ≤ 7304 → x3 = nI d → f = 0 → z = if s ≤ d ∧ (d - s) % k = 0 then 1 else 0) → wL_lawOf_192 post mc ms x0 x1 x3 x4 x6 x7 z kc ks g1 g2 g3 g4 g5 g6 g7 g8 g9 g10 g11 g12 g13 g14 g15 g16 g17 g18 g19 g20 a1 a2 a3 a4) :
    wL_lawOf_135 post mc ms x0 x1 x2 x3 x4 x6 x7 v v kc ks g1 g2 g3 g4 g5 g6 g7 g8 g9 g10 g11 g12 g13 g14 g15 g16 g17 g18 g19 g20 a1 a2 a3 a4 := by
  refine br_t rfl ?_
  rcases hx0 with ⟨q, e⟩ | e
  · exact dz_good0 q (br_t rfl (dz_152 s f k hs hk hk2 hset H (by rw [e]; rfl)))
  · exact dz_good1 s hs (br_f (by decide) (dz_152 s f k hs hk hk2 hset H e)) e
end
section
variable {post : Int32 → St0 → Prop} {mc ms kc ks : Nat} {x0 x1 x2 x3 x4 x6 x7 : Int32} {ex um ud uw km kk md : Int32} {a1 a2 a3 : Nat → Int32} {a4 : Nat → Int64}
theorem dz_215 (hp : post 1 ()) (s f k d : Nat) (hs : s ≤ 7304) (hf : f < 4) (hk : 1 ≤ k) (hk2 : k ≤ 20) (hd : d ≤ 7304) (x9 : Int32)
    (hQ : (x4 = 1 ∧ ex = 1 ∧ a1 0 = nI d ∧ a2 0 = 1) ∨ (x4 = 2 ∧ ex = 1 ∧ a1 0 = nI d ∧ a2 0 = 0) ∨ (¬ x4 = 1 ∧ ¬ x4 = 2 ∧ ex = 0 ∧ f = 0 ∧ x9 = if s ≤ d ∧ (d - s) % k = 0 then 1 else 0)) :
    wL_lawOf_215 post mc ms x0 (nI d) x4 x9 kc ks (nI s) (nI f) (nI k) 0 0 0 0 0 0 0 7304 ex um ud uw 0 km kk 0 md a1 a2 a3 a4 := by
  unfold wL_lawOf_215
  rcases hQ with ⟨q1, q2, q3, q4⟩ | ⟨q1, q2, q3, q4⟩ | ⟨q1, q2, q3, q4, q5⟩
  · exact dz_occurs s f k d hs hf hk hk2 hd true (Or.inr (Or.inl ⟨q2, q3, q4, rfl⟩)) (fun _ um ud uw km kk md a3 a4 => br_t q1 (br_t rfl (dz_248 hp))) (fun g => absurd g (by decide))
  · exact dz_occurs s f k d hs hf hk hk2 hd false (Or.inr (Or.inr ⟨q2, q3, q4, rfl⟩)) (fun g => absurd g (by decide)) (fun _ um ud uw km kk md a3 a4 => br_f (by rw [q1]; decide) (br_t q1 (br_t rfl (dz_248 hp))))
  · refine dz_occurs s f k d hs hf hk hk2 hd (decide (s ≤ d ∧ (d - s) % k = 0)) (Or.inl ⟨q3, q4, rfl⟩) (fun g um ud uw km kk md a3 a4 => br_f q1 (br_f q2 (br_f ?_ (br_t rfl (dz_248 hp))))) (fun g um ud uw km kk md a3 a4 => br_f q1 (br_f q2 (br_t ?_ (br_t rfl (dz_248 hp)))))
    · rw [q5, if_pos (of_decide_eq_true g)]
      decide
    · rw [q5, if_neg (of_decide_eq_false g)]
theorem dz_192 (hp : post 1 ()) (s f k d : Nat) (hs : s ≤ 7304) (hf : f < 4) (hk : 1 ≤ k) (hk2 : k ≤ 20) (hd : d ≤ 7304) (hset : (x6 = 0 ∧ f = 0 ∧ k = 1) ∨ (x6 = 1 ∧ x1 = nI f ∧ x2 = nI k))
    (hQ : (x7 = 1 ∧ x4 = 1 ∧ ex = 1 ∧ a1 0 = nI d ∧ a2 0 = 1) ∨ (x7 = 1 ∧ x4 = 2 ∧ ex = 1 ∧ a1 0 = nI d ∧ a2 0 = 0) ∨ (x7 = 0 ∧ ¬ x4 = 1 ∧ ¬ x4 = 2 ∧ ex = 0))
    (z : Int32) (hz : ∀ e, e ≤ 7304 → nI d = nI e → f = 0 → z = if s ≤ e ∧ (e - s) % k = 0 then 1 else 0) :
    wL_lawOf_192 post mc ms x0 x1 (nI d) x4 x6 x7 z kc ks (nI s) (nI f) (nI k) 0 0 0 0 0 0 0 7304 ex um ud uw 0 km kk 0 md a1 a2 a3 a4 := by
  have k0 : x7 = 0 → f = 0 → wL_lawOf_215 post mc ms x0 (nI d) x4 z kc ks (nI s) (nI f) (nI k) 0 0 0 0 0 0 0 7304 ex um ud uw 0 km kk 0 md a1 a2 a3 a4 := by
    intro h7 h0
    rcases hQ with q | q | q
    · exact absurd (q.1.symm.trans h7) (by decide)
    · exact absurd (q.1.symm.trans h7) (by decide)
    · exact dz_215 hp s f k d hs hf hk hk2 hd z (Or.inr (Or.inr ⟨q.2.1, q.2.2.1, q.2.2.2, h0, hz d hd rfl h0⟩))
  unfold wL_lawOf_192
  refine dz_good1 d hd (br_f (by decide) (br_c (fun h7 => br_c (fun h6 => k0 h7 ?_) (fun h6 => br_c (fun h1 => k0 h7 ?_) (fun _ => dz_248 hp))) (fun h7 => ?_)))
  · rcases hset with q | q
    · exact q.2.1
    · exact absurd (q.1.symm.trans h6) (by decide)
  · rcases hset with q | q
    · exact q.2.1
    · have t : nI f = nI 0 := q.2.1.symm.trans h1
      exact (nI_eq (by omega) (by omega)).mp t
  · rcases hQ with q | q | q
    · exact dz_215 hp s f k d hs hf hk hk2 hd z (Or.inl q.2)
    · exact dz_215 hp s f k d hs hf hk hk2 hd z (Or.inr (Or.inl q.2))
    · exact absurd q.1 h7
theorem dz_104 (hp : post 1 ()) (s f k : Nat) (hs : s ≤ 7304) (hf : f < 4) (hk : 1 ≤ k) (hk2 : k ≤ 20) (hx0 : ((x0 < 0 ∨ nI 7305 ≤ x0) ∧ s = 0) ∨ x0 = nI s) (hset : (x6 = 0 ∧ f = 0 ∧ k = 1) ∨ (x6 = 1 ∧ x1 = nI f ∧ x2 = nI k))
    (hsaid : (x7 = 1 ∧ (x4 = 1 ∨ x4 = 2)) ∨ (x7 = 0 ∧ ¬ x4 = 1 ∧ ¬ x4 = 2)) :
    wL_lawOf_104 post mc ms x0 x1 x2 x3 x4 x6 x7 kc ks (nI s) (nI f) (nI k) 0 0 0 0 0 0 0 7304 0 um ud uw 0 km kk 0 md a1 a2 a3 a4 := by
  unfold wL_lawOf_104
  rcases pk_ix x3 (n := 7305) (by decide) with q | q | ⟨d, hd', e⟩
  · exact dz_extraB (Or.inl q) (dz_good0 (Or.inl q) (br_t rfl (dz_135 s f k hs hk hk2 hx0 hset (fun z _ => dz_192b hp (Or.inl q)))))
  · exact dz_extraB (Or.inr q) (dz_good0 (Or.inr q) (br_t rfl (dz_135 s f k hs hk hk2 hx0 hset (fun z _ => dz_192b hp (Or.inr q)))))
  · subst e
    have hd : d ≤ 7304 := by omega
    refine dz_extraG d hd (fun q a1 a2 e1 e2 => dz_good1 d hd (br_f (by decide) (br_f ?_ (dz_135 s f k hs hk hk2 hx0 hset (dz_192 hp s f k d hs hf hk hk2 hd hset (Or.inl ⟨?_, q, rfl, e1, e2⟩))))))
      (fun q a1 a2 e1 e2 => dz_good1 d hd (br_f (by decide) (br_f ?_ (dz_135 s f k hs hk hk2 hx0 hset (dz_192 hp s f k d hs hf hk hk2 hd hset (Or.inr (Or.inl ⟨?_, q, rfl, e1, e2⟩)))))))
      (fun q1 q2 => dz_good1 d hd (br_f (by decide) (br_t ?_ (dz_135 s f k hs hk hk2 hx0 hset (dz_192 hp s f k d hs hf hk hk2 hd hset (Or.inr (Or.inr ⟨?_, q1, q2, rfl⟩)))))))
    · rcases hsaid with g | g
      · rw [g.1]
        decide
      · exact absurd q g.2.1
    · rcases hsaid with g | g
      · exact g.1
      · exact absurd q g.2.1
    · rcases hsaid with g | g
      · rw [g.1]
        decide
      · exact absurd q g.2.2
    · rcases hsaid with g | g
      · exact g.1
      · exact absurd q g.2.2
    · rcases hsaid with ⟨g, h | h⟩ | g
      · exact absurd h q1
      · exact absurd h q2
      · exact g.1
    · rcases hsaid with ⟨g, h | h⟩ | g
      · exact absurd h q1
      · exact absurd h q2
      · exact g.1
theorem dz_82 {v : Int32} (hp : post 1 ()) (s f k : Nat) (hs : s ≤ 7304) (hf : f < 4) (hk : 1 ≤ k) (hk2 : k ≤ 20) (hx0 : ((x0 < 0 ∨ nI 7305 ≤ x0) ∧ s = 0) ∨ x0 = nI s) (hset : (x6 = 0 ∧ f = 0 ∧ k = 1) ∨ (x6 = 1 ∧ x1 = nI f ∧ x2 = nI k)) :
    wL_lawOf_82 post mc ms x0 x1 x2 x3 x4 x6 v v kc ks (nI s) (nI f) (nI k) 0 0 0 0 0 0 0 7304 0 um ud uw 0 km kk 0 md a1 a2 a3 a4 :=
  br_t rfl (br_c (fun q => dz_104 hp s f k hs hf hk hk2 hx0 hset (Or.inl ⟨rfl, Or.inl q⟩)) (fun q => br_c
    (fun q2 => dz_104 hp s f k hs hf hk hk2 hx0 hset (Or.inl ⟨rfl, Or.inr q2⟩))
    (fun q2 => dz_104 hp s f k hs hf hk hk2 hx0 hset (Or.inr ⟨rfl, q, q2⟩))))
theorem dz_61 (hp : post 1 ()) (s : Nat) (hs : s ≤ 7304) (hx0 : ((x0 < 0 ∨ nI 7305 ≤ x0) ∧ s = 0) ∨ x0 = nI s) (hn : x1 < 0 ∨ 3 < x1 ∨ x2 < 1 ∨ 20 < x2) :
    wL_lawOf_61 post mc ms x0 x1 x2 x3 x4 kc ks (nI s) 0 1 0 0 0 0 0 0 0 7304 0 um ud uw 0 km kk 0 md a1 a2 a3 a4 := by
  have P : wL_lawOf_82 post mc ms x0 x1 x2 x3 x4 0 (-2) (-2) kc ks (nI s) 0 1 0 0 0 0 0 0 0 7304 0 um ud uw 0 km kk 0 md a1 a2 a3 a4 :=
    dz_82 hp s 0 1 hs (by omega) (by omega) (by omega) hx0 (Or.inl ⟨rfl, rfl, rfl⟩)
  refine br_c (fun _ => br_t rfl P) (fun g1 => br_c (fun _ => br_t rfl P) (fun g2 => br_c (fun _ => br_t rfl P) (fun g3 => br_c (fun g4 => ?_) (fun _ => br_t rfl P))))
  exfalso
  rcases hn with h | h | h | h
  · exact g1 h
  · exact g2 h
  · exact g3 h
  · rw [Int32.lt_iff_toInt_lt] at h
    rw [Int32.le_iff_toInt_le] at g4
    omega
theorem dz_62 (hp : post 1 ()) (s f k : Nat) (hs : s ≤ 7304) (hf : f < 4) (hk : 1 ≤ k) (hk2 : k ≤ 20) (hx0 : ((x0 < 0 ∨ nI 7305 ≤ x0) ∧ s = 0) ∨ x0 = nI s) :
    wL_lawOf_62 post mc ms x0 (nI f) (nI k) x3 x4 1 kc ks (nI s) 0 1 0 0 0 0 0 0 0 7304 0 um ud uw 0 km kk 0 md a1 a2 a3 a4 :=
  pk_lt f 0 (fun z => absurd z (by omega)) (fun _ => pk_lt 3 f (fun z => absurd z (by omega)) (fun _ => pk_lt k 1 (fun z => absurd z (by omega)) (fun _ => pk_le k 20
    (fun _ => br_f (by decide) (dz_82 hp s f k hs hf hk hk2 hx0 (Or.inr ⟨rfl, rfl, rfl⟩))) (fun z => absurd z (by omega)))))
theorem dz_rng {x M : Int32} {a b : Nat} (hM : M.toInt = b) {A : Int32} (hA : A.toInt = a) (g1 : ¬ x < A) (g2 : ¬ M < x) : ∃ j : Nat, a ≤ j ∧ j ≤ b ∧ x = nI j := by
  rw [Int32.lt_iff_toInt_lt, hA] at g1
  rw [Int32.lt_iff_toInt_lt, hM] at g2
  have h0 : ¬ x < 0 := by
    rw [Int32.lt_iff_toInt_lt, show (0 : Int32).toInt = 0 from by decide]
    omega
  obtain ⟨j, hj, rfl⟩ := nI_of h0
  rw [nI_toInt hj] at g1 g2
  exact ⟨j, by omega, by omega, rfl⟩
theorem dz_32 {v : Int32} (hp : post 1 ()) (s : Nat) (hs : s ≤ 7304) (hx0 : ((x0 < 0 ∨ nI 7305 ≤ x0) ∧ s = 0) ∨ x0 = nI s) :
    wL_lawOf_32 post mc ms x0 x1 x2 x3 x4 v v kc ks (nI s) 0 1 0 0 0 0 0 0 0 7304 0 um ud uw 0 km kk 0 md a1 a2 a3 a4 := by
  refine br_t rfl (br_c (fun g => dz_61 hp s hs hx0 (Or.inl g)) (fun g1 => br_c (fun g => dz_61 hp s hs hx0 (Or.inr (Or.inl g))) (fun g2 => br_c (fun g => dz_61 hp s hs hx0 (Or.inr (Or.inr (Or.inl g)))) (fun g3 => br_c (fun g => dz_61 hp s hs hx0 (Or.inr (Or.inr (Or.inr g)))) (fun g4 => ?_)))))
  obtain ⟨f, _, hf, rfl⟩ := dz_rng (a := 0) (b := 3) (by decide) (by decide) g1 g2
  obtain ⟨k, hk, hk2, rfl⟩ := dz_rng (a := 1) (b := 20) (by decide) (by decide) g3 g4
  exact dz_62 hp s f k hs (by omega) hk hk2 hx0
end
theorem dz_lawOf {post : Int32 → St0 → Prop} (x0 x1 x2 x3 x4 : Int32) (hp : post 1 ()) : wpL_lawOf post 10 200 () x0 x1 x2 x3 x4 := by
  refine ⟨by decide, by decide, 4, 151, by decide, by decide, by decide, by decide, by decide, by decide, by decide, by decide, by decide, by decide, ?_⟩
  unfold wpX_clear
  dsimp only
  rcases pk_ix x0 (n := 7305) (by decide) with q | q | ⟨s, hs, e⟩
  · exact dz_startB (Or.inl q) (dz_good0 (Or.inl q) (br_t rfl (dz_32 hp 0 (by omega) (Or.inl ⟨Or.inl q, rfl⟩))))
  · exact dz_startB (Or.inr q) (dz_good0 (Or.inr q) (br_t rfl (dz_32 hp 0 (by omega) (Or.inl ⟨Or.inr q, rfl⟩))))
  · subst e
    exact dz_startG s (by omega) (dz_good1 s (by omega) (br_f (by decide) ⟨by decide, dz_32 hp s (by omega) (Or.inr rfl)⟩))
theorem dz_cell {post : Int32 → Prop} {xs : Nat → Int32} {L : Nat} {p : Int32} (hL : L ≤ 5) (i : Nat) (hi : i < 5) (h : ∀ r, post r) (hx : p = nI i := by rfl) : wpL_cellAt post L xs () p := by
  subst hx
  exact pk_le L i (fun _ => h _) (fun g => ⟨pk_in i L g, h _⟩)
theorem i_vc (xs : Nat → Int32) (L : Nat) (hL : L ≤ 5) : wpL_law (fun r => r = 1) L xs :=
  dz_cell hL 0 (by omega) (fun x0 => dz_cell hL 1 (by omega) (fun x1 => dz_cell hL 2 (by omega) (fun x2 => dz_cell hL 3 (by omega) (fun x3 => dz_cell hL 4 (by omega) (fun x4 =>
    ⟨10, 200, by decide, by decide, dz_lawOf x0 x1 x2 x3 x4 rfl⟩)))))
end
