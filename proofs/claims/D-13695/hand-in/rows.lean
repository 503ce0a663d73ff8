section
/-! ===== part 01: bits of an Int32 (began as the family 'Int32 by its bits' of the kit's laws, renamed); the calendar ===== -/
def kr_bt (x : Int32) (i : Nat) : Bool := x.toBitVec.getLsbD i
theorem kr_ext {x y : Int32} (h : ∀ i, i < 32 → kr_bt x i = kr_bt y i) : x = y := Int32.toBitVec_inj.mp (BitVec.eq_of_getLsbD_eq (fun i hi => h i hi))
theorem kr_or (x y : Int32) (i : Nat) : kr_bt (x ||| y) i = (kr_bt x i || kr_bt y i) := by unfold kr_bt; rw [Int32.toBitVec_or, BitVec.getLsbD_or]
theorem kr_and (x y : Int32) (i : Nat) : kr_bt (x &&& y) i = (kr_bt x i && kr_bt y i) := by unfold kr_bt; rw [Int32.toBitVec_and, BitVec.getLsbD_and]
theorem kr_big {x : Int32} {i : Nat} (h : 32 ≤ i) : kr_bt x i = false := BitVec.getLsbD_of_ge _ _ h
theorem kr_0 (i : Nat) : kr_bt 0 i = false := BitVec.getLsbD_zero
theorem kr_1 : ∀ i, i < 32 → kr_bt 1 i = decide (i = 0) := by decide +kernel
theorem kr_sl : ∀ n, n < 32 → ((nI n &&& 31).toBitVec.smod 32).toNat = n := by decide +kernel
theorem kr_su : ∀ n, n < 32 → (((nI n).toUInt32 &&& Int32.toUInt32 31).toBitVec % 32).toNat = n := by decide +kernel
theorem kr_shl (n : Nat) (hn : n < 32) (x : Int32) {i : Nat} (hi : i < 32) : kr_bt (x <<< (nI n &&& 31)) i = (decide (n ≤ i) && kr_bt x (i - n)) := by
  unfold kr_bt
  rw [Int32.toBitVec_shiftLeft]
  show (x.toBitVec <<< ((nI n &&& 31).toBitVec.smod 32).toNat).getLsbD i = _
  rw [kr_sl n hn, BitVec.getLsbD_shiftLeft]
  rcases Nat.lt_or_ge i n with h | h
  · simp [h, Nat.not_le.mpr h]
  · simp [hi, h, Nat.not_lt.mpr h]
theorem kr_ushr (n : Nat) (hn : n < 32) (x : Int32) (i : Nat) : kr_bt ((x.toUInt32 >>> ((nI n).toUInt32 &&& Int32.toUInt32 31)).toInt32) i = kr_bt x (n + i) := by
  show (x.toUInt32 >>> ((nI n).toUInt32 &&& Int32.toUInt32 31)).toBitVec.getLsbD i = x.toUInt32.toBitVec.getLsbD (n + i)
  rw [UInt32.toBitVec_shiftRight]
  show (x.toUInt32.toBitVec >>> (((nI n).toUInt32 &&& Int32.toUInt32 31).toBitVec % 32).toNat).getLsbD i = _
  rw [kr_su n hn, BitVec.getLsbD_ushiftRight]
theorem kr_and1 (y : Int32) : y &&& 1 = 1 ↔ kr_bt y 0 = true := by
  constructor
  · intro h
    have e : kr_bt (y &&& 1) 0 = true := by rw [h]; decide
    rw [kr_and] at e
    exact (Bool.and_eq_true_iff.mp e).1
  · intro h
    refine kr_ext (fun i hi => ?_)
    rw [kr_and, kr_1 i hi]
    by_cases e : i = 0
    · subst e; rw [h]; rfl
    · rw [decide_eq_false e, Bool.and_false]
/-- the test of bit n -/
theorem kr_tst (x : Int32) {n : Nat} (hn : n < 32) : (((x.toUInt32 >>> ((nI n).toUInt32 &&& Int32.toUInt32 31)).toInt32) &&& 1) = 1 ↔ kr_bt x n = true := by
  rw [kr_and1, kr_ushr n hn]
  rfl
theorem kr_orz {x y : Int32} (h : ¬ y = 0) : ¬ (x ||| y) = 0 := by
  intro z
  apply h
  refine kr_ext (fun i hi => ?_)
  have e : kr_bt (x ||| y) i = false := by rw [z, kr_0]
  rw [kr_or] at e
  rw [kr_0]
  exact (Bool.or_eq_false_iff.mp e).2
/-! the calendar -/
def kr_len (y m : Nat) : Nat := if m = 1 then (if y % 4 = 0 then 29 else 28) else if m = 3 ∨ m = 5 ∨ m = 8 ∨ m = 10 then 30 else 31
def kr_ys (y : Nat) : Nat := 365 * y + (y + 3) / 4
def kr_ms (y : Nat) : Nat → Nat
  | 0 => kr_ys y
  | m + 1 => kr_ms y m + kr_len y m
theorem kr_len_b (y m : Nat) : 28 ≤ kr_len y m ∧ kr_len y m ≤ 31 := by
  unfold kr_len
  (repeat' split) <;> omega
theorem kr_ms12 (y : Nat) : kr_ms y 12 = kr_ys (y + 1) := by
  have e : kr_ms y 12 = kr_ys y + kr_len y 0 + kr_len y 1 + kr_len y 2 + kr_len y 3 + kr_len y 4 + kr_len y 5 + kr_len y 6 + kr_len y 7 + kr_len y 8 + kr_len y 9 + kr_len y 10 + kr_len y 11 := rfl
  have e1 : kr_len y 1 = if y % 4 = 0 then 29 else 28 := rfl
  have f : kr_len y 0 = 31 ∧ kr_len y 2 = 31 ∧ kr_len y 3 = 30 ∧ kr_len y 4 = 31 ∧ kr_len y 5 = 30 ∧ kr_len y 6 = 31 ∧ kr_len y 7 = 31 ∧ kr_len y 8 = 30 ∧ kr_len y 9 = 31 ∧ kr_len y 10 = 30 ∧ kr_len y 11 = 31 := ⟨rfl, rfl, rfl, rfl, rfl, rfl, rfl, rfl, rfl, rfl, rfl⟩
  obtain ⟨f0, f2, f3, f4, f5, f6, f7, f8, f9, f10, f11⟩ := f
  rw [e, e1, f0, f2, f3, f4, f5, f6, f7, f8, f9, f10, f11]
  unfold kr_ys
  split <;> omega
theorem kr_ms_mono {y a : Nat} : ∀ {b : Nat}, a ≤ b → kr_ms y a ≤ kr_ms y b := by
  intro b
  induction b with
  | zero => intro h; rw [show a = 0 by omega]; exact Nat.le_refl _
  | succ b ih =>
    intro h
    by_cases e : a = b + 1
    · rw [e]; exact Nat.le_refl _
    · exact Nat.le_trans (ih (by omega)) (Nat.le_add_right _ _)
theorem kr_ys_mono {a b : Nat} (h : a ≤ b) : kr_ys a ≤ kr_ys b := by
  unfold kr_ys
  omega
theorem kr_ys_hi {y : Nat} (hy : y ≤ 20) : kr_ys y ≤ 7305 := kr_ys_mono (b := 20) hy
theorem kr_ms_hi {y m : Nat} (hy : y < 20) (hm : m ≤ 12) : kr_ms y m ≤ 7305 := by
  have h1 := kr_ms_mono (y := y) hm
  rw [kr_ms12] at h1
  have h2 := kr_ys_hi (y := y + 1) (by omega)
  omega
theorem kr_find (f : Nat → Nat) (d : Nat) (h0 : f 0 ≤ d) : ∀ n, d < f n → ∃ i, i < n ∧ f i ≤ d ∧ d < f (i + 1) := by
  intro n
  induction n with
  | zero => intro h; exact absurd h0 (by omega)
  | succ n ih =>
    intro h
    by_cases e : d < f n
    · obtain ⟨i, h1, h2⟩ := ih e
      exact ⟨i, by omega, h2⟩
    · exact ⟨n, by omega, by omega, h⟩
theorem kr_fy {d : Nat} (h : d < 7305) : ∃ y, y < 20 ∧ kr_ys y ≤ d ∧ d < kr_ys (y + 1) := kr_find kr_ys d (Nat.zero_le _) 20 h
theorem kr_fm {d y : Nat} (h1 : kr_ys y ≤ d) (h2 : d < kr_ys (y + 1)) : ∃ m, m < 12 ∧ kr_ms y m ≤ d ∧ d < kr_ms y (m + 1) :=
  kr_find (kr_ms y) d h1 12 (by rw [kr_ms12]; exact h2)
/-- the year of a day in a month -/
theorem kr_yr {d y m : Nat} (hm : m < 12) (h1 : kr_ms y m ≤ d) (h2 : d < kr_ms y (m + 1)) : kr_ys y ≤ d ∧ d < kr_ys (y + 1) := by
  have a : kr_ms y 0 ≤ kr_ms y m := kr_ms_mono (Nat.zero_le m)
  have b := kr_ms_mono (y := y) (show m + 1 ≤ 12 by omega)
  rw [kr_ms12] at b
  have c : kr_ms y 0 = kr_ys y := rfl
  omega
def kr_sr (f : Nat → Nat) (d : Nat) : Nat → Nat
  | 0 => 0
  | n + 1 => if f n ≤ d then n else kr_sr f d n
theorem kr_sr_eq {f : Nat → Nat} {d i : Nat} (mono : ∀ a b, a ≤ b → f a ≤ f b) (h1 : f i ≤ d) (h2 : d < f (i + 1)) : ∀ n, i < n → kr_sr f d n = i := by
  intro n
  induction n with
  | zero => intro h; omega
  | succ n ih =>
    intro h
    show (if f n ≤ d then n else kr_sr f d n) = i
    by_cases e : i = n
    · rw [← e, if_pos h1]
    · have := mono (i + 1) n (by omega)
      rw [if_neg (by omega)]
      exact ih (by omega)
def kr_yo (d : Nat) : Nat := kr_sr kr_ys d 20
def kr_mo (d : Nat) : Nat := kr_sr (kr_ms (kr_yo d)) d 12
/-- whether day d passes, M y m the month's days as bits -/
def kr_F (M : Nat → Nat → Int32) (d : Nat) : Bool := decide (d < 7305) && kr_bt (M (kr_yo d) (kr_mo d)) (d - kr_ms (kr_yo d) (kr_mo d))
theorem kr_F_at {M : Nat → Nat → Int32} {y m d : Nat} (hy : y < 20) (hm : m < 12) (h1 : kr_ms y m ≤ d) (h2 : d < kr_ms y (m + 1)) : kr_F M d = kr_bt (M y m) (d - kr_ms y m) := by
  obtain ⟨a, b⟩ := kr_yr hm h1 h2
  have e1 : kr_yo d = y := kr_sr_eq (fun _ _ => kr_ys_mono) a b 20 hy
  have e2 : kr_mo d = m := by
    unfold kr_mo
    rw [e1]
    exact kr_sr_eq (fun _ _ => kr_ms_mono) h1 h2 12 hm
  have := kr_ms_hi hy (show m + 1 ≤ 12 by omega)
  unfold kr_F
  rw [e1, e2, decide_eq_true (show d < 7305 by omega), Bool.true_and]
theorem kr_F_hi {M : Nat → Nat → Int32} {d : Nat} (h : 7305 ≤ d) : kr_F M d = false := by
  unfold kr_F
  rw [decide_eq_false (by omega), Bool.false_and]
/-! walks of the calendar's methods -/
theorem kr_yearStart {post : Int32 → Prop} {x : Int32} {y : Nat} (hx : x = nI y) (hy : y ≤ 100) (h : post (nI (kr_ys y))) : wpX_yearStart post () x := by
  subst hx
  have e : (365 : Int32) * nI y + (nI y + 3) / 4 = nI (kr_ys y) := by
    show nI 365 * nI y + (nI y + nI 3) / nI 4 = _
    rw [pk_mul, nI_add, pk_div (by omega) (by omega) (by omega), nI_add]
    rfl
  refine ⟨by decide, ?_⟩
  rw [e]
  exact h
theorem kr_yearOf {post : Int32 → Prop} {d y : Nat} (hy : y < 20) (h1 : kr_ys y ≤ d) (h2 : d < kr_ys (y + 1)) (h : post (nI y)) : wpX_yearOf post () (nI d) := by
  have hd := kr_ys_hi (show y + 1 ≤ 20 by omega)
  exact pk_loop (σ := Unit) (fun n i _ => wX_yearOf_2 post (nI d) n (nI i)) (fun _ _ => True) y 0 () (by omega) trivial
    (fun n _ _ => pk_le 19 y (fun _ => h) (fun z => kr_yearStart (nI_1 y) (by omega) (pk_lt d (kr_ys (y + 1)) (fun _ => h) (fun z2 => absurd z2 (by omega)))))
    (fun n i _ hi _ hw => by
      have m1 := kr_ys_mono (show i + 1 ≤ y by omega)
      exact pk_le 19 i (fun z => absurd z (by omega)) (fun z => kr_yearStart (nI_1 i) (by omega) (pk_lt d (kr_ys (i + 1)) (fun z2 => absurd z2 (by omega)) (fun _ => nm_r (nI_1 i) (hw () trivial)))))
theorem kr_monthLength {post : Int32 → Prop} {x z : Int32} {y m : Nat} (hx : x = nI y) (hz : z = nI m) (hy : y < 100) (hm : m < 100) (h : post (nI (kr_len y m))) : wpX_monthLength post () x z := by
  subst hx hz
  unfold kr_len at h
  refine pk_eq m 1 (fun e => ?_) (fun e => pk_eq m 3 (fun f => ?_) (fun f3 => pk_eq m 5 (fun f => ?_) (fun f5 => pk_eq m 8 (fun f => ?_) (fun f8 => pk_eq m 10 (fun f => ?_) (fun f10 => ?_)))))
  · rw [if_pos e] at h
    refine pk_eq (y % 4) 0 (fun f => br_f (by decide) ?_) (fun f => br_t rfl ?_) (hx := pk_andN (by omega) 2 (by decide))
    · rw [if_pos f] at h; exact h
    · rw [if_neg f] at h; exact h
  · rw [if_neg e, if_pos (by omega)] at h; exact h
  · rw [if_neg e, if_pos (by omega)] at h; exact h
  · rw [if_neg e, if_pos (by omega)] at h; exact h
  · rw [if_neg e, if_pos (by omega)] at h; exact h
  · rw [if_neg e, if_neg (by omega)] at h; exact h
theorem kr_monthStart {post : Int32 → Prop} {x z : Int32} {y m : Nat} (hx : x = nI y) (hz : z = nI m) (hy : y < 20) (hm : m ≤ 12) (h : post (nI (kr_ms y m))) : wpX_monthStart post () x z := by
  subst hx hz
  refine kr_yearStart rfl (by omega) ?_
  exact pk_loop (σ := Unit) (fun n i _ => wX_monthStart_7 post (nI y) (nI m) n (nI (kr_ms y i)) (nI i)) (fun _ _ => True) m 0 () (by omega) trivial
    (fun n _ _ => pk_le m m (fun _ => h) (fun z => absurd z (by omega)))
    (fun n i _ hi _ hw => pk_le m i (fun z => absurd z (by omega)) (fun _ => kr_monthLength rfl rfl (by omega) (by omega) (nm_r (nI_add _ _) (nm_r (nI_1 i) (hw () trivial)))))
theorem kr_monthOf {post : Int32 → Prop} {z : Int32} {d y m : Nat} (hz : z = nI y) (hy : y < 20) (hm : m < 12) (h1 : kr_ms y m ≤ d) (h2 : d < kr_ms y (m + 1)) (h : post (nI m)) : wpX_monthOf post () (nI d) z := by
  subst hz
  have hd := kr_ms_hi hy (show m + 1 ≤ 12 by omega)
  exact pk_loop (σ := Unit) (fun n i _ => wX_monthOf_2 post (nI d) (nI y) n (nI i)) (fun _ _ => True) m 0 () (by omega) trivial
    (fun n _ _ => pk_le 11 m (fun _ => h) (fun z => kr_monthStart rfl (nI_1 m) hy (by omega) (pk_lt d (kr_ms y (m + 1)) (fun _ => h) (fun z2 => absurd z2 (by omega)))))
    (fun n i _ hi _ hw => by
      have m1 := kr_ms_mono (y := y) (show i + 1 ≤ m by omega)
      exact pk_le 11 i (fun z => absurd z (by omega)) (fun z => kr_monthStart rfl (nI_1 i) hy (by omega) (pk_lt d (kr_ms y (i + 1)) (fun z2 => absurd z2 (by omega)) (fun _ => nm_r (nI_1 i) (hw () trivial)))))
theorem kr_weekdayOf {post : Int32 → Prop} {x : Int32} {d : Nat} (hx : x = nI d) (hd : d < 10000) (h : post (nI ((d + 5) % 7))) : wpX_weekdayOf post () x := by
  subst hx
  have e : (nI d + 5) - (nI d + 5) / 7 * 7 = nI ((d + 5) % 7) := by
    show (nI d + nI 5) - (nI d + nI 5) / nI 7 * nI 7 = _
    rw [nI_add, pk_rem (by omega) (by omega) (by omega)]
  refine ⟨by decide, ?_⟩
  rw [e]
  exact h
theorem kr_badDay {post : Int32 → Prop} {x : Int32} {d : Nat} (hx : x = nI d) (hd : d ≤ 7304) (h : post 0) : wpX_badDay post () x := by
  subst hx
  exact br_f (nI_pos (by omega)) (br_t (nI_le (b := 7304) hd (by omega)) h)
theorem kr_badHi {post : Int32 → Prop} {x : Int32} {d : Nat} (hx : x = nI d) (hd : 7304 < d) (hd2 : d < 10000) (h : post 1) : wpX_badDay post () x := by
  subst hx
  exact br_f (nI_pos (by omega)) (br_f (nI_ge (a := 7304) hd (by omega)) h)
def kr_bc (x : Int32) : Nat → Int32
  | 0 => 0
  | n + 1 => kr_bc x n + (((x.toUInt32 >>> ((nI n).toUInt32 &&& Int32.toUInt32 31)).toInt32) &&& 1)
theorem kr_bits {post : Int32 → Prop} {x : Int32} (h : post (kr_bc x 32)) : wpX_bits post () x :=
  pk_loop (σ := Unit) (fun n i _ => wX_bits_4 post x n (kr_bc x i) (nI i)) (fun _ _ => True) 32 0 () (by omega) trivial
    (fun n _ _ => pk_le 32 32 (fun _ => h) (fun z => absurd z (by omega)))
    (fun n i _ hi _ hw => pk_le 32 i (fun z => absurd z (by omega)) (fun _ => nm_e (nm_r (nI_1 i) (hw () trivial))))
theorem kr_bits31 : kr_bc (31 &&& 127) 32 = 5 := by decide +kernel
end
section
/-! ===== part 02: the days of a month ===== -/
def kr_wl (len : Nat) : Nat → Int32 → Nat → Int32
  | 0, x, _ => x
  | f + 1, x, d => if len ≤ d then x else kr_wl len f (x ||| ((1 : Int32) <<< (nI d &&& 31))) (d + 7)
def kr_wv (y m w : Nat) : Int32 := kr_wl (kr_len y m) 5 0 ((w + 7 - (kr_ms y m + 5) % 7) % 7)
def kr_nd (ud ls : Int32) (len : Nat) : Nat → Int32
  | 0 => ud
  | i + 1 => kr_nd ud ls len i ||| ((((ls.toUInt32 >>> (((nI len - 1) - nI i).toUInt32 &&& Int32.toUInt32 31)).toInt32) &&& 1) <<< (nI i &&& 31))
def kr_op (uw : Int32) (y m : Nat) : Nat → Int32
  | 0 => 0
  | w + 1 => if ((uw >>> (nI w &&& 31)) &&& 1) = 1 then kr_op uw y m w ||| kr_wv y m w else kr_op uw y m w
def kr_b0 (len : Nat) : Int32 := ((-1 : Int32).toUInt32 >>> ((32 - nI len).toUInt32 &&& Int32.toUInt32 31)).toInt32
def kr_m2 (uw x : Int32) (y m : Nat) : Int32 := if uw = 0 then x else x &&& kr_op uw y m 7
def kr_m1 (ud ls uw : Int32) (y m : Nat) : Int32 := if (ud ||| ls) = 0 then kr_m2 uw (kr_b0 (kr_len y m)) y m else kr_m2 uw (kr_b0 (kr_len y m) &&& kr_nd ud ls (kr_len y m) (kr_len y m)) y m
/-- what monthMask answers where useOrdinal is 0 -/
def kr_M (um ud ls uw : Int32) (y m : Nat) : Int32 := if um = 0 then kr_m1 ud ls uw y m else if ((um >>> (nI m &&& 31)) &&& 1) = 0 then 0 else kr_m1 ud ls uw y m
theorem kr_b0_hi {y m i : Nat} (h : kr_len y m ≤ i) : kr_bt (kr_b0 (kr_len y m)) i = false := by
  obtain ⟨l1, l2⟩ := kr_len_b y m
  have e : (32 : Int32) - nI (kr_len y m) = nI (32 - kr_len y m) := pk_sub (a := 32) (by omega)
  unfold kr_b0
  rw [e, kr_ushr _ (by omega)]
  exact kr_big (by omega)
theorem kr_m2_hi {uw x : Int32} {y m i : Nat} (h : kr_bt x i = false) : kr_bt (kr_m2 uw x y m) i = false := by
  unfold kr_m2
  split
  · exact h
  · rw [kr_and, h, Bool.false_and]
theorem kr_M_hi {um ud ls uw : Int32} {y m i : Nat} (h : kr_len y m ≤ i) : kr_bt (kr_M um ud ls uw y m) i = false := by
  have h1 : kr_bt (kr_m1 ud ls uw y m) i = false := by
    unfold kr_m1
    split
    · exact kr_m2_hi (kr_b0_hi h)
    · refine kr_m2_hi ?_
      rw [kr_and, kr_b0_hi h, Bool.false_and]
  unfold kr_M
  split
  · exact h1
  · split
    · exact kr_0 i
    · exact h1
section
variable {st oo iv ms ds ls ws od pl ct en ex um ud uw uo km kk rd md : Int32} {a1 a2 a3 : Nat → Int32} {a4 : Nat → Int64} {post : Int32 → Prop}
theorem kr_wloop {len : Nat} (hl : len ≤ 31) : ∀ (f : Nat) (x : Int32) (d : Nat), len ≤ d + 7 * f → d + 7 * f < 1000 → post (kr_wl len f x d) → wX_weekdayMask_43 post (nI len) st oo iv ms ds ls ws od pl ct en ex um ud uw uo km kk rd md a1 a2 a3 a4 (f + 1) x (nI d) := by
  intro f
  induction f with
  | zero =>
    intro x d h1 h2 h
    exact pk_le len d (fun _ => h) (fun z => absurd z (by omega))
  | succ f ih =>
    intro x d h1 h2 h
    refine pk_le len d (fun z => ?_) (fun z => nm_e (nm_r (nI_add d 7) (ih _ (d + 7) (by omega) (by omega) ?_)))
    · have e : kr_wl len (f + 1) x d = x := if_pos z
      rw [e] at h
      exact h
    · have e : kr_wl len (f + 1) x d = kr_wl len f (x ||| ((1 : Int32) <<< (nI d &&& 31))) (d + 7) := if_neg (by omega)
      rw [e] at h
      exact h
theorem kr_weekdayMask {y m w : Nat} (hy : y < 20) (hm : m < 12) (hw : w < 7) (h : post (kr_wv y m w)) : wpX_weekdayMask post (st, oo, iv, ms, ds, ls, ws, od, pl, ct, en, ex, um, ud, uw, 0, km, kk, rd, md, a1, a2, a3, a4) (nI y) (nI m) (nI w) := by
  have m1 := kr_ms_hi hy (show m ≤ 12 by omega)
  obtain ⟨l1, l2⟩ := kr_len_b y m
  refine kr_monthStart rfl rfl hy (by omega) (kr_monthLength rfl rfl (by omega) (by omega) (kr_weekdayOf rfl (by omega) ⟨by decide, nm_r (e' := nI ((w + 7 - (kr_ms y m + 5) % 7) % 7)) ?_ (br_t rfl ⟨6, kr_wloop l2 5 0 _ (by omega) (by omega) h⟩)⟩))
  show ((nI w + nI 7) - nI ((kr_ms y m + 5) % 7)) - ((nI w + nI 7) - nI ((kr_ms y m + 5) % 7)) / nI 7 * nI 7 = _
  rw [nI_add, pk_sub (by omega), pk_rem (by omega) (by omega) (by omega)]
theorem kr_numberedDays {len : Nat} (hl : len ≤ 31) (h : post (kr_nd ud ls len len)) : wpX_numberedDays post (st, oo, iv, ms, ds, ls, ws, od, pl, ct, en, ex, um, ud, uw, uo, km, kk, rd, md, a1, a2, a3, a4) (nI len) :=
  pk_loop (σ := Unit) (fun n i _ => wX_numberedDays_7 post (nI len) st oo iv ms ds ls ws od pl ct en ex um ud uw uo km kk rd md a1 a2 a3 a4 n (kr_nd ud ls len i) (nI i)) (fun _ _ => True) len 0 () (by omega) trivial
    (fun n _ _ => pk_le len len (fun _ => h) (fun z => absurd z (by omega)))
    (fun n i _ hi _ hw => pk_le len i (fun z => absurd z (by omega)) (fun _ => nm_e (nm_r (nI_1 i) (hw () trivial))))
theorem kr_mm72 {x : Int32} {y m : Nat} (hy : y < 20) (hm : m < 12) (h : post (x &&& kr_op uw y m 7)) : ∃ n, wX_monthMask_72 post (nI y) (nI m) x st oo iv ms ds ls ws od pl ct en ex um ud uw 0 km kk rd md a1 a2 a3 a4 n 0 0 :=
  pk_loop (σ := Unit) (fun n i _ => wX_monthMask_72 post (nI y) (nI m) x st oo iv ms ds ls ws od pl ct en ex um ud uw 0 km kk rd md a1 a2 a3 a4 n (kr_op uw y m i) (nI i)) (fun _ _ => True) 7 0 () (by omega) trivial
    (fun n _ _ => pk_le 7 7 (fun _ => h) (fun z => absurd z (by omega)))
    (fun n i _ hi _ hw => pk_le 7 i (fun z => absurd z (by omega)) (fun _ => by
      have t : wX_monthMask_72 post (nI y) (nI m) x st oo iv ms ds ls ws od pl ct en ex um ud uw 0 km kk rd md a1 a2 a3 a4 n (kr_op uw y m (i + 1)) (nI (i + 1)) := hw () trivial
      refine br_c (fun c => ?_) (fun c => ?_)
      · have e : kr_op uw y m (i + 1) = kr_op uw y m i ||| kr_wv y m i := if_pos c
        rw [e] at t
        exact kr_weekdayMask hy hm hi (nm_e (nm_r (nI_1 i) t))
      · have e : kr_op uw y m (i + 1) = kr_op uw y m i := if_neg c
        rw [e] at t
        exact nm_r (nI_1 i) t))
theorem kr_mm56 {x : Int32} {y m : Nat} (hy : y < 20) (hm : m < 12) (h : post (kr_m2 uw x y m)) : wX_monthMask_56 post (nI y) (nI m) x st oo iv ms ds ls ws od pl ct en ex um ud uw 0 km kk rd md a1 a2 a3 a4 := by
  unfold kr_m2 at h
  refine br_c (fun c => ?_) (fun c => ?_)
  · rw [if_pos c] at h; exact h
  · rw [if_neg c] at h; exact kr_mm72 hy hm h
theorem kr_mm20 {y m : Nat} (hy : y < 20) (hm : m < 12) (h : post (kr_m1 ud ls uw y m)) : wX_monthMask_20 post (nI y) (nI m) st oo iv ms ds ls ws od pl ct en ex um ud uw 0 km kk rd md a1 a2 a3 a4 := by
  obtain ⟨l1, l2⟩ := kr_len_b y m
  unfold kr_m1 at h
  refine kr_monthLength rfl rfl (by omega) (by omega) (nm_r (e' := kr_b0 (kr_len y m)) rfl (br_c (fun c => ?_) (fun c => ?_)))
  · rw [if_pos c] at h; exact kr_mm56 hy hm h
  · rw [if_neg c] at h; exact kr_numberedDays l2 (nm_e (kr_mm56 hy hm h))
theorem kr_monthMask {x z : Int32} {y m : Nat} (hx : x = nI y) (hz : z = nI m) (hy : y < 20) (hm : m < 12) (h : post (kr_M um ud ls uw y m)) : wpX_monthMask post (st, oo, iv, ms, ds, ls, ws, od, pl, ct, en, ex, um, ud, uw, 0, km, kk, rd, md, a1, a2, a3, a4) x z := by
  subst hx hz
  unfold kr_M at h
  refine br_c (fun c => ?_) (fun c => br_c (fun c2 => ?_) (fun c2 => ?_))
  · rw [if_pos c] at h; exact kr_mm20 hy hm h
  · rw [if_neg c, if_pos c2] at h; exact h
  · rw [if_neg c, if_neg c2] at h; exact kr_mm20 hy hm h
end
end
section
/-! ===== part 03: one day added, a mask added, whether a day passes ===== -/
def kr_put (a : Nat → Int64) (p : Int32) : Nat → Int64 := vp_updL a (p >>> ((6 : Int32) &&& 31)).toNatClampNeg ((a (p >>> ((6 : Int32) &&& 31)).toNatClampNeg) ||| ((1 : Int64) <<< ((p &&& 63).toInt64 &&& 63)))
/-- add(d): start s, end e, count ct; days and made -/
def kr_ad (s e : Nat) (ct : Int32) (p : (Nat → Int64) × Int32) (d : Nat) : (Nat → Int64) × Int32 := if s ≤ d ∧ d ≤ e ∧ (ct = 0 ∨ ¬ ct ≤ p.2) then (kr_put p.1 (nI d), p.2 + 1) else p
def kr_kp (M : Nat → Nat → Int32) (km kk : Int32) : Prop := ∀ y m, y < 20 → m < 12 → km = nI (y * 12 + m) → kk = M y m
theorem kr_word {d : Nat} (h : d < 2 ^ 31) : nI d >>> ((6 : Int32) &&& 31) = nI (d / 64) := pk_shrN h _ 6 (by decide)
theorem kr_bit6 {d : Nat} (h : d < 2 ^ 31) : nI d &&& 63 = nI (d % 64) := pk_andN (by omega) 6 (by decide)
section
variable {st oo iv ms ds ls ws od pl ct en ex um ud uw uo km kk rd md : Int32} {a1 a2 a3 : Nat → Int32} {a4 : Nat → Int64} {s e : Nat} {p : (Nat → Int64) × Int32}
theorem kr_wanted {post : Int32 → Prop} (h1 : (ct = 0 ∨ ¬ ct ≤ md) → post 1) (h0 : ¬ (ct = 0 ∨ ¬ ct ≤ md) → post 0) : wpX_wanted post (st, oo, iv, ms, ds, ls, ws, od, pl, ct, en, ex, um, ud, uw, uo, km, kk, rd, md, a1, a2, a3, a4) :=
  br_c (fun c => h1 (Or.inl c)) (fun c => br_c (fun c2 => h0 (fun z => z.elim c (fun n => n c2))) (fun c2 => h1 (Or.inr c2)))
theorem kr_add {post : St1 → Prop} {x : Int32} {d : Nat} (he : e ≤ 7304) (hs : s ≤ 7304) (hx : x = nI d) (hd : d < 2 ^ 31) (h : post (nI s, oo, iv, ms, ds, ls, ws, od, pl, ct, nI e, ex, um, ud, uw, uo, km, kk, rd, (kr_ad s e ct p d).2, a1, a2, a3, (kr_ad s e ct p d).1)) : wpX_add post (nI s, oo, iv, ms, ds, ls, ws, od, pl, ct, nI e, ex, um, ud, uw, uo, km, kk, rd, p.2, a1, a2, a3, p.1) x := by
  subst hx
  refine pk_lt d s (fun z => ?_) (fun z => pk_lt e d (fun z2 => ?_) (fun z2 => ?_))
  · have q : kr_ad s e ct p d = p := if_neg (fun t => absurd t.1 (by omega))
    rw [q] at h; exact h
  · have q : kr_ad s e ct p d = p := if_neg (fun t => absurd t.2.1 (by omega))
    rw [q] at h; exact h
  · refine kr_wanted (fun c => ?_) (fun c => ?_)
    · have q : kr_ad s e ct p d = (kr_put p.1 (nI d), p.2 + 1) := if_pos ⟨z, z2, c⟩
      rw [q] at h
      exact br_f (by decide) ⟨pk_in (d / 64) 115 (by omega) (kr_word hd), pk_in (d / 64) 115 (by omega) (kr_word hd), nm_e (nm_e h)⟩
    · have q : kr_ad s e ct p d = p := if_neg (fun t => c t.2.2)
      rw [q] at h
      exact br_t rfl h
theorem kr_am {post : St1 → Prop} {mask from_ n : Int32} {H : Nat → (Nat → Int64) × Int32} (he : e ≤ 7304) (hs : s ≤ 7304)
    (h1 : ∀ i, i < 32 → kr_bt mask i = true → ∃ d, d < 2 ^ 31 ∧ from_ + nI i = nI d ∧ H (i + 1) = kr_ad s e ct (H i) d)
    (h0 : ∀ i, i < 32 → kr_bt mask i = false → H (i + 1) = H i)
    (h : post (nI s, oo, iv, ms, ds, ls, ws, od, 0, ct, nI e, ex, um, ud, uw, uo, km, kk, rd, (H 32).2, a1, a2, a3, (H 32).1)) : ∃ fu, wX_addMask_11 post mask from_ n fu 0 0 (nI s) oo iv ms ds ls ws od 0 ct (nI e) ex um ud uw uo km kk rd ((H 0).2) a1 a2 a3 ((H 0).1) :=
  pk_loop (fun f i (k : Int32) => wX_addMask_11 post mask from_ n f k (nI i) (nI s) oo iv ms ds ls ws od 0 ct (nI e) ex um ud uw uo km kk rd ((H i).2) a1 a2 a3 ((H i).1)) (fun _ _ => True) 32 0 0 (by omega) trivial
    (fun f _ _ => pk_le 32 32 (fun _ => h) (fun z => absurd z (by omega)))
    (fun f i k hi _ hw => pk_le 32 i (fun z => absurd z (by omega)) (fun _ => by
      cases hb : kr_bt mask i with
      | true =>
        obtain ⟨d, hd, ed, eH⟩ := h1 i hi hb
        have t : wX_addMask_11 post mask from_ n f (k + 1) (nI (i + 1)) (nI s) oo iv ms ds ls ws od 0 ct (nI e) ex um ud uw uo km kk rd ((H (i + 1)).2) a1 a2 a3 ((H (i + 1)).1) := hw _ trivial
        rw [eH] at t
        exact br_t ((kr_tst mask hi).mpr hb) (br_t rfl (br_f (by decide) (kr_add he hs ed hd (nm_e (nm_r (nI_1 i) t)))))
      | false =>
        have t : wX_addMask_11 post mask from_ n f k (nI (i + 1)) (nI s) oo iv ms ds ls ws od 0 ct (nI e) ex um ud uw uo km kk rd ((H (i + 1)).2) a1 a2 a3 ((H (i + 1)).1) := hw _ trivial
        rw [h0 i hi hb] at t
        exact br_f (fun z => absurd ((kr_tst mask hi).mp z) (by rw [hb]; exact Bool.false_ne_true)) (nm_r (nI_1 i) t)))
theorem kr_addMask {post : St1 → Prop} {mask from_ : Int32} {H : Nat → (Nat → Int64) × Int32} (he : e ≤ 7304) (hs : s ≤ 7304)
    (h1 : ∀ i, i < 32 → kr_bt mask i = true → ∃ d, d < 2 ^ 31 ∧ from_ + nI i = nI d ∧ H (i + 1) = kr_ad s e ct (H i) d)
    (h0 : ∀ i, i < 32 → kr_bt mask i = false → H (i + 1) = H i)
    (h : post (nI s, oo, iv, ms, ds, ls, ws, od, 0, ct, nI e, ex, um, ud, uw, uo, km, kk, rd, (H 32).2, a1, a2, a3, (H 32).1)) : wpX_addMask post (nI s, oo, iv, ms, ds, ls, ws, od, 0, ct, nI e, ex, um, ud, uw, uo, km, kk, rd, (H 0).2, a1, a2, a3, (H 0).1) mask from_ :=
  kr_bits (kr_am he hs h1 h0 h)
theorem kr_addPart {post : St1 → Prop} {mask from_ before n : Int32} {H : Nat → (Nat → Int64) × Int32} (he : e ≤ 7304) (hs : s ≤ 7304)
    (h1 : ∀ i, i < 31 → kr_bt mask i = true → ∃ d, d < 2 ^ 31 ∧ from_ + nI i = nI d ∧ H (i + 1) = kr_ad s e ct (H i) d)
    (h0 : ∀ i, i < 31 → kr_bt mask i = false → H (i + 1) = H i)
    (h : post (nI s, oo, iv, ms, ds, ls, ws, od, 0, ct, nI e, ex, um, ud, uw, uo, km, kk, rd, (H 31).2, a1, a2, a3, (H 31).1)) : wpX_addPart post (nI s, oo, iv, ms, ds, ls, ws, od, 0, ct, nI e, ex, um, ud, uw, uo, km, kk, rd, (H 0).2, a1, a2, a3, (H 0).1) mask from_ before n :=
  pk_loop (fun f i (k : Int32) => wX_addPart_6 post mask from_ n f k (nI i) (nI s) oo iv ms ds ls ws od 0 ct (nI e) ex um ud uw uo km kk rd ((H i).2) a1 a2 a3 ((H i).1)) (fun _ _ => True) 31 0 before (by omega) trivial
    (fun f _ _ => pk_le 31 31 (fun _ => h) (fun z => absurd z (by omega)))
    (fun f i k hi _ hw => pk_le 31 i (fun z => absurd z (by omega)) (fun _ => by
      cases hb : kr_bt mask i with
      | true =>
        obtain ⟨d, hd, ed, eH⟩ := h1 i hi hb
        have t : wX_addPart_6 post mask from_ n f (k + 1) (nI (i + 1)) (nI s) oo iv ms ds ls ws od 0 ct (nI e) ex um ud uw uo km kk rd ((H (i + 1)).2) a1 a2 a3 ((H (i + 1)).1) := hw _ trivial
        rw [eH] at t
        exact br_t ((kr_tst mask (by omega)).mpr hb) (br_t rfl (br_f (by decide) (kr_add he hs ed hd (nm_e (nm_r (nI_1 i) t)))))
      | false =>
        have t : wX_addPart_6 post mask from_ n f k (nI (i + 1)) (nI s) oo iv ms ds ls ws od 0 ct (nI e) ex um ud uw uo km kk rd ((H (i + 1)).2) a1 a2 a3 ((H (i + 1)).1) := hw _ trivial
        rw [h0 i hi hb] at t
        exact br_f (fun z => absurd ((kr_tst mask (by omega)).mp z) (by rw [hb]; exact Bool.false_ne_true)) (nm_r (nI_1 i) t)))
theorem kr_p44 {post : Int32 → St1 → Prop} {d y m : Nat} (hy : y < 20) (hm : m < 12) (h1 : kr_ms y m ≤ d) (h2 : d < kr_ms y (m + 1))
    (t : kr_bt kk (d - kr_ms y m) = true → post 1 (st, oo, iv, ms, ds, ls, ws, od, pl, ct, en, ex, um, ud, uw, uo, km, kk, rd, md, a1, a2, a3, a4)) (f : kr_bt kk (d - kr_ms y m) = false → post 0 (st, oo, iv, ms, ds, ls, ws, od, pl, ct, en, ex, um, ud, uw, uo, km, kk, rd, md, a1, a2, a3, a4)) : wX_passes_44 post (nI d) (nI y) (nI m) st oo iv ms ds ls ws od pl ct en ex um ud uw uo km kk rd md a1 a2 a3 a4 := by
  obtain ⟨l1, l2⟩ := kr_len_b y m
  have q : kr_ms y (m + 1) = kr_ms y m + kr_len y m := rfl
  refine kr_monthStart rfl rfl hy (by omega) ?_
  have e : nI d - nI (kr_ms y m) = nI (d - kr_ms y m) := pk_sub h1
  have k := kr_tst kk (show d - kr_ms y m < 32 by omega)
  rw [e]
  cases hb : kr_bt kk (d - kr_ms y m) with
  | true => exact br_t (k.mpr hb) (t hb)
  | false => exact br_f (fun z => absurd (k.mp z) (by rw [hb]; exact Bool.false_ne_true)) (f hb)
theorem kr_passes {post : Int32 → St1 → Prop} {x : Int32} {d : Nat} (hx : x = nI d) (hd : d < 7305) (hk : kr_kp (kr_M um ud ls uw) km kk)
    (t : kr_F (kr_M um ud ls uw) d = true → ∀ km kk, kr_kp (kr_M um ud ls uw) km kk → post 1 (st, oo, iv, ms, ds, ls, ws, od, pl, ct, en, ex, um, ud, uw, 0, km, kk, rd, md, a1, a2, a3, a4))
    (f : kr_F (kr_M um ud ls uw) d = false → ∀ km kk, kr_kp (kr_M um ud ls uw) km kk → post 0 (st, oo, iv, ms, ds, ls, ws, od, pl, ct, en, ex, um, ud, uw, 0, km, kk, rd, md, a1, a2, a3, a4)) : wpX_passes post (st, oo, iv, ms, ds, ls, ws, od, pl, ct, en, ex, um, ud, uw, 0, km, kk, rd, md, a1, a2, a3, a4) x := by
  subst hx
  obtain ⟨y, hy, y1, y2⟩ := kr_fy hd
  obtain ⟨m, hm, m1, m2⟩ := kr_fm y1 y2
  have e : nI y * 12 + nI m = nI (y * 12 + m) := by
    show nI y * nI 12 + nI m = _
    rw [pk_mul, nI_add]
  refine kr_yearOf hy y1 y2 (kr_monthOf rfl hy hm m1 m2 ?_)
  rw [e]
  rw [kr_F_at hy hm m1 m2] at t f
  refine br_c (fun c => ?_) (fun c => nm_e (kr_monthMask rfl rfl hy hm ?_))
  · have q := hk y m hy hm c.symm
    rw [← q] at t f
    exact kr_p44 hy hm m1 m2 (fun b => t b km kk hk) (fun b => f b km kk hk)
  · have q : kr_kp (kr_M um ud ls uw) (nI (y * 12 + m)) (kr_M um ud ls uw y m) := by
      intro y' m' hy' hm' h'
      rw [nI_eq (by omega) (by omega)] at h'
      rw [show y = y' by omega, show m = m' by omega]
    exact kr_p44 hy hm m1 m2 (fun b => t b _ _ q) (fun b => f b _ _ q)
end
end
section
/-! ===== part 04: the four ways through the days end in the same days ===== -/
/-- days and made when all days below n have been looked at -/
def kr_G (F : Nat → Bool) (s e : Nat) (ct : Int32) : Nat → (Nat → Int64) × Int32
  | 0 => (fun _ => 0, 0)
  | d + 1 => if F d = true then kr_ad s e ct (kr_G F s e ct d) d else kr_G F s e ct d
section
variable {F : Nat → Bool} {s e : Nat} {ct : Int32}
theorem kr_G_t {d : Nat} (h : F d = true) : kr_G F s e ct (d + 1) = kr_ad s e ct (kr_G F s e ct d) d := if_pos h
theorem kr_G_f {d : Nat} (h : F d = false) : kr_G F s e ct (d + 1) = kr_G F s e ct d := if_neg (by rw [h]; exact Bool.false_ne_true)
theorem kr_ad_no {p : (Nat → Int64) × Int32} {d : Nat} (h : ¬ (s ≤ d ∧ d ≤ e ∧ (ct = 0 ∨ ¬ ct ≤ p.2))) : kr_ad s e ct p d = p := if_neg h
theorem kr_G_no {d : Nat} (h : ¬ (s ≤ d ∧ d ≤ e ∧ (ct = 0 ∨ ¬ ct ≤ (kr_G F s e ct d).2))) : kr_G F s e ct (d + 1) = kr_G F s e ct d := by
  cases hf : F d with
  | true => rw [kr_G_t hf, kr_ad_no h]
  | false => exact kr_G_f hf
theorem kr_G_lo : ∀ {d : Nat}, d ≤ s → kr_G F s e ct d = kr_G F s e ct 0 := by
  intro d
  induction d with
  | zero => intro _; rfl
  | succ d ih => intro h; rw [kr_G_no (fun t => absurd t.1 (by omega))]; exact ih (by omega)
theorem kr_G_up : ∀ {d : Nat}, e < d → kr_G F s e ct d = kr_G F s e ct (e + 1) := by
  intro d
  induction d with
  | zero => intro h; omega
  | succ d ih =>
    intro h
    by_cases q : d = e
    · rw [q]
    · rw [kr_G_no (fun t => absurd t.2.1 (by omega))]; exact ih (by omega)
theorem kr_G_hi {d : Nat} (he : e ≤ 7304) (h : e < d) : kr_G F s e ct 7305 = kr_G F s e ct d := by
  rw [kr_G_up h, kr_G_up (show e < 7305 by omega)]
theorem kr_G_full {d : Nat} (h : ¬ (ct = 0 ∨ ¬ ct ≤ (kr_G F s e ct d).2)) : ∀ {n : Nat}, d ≤ n → kr_G F s e ct n = kr_G F s e ct d := by
  intro n
  induction n with
  | zero => intro q; rw [show d = 0 by omega]
  | succ n ih =>
    intro q
    by_cases z : d = n + 1
    · rw [z]
    · have i := ih (by omega)
      rw [kr_G_no (fun t => h (by rw [← i]; exact t.2.2))]
      exact i
/-- not wanted at d: the end is reached -/
theorem kr_G_end {d : Nat} (he : e ≤ 7304) (h : ¬ (ct = 0 ∨ ¬ ct ≤ (kr_G F s e ct d).2)) : kr_G F s e ct 7305 = kr_G F s e ct d := by
  by_cases q : d ≤ 7305
  · exact kr_G_full h q
  · exact kr_G_hi he (by omega)
end
/-- a month's days, one bit after another -/
theorem kr_mon {M : Nat → Nat → Int32} {s e : Nat} {ct : Int32} {y m : Nat} (hM : ∀ i, kr_len y m ≤ i → kr_bt (M y m) i = false) (hy : y < 20) (hm : m < 12) :
    (∀ i, i < 32 → kr_bt (M y m) i = true → ∃ d, d < 2 ^ 31 ∧ nI (kr_ms y m) + nI i = nI d ∧ kr_G (kr_F M) s e ct (kr_ms y m + min (i + 1) (kr_len y m)) = kr_ad s e ct (kr_G (kr_F M) s e ct (kr_ms y m + min i (kr_len y m))) d) ∧
    (∀ i, i < 32 → kr_bt (M y m) i = false → kr_G (kr_F M) s e ct (kr_ms y m + min (i + 1) (kr_len y m)) = kr_G (kr_F M) s e ct (kr_ms y m + min i (kr_len y m))) := by
  have m1 := kr_ms_hi hy (show m ≤ 12 by omega)
  have q : kr_ms y (m + 1) = kr_ms y m + kr_len y m := rfl
  have F : ∀ i, i < kr_len y m → kr_F M (kr_ms y m + i) = kr_bt (M y m) i := by
    intro i hi
    rw [kr_F_at hy hm (show kr_ms y m ≤ kr_ms y m + i by omega) (by omega)]
    rw [show kr_ms y m + i - kr_ms y m = i by omega]
  constructor
  · intro i hi hb
    have hl : i < kr_len y m := by
      apply Nat.lt_of_not_le
      intro z
      rw [hM i z] at hb
      exact absurd hb Bool.false_ne_true
    refine ⟨kr_ms y m + i, by omega, nI_add _ _, ?_⟩
    rw [show min (i + 1) (kr_len y m) = i + 1 by omega, show min i (kr_len y m) = i by omega]
    exact kr_G_t ((F i hl).trans hb)
  · intro i hi hb
    by_cases hl : i < kr_len y m
    · rw [show min (i + 1) (kr_len y m) = i + 1 by omega, show min i (kr_len y m) = i by omega]
      exact kr_G_f ((F i hl).trans hb)
    · rw [show min (i + 1) (kr_len y m) = kr_len y m by omega, show min i (kr_len y m) = kr_len y m by omega]
section
variable {oo ms ds ls ws od ct ex um ud uw km kk rd : Int32} {a1 a2 a3 : Nat → Int32} {s e : Nat} {post : St1 → Prop}
theorem kr_day (he : e ≤ 7304) (hs : s ≤ 7304)
    (h : ∀ km kk, post (nI s, oo, 1, ms, ds, ls, ws, od, 0, ct, nI e, ex, um, ud, uw, 0, km, kk, rd, (kr_G (kr_F (kr_M um ud ls uw)) s e ct 7305).2, a1, a2, a3, (kr_G (kr_F (kr_M um ud ls uw)) s e ct 7305).1)) :
    ∀ n d km kk, kr_kp (kr_M um ud ls uw) km kk → d ≤ 7305 → 7305 - d < n → wX_goDaily_5 post n (nI d) (nI s) oo 1 ms ds ls ws od 0 ct (nI e) ex um ud uw 0 km kk rd ((kr_G (kr_F (kr_M um ud ls uw)) s e ct d).2) a1 a2 a3 ((kr_G (kr_F (kr_M um ud ls uw)) s e ct d).1) := by
  intro n
  induction n with
  | zero => intro d km kk hk hd hn; omega
  | succ n ih =>
    intro d km kk hk hd hn
    refine pk_lt e d (fun z => ?_) (fun z => kr_wanted (fun c => br_f (by decide) ?_) (fun c => br_t rfl ?_))
    · have t := h km kk
      rw [kr_G_hi he z] at t
      exact t
    · refine kr_passes rfl (by omega) hk (fun hF km kk hk => br_f (by decide) ?_) (fun hF km kk hk => br_t rfl (nm_r (nI_1 d) ?_))
      · refine kr_addMask (H := fun i => kr_G (kr_F (kr_M um ud ls uw)) s e ct (d + min i 1)) he hs (fun i hi hb => ?_) (fun i hi hb => ?_) (nm_r (nI_1 d) (ih (d + 1) km kk hk (by omega) (by omega)))
        · rw [kr_1 i hi] at hb
          have hi0 : i = 0 := of_decide_eq_true hb
          subst hi0
          exact ⟨d, by omega, nI_add d 0, kr_G_t hF⟩
        · rw [kr_1 i hi] at hb
          have hi0 : ¬ i = 0 := of_decide_eq_false hb
          show kr_G _ s e ct (d + min (i + 1) 1) = kr_G _ s e ct (d + min i 1)
          rw [show min (i + 1) 1 = 1 by omega, show min i 1 = 1 by omega]
      · have t := ih (d + 1) km kk hk (by omega) (by omega)
        rw [kr_G_f hF] at t
        exact t
    · have t := h km kk
      rw [kr_G_end he c] at t
      exact t
theorem kr_goDaily (he : e ≤ 7304) (hs : s ≤ 7304) (hk : kr_kp (kr_M um ud ls uw) km kk)
    (h : ∀ km kk a3, post (nI s, oo, 1, ms, ds, ls, ws, od, 0, ct, nI e, ex, um, ud, uw, 0, km, kk, rd, (kr_G (kr_F (kr_M um ud ls uw)) s e ct 7305).2, a1, a2, a3, (kr_G (kr_F (kr_M um ud ls uw)) s e ct 7305).1)) :
    wpX_goDaily post (nI s, oo, 1, ms, ds, ls, ws, od, 0, ct, nI e, ex, um, ud, uw, 0, km, kk, rd, 0, a1, a2, a3, fun _ => 0) := by
  have t := kr_day (oo := oo) (ms := ms) (ds := ds) (ls := ls) (ws := ws) (od := od) (ct := ct) (ex := ex) (um := um) (ud := ud) (uw := uw) (rd := rd) (a1 := a1) (a2 := a2) (a3 := a3) he hs (fun km kk => h km kk a3) 7306 s km kk hk (by omega) (by omega)
  rw [kr_G_lo (Nat.le_refl s)] at t
  exact ⟨7306, t⟩
/-! weekly: the monday is nI q - 7 -/
theorem kr_w7 {q w : Nat} (h : 7 ≤ q + w) : nI q - 7 + nI w = nI (q + w - 7) := by
  rw [← pk_sub h, ← nI_add]
  show nI q - nI 7 + nI w = nI q + nI w - nI 7
  grind
theorem kr_w7n {q w : Nat} (h : q + w < 7) : nI q - 7 + nI w < 0 := by
  have e : nI q - 7 + nI w = nI (q + w) - nI 7 := by
    rw [← nI_add]
    show nI q - nI 7 + nI w = nI q + nI w - nI 7
    grind
  rw [e]
  exact pk_sneg (by omega) h
theorem kr_w7p {q : Nat} : nI q - 7 + (7 * 1) = nI (q + 7) - 7 := by
  rw [← nI_add]
  show nI q - nI 7 + nI 7 = nI q + nI 7 - nI 7
  grind
theorem kr_w7c {q : Nat} (he : e ≤ 7304) (hq : q < 20000) {A B : Prop} (f : e + 7 < q → A) (g : q ≤ e + 7 → B) : (nI e < nI q - 7 → A) ∧ (¬ nI e < nI q - 7 → B) := by
  have i : nI e < nI q - 7 ↔ e + 7 < q := by
    show nI e < nI q - nI 7 ↔ _
    rw [Int32.lt_iff_toInt_lt, nI_toInt (by omega), pk_sub_toInt (by omega) (by omega)]
    omega
  rw [i]
  exact ⟨f, fun z => g (by omega)⟩
/-- the week's mask as far as weekday w -/
def kr_wm (F : Nat → Bool) (q w : Nat) (x : Int32) : Prop := ∀ i, i < 32 → kr_bt x i = (decide (i < w) && (decide (7 ≤ q + i) && F (q + i - 7)))
theorem kr_wm_0 {F : Nat → Bool} {q : Nat} : kr_wm F q 0 0 := by
  intro i hi
  rw [kr_0, decide_eq_false (by omega), Bool.false_and]
theorem kr_wm_f {F : Nat → Bool} {q w : Nat} {x : Int32} (h : kr_wm F q w x) (hf : (decide (7 ≤ q + w) && F (q + w - 7)) = false) : kr_wm F q (w + 1) x := by
  intro i hi
  rw [h i hi]
  by_cases z : i = w
  · subst z; rw [hf, Bool.and_false, Bool.and_false]
  · rw [show decide (i < w + 1) = decide (i < w) from decide_eq_decide.mpr (by omega)]
theorem kr_wm_t {F : Nat → Bool} {q w : Nat} {x : Int32} (hw : w < 7) (h : kr_wm F q w x) (hf : (decide (7 ≤ q + w) && F (q + w - 7)) = true) : kr_wm F q (w + 1) (x ||| ((1 : Int32) <<< (nI w &&& 31))) := by
  intro i hi
  rw [kr_or, h i hi, kr_shl w (by omega) 1 hi]
  by_cases z : i = w
  · subst z
    rw [hf, Nat.sub_self, kr_1 0 (by omega), decide_eq_true (Nat.le_refl i), decide_eq_true (show i < i + 1 by omega)]
    simp
  · rw [show decide (i < w + 1) = decide (i < w) from decide_eq_decide.mpr (by omega)]
    have o : (decide (w ≤ i) && kr_bt 1 (i - w)) = false := by
      by_cases y : w ≤ i
      · rw [kr_1 (i - w) (by omega), decide_eq_false (show ¬ i - w = 0 by omega), Bool.and_false]
      · rw [decide_eq_false y, Bool.false_and]
    rw [o, Bool.or_false]
theorem kr_week {J : Int32 → Int32 → Int32 → Int32 → Int32 → Int32 → Int32 → Int32 → Int32 → Int32 → Int32 → Int32 → Int32 → Int32 → Int32 → Int32 → Int32 → Int32 → Int32 → Int32 → Int32 → (Nat → Int32) → (Nat → Int32) → (Nat → Int32) → (Nat → Int64) → Prop} {q : Nat} (hq : q < 8000) (he : e ≤ 7304) (hs : s ≤ 7304)
    (h : ∀ km kk, kr_kp (kr_M um ud ls uw) km kk → J (nI (q + 7) - 7) (nI s) oo 1 ms ds ls ws od 0 ct (nI e) ex um ud uw 0 km kk rd ((kr_G (kr_F (kr_M um ud ls uw)) s e ct (q + 7 - 7)).2) a1 a2 a3 ((kr_G (kr_F (kr_M um ud ls uw)) s e ct (q + 7 - 7)).1)) :
    ∀ n w x km kk, w ≤ 7 → 7 - w < n → kr_wm (kr_F (kr_M um ud ls uw)) q w x → kr_kp (kr_M um ud ls uw) km kk → wX_goWeekly_32 post J (nI q - 7) n x (nI w) (nI s) oo 1 ms ds ls ws od 0 ct (nI e) ex um ud uw 0 km kk rd ((kr_G (kr_F (kr_M um ud ls uw)) s e ct (q - 7)).2) a1 a2 a3 ((kr_G (kr_F (kr_M um ud ls uw)) s e ct (q - 7)).1) := by
  intro n
  induction n with
  | zero => intro w x km kk hw hn; omega
  | succ n ih =>
    intro w x km kk hw hn hx hk
    refine pk_le 7 w (fun z => ?_) (fun z => ?_)
    · have w7 : w = 7 := by omega
      subst w7
      refine kr_addMask (H := fun i => kr_G (kr_F (kr_M um ud ls uw)) s e ct (q + min i 7 - 7)) he hs (fun i hi hb => ?_) (fun i hi hb => ?_) (nm_r kr_w7p (h km kk hk))
      · rw [hx i hi] at hb
        obtain ⟨b1, b2⟩ := Bool.and_eq_true_iff.mp hb
        obtain ⟨b3, b4⟩ := Bool.and_eq_true_iff.mp b2
        have c1 : i < 7 := of_decide_eq_true b1
        have c2 : 7 ≤ q + i := of_decide_eq_true b3
        refine ⟨q + i - 7, by omega, kr_w7 c2, ?_⟩
        show kr_G _ s e ct (q + min (i + 1) 7 - 7) = kr_ad s e ct (kr_G _ s e ct (q + min i 7 - 7)) (q + i - 7)
        rw [show q + min (i + 1) 7 - 7 = (q + i - 7) + 1 by omega, show q + min i 7 - 7 = q + i - 7 by omega]
        exact kr_G_t b4
      · rw [hx i hi] at hb
        show kr_G _ s e ct (q + min (i + 1) 7 - 7) = kr_G _ s e ct (q + min i 7 - 7)
        by_cases c1 : i < 7
        · by_cases c2 : 7 ≤ q + i
          · rw [decide_eq_true c1, decide_eq_true c2, Bool.true_and, Bool.true_and] at hb
            rw [show q + min (i + 1) 7 - 7 = (q + i - 7) + 1 by omega, show q + min i 7 - 7 = q + i - 7 by omega]
            exact kr_G_f hb
          · rw [show q + min (i + 1) 7 - 7 = 0 by omega, show q + min i 7 - 7 = 0 by omega]
        · rw [show min (i + 1) 7 = 7 by omega, show min i 7 = 7 by omega]
    · by_cases c2 : 7 ≤ q + w
      · by_cases c3 : q + w - 7 ≤ 7304
        · refine kr_badDay (kr_w7 c2) c3 (br_t rfl (kr_passes (kr_w7 c2) (by omega) hk (fun hF km kk hk => br_f (by decide) ?_) (fun hF km kk hk => br_t rfl ?_)))
          · exact br_f (by decide) (nm_e (nm_r (nI_1 w) (ih (w + 1) _ km kk (by omega) (by omega) (kr_wm_t (by omega) hx (by rw [hF, decide_eq_true c2]; rfl)) hk)))
          · exact br_t rfl (nm_r (nI_1 w) (ih (w + 1) _ km kk (by omega) (by omega) (kr_wm_f hx (by rw [hF, Bool.and_false])) hk))
        · refine kr_badHi (kr_w7 c2) (by omega) (by omega) (br_f (by decide) ?_)
          exact br_t rfl (nm_r (nI_1 w) (ih (w + 1) _ km kk (by omega) (by omega) (kr_wm_f hx (by rw [kr_F_hi (by omega), Bool.and_false])) hk))
      · refine br_t (kr_w7n (by omega)) (br_f (by decide) ?_)
        exact br_t rfl (nm_r (nI_1 w) (ih (w + 1) _ km kk (by omega) (by omega) (kr_wm_f hx (by rw [decide_eq_false c2, Bool.false_and])) hk))
theorem kr_weeks (he : e ≤ 7304) (hs : s ≤ 7304)
    (h : ∀ km kk, post (nI s, oo, 1, ms, ds, ls, ws, od, 0, ct, nI e, ex, um, ud, uw, 0, km, kk, rd, (kr_G (kr_F (kr_M um ud ls uw)) s e ct 7305).2, a1, a2, a3, (kr_G (kr_F (kr_M um ud ls uw)) s e ct 7305).1)) :
    ∀ n q km kk, kr_kp (kr_M um ud ls uw) km kk → q < 8000 → 8000 - q < n → wX_goWeekly_13 post n (nI q - 7) (nI s) oo 1 ms ds ls ws od 0 ct (nI e) ex um ud uw 0 km kk rd ((kr_G (kr_F (kr_M um ud ls uw)) s e ct (q - 7)).2) a1 a2 a3 ((kr_G (kr_F (kr_M um ud ls uw)) s e ct (q - 7)).1) := by
  intro n
  induction n with
  | zero => intro q km kk hk hd hn; omega
  | succ n ih =>
    intro q km kk hk hd hn
    refine kr_w7c he (by omega) (fun z => ?_) (fun z => kr_wanted (fun c => br_f (by decide) ?_) (fun c => br_t rfl ?_))
    · have t := h km kk
      rw [kr_G_hi he (show e < q - 7 by omega)] at t
      exact t
    · exact ⟨8, kr_week hd he hs (fun km kk hk => ih (q + 7) km kk hk (by omega) (by omega)) 8 0 0 km kk (by omega) (by omega) kr_wm_0 hk⟩
    · have t := h km kk
      rw [kr_G_end he c] at t
      exact t
theorem kr_goWeekly (he : e ≤ 7304) (hs : s ≤ 7304) (hk : kr_kp (kr_M um ud ls uw) km kk)
    (h : ∀ km kk a3, post (nI s, oo, 1, ms, ds, ls, ws, od, 0, ct, nI e, ex, um, ud, uw, 0, km, kk, rd, (kr_G (kr_F (kr_M um ud ls uw)) s e ct 7305).2, a1, a2, a3, (kr_G (kr_F (kr_M um ud ls uw)) s e ct 7305).1)) :
    wpX_goWeekly post (nI s, oo, 1, ms, ds, ls, ws, od, 0, ct, nI e, ex, um, ud, uw, 0, km, kk, rd, 0, a1, a2, a3, fun _ => 0) := by
  have t := kr_weeks (oo := oo) (ms := ms) (ds := ds) (ls := ls) (ws := ws) (od := od) (ct := ct) (ex := ex) (um := um) (ud := ud) (uw := uw) (rd := rd) (a1 := a1) (a2 := a2) (a3 := a3) he hs (fun km kk => h km kk a3) 8001 (s + 7 - (s + 5) % 7) km kk hk (by omega) (by omega)
  rw [kr_G_lo (show s + 7 - (s + 5) % 7 - 7 ≤ s by omega)] at t
  unfold wpX_goWeekly
  refine kr_weekdayOf (d := s) rfl (by omega) (nm_r (e' := nI (s + 7 - (s + 5) % 7) - 7) ?_ (Exists.intro 8001 t))
  rw [← pk_sub (by omega), ← nI_add]
  show nI s - _ = nI s + nI 7 - _ - nI 7
  grind
/-! monthly -/
def kr_mq (q : Nat) : Nat := kr_ms (q / 12) (q % 12)
theorem kr_mq_s (q : Nat) : kr_mq (q + 1) = kr_ms (q / 12) (q % 12 + 1) := by
  unfold kr_mq
  by_cases z : q % 12 = 11
  · rw [show (q + 1) / 12 = q / 12 + 1 by omega, show (q + 1) % 12 = 0 by omega, z]
    exact (kr_ms12 _).symm
  · rw [show (q + 1) / 12 = q / 12 by omega, show (q + 1) % 12 = q % 12 + 1 by omega]
theorem kr_months_ (he : e ≤ 7304) (hs : s ≤ 7304)
    (h : post (nI s, oo, 1, ms, ds, ls, ws, od, 0, ct, nI e, ex, um, ud, uw, 0, km, kk, rd, (kr_G (kr_F (kr_M um ud ls uw)) s e ct 7305).2, a1, a2, a3, (kr_G (kr_F (kr_M um ud ls uw)) s e ct 7305).1)) :
    ∀ n q, q ≤ 240 → 240 - q < n → wX_goMonthly_24 post n (nI q) (nI s) oo 1 ms ds ls ws od 0 ct (nI e) ex um ud uw 0 km kk rd ((kr_G (kr_F (kr_M um ud ls uw)) s e ct (kr_mq q)).2) a1 a2 a3 ((kr_G (kr_F (kr_M um ud ls uw)) s e ct (kr_mq q)).1) := by
  intro n
  induction n with
  | zero => intro q hq hn; omega
  | succ n ih =>
    intro q hq hn
    refine pk_le 240 q (fun z => ?_) (fun z => kr_wanted (fun c => br_f (by decide) ?_) (fun c => br_t rfl ?_))
    · rw [show q = 240 by omega]
      exact h
    · have e1 : nI q / 12 = nI (q / 12) := pk_div (d := 12) (by omega) (by omega) (by omega)
      have e2 : nI q - nI q / 12 * 12 = nI (q % 12) := pk_rem (d := 12) (by omega) (by omega) (by omega)
      obtain ⟨k1, k0⟩ := kr_mon (s := s) (e := e) (ct := ct) (M := kr_M um ud ls uw) (y := q / 12) (m := q % 12) (fun i hi => kr_M_hi hi) (by omega) (by omega)
      obtain ⟨l1, l2⟩ := kr_len_b (q / 12) (q % 12)
      refine ⟨by decide, by decide, kr_monthMask e1 e2 (by omega) (by omega) ⟨by decide, by decide, kr_monthStart e1 e2 (by omega) (by omega) ?_⟩⟩
      refine kr_addMask (H := fun i => kr_G (kr_F (kr_M um ud ls uw)) s e ct (kr_ms (q / 12) (q % 12) + min i (kr_len (q / 12) (q % 12)))) he hs k1 k0 (nm_r (nI_1 q) ?_)
      have t := ih (q + 1) (by omega) (by omega)
      rw [kr_mq_s] at t
      show wX_goMonthly_24 post n (nI (q + 1)) (nI s) oo 1 ms ds ls ws od 0 ct (nI e) ex um ud uw 0 km kk rd ((kr_G (kr_F (kr_M um ud ls uw)) s e ct (kr_ms (q / 12) (q % 12) + min 32 (kr_len (q / 12) (q % 12)))).2) a1 a2 a3 ((kr_G (kr_F (kr_M um ud ls uw)) s e ct (kr_ms (q / 12) (q % 12) + min 32 (kr_len (q / 12) (q % 12)))).1)
      rw [show min 32 (kr_len (q / 12) (q % 12)) = kr_len (q / 12) (q % 12) by omega]
      exact t
    · have t := h
      rw [kr_G_end he c] at t
      exact t
theorem kr_goMonthly (he : e ≤ 7304) (hs : s ≤ 7304)
    (h : ∀ km kk a3, post (nI s, oo, 1, ms, ds, ls, ws, od, 0, ct, nI e, ex, um, ud, uw, 0, km, kk, rd, (kr_G (kr_F (kr_M um ud ls uw)) s e ct 7305).2, a1, a2, a3, (kr_G (kr_F (kr_M um ud ls uw)) s e ct 7305).1)) :
    wpX_goMonthly post (nI s, oo, 1, ms, ds, ls, ws, od, 0, ct, nI e, ex, um, ud, uw, 0, km, kk, rd, 0, a1, a2, a3, fun _ => 0) := by
  obtain ⟨y, hy, y1, y2⟩ := kr_fy (show s < 7305 by omega)
  obtain ⟨m, hm, m1, m2⟩ := kr_fm y1 y2
  have t := kr_months_ (oo := oo) (ms := ms) (ds := ds) (ls := ls) (ws := ws) (od := od) (ct := ct) (ex := ex) (um := um) (ud := ud) (uw := uw) (km := km) (kk := kk) (rd := rd) (a1 := a1) (a2 := a2) (a3 := a3) he hs (h km kk a3) 241 (y * 12 + m) (by omega) (by omega)
  have q : kr_mq (y * 12 + m) = kr_ms y m := by
    unfold kr_mq
    rw [show (y * 12 + m) / 12 = y by omega, show (y * 12 + m) % 12 = m by omega]
  rw [q, kr_G_lo m1] at t
  have e1 : nI y * 12 + nI m = nI (y * 12 + m) := by
    show nI y * nI 12 + nI m = _
    rw [pk_mul, nI_add]
  exact kr_yearOf hy y1 y2 (kr_monthOf rfl hy hm m1 m2 (nm_r e1 ⟨241, t⟩))
/-! yearly -/
theorem kr_year2 {x : Int32} {y : Nat} (hy : y < 20) (he : e ≤ 7304) (hs : s ≤ 7304) (ha : ∀ m, m < 12 → a3 m = kr_M um ud ls uw y m)
    (h : post (nI s, oo, 1, ms, ds, ls, ws, od, 0, ct, nI e, ex, um, ud, uw, 0, km, kk, rd, (kr_G (kr_F (kr_M um ud ls uw)) s e ct (kr_ms y 12)).2, a1, a2, a3, (kr_G (kr_F (kr_M um ud ls uw)) s e ct (kr_ms y 12)).1)) :
    ∃ n, wX_addYear_45 post (nI y) x n 0 0 (nI s) oo 1 ms ds ls ws od 0 ct (nI e) ex um ud uw 0 km kk rd ((kr_G (kr_F (kr_M um ud ls uw)) s e ct (kr_ms y 0)).2) a1 a2 a3 ((kr_G (kr_F (kr_M um ud ls uw)) s e ct (kr_ms y 0)).1) :=
  pk_loop (fun n i (k : Int32) => wX_addYear_45 post (nI y) x n k (nI i) (nI s) oo 1 ms ds ls ws od 0 ct (nI e) ex um ud uw 0 km kk rd ((kr_G (kr_F (kr_M um ud ls uw)) s e ct (kr_ms y i)).2) a1 a2 a3 ((kr_G (kr_F (kr_M um ud ls uw)) s e ct (kr_ms y i)).1)) (fun _ _ => True) 12 0 0 (by omega) trivial
    (fun n _ _ => pk_le 12 12 (fun _ => h) (fun z => absurd z (by omega)))
    (fun n i k hi _ hw => pk_le 12 i (fun z => absurd z (by omega)) (fun _ => by
      obtain ⟨k1, k0⟩ := kr_mon (s := s) (e := e) (ct := ct) (M := kr_M um ud ls uw) (y := y) (m := i) (fun i hi => kr_M_hi hi) hy hi
      obtain ⟨l1, l2⟩ := kr_len_b y i
      refine kr_monthStart rfl rfl hy (by omega) ⟨pk_in i 12 hi, ?_⟩
      rw [nI_clamp (show i < 2 ^ 31 by omega), ha i hi]
      refine kr_addPart (H := fun j => kr_G (kr_F (kr_M um ud ls uw)) s e ct (kr_ms y i + min j (kr_len y i))) he hs (fun j hj => k1 j (by omega)) (fun j hj => k0 j (by omega)) ⟨pk_in i 12 hi, kr_bits (nm_e (nm_r (nI_1 i) ?_))⟩
      show wX_addYear_45 post (nI y) x n _ (nI (i + 1)) (nI s) oo 1 ms ds ls ws od 0 ct (nI e) ex um ud uw 0 km kk rd ((kr_G (kr_F (kr_M um ud ls uw)) s e ct (kr_ms y i + min 31 (kr_len y i))).2) a1 a2 a3 ((kr_G (kr_F (kr_M um ud ls uw)) s e ct (kr_ms y i + min 31 (kr_len y i))).1)
      rw [show min 31 (kr_len y i) = kr_len y i by omega]
      exact hw _ trivial))
theorem kr_fill {f g : Nat → Int32} {i k : Nat} {x : Int32} (hk : k = i) (h : ∀ j, j < i → g j = f j) (hx : x = f i) : ∀ j, j < i + 1 → upd g k x j = f j := by
  intro j hj
  rw [hk]
  by_cases q : j = i
  · rw [q, pk_us, hx]
  · rw [pk_un q]
    exact h j (by omega)
theorem kr_year1 {y : Nat} (hy : y < 20) (he : e ≤ 7304) (hs : s ≤ 7304)
    (h : ∀ a3, post (nI s, oo, 1, ms, ds, ls, ws, od, 0, ct, nI e, ex, um, ud, uw, 0, km, kk, rd, (kr_G (kr_F (kr_M um ud ls uw)) s e ct (kr_ys (y + 1))).2, a1, a2, a3, (kr_G (kr_F (kr_M um ud ls uw)) s e ct (kr_ys (y + 1))).1)) :
    wpX_addYear post (nI s, oo, 1, ms, ds, ls, ws, od, 0, ct, nI e, ex, um, ud, uw, 0, km, kk, rd, (kr_G (kr_F (kr_M um ud ls uw)) s e ct (kr_ys y)).2, a1, a2, a3, (kr_G (kr_F (kr_M um ud ls uw)) s e ct (kr_ys y)).1) (nI y) :=
  pk_loop (fun n i (t : Int32 × (Nat → Int32)) => wX_addYear_4 post (nI y) (nI s) oo 1 ms ds ls ws od 0 ct (nI e) ex um ud uw 0 km kk rd ((kr_G (kr_F (kr_M um ud ls uw)) s e ct (kr_ys y)).2) n t.1 (nI i) a1 a2 t.2 (kr_G (kr_F (kr_M um ud ls uw)) s e ct (kr_ys y)).1)
    (fun i t => ∀ m, m < i → t.2 m = kr_M um ud ls uw y m) 12 0 (0, a3) (by omega) (fun m hm => absurd hm (by omega))
    (fun n t ht => pk_le 12 12 (fun _ => kr_year2 hy he hs ht (by rw [kr_ms12]; exact h t.2)) (fun z => absurd z (by omega)))
    (fun n i t hi ht hw => pk_le 12 i (fun z => absurd z (by omega)) (fun _ => kr_monthMask rfl rfl hy hi ⟨pk_in i 12 hi, nm_e ⟨pk_in i 12 hi, kr_bits (nm_e (nm_r (nI_1 i) (hw (_, _) (kr_fill (nI_clamp (by omega)) ht rfl))))⟩⟩))
theorem kr_years (he : e ≤ 7304) (hs : s ≤ 7304)
    (h : ∀ a3, post (nI s, oo, 1, ms, ds, ls, ws, od, 0, ct, nI e, ex, um, ud, uw, 0, km, kk, rd, (kr_G (kr_F (kr_M um ud ls uw)) s e ct 7305).2, a1, a2, a3, (kr_G (kr_F (kr_M um ud ls uw)) s e ct 7305).1)) :
    ∀ n y a3, y ≤ 20 → 20 - y < n → wX_goYearly_8 post n (nI y) (nI s) oo 1 ms ds ls ws od 0 ct (nI e) ex um ud uw 0 km kk rd ((kr_G (kr_F (kr_M um ud ls uw)) s e ct (kr_ys y)).2) a1 a2 a3 ((kr_G (kr_F (kr_M um ud ls uw)) s e ct (kr_ys y)).1) := by
  intro n
  induction n with
  | zero => intro y a3 hy hn; omega
  | succ n ih =>
    intro y a3 hy hn
    refine pk_le 20 y (fun z => ?_) (fun z => kr_wanted (fun c => br_f (by decide) ?_) (fun c => br_t rfl ?_))
    · rw [show y = 20 by omega]
      exact h a3
    · exact kr_year1 z he hs (fun a3 => nm_r (nI_1 y) (ih (y + 1) a3 (by omega) (by omega)))
    · have t := h a3
      rw [kr_G_end he c] at t
      exact t
theorem kr_goYearly (he : e ≤ 7304) (hs : s ≤ 7304)
    (h : ∀ km kk a3, post (nI s, oo, 1, ms, ds, ls, ws, od, 0, ct, nI e, ex, um, ud, uw, 0, km, kk, rd, (kr_G (kr_F (kr_M um ud ls uw)) s e ct 7305).2, a1, a2, a3, (kr_G (kr_F (kr_M um ud ls uw)) s e ct 7305).1)) :
    wpX_goYearly post (nI s, oo, 1, ms, ds, ls, ws, od, 0, ct, nI e, ex, um, ud, uw, 0, km, kk, rd, 0, a1, a2, a3, fun _ => 0) := by
  obtain ⟨y, hy, y1, y2⟩ := kr_fy (show s < 7305 by omega)
  have t := kr_years (oo := oo) (ms := ms) (ds := ds) (ls := ls) (ws := ws) (od := od) (ct := ct) (ex := ex) (um := um) (ud := ud) (uw := uw) (km := km) (kk := kk) (rd := rd) (a1 := a1) (a2 := a2) he hs (h km kk) 21 y a3 (by omega) (by omega)
  rw [kr_G_lo y1] at t
  exact kr_yearOf hy y1 y2 ⟨21, t⟩
end
end
section
/-! ===== part 05: prepare; the picture of one object ===== -/
/-- one day more or less -/
def kr_xs (d f : Int32) (a : Nat → Int64) : Nat → Int64 := if f = 0 then vp_updL a (d >>> ((6 : Int32) &&& 31)).toNatClampNeg ((a (d >>> ((6 : Int32) &&& 31)).toNatClampNeg) &&& (((1 : Int64) <<< ((d &&& 63).toInt64 &&& 63)) ^^^ (-1))) else kr_put a d
def kr_X (a1 a2 : Nat → Int32) (a : Nat → Int64) : Nat → Nat → Int64
  | 0 => a
  | i + 1 => kr_xs (a1 i) (a2 i) (kr_X a1 a2 a i)
/-- the days of a rule -/
def kr_D (s e : Nat) (ct ms ds ws : Int32) (ex : Nat) (a1 a2 : Nat → Int32) : Nat → Int64 := kr_X a1 a2 (kr_G (kr_F (kr_M ms ds 0 ws)) s e ct 7305).1 ex
def kr_R (s e : Nat) (ws : Int32) (ex : Nat) (a1 : Nat → Int32) : Prop := s ≤ 7304 ∧ e ≤ 7304 ∧ ¬ ws = 0 ∧ ex ≤ 12 ∧ ∀ i, i < ex → ∃ d, d ≤ 7304 ∧ a1 i = nI d
/-- one object: the rule is (s, e, ct, ms, ds, ws, ex, a1, a2), and if it is ready its days are the rule's -/
def kr_ok (s e : Nat) (ct ms ds ws : Int32) (ex : Nat) (a1 a2 : Nat → Int32) (u : St1) : Prop :=
  kr_R s e ws ex a1 ∧ ∃ (oo um ud uw uo km kk rd md : Int32) (a3 : Nat → Int32) (a4 : Nat → Int64), u = (nI s, oo, 1, ms, ds, 0, ws, 0, 0, ct, nI e, nI ex, um, ud, uw, uo, km, kk, rd, md, a1, a2, a3, a4) ∧ (∀ j, 115 ≤ j → a4 j = 0) ∧ (¬ rd = 0 → a4 = kr_D s e ct ms ds ws ex a1 a2)
def kr_Z (a : Nat → Int64) : Prop := ∀ j, 115 ≤ j → a j = 0
theorem kr_Z_upd {a : Nat → Int64} {k : Nat} {x : Int64} (h : kr_Z a) (hk : k < 115) : kr_Z (vp_updL a k x) := by
  intro j hj
  rw [pk_uLn (by omega)]
  exact h j hj
theorem kr_ix {d : Nat} (hd : d ≤ 7304) : (nI d >>> ((6 : Int32) &&& 31)).toNatClampNeg < 115 := by
  rw [kr_word (by omega), nI_clamp (by omega)]
  omega
theorem kr_Z_put {a : Nat → Int64} {d : Nat} (h : kr_Z a) (hd : d ≤ 7304) : kr_Z (kr_put a (nI d)) := kr_Z_upd h (kr_ix hd)
theorem kr_Z_xs {a : Nat → Int64} {d : Nat} {f : Int32} (h : kr_Z a) (hd : d ≤ 7304) : kr_Z (kr_xs (nI d) f a) := by
  unfold kr_xs
  split
  · exact kr_Z_upd h (kr_ix hd)
  · exact kr_Z_put h hd
theorem kr_Z_G {F : Nat → Bool} {s e : Nat} {ct : Int32} (he : e ≤ 7304) : ∀ n, kr_Z (kr_G F s e ct n).1 := by
  intro n
  induction n with
  | zero => intro j _; rfl
  | succ n ih =>
    cases hf : F n with
    | true =>
      rw [kr_G_t hf]
      unfold kr_ad
      split
      · rename_i c
        exact kr_Z_put ih (by omega)
      · exact ih
    | false => rw [kr_G_f hf]; exact ih
theorem kr_Z_X {a1 a2 : Nat → Int32} {a : Nat → Int64} (h : kr_Z a) : ∀ n, (∀ i, i < n → ∃ d, d ≤ 7304 ∧ a1 i = nI d) → kr_Z (kr_X a1 a2 a n) := by
  intro n
  induction n with
  | zero => intro _; exact h
  | succ n ih =>
    intro q
    obtain ⟨d, hd, e⟩ := q n (by omega)
    show kr_Z (kr_xs (a1 n) (a2 n) (kr_X a1 a2 a n))
    rw [e]
    exact kr_Z_xs (ih (fun i hi => q i (by omega))) hd
theorem kr_Z_D {s e : Nat} {ct ms ds ws : Int32} {ex : Nat} {a1 a2 : Nat → Int32} (hR : kr_R s e ws ex a1) : kr_Z (kr_D s e ct ms ds ws ex a1 a2) :=
  kr_Z_X (kr_Z_G hR.2.1 7305) ex hR.2.2.2.2
section
variable {oo ms ds ws ct um ud uw uo km kk rd md : Int32} {a1 a2 a3 : Nat → Int32} {a4 : Nat → Int64} {s e ex : Nat} {post : St1 → Prop}
theorem kr_fillIn (hw : ¬ ws = 0) (h : post (nI s, oo, 1, ms, ds, 0, ws, 0, 0, ct, nI e, nI ex, ms, ds, ws, 0, (-1), kk, rd, md, a1, a2, a3, a4)) : wpX_fillIn post (nI s, oo, 1, ms, ds, 0, ws, 0, 0, ct, nI e, nI ex, um, ud, uw, uo, km, kk, rd, md, a1, a2, a3, a4) :=
  br_c (fun _ => br_f (kr_orz hw) h) (fun _ => br_f (kr_orz hw) h)
theorem kr_extras (hx : ex ≤ 12) (ha : ∀ i, i < ex → ∃ d, d ≤ 7304 ∧ a1 i = nI d) (h : post (nI s, oo, 1, ms, ds, 0, ws, 0, 0, ct, nI e, nI ex, um, ud, uw, uo, km, kk, rd, md, a1, a2, a3, kr_X a1 a2 a4 ex)) : ∃ n, wX_prepare_93 post (nI s) oo 1 ms ds 0 ws 0 0 ct (nI e) (nI ex) um ud uw uo km kk rd md n 0 a1 a2 a3 a4 :=
  pk_loop (σ := Unit) (fun n i _ => wX_prepare_93 post (nI s) oo 1 ms ds 0 ws 0 0 ct (nI e) (nI ex) um ud uw uo km kk rd md n (nI i) a1 a2 a3 (kr_X a1 a2 a4 i)) (fun _ _ => True) ex 0 () (by omega) trivial
    (fun n _ _ => pk_le ex ex (fun _ => h) (fun z => absurd z (by omega)))
    (fun n i _ hi _ hw => pk_le ex i (fun z => absurd z (by omega)) (fun _ => by
      obtain ⟨d, hd, q⟩ := ha i hi
      have t : wX_prepare_93 post (nI s) oo 1 ms ds 0 ws 0 0 ct (nI e) (nI ex) um ud uw uo km kk rd md n (nI (i + 1)) a1 a2 a3 (kr_xs (a1 i) (a2 i) (kr_X a1 a2 a4 i)) := hw () trivial
      refine ⟨pk_in i 12 (by omega), nm_e (nm_e ⟨pk_in i 12 (by omega), ?_⟩)⟩
      rw [nI_clamp (show i < 2 ^ 31 by omega)]
      have p : vp_in (a1 i >>> ((6 : Int32) &&& 31)) 115 := by
        rw [q]
        exact pk_in (d / 64) 115 (by omega) (kr_word (by omega))
      unfold kr_xs at t
      refine br_c (fun c => ?_) (fun c => ?_)
      · rw [if_pos c] at t
        exact ⟨p, p, nm_e (nm_r (nI_1 i) t)⟩
      · rw [if_neg c] at t
        exact ⟨p, p, nm_e (nm_r (nI_1 i) t)⟩))
/-- behind the clearing -/
theorem kr_zero (hR : kr_R s e ws ex a1) (h : ∀ km kk md a3, post (nI s, oo, 1, ms, ds, 0, ws, 0, 0, ct, nI e, nI ex, ms, ds, ws, 0, km, kk, 1, md, a1, a2, a3, kr_D s e ct ms ds ws ex a1 a2)) (n : Nat) : wX_prepare_20 post (nI s) oo 1 ms ds 0 ws 0 0 ct (nI e) (nI ex) um ud uw uo km kk 1 0 (n + 1) 115 a1 a2 a3 (fun _ => 0) := by
  obtain ⟨hs, he, hw, hx, ha⟩ := hR
  have hk : kr_kp (kr_M ms ds 0 ws) (-1) kk := by
    intro y m hy hm q
    have t : (-1 : Int32).toInt = (nI (y * 12 + m)).toInt := by rw [q]
    rw [nI_toInt (by omega), show (-1 : Int32).toInt = -1 by decide] at t
    omega
  refine br_t (by decide) (kr_fillIn hw (br_c (fun _ => ?_) (fun _ => br_c (fun _ => ?_) (fun _ => br_c (fun _ => ?_) (fun _ => ?_)))))
  · exact kr_goDaily he hs hk (fun km kk a3 => kr_extras hx ha (h km kk _ a3))
  · exact kr_goWeekly he hs hk (fun km kk a3 => kr_extras hx ha (h km kk _ a3))
  · exact kr_goMonthly he hs (fun km kk a3 => kr_extras hx ha (h km kk _ a3))
  · exact kr_goYearly he hs (fun km kk a3 => kr_extras hx ha (h km kk _ a3))
theorem kr_clear (hR : kr_R s e ws ex a1) (hz : kr_Z a4) (h : ∀ km kk md a3, post (nI s, oo, 1, ms, ds, 0, ws, 0, 0, ct, nI e, nI ex, ms, ds, ws, 0, km, kk, 1, md, a1, a2, a3, kr_D s e ct ms ds ws ex a1 a2)) : ∃ n, wX_prepare_20 post (nI s) oo 1 ms ds 0 ws 0 0 ct (nI e) (nI ex) um ud uw uo km kk 1 0 n 0 a1 a2 a3 a4 :=
  pk_loop (fun n i (t : Nat → Int64) => wX_prepare_20 post (nI s) oo 1 ms ds 0 ws 0 0 ct (nI e) (nI ex) um ud uw uo km kk 1 0 n (nI i) a1 a2 a3 t) (fun i t => ∀ j, (j < i ∨ 115 ≤ j) → t j = 0) 115 0 a4 (by omega) (fun j hj => hz j (by omega))
    (fun n t ht => by
      have q : t = fun _ => 0 := funext (fun j => ht j (by omega))
      rw [q]
      exact kr_zero hR h n)
    (fun n i t hi ht hw => pk_le 115 i (fun z => absurd z (by omega)) (fun _ => ⟨pk_in i 115 hi, nm_e (nm_r (nI_1 i) (hw _ (fun j hj => by
      rw [nI_clamp (show i < 2 ^ 31 by omega)]
      by_cases q : j = i
      · rw [q, pk_uLs]
      · rw [pk_uLn q]
        exact ht j (by omega))))⟩))
end
/-- the object as it stands when it is ready -/
theorem kr_prepare {post : St1 → Prop} {s e ex : Nat} {ct ms ds ws : Int32} {a1 a2 : Nat → Int32} {u : St1} (hu : kr_ok s e ct ms ds ws ex a1 a2 u)
    (h : ∀ (oo um ud uw uo km kk rd md : Int32) (a3 : Nat → Int32), ¬ rd = 0 → post (nI s, oo, 1, ms, ds, 0, ws, 0, 0, ct, nI e, nI ex, um, ud, uw, uo, km, kk, rd, md, a1, a2, a3, kr_D s e ct ms ds ws ex a1 a2)) : wpX_prepare post u := by
  obtain ⟨hR, oo, um, ud, uw, uo, km, kk, rd, md, a3, a4, rfl, hz, hr⟩ := hu
  refine br_c (fun c => kr_clear hR hz (fun km kk md a3 => h _ _ _ _ _ _ _ _ _ _ (by decide))) (fun c => ?_)
  rw [hr c]
  exact h _ _ _ _ _ _ _ _ _ _ c
theorem kr_okr {s e ex : Nat} {oo ct ms ds ws um ud uw uo km kk rd md : Int32} {a1 a2 a3 : Nat → Int32} (hR : kr_R s e ws ex a1) : kr_ok s e ct ms ds ws ex a1 a2 (nI s, oo, 1, ms, ds, 0, ws, 0, 0, ct, nI e, nI ex, um, ud, uw, uo, km, kk, rd, md, a1, a2, a3, kr_D s e ct ms ds ws ex a1 a2) :=
  ⟨hR, oo, um, ud, uw, uo, km, kk, rd, md, a3, _, rfl, kr_Z_D hR, fun _ => rfl⟩
end
section
/-! ===== part 06: the questions: their answers depend on the days alone ===== -/
def kr_lb (x : Int64) : Nat → Int32
  | 0 => 0
  | n + 1 => kr_lb x n + ((((x.toUInt64 >>> ((nI n).toInt64.toUInt64 &&& Int64.toUInt64 63)).toInt64).toInt32) &&& 1)
theorem kr_longBits {post : Int32 → Prop} {x : Int64} (h : post (kr_lb x 64)) : wpX_longBits post () x :=
  pk_loop (σ := Unit) (fun n i _ => wX_longBits_4 post x n (kr_lb x i) (nI i)) (fun _ _ => True) 64 0 () (by omega) trivial
    (fun n _ _ => pk_le 64 64 (fun _ => h) (fun z => absurd z (by omega)))
    (fun n i _ hi _ hw => pk_le 64 i (fun z => absurd z (by omega)) (fun _ => nm_e (nm_r (nI_1 i) (hw () trivial))))
def kr_db (a : Nat → Int64) : Nat → Int32
  | 0 => 0
  | i + 1 => kr_db a i + kr_lb (a i) 64
def kr_dv (a : Nat → Int64) (d : Nat) : Int32 := if nI d &&& 63 = 0 then kr_db a (d / 64) + kr_lb 0 64 else kr_db a (d / 64) + kr_lb ((a (d / 64)) &&& (((1 : Int64) <<< ((nI d &&& 63).toInt64 &&& 63)) - 1)) 64
section
variable {st oo iv ms ds ls ws od pl ct en ex um ud uw uo km kk rd md : Int32} {a1 a2 a3 : Nat → Int32} {a4 : Nat → Int64}
theorem kr_daysBefore {post : Int32 → Prop} {x : Int32} {d : Nat} (hx : x = nI d) (hd : d ≤ 7305) (h : post (kr_dv a4 d)) : wpX_daysBefore post (st, oo, iv, ms, ds, ls, ws, od, pl, ct, en, ex, um, ud, uw, uo, km, kk, rd, md, a1, a2, a3, a4) x := by
  subst hx
  have w := kr_word (show d < 2 ^ 31 by omega)
  refine pk_loop (σ := Unit) (fun n i _ => wX_daysBefore_4 post (nI d) st oo iv ms ds ls ws od pl ct en ex um ud uw uo km kk rd md a1 a2 a3 a4 n (kr_db a4 i) (nI i)) (fun _ _ => True) (d / 64) 0 () (by omega) trivial ?_ ?_
  · intro n _ _
    refine pk_le (d / 64) (d / 64) (fun _ => ?_) (fun z => absurd z (by omega)) w
    unfold kr_dv at h
    refine br_c (fun c => ?_) (fun c => ⟨pk_in (d / 64) 115 (by omega) w, ?_⟩)
    · rw [if_pos c] at h
      exact kr_longBits h
    · rw [if_neg c] at h
      refine kr_longBits ?_
      rw [w, nI_clamp (by omega)]
      exact h
  · intro n i _ hi _ hw
    refine pk_le (d / 64) i (fun z => absurd z (by omega)) (fun _ => ⟨pk_in i 115 (by omega), ?_⟩) w
    rw [nI_clamp (show i < 2 ^ 31 by omega)]
    exact kr_longBits (nm_e (nm_r (nI_1 i) (hw () trivial)))
end
/-- bit d of the days -/
def kr_in (a : Nat → Int64) (d : Nat) : Prop := (((a (nI d >>> ((6 : Int32) &&& 31)).toNatClampNeg).toUInt64 >>> ((nI d &&& 63).toInt64.toUInt64 &&& Int64.toUInt64 63)).toInt64) &&& 1 = 1
section
variable {st oo iv ms ds ls ws od pl ct en ex um ud uw uo km kk rd md : Int32} {a1 a2 a3 : Nat → Int32} {a4 : Nat → Int64}
theorem kr_isIn {post : Int32 → Prop} {d : Nat} (hd : d ≤ 7304) (h1 : kr_in a4 d → post 1) (h0 : ¬ kr_in a4 d → post 0) : wpX_isIn post (st, oo, iv, ms, ds, ls, ws, od, pl, ct, en, ex, um, ud, uw, uo, km, kk, rd, md, a1, a2, a3, a4) (nI d) :=
  ⟨pk_in (d / 64) 115 (by omega) (kr_word (by omega)), br_c h1 h0⟩
end
theorem kr_next1 (a : Nat → Int64) : ∀ k d, 7305 ≤ d + k → d ≤ 7400 → ∃ v : Int32, (v = -4 ∨ ∃ j, j ≤ 7304 ∧ v = nI j) ∧ ∀ (post : Int32 → St1 → Prop) (st oo iv ms ds ls ws od pl ct en ex um ud uw uo km kk rd md : Int32) (a1 a2 a3 : Nat → Int32), post v (st, oo, iv, ms, ds, ls, ws, od, pl, ct, en, ex, um, ud, uw, uo, km, kk, rd, md, a1, a2, a3, a) → wX_next_15 post st oo iv ms ds ls ws od pl ct en ex um ud uw uo km kk rd md a1 a2 a3 a (k + 1) (nI d) := by
  have big : ∀ k d, 7305 ≤ d → d ≤ 7400 → ∀ (post : Int32 → St1 → Prop) (st oo iv ms ds ls ws od pl ct en ex um ud uw uo km kk rd md : Int32) (a1 a2 a3 : Nat → Int32), post (-4) (st, oo, iv, ms, ds, ls, ws, od, pl, ct, en, ex, um, ud, uw, uo, km, kk, rd, md, a1, a2, a3, a) → wX_next_15 post st oo iv ms ds ls ws od pl ct en ex um ud uw uo km kk rd md a1 a2 a3 a (k + 1) (nI d) := by
    intro k d hd hd2 post st oo iv ms ds ls ws od pl ct en ex um ud uw uo km kk rd md a1 a2 a3 h
    exact pk_lt 7304 d (fun _ => pk_le d 7304 (fun z => absurd z (by omega)) (fun _ => h)) (fun z => absurd z (by omega))
  intro k
  induction k with
  | zero => intro d h1 h2; exact ⟨-4, Or.inl rfl, big 0 d (by omega) h2⟩
  | succ k ih =>
    intro d h1 h2
    by_cases hb : 7305 ≤ d
    · exact ⟨-4, Or.inl rfl, big _ d hb h2⟩
    · by_cases hi : kr_in a d
      · refine ⟨nI d, Or.inr ⟨d, by omega, rfl⟩, ?_⟩
        intro post st oo iv ms ds ls ws od pl ct en ex um ud uw uo km kk rd md a1 a2 a3 h
        exact pk_lt 7304 d (fun z => absurd z (by omega)) (fun _ => kr_isIn (by omega) (fun _ => br_f (by decide) (pk_le d 7304 (fun _ => h) (fun z => absurd z (by omega)))) (fun z => absurd hi z))
      · have key : ∀ d', (∀ (post : Int32 → St1 → Prop) (st oo iv ms ds ls ws od pl ct en ex um ud uw uo km kk rd md : Int32) (a1 a2 a3 : Nat → Int32), wX_next_15 post st oo iv ms ds ls ws od pl ct en ex um ud uw uo km kk rd md a1 a2 a3 a (k + 1) (nI d') → wX_next_15 post st oo iv ms ds ls ws od pl ct en ex um ud uw uo km kk rd md a1 a2 a3 a (k + 1 + 1) (nI d)) → 7305 ≤ d' + k → d' ≤ 7400 → ∃ v : Int32, (v = -4 ∨ ∃ j, j ≤ 7304 ∧ v = nI j) ∧ ∀ (post : Int32 → St1 → Prop) (st oo iv ms ds ls ws od pl ct en ex um ud uw uo km kk rd md : Int32) (a1 a2 a3 : Nat → Int32), post v (st, oo, iv, ms, ds, ls, ws, od, pl, ct, en, ex, um, ud, uw, uo, km, kk, rd, md, a1, a2, a3, a) → wX_next_15 post st oo iv ms ds ls ws od pl ct en ex um ud uw uo km kk rd md a1 a2 a3 a (k + 1 + 1) (nI d) := by
          intro d' hd' g1 g2
          obtain ⟨v, hv, w⟩ := ih d' g1 g2
          exact ⟨v, hv, fun post st oo iv ms ds ls ws od pl ct en ex um ud uw uo km kk rd md a1 a2 a3 h => hd' post st oo iv ms ds ls ws od pl ct en ex um ud uw uo km kk rd md a1 a2 a3 (w post st oo iv ms ds ls ws od pl ct en ex um ud uw uo km kk rd md a1 a2 a3 h)⟩
        by_cases c : nI d &&& 63 = 0
        · by_cases c2 : a (nI d >>> ((6 : Int32) &&& 31)).toNatClampNeg = 0
          · refine key (d + 64) ?_ (by omega) (by omega)
            intro post st oo iv ms ds ls ws od pl ct en ex um ud uw uo km kk rd md a1 a2 a3 h
            exact pk_lt 7304 d (fun z => absurd z (by omega)) (fun _ => kr_isIn (by omega) (fun z => absurd z hi) (fun _ => br_t rfl (br_t c ⟨pk_in (d / 64) 115 (by omega) (kr_word (by omega)), br_t c2 (nm_r (nI_add d 64) h)⟩)))
          · refine key (d + 1) ?_ (by omega) (by omega)
            intro post st oo iv ms ds ls ws od pl ct en ex um ud uw uo km kk rd md a1 a2 a3 h
            exact pk_lt 7304 d (fun z => absurd z (by omega)) (fun _ => kr_isIn (by omega) (fun z => absurd z hi) (fun _ => br_t rfl (br_t c ⟨pk_in (d / 64) 115 (by omega) (kr_word (by omega)), br_f c2 (nm_r (nI_1 d) h)⟩)))
        · refine key (d + 1) ?_ (by omega) (by omega)
          intro post st oo iv ms ds ls ws od pl ct en ex um ud uw uo km kk rd md a1 a2 a3 h
          exact pk_lt 7304 d (fun z => absurd z (by omega)) (fun _ => kr_isIn (by omega) (fun z => absurd z hi) (fun _ => br_t rfl (br_f c (nm_r (nI_1 d) h))))
/-- going down: the day is nI j - 1 -/
theorem kr_prev1 (a : Nat → Int64) : ∀ k j, j ≤ k → j ≤ 7305 → ∃ v : Int32, ∀ (post : Int32 → St1 → Prop) (st oo iv ms ds ls ws od pl ct en ex um ud uw uo km kk rd md : Int32) (a1 a2 a3 : Nat → Int32), post v (st, oo, iv, ms, ds, ls, ws, od, pl, ct, en, ex, um, ud, uw, uo, km, kk, rd, md, a1, a2, a3, a) → wX_previous_15 post st oo iv ms ds ls ws od pl ct en ex um ud uw uo km kk rd md a1 a2 a3 a (k + 1) (nI j - 1) := by
  have big : ∀ k, ∀ (post : Int32 → St1 → Prop) (st oo iv ms ds ls ws od pl ct en ex um ud uw uo km kk rd md : Int32) (a1 a2 a3 : Nat → Int32), post (-4) (st, oo, iv, ms, ds, ls, ws, od, pl, ct, en, ex, um, ud, uw, uo, km, kk, rd, md, a1, a2, a3, a) → wX_previous_15 post st oo iv ms ds ls ws od pl ct en ex um ud uw uo km kk rd md a1 a2 a3 a (k + 1) (nI 0 - 1) := by
    intro k post st oo iv ms ds ls ws od pl ct en ex um ud uw uo km kk rd md a1 a2 a3 h
    exact br_t (by decide) (br_f (by decide) h)
  intro k
  induction k with
  | zero => intro j h1 h2; rw [show j = 0 by omega]; exact ⟨-4, big 0⟩
  | succ k ih =>
    intro j h1 h2
    by_cases hb : j = 0
    · rw [hb]; exact ⟨-4, big _⟩
    · obtain ⟨d, rfl⟩ : ∃ d, j = d + 1 := ⟨j - 1, by omega⟩
      rw [nI_pred]
      by_cases hi : kr_in a d
      · refine ⟨nI d, ?_⟩
        intro post st oo iv ms ds ls ws od pl ct en ex um ud uw uo km kk rd md a1 a2 a3 h
        exact br_f (nI_pos (by omega)) (kr_isIn (by omega) (fun _ => br_f (by decide) (br_t (nI_pos' (by omega)) h)) (fun z => absurd hi z))
      · have key : ∀ j', (∀ (post : Int32 → St1 → Prop) (st oo iv ms ds ls ws od pl ct en ex um ud uw uo km kk rd md : Int32) (a1 a2 a3 : Nat → Int32), wX_previous_15 post st oo iv ms ds ls ws od pl ct en ex um ud uw uo km kk rd md a1 a2 a3 a (k + 1) (nI j' - 1) → wX_previous_15 post st oo iv ms ds ls ws od pl ct en ex um ud uw uo km kk rd md a1 a2 a3 a (k + 1 + 1) (nI d)) → j' ≤ k → j' ≤ 7305 → ∃ v : Int32, ∀ (post : Int32 → St1 → Prop) (st oo iv ms ds ls ws od pl ct en ex um ud uw uo km kk rd md : Int32) (a1 a2 a3 : Nat → Int32), post v (st, oo, iv, ms, ds, ls, ws, od, pl, ct, en, ex, um, ud, uw, uo, km, kk, rd, md, a1, a2, a3, a) → wX_previous_15 post st oo iv ms ds ls ws od pl ct en ex um ud uw uo km kk rd md a1 a2 a3 a (k + 1 + 1) (nI d) := by
          intro j' hd' g1 g2
          obtain ⟨v, w⟩ := ih j' g1 g2
          exact ⟨v, fun post st oo iv ms ds ls ws od pl ct en ex um ud uw uo km kk rd md a1 a2 a3 h => hd' post st oo iv ms ds ls ws od pl ct en ex um ud uw uo km kk rd md a1 a2 a3 (w post st oo iv ms ds ls ws od pl ct en ex um ud uw uo km kk rd md a1 a2 a3 h)⟩
        by_cases c : nI d &&& 63 = 63
        · have c' : d % 64 = 63 := by
            have t := c
            rw [kr_bit6 (by omega)] at t
            exact (nI_eq (b := 63) (by omega) (by omega)).mp t
          by_cases c2 : a (nI d >>> ((6 : Int32) &&& 31)).toNatClampNeg = 0
          · refine key (d + 1 - 64) ?_ (by omega) (by omega)
            intro post st oo iv ms ds ls ws od pl ct en ex um ud uw uo km kk rd md a1 a2 a3 h
            have q : nI d - 64 = nI (d + 1 - 64) - 1 := by
              rw [← pk_sub (show 64 ≤ d + 1 by omega), ← nI_add]
              show nI d - nI 64 = nI d + nI 1 - nI 64 - nI 1
              grind
            exact br_f (nI_pos (by omega)) (kr_isIn (by omega) (fun z => absurd z hi) (fun _ => br_t rfl (br_t c ⟨pk_in (d / 64) 115 (by omega) (kr_word (by omega)), br_t c2 (nm_r q h)⟩)))
          · refine key d ?_ (by omega) (by omega)
            intro post st oo iv ms ds ls ws od pl ct en ex um ud uw uo km kk rd md a1 a2 a3 h
            exact br_f (nI_pos (by omega)) (kr_isIn (by omega) (fun z => absurd z hi) (fun _ => br_t rfl (br_t c ⟨pk_in (d / 64) 115 (by omega) (kr_word (by omega)), br_f c2 (nm_e h)⟩)))
        · refine key d ?_ (by omega) (by omega)
          intro post st oo iv ms ds ls ws od pl ct en ex um ud uw uo km kk rd md a1 a2 a3 h
          exact br_f (nI_pos (by omega)) (kr_isIn (by omega) (fun z => absurd z hi) (fun _ => br_t rfl (br_f c (nm_e h))))
theorem kr_dw (a : Nat → Int64) {i : Nat} (hi : i < 115) : ∀ k b, b + k = 64 → ∀ x : Int32, ∃ v : Int32, ∀ (post : Int32 → Prop) (st oo iv ms ds ls ws od pl ct en ex um ud uw uo km kk rd md : Int32) (a1 a2 a3 : Nat → Int32), post v → wX_dayInWord_5 post (nI i) st oo iv ms ds ls ws od pl ct en ex um ud uw uo km kk rd md a1 a2 a3 a (k + 1) x (nI b) := by
  intro k
  induction k with
  | zero =>
    intro b hb x
    refine ⟨-4, ?_⟩
    intro post st oo iv ms ds ls ws od pl ct en ex um ud uw uo km kk rd md a1 a2 a3 h
    exact pk_le 64 b (fun _ => h) (fun z => absurd z (by omega))
  | succ k ih =>
    intro b hb x
    by_cases c : (((a (nI i).toNatClampNeg).toUInt64 >>> ((nI b).toInt64.toUInt64 &&& Int64.toUInt64 63)).toInt64) &&& 1 = 1
    · by_cases c2 : x = 0
      · refine ⟨(nI i * 64) + nI b, ?_⟩
        intro post st oo iv ms ds ls ws od pl ct en ex um ud uw uo km kk rd md a1 a2 a3 h
        exact pk_le 64 b (fun z => absurd z (by omega)) (fun _ => ⟨pk_in i 115 hi, br_t c (br_t c2 h)⟩)
      · obtain ⟨v, w⟩ := ih (b + 1) (by omega) (x + (-1))
        refine ⟨v, ?_⟩
        intro post st oo iv ms ds ls ws od pl ct en ex um ud uw uo km kk rd md a1 a2 a3 h
        exact pk_le 64 b (fun z => absurd z (by omega)) (fun _ => ⟨pk_in i 115 hi, br_t c (br_f c2 (nm_e (nm_r (nI_1 b) (w post st oo iv ms ds ls ws od pl ct en ex um ud uw uo km kk rd md a1 a2 a3 h))))⟩)
    · obtain ⟨v, w⟩ := ih (b + 1) (by omega) x
      refine ⟨v, ?_⟩
      intro post st oo iv ms ds ls ws od pl ct en ex um ud uw uo km kk rd md a1 a2 a3 h
      exact pk_le 64 b (fun z => absurd z (by omega)) (fun _ => ⟨pk_in i 115 hi, br_f c (nm_r (nI_1 b) (w post st oo iv ms ds ls ws od pl ct en ex um ud uw uo km kk rd md a1 a2 a3 h))⟩)
theorem kr_nth1 (a : Nat → Int64) : ∀ k i, i + k = 115 → ∀ x : Int32, ∃ v : Int32, ∀ (post : Int32 → St1 → Prop) (st oo iv ms ds ls ws od pl ct en ex um ud uw uo km kk rd md : Int32) (a1 a2 a3 : Nat → Int32), post v (st, oo, iv, ms, ds, ls, ws, od, pl, ct, en, ex, um, ud, uw, uo, km, kk, rd, md, a1, a2, a3, a) → wX_nth_15 post st oo iv ms ds ls ws od pl ct en ex um ud uw uo km kk rd md a1 a2 a3 a (k + 1) x (nI i) := by
  intro k
  induction k with
  | zero =>
    intro i hi x
    refine ⟨-4, ?_⟩
    intro post st oo iv ms ds ls ws od pl ct en ex um ud uw uo km kk rd md a1 a2 a3 h
    exact pk_le 115 i (fun _ => h) (fun z => absurd z (by omega))
  | succ k ih =>
    intro i hi x
    by_cases c : kr_lb (a (nI i).toNatClampNeg) 64 ≤ x
    · obtain ⟨v, w⟩ := ih (i + 1) (by omega) (x - kr_lb (a (nI i).toNatClampNeg) 64)
      refine ⟨v, ?_⟩
      intro post st oo iv ms ds ls ws od pl ct en ex um ud uw uo km kk rd md a1 a2 a3 h
      exact pk_le 115 i (fun z => absurd z (by omega)) (fun _ => ⟨pk_in i 115 (by omega), kr_longBits (br_t c (nm_e (nm_r (nI_1 i) (w post st oo iv ms ds ls ws od pl ct en ex um ud uw uo km kk rd md a1 a2 a3 h))))⟩)
    · obtain ⟨v, w⟩ := kr_dw a (show i < 115 by omega) 64 0 (by omega) x
      refine ⟨v, ?_⟩
      intro post st oo iv ms ds ls ws od pl ct en ex um ud uw uo km kk rd md a1 a2 a3 h
      exact pk_le 115 i (fun z => absurd z (by omega)) (fun _ => ⟨pk_in i 115 (by omega), kr_longBits (br_f c ⟨65, w (fun r => post r (st, oo, iv, ms, ds, ls, ws, od, pl, ct, en, ex, um, ud, uw, uo, km, kk, rd, md, a1, a2, a3, a)) st oo iv ms ds ls ws od pl ct en ex um ud uw uo km kk rd md a1 a2 a3 h⟩)⟩)
/-! over the picture -/
section
variable {s e ex : Nat} {ct ms ds ws : Int32} {a1 a2 : Nat → Int32}
theorem kr_between : ∃ v : Int32, ∀ (post : Int32 → St1 → Prop) (u : St1), kr_ok s e ct ms ds ws ex a1 a2 u → (∀ u', kr_ok s e ct ms ds ws ex a1 a2 u' → post v u') → wpX_between post u 0 7304 := by
  refine ⟨kr_dv (kr_D s e ct ms ds ws ex a1 a2) 7305 - kr_dv (kr_D s e ct ms ds ws ex a1 a2) 0, ?_⟩
  intro post u hu h
  have hR := hu.1
  obtain ⟨_, oo, um, ud, uw, uo, km, kk, rd, md, a3, a4, rfl, hz, hr⟩ := hu
  unfold wpX_between
  refine kr_badDay (d := 0) rfl (by omega) (br_t rfl (kr_badDay (d := 7304) rfl (by omega) (br_t rfl (br_t (by decide) ?_))))
  refine kr_prepare ⟨hR, oo, um, ud, uw, uo, km, kk, rd, md, a3, a4, rfl, hz, hr⟩ (fun oo um ud uw uo km kk rd md a3 _ => ?_)
  exact kr_daysBefore (d := 0) rfl (by omega) (kr_daysBefore (d := 7305) (by decide) (by omega) (h _ (kr_okr hR)))
theorem kr_next {d : Nat} (hd : d ≤ 7304) : ∃ v : Int32, (v = -4 ∨ ∃ j, j ≤ 7304 ∧ v = nI j) ∧ ∀ (post : Int32 → St1 → Prop) (u : St1), kr_ok s e ct ms ds ws ex a1 a2 u → (∀ u', kr_ok s e ct ms ds ws ex a1 a2 u' → post v u') → wpX_next post u (nI d) := by
  obtain ⟨v, hv, w⟩ := kr_next1 (kr_D s e ct ms ds ws ex a1 a2) 7305 d (by omega) (by omega)
  refine ⟨v, hv, ?_⟩
  intro post u hu h
  have hR := hu.1
  obtain ⟨_, oo, um, ud, uw, uo, km, kk, rd, md, a3, a4, rfl, hz, hr⟩ := hu
  unfold wpX_next
  refine kr_badDay rfl hd (br_t rfl ?_)
  refine kr_prepare ⟨hR, oo, um, ud, uw, uo, km, kk, rd, md, a3, a4, rfl, hz, hr⟩ (fun oo um ud uw uo km kk rd md a3 _ => ?_)
  exact ⟨7306, w post _ _ _ _ _ _ _ _ _ _ _ _ _ _ _ _ _ _ _ _ _ _ _ (h _ (kr_okr hR))⟩
theorem kr_previous {d : Nat} (hd : d ≤ 7304) : ∃ v : Int32, ∀ (post : Int32 → St1 → Prop) (u : St1), kr_ok s e ct ms ds ws ex a1 a2 u → (∀ u', kr_ok s e ct ms ds ws ex a1 a2 u' → post v u') → wpX_previous post u (nI d) := by
  obtain ⟨v, w⟩ := kr_prev1 (kr_D s e ct ms ds ws ex a1 a2) 7305 (d + 1) (by omega) (by omega)
  rw [nI_pred] at w
  refine ⟨v, ?_⟩
  intro post u hu h
  have hR := hu.1
  obtain ⟨_, oo, um, ud, uw, uo, km, kk, rd, md, a3, a4, rfl, hz, hr⟩ := hu
  unfold wpX_previous
  refine kr_badDay rfl hd (br_t rfl ?_)
  refine kr_prepare ⟨hR, oo, um, ud, uw, uo, km, kk, rd, md, a3, a4, rfl, hz, hr⟩ (fun oo um ud uw uo km kk rd md a3 _ => ?_)
  exact ⟨7306, w post _ _ _ _ _ _ _ _ _ _ _ _ _ _ _ _ _ _ _ _ _ _ _ (h _ (kr_okr hR))⟩
theorem kr_nth {x : Int32} (hx : 0 ≤ x) : ∃ v : Int32, ∀ (post : Int32 → St1 → Prop) (u : St1), kr_ok s e ct ms ds ws ex a1 a2 u → (∀ u', kr_ok s e ct ms ds ws ex a1 a2 u' → post v u') → wpX_nth post u x := by
  obtain ⟨v, w⟩ := kr_nth1 (kr_D s e ct ms ds ws ex a1 a2) 115 0 (by omega) x
  refine ⟨v, ?_⟩
  intro post u hu h
  have hR := hu.1
  obtain ⟨_, oo, um, ud, uw, uo, km, kk, rd, md, a3, a4, rfl, hz, hr⟩ := hu
  refine br_t hx ?_
  refine kr_prepare ⟨hR, oo, um, ud, uw, uo, km, kk, rd, md, a3, a4, rfl, hz, hr⟩ (fun oo um ud uw uo km kk rd md a3 _ => ?_)
  exact ⟨116, w post _ _ _ _ _ _ _ _ _ _ _ _ _ _ _ _ _ _ _ _ _ _ _ (h _ (kr_okr hR))⟩
end
end
section
/-! ===== part 07: the methods that change the rule ===== -/
theorem kr_sshr (n : Nat) (hn : n < 32) (x : Int32) {i : Nat} (hi : i < 32) : kr_bt (x >>> (nI n &&& 31)) i = if n + i < 32 then kr_bt x (n + i) else kr_bt x 31 := by
  unfold kr_bt
  rw [Int32.toBitVec_shiftRight]
  show (x.toBitVec.sshiftRight ((nI n &&& 31).toBitVec.smod 32).toNat).getLsbD i = _
  rw [kr_sl n hn, BitVec.getLsbD_sshiftRight, BitVec.msb_eq_getLsbD_last]
  simp [hi]
theorem kr_4095 : ∀ i, i < 32 → kr_bt 4095 i = decide (i < 12) := by decide +kernel
theorem kr_127 : ∀ i, i < 32 → kr_bt 127 i = decide (i < 7) := by decide +kernel
theorem kr_8192 : ∀ i, i < 12 → kr_bt 1 (1 + i) = false ∧ kr_bt 8192 (1 + i) = false := by decide +kernel
/-- months: bits 0 and 13 don't matter -/
theorem kr_mset (x : Int32) : (((x ||| 1) ||| 8192) >>> ((1 : Int32) &&& 31)) &&& 4095 = (x >>> ((1 : Int32) &&& 31)) &&& 4095 := by
  refine kr_ext (fun i hi => ?_)
  rw [kr_and, kr_and, kr_4095 i hi]
  by_cases c : i < 12
  · have e : ∀ z : Int32, kr_bt (z >>> ((1 : Int32) &&& 31)) i = kr_bt z (1 + i) := by
      intro z
      have t := kr_sshr 1 (by omega) z hi
      rw [if_pos (by omega)] at t
      exact t
    rw [e, e, kr_or, kr_or, (kr_8192 i c).1, (kr_8192 i c).2, Bool.or_false, Bool.or_false]
  · rw [decide_eq_false c, Bool.and_false, Bool.and_false]
/-- monthDays: bit 0 doesn't matter -/
theorem kr_dset (x : Int32) : ((x ||| 1).toUInt32 >>> ((1 : Int32).toUInt32 &&& Int32.toUInt32 31)).toInt32 = (x.toUInt32 >>> ((1 : Int32).toUInt32 &&& Int32.toUInt32 31)).toInt32 := by
  refine kr_ext (fun i hi => ?_)
  have e : ∀ z : Int32, kr_bt ((z.toUInt32 >>> ((1 : Int32).toUInt32 &&& Int32.toUInt32 31)).toInt32) i = kr_bt z (1 + i) := fun z => kr_ushr 1 (by omega) z i
  rw [e, e, kr_or]
  by_cases c : 1 + i < 32
  · rw [kr_1 (1 + i) c, decide_eq_false (by omega), Bool.or_false]
  · rw [kr_big (x := 1) (by omega), Bool.or_false]
/-- weekDays: bits from 7 on don't matter -/
theorem kr_wset (x y : Int32) : (x ||| (y <<< ((7 : Int32) &&& 31))) &&& 127 = x &&& 127 := by
  refine kr_ext (fun i hi => ?_)
  rw [kr_and, kr_and, kr_or, kr_127 i hi]
  by_cases c : i < 7
  · have t := kr_shl 7 (by omega) y hi
    rw [decide_eq_false (by omega), Bool.false_and] at t
    rw [show kr_bt (y <<< ((7 : Int32) &&& 31)) i = false from t, Bool.or_false]
  · rw [decide_eq_false c, Bool.and_false, Bool.and_false]
section
variable {s e ex : Nat} {ct ms ds ws : Int32} {a1 a2 : Nat → Int32} {post : Int32 → St1 → Prop} {u : St1}
theorem kr_ok0 {oo um ud uw uo km kk md : Int32} {a3 : Nat → Int32} {a4 : Nat → Int64} (hR : kr_R s e ws ex a1) (hz : kr_Z a4) : kr_ok s e ct ms ds ws ex a1 a2 (nI s, oo, 1, ms, ds, 0, ws, 0, 0, ct, nI e, nI ex, um, ud, uw, uo, km, kk, 0, md, a1, a2, a3, a4) :=
  ⟨hR, oo, um, ud, uw, uo, km, kk, 0, md, a3, a4, rfl, hz, fun z => absurd rfl z⟩
theorem kr_start {d : Nat} (hu : kr_ok s e ct ms ds ws ex a1 a2 u) (hd : d ≤ 7304) (h : ∀ u', kr_ok d e ct ms ds ws ex a1 a2 u' → post (nI ((d + 5) % 7)) u') : wpX_start post u (nI d) := by
  obtain ⟨hR, oo, um, ud, uw, uo, km, kk, rd, md, a3, a4, rfl, hz, hr⟩ := hu
  unfold wpX_start
  exact kr_badDay rfl hd (br_t rfl (kr_weekdayOf rfl (by omega) (h _ (kr_ok0 ⟨hd, hR.2⟩ hz))))
theorem kr_frequency {x : Int32} {f : Nat} (hx : x = nI f) (hf : f < 4) (hu : kr_ok s e ct ms ds ws ex a1 a2 u) (h : ∀ u', kr_ok s e ct ms ds ws ex a1 a2 u' → post 0 u') : wpX_frequency post u x 1 := by
  subst hx
  obtain ⟨hR, oo, um, ud, uw, uo, km, kk, rd, md, a3, a4, rfl, hz, hr⟩ := hu
  exact br_f (nI_pos (by omega)) (br_f (nI_nlt (a := 3) (b := f) (by omega) (by omega)) (br_f (by decide) (br_t (by decide) (h _ (kr_ok0 hR hz)))))
theorem kr_monthsM {x m' : Int32} (hx : (x >>> ((1 : Int32) &&& 31)) &&& 4095 = m') (hu : kr_ok s e ct ms ds ws ex a1 a2 u) (h : ∀ u', kr_ok s e ct m' ds ws ex a1 a2 u' → post (kr_bc m' 32) u') : wpX_months post u x := by
  obtain ⟨hR, oo, um, ud, uw, uo, km, kk, rd, md, a3, a4, rfl, hz, hr⟩ := hu
  exact nm_r hx (kr_bits (h _ (kr_ok0 hR hz)))
theorem kr_monthDays {x y d' : Int32} (hx : (x.toUInt32 >>> ((1 : Int32).toUInt32 &&& Int32.toUInt32 31)).toInt32 = d') (hy : (y.toUInt32 >>> ((1 : Int32).toUInt32 &&& Int32.toUInt32 31)).toInt32 = 0) (hu : kr_ok s e ct ms ds ws ex a1 a2 u) (h : ∀ u', kr_ok s e ct ms d' ws ex a1 a2 u' → post (kr_bc d' 32 + kr_bc 0 32) u') : wpX_monthDays post u x y := by
  obtain ⟨hR, oo, um, ud, uw, uo, km, kk, rd, md, a3, a4, rfl, hz, hr⟩ := hu
  exact nm_r hx (nm_r hy (kr_bits (kr_bits (h _ (kr_ok0 hR hz)))))
theorem kr_weekDays {x w' : Int32} (hx : x &&& 127 = w') (hw : ¬ w' = 0) (hu : kr_ok s e ct ms ds ws ex a1 a2 u) (h : ∀ u', kr_ok s e ct ms ds w' ex a1 a2 u' → post (kr_bc w' 32) u') : wpX_weekDays post u x 0 := by
  obtain ⟨hR, oo, um, ud, uw, uo, km, kk, rd, md, a3, a4, rfl, hz, hr⟩ := hu
  exact br_f (by decide) (br_t (by decide) (nm_r hx (kr_bits (h _ (kr_ok0 ⟨hR.1, hR.2.1, hw, hR.2.2.2⟩ hz)))))
theorem kr_limit {x y : Int32} {c e' : Nat} (hx : x = nI c) (hc : c ≤ 500) (hy : y = nI e') (he : e' ≤ 7304) (hu : kr_ok s e ct ms ds ws ex a1 a2 u) (h : ∀ u', kr_ok s e' x ms ds ws ex a1 a2 u' → post 0 u') : wpX_limit post u x y := by
  subst hx hy
  obtain ⟨hR, oo, um, ud, uw, uo, km, kk, rd, md, a3, a4, rfl, hz, hr⟩ := hu
  exact br_f (nI_pos (by omega)) (br_t (nI_le (b := 500) hc (by omega)) (kr_badDay rfl he (br_t rfl (h _ (kr_ok0 ⟨hR.1, he, hR.2.2⟩ hz)))))
end
/-- the first place below n that holds x, or n -/
theorem kr_first (a : Nat → Int32) (x : Int32) (n : Nat) : ∃ i, i ≤ n ∧ (∀ j, j < i → ¬ a j = x) ∧ (i < n → a i = x) := by
  induction n with
  | zero => exact ⟨0, Nat.le_refl 0, fun j h => absurd h (by omega), fun h => absurd h (by omega)⟩
  | succ n ih =>
    obtain ⟨i, h1, h2, h3⟩ := ih
    by_cases hi : i < n
    · exact ⟨i, by omega, h2, fun _ => h3 hi⟩
    · have hin : i = n := by omega
      subst hin
      by_cases c : a i = x
      · exact ⟨i, by omega, h2, fun _ => c⟩
      · refine ⟨i + 1, by omega, fun j hj => ?_, fun h => absurd h (by omega)⟩
        by_cases q : j = i
        · rw [q]; exact c
        · exact h2 j (by omega)
section
variable {s e ex i d : Nat} {oo ct ms ds ws um ud uw uo km kk rd md how : Int32} {a1 a2 a3 : Nat → Int32} {a4 : Nat → Int64} {post : Int32 → St1 → Prop}
theorem kr_e11 (hx : ex ≤ 12) (h1 : i ≤ ex) (h2 : ∀ j, j < i → ¬ a1 j = nI d) (h3 : i < ex → a1 i = nI d) (H : wX_extra_35 post (nI d) how (nI i) (nI s) oo 1 ms ds 0 ws 0 0 ct (nI e) (nI ex) um ud uw uo km kk rd md a1 a2 a3 a4) : ∃ n, wX_extra_11 post (nI d) how (nI s) oo 1 ms ds 0 ws 0 0 ct (nI e) (nI ex) um ud uw uo km kk rd md a1 a2 a3 a4 n 0 :=
  pk_loop (σ := Unit) (fun n j _ => wX_extra_11 post (nI d) how (nI s) oo 1 ms ds 0 ws 0 0 ct (nI e) (nI ex) um ud uw uo km kk rd md a1 a2 a3 a4 n (nI j)) (fun _ _ => True) i 0 () (by omega) trivial
    (fun n _ _ => pk_le ex i (fun _ => H) (fun z => ⟨pk_in i 12 (by omega), br_t (by rw [nI_clamp (by omega)]; exact h3 z) H⟩))
    (fun n j _ hj _ hw => pk_le ex j (fun z => absurd z (by omega)) (fun z => ⟨pk_in j 12 (by omega), br_f (by rw [nI_clamp (by omega)]; exact h2 j hj) (nm_r (nI_1 j) (hw () trivial))⟩))
theorem kr_e90 (hi : i < 12) (h : post (nI ex) (nI s, oo, 1, ms, ds, 0, ws, 0, 0, ct, nI e, nI ex, um, ud, uw, uo, km, kk, 0, md, upd a1 i (nI d), upd a2 i (if how = 1 then 1 else 0), a3, a4)) : wX_extra_90 post (nI d) how (nI i) (nI s) oo 1 ms ds 0 ws 0 0 ct (nI e) (nI ex) um ud uw uo km kk rd md a1 a2 a3 a4 := by
  unfold wX_extra_90
  rw [nI_clamp (show i < 2 ^ 31 by omega)]
  refine ⟨pk_in i 12 hi, nm_e (br_c (fun c => ⟨pk_in i 12 hi, nm_e ?_⟩) (fun c => ⟨pk_in i 12 hi, nm_e ?_⟩))⟩
  · rw [if_pos c] at h; exact h
  · rw [if_neg c] at h; exact h
end
section
variable {s e ex d : Nat} {ct ms ds ws how : Int32} {a1 a2 : Nat → Int32}
theorem kr_extra (hR : kr_R s e ws ex a1) (hd : d ≤ 7304) : ∃ (r : Int32) (ex' : Nat) (b1 b2 : Nat → Int32), ∀ (post : Int32 → St1 → Prop) (u : St1), kr_ok s e ct ms ds ws ex a1 a2 u → (∀ u', kr_ok s e ct ms ds ws ex' b1 b2 u' → post r u') → wpX_extra post u (nI d) how := by
  obtain ⟨hs, he, hw, hx, ha⟩ := hR
  obtain ⟨i, h1, h2, h3⟩ := kr_first a1 (nI d) ex
  by_cases ch : how = 1 ∨ how = 2
  · have k35 : ∀ {post : Int32 → St1 → Prop} {oo um ud uw uo km kk rd md : Int32} {a3 : Nat → Int32} {a4 : Nat → Int64}, wX_extra_63 post (nI d) how (nI i) (nI s) oo 1 ms ds 0 ws 0 0 ct (nI e) (nI ex) um ud uw uo km kk rd md a1 a2 a3 a4 → wX_extra_35 post (nI d) how (nI i) (nI s) oo 1 ms ds 0 ws 0 0 ct (nI e) (nI ex) um ud uw uo km kk rd md a1 a2 a3 a4 := by
      intro post oo um ud uw uo km kk rd md a3 a4 H
      exact br_c (fun _ => H) (fun c => br_t (ch.resolve_left c) H)
    by_cases c12 : i = 12
    · refine ⟨-3, ex, a1, a2, ?_⟩
      intro post u hu h
      have hu' := hu
      obtain ⟨hR, oo, um, ud, uw, uo, km, kk, rd, md, a3, a4, rfl, hz, hr⟩ := hu
      unfold wpX_extra
      exact kr_badDay rfl hd (br_t rfl (kr_e11 hx h1 h2 h3 (k35 (pk_eq i 12 (fun _ => h _ hu') (fun z => absurd c12 z)))))
    · by_cases cx : i = ex
      · refine ⟨nI (ex + 1), ex + 1, upd a1 i (nI d), upd a2 i (if how = 1 then 1 else 0), ?_⟩
        intro post u hu h
        obtain ⟨hR, oo, um, ud, uw, uo, km, kk, rd, md, a3, a4, rfl, hz, hr⟩ := hu
        unfold wpX_extra
        refine kr_badDay rfl hd (br_t rfl (kr_e11 hx h1 h2 h3 (k35 (pk_eq i 12 (fun z => absurd z c12) (fun _ => pk_eq i ex (fun _ => nm_r (nI_1 ex) (kr_e90 (by omega) (h _ (kr_ok0 ⟨hs, he, hw, by omega, ?_⟩ hz)))) (fun z => absurd cx z))))))
        intro j hj
        by_cases q : j = i
        · rw [q, pk_us]; exact ⟨d, hd, rfl⟩
        · rw [pk_un q]; exact ha j (by omega)
      · refine ⟨nI ex, ex, upd a1 i (nI d), upd a2 i (if how = 1 then 1 else 0), ?_⟩
        intro post u hu h
        obtain ⟨hR, oo, um, ud, uw, uo, km, kk, rd, md, a3, a4, rfl, hz, hr⟩ := hu
        unfold wpX_extra
        refine kr_badDay rfl hd (br_t rfl (kr_e11 hx h1 h2 h3 (k35 (pk_eq i 12 (fun z => absurd z c12) (fun _ => pk_eq i ex (fun z => absurd z cx) (fun _ => kr_e90 (by omega) (h _ (kr_ok0 ⟨hs, he, hw, hx, ?_⟩ hz))))))))
        intro j hj
        by_cases q : j = i
        · rw [q, pk_us]; exact ⟨d, hd, rfl⟩
        · rw [pk_un q]; exact ha j (by omega)
  · have n1 : ¬ how = 1 := fun z => ch (Or.inl z)
    have n2 : ¬ how = 2 := fun z => ch (Or.inr z)
    by_cases cx : i = ex
    · refine ⟨nI ex, ex, a1, a2, ?_⟩
      intro post u hu h
      have hu' := hu
      obtain ⟨hR, oo, um, ud, uw, uo, km, kk, rd, md, a3, a4, rfl, hz, hr⟩ := hu
      unfold wpX_extra
      exact kr_badDay rfl hd (br_t rfl (kr_e11 hx h1 h2 h3 (br_f n1 (br_f n2 (pk_le ex i (fun _ => h _ hu') (fun z => absurd z (by omega)))))))
    · refine ⟨nI (ex - 1), ex - 1, upd a1 i (a1 (ex - 1)), upd a2 i (vp_nar .boolean (a2 (ex - 1))), ?_⟩
      intro post u hu h
      obtain ⟨hR, oo, um, ud, uw, uo, km, kk, rd, md, a3, a4, rfl, hz, hr⟩ := hu
      unfold wpX_extra
      refine kr_badDay rfl hd (br_t rfl (kr_e11 hx h1 h2 h3 (br_f n1 (br_f n2 (pk_le ex i (fun z => absurd z (by omega)) (fun z => ?_))))))
      refine nm_r (e' := nI (ex - 1)) (pk_sub (b := 1) (by omega)) ?_
      rw [nI_clamp (show i < 2 ^ 31 by omega), nI_clamp (show ex - 1 < 2 ^ 31 by omega)]
      refine ⟨pk_in (ex - 1) 12 (by omega), pk_in i 12 (by omega), nm_e ⟨pk_in (ex - 1) 12 (by omega), pk_in i 12 (by omega), nm_e (h _ (kr_ok0 ⟨hs, he, hw, by omega, ?_⟩ hz))⟩⟩
      intro j hj
      by_cases q : j = i
      · rw [q, pk_us]; exact ha (ex - 1) (by omega)
      · rw [pk_un q]; exact ha j (by omega)
end
end
section
/-! ===== part 08: same ===== -/
def kr_cat (u v : St1) : St3 := (u.1, u.2.1, u.2.2.1, u.2.2.2.1, u.2.2.2.2.1, u.2.2.2.2.2.1, u.2.2.2.2.2.2.1, u.2.2.2.2.2.2.2.1, u.2.2.2.2.2.2.2.2.1, u.2.2.2.2.2.2.2.2.2.1, u.2.2.2.2.2.2.2.2.2.2.1, u.2.2.2.2.2.2.2.2.2.2.2.1, u.2.2.2.2.2.2.2.2.2.2.2.2.1, u.2.2.2.2.2.2.2.2.2.2.2.2.2.1, u.2.2.2.2.2.2.2.2.2.2.2.2.2.2.1, u.2.2.2.2.2.2.2.2.2.2.2.2.2.2.2.1, u.2.2.2.2.2.2.2.2.2.2.2.2.2.2.2.2.1, u.2.2.2.2.2.2.2.2.2.2.2.2.2.2.2.2.2.1, u.2.2.2.2.2.2.2.2.2.2.2.2.2.2.2.2.2.2.1, u.2.2.2.2.2.2.2.2.2.2.2.2.2.2.2.2.2.2.2.1, u.2.2.2.2.2.2.2.2.2.2.2.2.2.2.2.2.2.2.2.2.1, u.2.2.2.2.2.2.2.2.2.2.2.2.2.2.2.2.2.2.2.2.2.1, u.2.2.2.2.2.2.2.2.2.2.2.2.2.2.2.2.2.2.2.2.2.2.1, u.2.2.2.2.2.2.2.2.2.2.2.2.2.2.2.2.2.2.2.2.2.2.2, v.1, v.2.1, v.2.2.1, v.2.2.2.1, v.2.2.2.2.1, v.2.2.2.2.2.1, v.2.2.2.2.2.2.1, v.2.2.2.2.2.2.2.1, v.2.2.2.2.2.2.2.2.1, v.2.2.2.2.2.2.2.2.2.1, v.2.2.2.2.2.2.2.2.2.2.1, v.2.2.2.2.2.2.2.2.2.2.2.1, v.2.2.2.2.2.2.2.2.2.2.2.2.1, v.2.2.2.2.2.2.2.2.2.2.2.2.2.1, v.2.2.2.2.2.2.2.2.2.2.2.2.2.2.1, v.2.2.2.2.2.2.2.2.2.2.2.2.2.2.2.1, v.2.2.2.2.2.2.2.2.2.2.2.2.2.2.2.2.1, v.2.2.2.2.2.2.2.2.2.2.2.2.2.2.2.2.2.1, v.2.2.2.2.2.2.2.2.2.2.2.2.2.2.2.2.2.2.1, v.2.2.2.2.2.2.2.2.2.2.2.2.2.2.2.2.2.2.2.1, v.2.2.2.2.2.2.2.2.2.2.2.2.2.2.2.2.2.2.2.2.1, v.2.2.2.2.2.2.2.2.2.2.2.2.2.2.2.2.2.2.2.2.2.1, v.2.2.2.2.2.2.2.2.2.2.2.2.2.2.2.2.2.2.2.2.2.2.1, v.2.2.2.2.2.2.2.2.2.2.2.2.2.2.2.2.2.2.2.2.2.2.2)
def kr_S (post : Int32 → St3 → Prop) (n : Nat) (x3 x4 : Int32) (u v : St1) : Prop := wL_same_30 post n x3 x4 u.1 u.2.1 u.2.2.1 u.2.2.2.1 u.2.2.2.2.1 u.2.2.2.2.2.1 u.2.2.2.2.2.2.1 u.2.2.2.2.2.2.2.1 u.2.2.2.2.2.2.2.2.1 u.2.2.2.2.2.2.2.2.2.1 u.2.2.2.2.2.2.2.2.2.2.1 u.2.2.2.2.2.2.2.2.2.2.2.1 u.2.2.2.2.2.2.2.2.2.2.2.2.1 u.2.2.2.2.2.2.2.2.2.2.2.2.2.1 u.2.2.2.2.2.2.2.2.2.2.2.2.2.2.1 u.2.2.2.2.2.2.2.2.2.2.2.2.2.2.2.1 u.2.2.2.2.2.2.2.2.2.2.2.2.2.2.2.2.1 u.2.2.2.2.2.2.2.2.2.2.2.2.2.2.2.2.2.1 u.2.2.2.2.2.2.2.2.2.2.2.2.2.2.2.2.2.2.1 u.2.2.2.2.2.2.2.2.2.2.2.2.2.2.2.2.2.2.2.1 u.2.2.2.2.2.2.2.2.2.2.2.2.2.2.2.2.2.2.2.2.1 u.2.2.2.2.2.2.2.2.2.2.2.2.2.2.2.2.2.2.2.2.2.1 u.2.2.2.2.2.2.2.2.2.2.2.2.2.2.2.2.2.2.2.2.2.2.1 u.2.2.2.2.2.2.2.2.2.2.2.2.2.2.2.2.2.2.2.2.2.2.2 v.1 v.2.1 v.2.2.1 v.2.2.2.1 v.2.2.2.2.1 v.2.2.2.2.2.1 v.2.2.2.2.2.2.1 v.2.2.2.2.2.2.2.1 v.2.2.2.2.2.2.2.2.1 v.2.2.2.2.2.2.2.2.2.1 v.2.2.2.2.2.2.2.2.2.2.1 v.2.2.2.2.2.2.2.2.2.2.2.1 v.2.2.2.2.2.2.2.2.2.2.2.2.1 v.2.2.2.2.2.2.2.2.2.2.2.2.2.1 v.2.2.2.2.2.2.2.2.2.2.2.2.2.2.1 v.2.2.2.2.2.2.2.2.2.2.2.2.2.2.2.1 v.2.2.2.2.2.2.2.2.2.2.2.2.2.2.2.2.1 v.2.2.2.2.2.2.2.2.2.2.2.2.2.2.2.2.2.1 v.2.2.2.2.2.2.2.2.2.2.2.2.2.2.2.2.2.2.1 v.2.2.2.2.2.2.2.2.2.2.2.2.2.2.2.2.2.2.2.1 v.2.2.2.2.2.2.2.2.2.2.2.2.2.2.2.2.2.2.2.2.1 v.2.2.2.2.2.2.2.2.2.2.2.2.2.2.2.2.2.2.2.2.2.1 v.2.2.2.2.2.2.2.2.2.2.2.2.2.2.2.2.2.2.2.2.2.2.1 v.2.2.2.2.2.2.2.2.2.2.2.2.2.2.2.2.2.2.2.2.2.2.2
section
variable {s e ex : Nat} {ct ms ds ws : Int32} {a1 a2 : Nat → Int32}
theorem kr_same1 {post : Int32 → St3 → Prop} (h : ∀ u v, kr_ok s e ct ms ds ws ex a1 a2 u → kr_ok s e ct ms ds ws ex a1 a2 v → post 1 (kr_cat u v)) :
    ∀ n k x u v, k ≤ 10 → 10 - k < n → kr_ok s e ct ms ds ws ex a1 a2 u → kr_ok s e ct ms ds ws ex a1 a2 v → (x = -3 ∨ ∃ d, d ≤ 7305 ∧ x = nI d) → kr_S post n x (nI k) u v := by
  intro n
  induction n with
  | zero => intro k x u v hk hn; omega
  | succ n ih =>
    intro k x u v hk hn hu hv hx
    have hp := h u v hu hv
    obtain ⟨f1, f2, f3, f4, f5, f6, f7, f8, f9, f10, f11, f12, f13, f14, f15, f16, f17, f18, f19, f20, f21, f22, f23, f24⟩ := u
    obtain ⟨g1, g2, g3, g4, g5, g6, g7, g8, g9, g10, g11, g12, g13, g14, g15, g16, g17, g18, g19, g20, g21, g22, g23, g24⟩ := v
    refine pk_le 10 k (fun _ => hp) (fun z => ?_)
    rcases hx with rfl | ⟨d, hd, rfl⟩
    · exact br_t (by decide) hp
    · refine br_f (nI_pos (by omega)) (pk_lt 7304 d (fun _ => hp) (fun z2 => ?_))
      obtain ⟨r1, hr1, w1⟩ := kr_next (s := s) (e := e) (ex := ex) (ct := ct) (ms := ms) (ds := ds) (ws := ws) (a1 := a1) (a2 := a2) z2
      obtain ⟨r2, w2⟩ := kr_previous (s := s) (e := e) (ex := ex) (ct := ct) (ms := ms) (ds := ds) (ws := ws) (a1 := a1) (a2 := a2) z2
      have e17 : nI k * 17 = nI (k * 17) := pk_mul k 17
      obtain ⟨r3, w3⟩ := kr_nth (s := s) (e := e) (ex := ex) (ct := ct) (ms := ms) (ds := ds) (ws := ws) (a1 := a1) (a2 := a2) (x := nI k * 17) (by rw [e17]; exact nI_pos' (by omega))
      refine w1 _ _ hu ?_
      rintro ⟨p1, p2, p3, p4, p5, p6, p7, p8, p9, p10, p11, p12, p13, p14, p15, p16, p17, p18, p19, p20, p21, p22, p23, p24⟩ hu1
      refine w1 _ _ hv ?_
      rintro ⟨q1, q2, q3, q4, q5, q6, q7, q8, q9, q10, q11, q12, q13, q14, q15, q16, q17, q18, q19, q20, q21, q22, q23, q24⟩ hv1
      refine br_t rfl (w2 _ _ hu1 ?_)
      rintro ⟨b1, b2, b3, b4, b5, b6, b7, b8, b9, b10, b11, b12, b13, b14, b15, b16, b17, b18, b19, b20, b21, b22, b23, b24⟩ hu2
      refine w2 _ _ hv1 ?_
      rintro ⟨c1, c2, c3, c4, c5, c6, c7, c8, c9, c10, c11, c12, c13, c14, c15, c16, c17, c18, c19, c20, c21, c22, c23, c24⟩ hv2
      refine br_t rfl (w3 _ _ hu2 ?_)
      rintro ⟨l1, l2, l3, l4, l5, l6, l7, l8, l9, l10, l11, l12, l13, l14, l15, l16, l17, l18, l19, l20, l21, l22, l23, l24⟩ hu3
      refine w3 _ _ hv2 ?_
      rintro ⟨m1, m2, m3, m4, m5, m6, m7, m8, m9, m10, m11, m12, m13, m14, m15, m16, m17, m18, m19, m20, m21, m22, m23, m24⟩ hv3
      refine br_t rfl (nm_e (nm_r (nI_1 k) (ih (k + 1) (r1 + 1) _ _ (by omega) (by omega) hu3 hv3 ?_)))
      rcases hr1 with rfl | ⟨j, hj, rfl⟩
      · exact Or.inl (by decide)
      · exact Or.inr ⟨j + 1, by omega, nI_1 j⟩
theorem kr_same {post : Int32 → St3 → Prop} {p1 p2 p3 p4 p5 p6 p7 p8 p9 p10 p11 p12 p13 p14 p15 p16 p17 p18 p19 p20 q1 q2 q3 q4 q5 q6 q7 q8 q9 q10 q11 q12 q13 q14 q15 q16 q17 q18 q19 q20 : Int32} {p21 p22 p23 q21 q22 q23 : Nat → Int32} {p24 q24 : Nat → Int64} {x : Int32} {n : Nat} (hx : x = nI n) (hn : n < 2 ^ 31) (hu : kr_ok s e ct ms ds ws ex a1 a2 (p1, p2, p3, p4, p5, p6, p7, p8, p9, p10, p11, p12, p13, p14, p15, p16, p17, p18, p19, p20, p21, p22, p23, p24)) (hv : kr_ok s e ct ms ds ws ex a1 a2 (q1, q2, q3, q4, q5, q6, q7, q8, q9, q10, q11, q12, q13, q14, q15, q16, q17, q18, q19, q20, q21, q22, q23, q24))
    (h : ∀ u v, kr_ok s e ct ms ds ws ex a1 a2 u → kr_ok s e ct ms ds ws ex a1 a2 v → post 1 (kr_cat u v)) : wpL_same post (p1, p2, p3, p4, p5, p6, p7, p8, p9, p10, p11, p12, p13, p14, p15, p16, p17, p18, p19, p20, p21, p22, p23, p24, q1, q2, q3, q4, q5, q6, q7, q8, q9, q10, q11, q12, q13, q14, q15, q16, q17, q18, q19, q20, q21, q22, q23, q24) x := by
  subst hx
  obtain ⟨r, w⟩ := kr_between (s := s) (e := e) (ex := ex) (ct := ct) (ms := ms) (ds := ds) (ws := ws) (a1 := a1) (a2 := a2)
  unfold wpL_same
  refine w _ _ hu ?_
  rintro ⟨f1, f2, f3, f4, f5, f6, f7, f8, f9, f10, f11, f12, f13, f14, f15, f16, f17, f18, f19, f20, f21, f22, f23, f24⟩ hu1
  refine w _ _ hv ?_
  rintro ⟨g1, g2, g3, g4, g5, g6, g7, g8, g9, g10, g11, g12, g13, g14, g15, g16, g17, g18, g19, g20, g21, g22, g23, g24⟩ hv1
  refine br_t rfl ⟨by decide, nm_r (pk_rem (d := 7305) hn (by omega) (by omega)) ⟨11, ?_⟩⟩
  exact kr_same1 h 11 0 (nI (n % 7305)) (f1, f2, f3, f4, f5, f6, f7, f8, f9, f10, f11, f12, f13, f14, f15, f16, f17, f18, f19, f20, f21, f22, f23, f24) (g1, g2, g3, g4, g5, g6, g7, g8, g9, g10, g11, g12, g13, g14, g15, g16, g17, g18, g19, g20, g21, g22, g23, g24) (by omega) (by omega) hu1 hv1 (Or.inr ⟨n % 7305, by omega, rfl⟩)
theorem kr_358 {post : Int32 → Prop} {L : Nat} {xs : Nat → Int32} {J : Int32 → Int32 → Int32 → Int32 → Int32 → Int32 → Int32 → Int32 → Int32 → Int32 → Int32 → Int32 → Int32 → Int32 → Int32 → Int32 → Int32 → Int32 → Int32 → Int32 → Int32 → (Nat → Int32) → (Nat → Int32) → (Nat → Int32) → (Nat → Int64) → Int32 → Int32 → Int32 → Int32 → Int32 → Int32 → Int32 → Int32 → Int32 → Int32 → Int32 → Int32 → Int32 → Int32 → Int32 → Int32 → Int32 → Int32 → Int32 → Int32 → (Nat → Int32) → (Nat → Int32) → (Nat → Int32) → (Nat → Int64) → Prop} {i n kc ks : Nat} {x7 x8 : Int32} {p1 p2 p3 p4 p5 p6 p7 p8 p9 p10 p11 p12 p13 p14 p15 p16 p17 p18 p19 p20 q1 q2 q3 q4 q5 q6 q7 q8 q9 q10 q11 q12 q13 q14 q15 q16 q17 q18 q19 q20 : Int32} {p21 p22 p23 q21 q22 q23 : Nat → Int32} {p24 q24 : Nat → Int64}
    (hn : n < 2 ^ 31) (hp : x7 = x8) (hu : kr_ok s e ct ms ds ws ex a1 a2 (p1, p2, p3, p4, p5, p6, p7, p8, p9, p10, p11, p12, p13, p14, p15, p16, p17, p18, p19, p20, p21, p22, p23, p24)) (hv : kr_ok s e ct ms ds ws ex a1 a2 (q1, q2, q3, q4, q5, q6, q7, q8, q9, q10, q11, q12, q13, q14, q15, q16, q17, q18, q19, q20, q21, q22, q23, q24))
    (hJ : ∀ u v, kr_ok s e ct ms ds ws ex a1 a2 u → kr_ok s e ct ms ds ws ex a1 a2 v → J (nI (i + 3)) u.1 u.2.1 u.2.2.1 u.2.2.2.1 u.2.2.2.2.1 u.2.2.2.2.2.1 u.2.2.2.2.2.2.1 u.2.2.2.2.2.2.2.1 u.2.2.2.2.2.2.2.2.1 u.2.2.2.2.2.2.2.2.2.1 u.2.2.2.2.2.2.2.2.2.2.1 u.2.2.2.2.2.2.2.2.2.2.2.1 u.2.2.2.2.2.2.2.2.2.2.2.2.1 u.2.2.2.2.2.2.2.2.2.2.2.2.2.1 u.2.2.2.2.2.2.2.2.2.2.2.2.2.2.1 u.2.2.2.2.2.2.2.2.2.2.2.2.2.2.2.1 u.2.2.2.2.2.2.2.2.2.2.2.2.2.2.2.2.1 u.2.2.2.2.2.2.2.2.2.2.2.2.2.2.2.2.2.1 u.2.2.2.2.2.2.2.2.2.2.2.2.2.2.2.2.2.2.1 u.2.2.2.2.2.2.2.2.2.2.2.2.2.2.2.2.2.2.2.1 u.2.2.2.2.2.2.2.2.2.2.2.2.2.2.2.2.2.2.2.2.1 u.2.2.2.2.2.2.2.2.2.2.2.2.2.2.2.2.2.2.2.2.2.1 u.2.2.2.2.2.2.2.2.2.2.2.2.2.2.2.2.2.2.2.2.2.2.1 u.2.2.2.2.2.2.2.2.2.2.2.2.2.2.2.2.2.2.2.2.2.2.2 v.1 v.2.1 v.2.2.1 v.2.2.2.1 v.2.2.2.2.1 v.2.2.2.2.2.1 v.2.2.2.2.2.2.1 v.2.2.2.2.2.2.2.1 v.2.2.2.2.2.2.2.2.1 v.2.2.2.2.2.2.2.2.2.1 v.2.2.2.2.2.2.2.2.2.2.1 v.2.2.2.2.2.2.2.2.2.2.2.1 v.2.2.2.2.2.2.2.2.2.2.2.2.1 v.2.2.2.2.2.2.2.2.2.2.2.2.2.1 v.2.2.2.2.2.2.2.2.2.2.2.2.2.2.1 v.2.2.2.2.2.2.2.2.2.2.2.2.2.2.2.1 v.2.2.2.2.2.2.2.2.2.2.2.2.2.2.2.2.1 v.2.2.2.2.2.2.2.2.2.2.2.2.2.2.2.2.2.1 v.2.2.2.2.2.2.2.2.2.2.2.2.2.2.2.2.2.2.1 v.2.2.2.2.2.2.2.2.2.2.2.2.2.2.2.2.2.2.2.1 v.2.2.2.2.2.2.2.2.2.2.2.2.2.2.2.2.2.2.2.2.1 v.2.2.2.2.2.2.2.2.2.2.2.2.2.2.2.2.2.2.2.2.2.1 v.2.2.2.2.2.2.2.2.2.2.2.2.2.2.2.2.2.2.2.2.2.2.1 v.2.2.2.2.2.2.2.2.2.2.2.2.2.2.2.2.2.2.2.2.2.2.2) : wL_law_358 post L xs J (nI i) (nI n) x7 x8 kc ks p1 p2 p3 p4 p5 p6 p7 p8 p9 p10 p11 p12 p13 p14 p15 p16 p17 p18 p19 p20 p21 p22 p23 p24 q1 q2 q3 q4 q5 q6 q7 q8 q9 q10 q11 q12 q13 q14 q15 q16 q17 q18 q19 q20 q21 q22 q23 q24 :=
  kr_same rfl hn hu hv (fun u v hu hv => br_t hp (br_f (by decide) (nm_r (nI_add i 3) (hJ u v hu hv))))
end
end
section
/-! ===== part 09: the law's loop ===== -/
def kr_rel (u v : St1) : Prop := ∃ (s e : Nat) (ct ms ds ws : Int32) (ex : Nat) (a1 a2 : Nat → Int32), kr_ok s e ct ms ds ws ex a1 a2 u ∧ kr_ok s e ct ms ds ws ex a1 a2 v
def kr_L (L : Nat) (xs : Nat → Int32) (kc ks n : Nat) (x : Int32) (u v : St1) : Prop := wL_law_42 (fun r => r = 1) L xs kc ks n x u.1 u.2.1 u.2.2.1 u.2.2.2.1 u.2.2.2.2.1 u.2.2.2.2.2.1 u.2.2.2.2.2.2.1 u.2.2.2.2.2.2.2.1 u.2.2.2.2.2.2.2.2.1 u.2.2.2.2.2.2.2.2.2.1 u.2.2.2.2.2.2.2.2.2.2.1 u.2.2.2.2.2.2.2.2.2.2.2.1 u.2.2.2.2.2.2.2.2.2.2.2.2.1 u.2.2.2.2.2.2.2.2.2.2.2.2.2.1 u.2.2.2.2.2.2.2.2.2.2.2.2.2.2.1 u.2.2.2.2.2.2.2.2.2.2.2.2.2.2.2.1 u.2.2.2.2.2.2.2.2.2.2.2.2.2.2.2.2.1 u.2.2.2.2.2.2.2.2.2.2.2.2.2.2.2.2.2.1 u.2.2.2.2.2.2.2.2.2.2.2.2.2.2.2.2.2.2.1 u.2.2.2.2.2.2.2.2.2.2.2.2.2.2.2.2.2.2.2.1 u.2.2.2.2.2.2.2.2.2.2.2.2.2.2.2.2.2.2.2.2.1 u.2.2.2.2.2.2.2.2.2.2.2.2.2.2.2.2.2.2.2.2.2.1 u.2.2.2.2.2.2.2.2.2.2.2.2.2.2.2.2.2.2.2.2.2.2.1 u.2.2.2.2.2.2.2.2.2.2.2.2.2.2.2.2.2.2.2.2.2.2.2 v.1 v.2.1 v.2.2.1 v.2.2.2.1 v.2.2.2.2.1 v.2.2.2.2.2.1 v.2.2.2.2.2.2.1 v.2.2.2.2.2.2.2.1 v.2.2.2.2.2.2.2.2.1 v.2.2.2.2.2.2.2.2.2.1 v.2.2.2.2.2.2.2.2.2.2.1 v.2.2.2.2.2.2.2.2.2.2.2.1 v.2.2.2.2.2.2.2.2.2.2.2.2.1 v.2.2.2.2.2.2.2.2.2.2.2.2.2.1 v.2.2.2.2.2.2.2.2.2.2.2.2.2.2.1 v.2.2.2.2.2.2.2.2.2.2.2.2.2.2.2.1 v.2.2.2.2.2.2.2.2.2.2.2.2.2.2.2.2.1 v.2.2.2.2.2.2.2.2.2.2.2.2.2.2.2.2.2.1 v.2.2.2.2.2.2.2.2.2.2.2.2.2.2.2.2.2.2.1 v.2.2.2.2.2.2.2.2.2.2.2.2.2.2.2.2.2.2.2.1 v.2.2.2.2.2.2.2.2.2.2.2.2.2.2.2.2.2.2.2.2.1 v.2.2.2.2.2.2.2.2.2.2.2.2.2.2.2.2.2.2.2.2.2.1 v.2.2.2.2.2.2.2.2.2.2.2.2.2.2.2.2.2.2.2.2.2.2.1 v.2.2.2.2.2.2.2.2.2.2.2.2.2.2.2.2.2.2.2.2.2.2.2
theorem kr_loop {L : Nat} {xs : Nat → Int32} {kc ks : Nat} (hL : L ≤ 260) : ∀ n i u v, kr_rel u v → i ≤ 47 → 47 - i < n → kr_L L xs kc ks n (nI i) u v := by
  intro n
  induction n with
  | zero => intro i u v hr hi hn; omega
  | succ n ih =>
    intro i u v hr hi hn
    obtain ⟨s, e, ct, ms, ds, ws, ex, a1, a2, hu, hv⟩ := hr
    have hR := hu.1
    obtain ⟨f1, f2, f3, f4, f5, f6, f7, f8, f9, f10, f11, f12, f13, f14, f15, f16, f17, f18, f19, f20, f21, f22, f23, f24⟩ := u
    obtain ⟨g1, g2, g3, g4, g5, g6, g7, g8, g9, g10, g11, g12, g13, g14, g15, g16, g17, g18, g19, g20, g21, g22, g23, g24⟩ := v
    have hl3 : nI L - 3 < nI i ↔ L < i + 3 := by
      show nI L - nI 3 < nI i ↔ _
      rw [Int32.lt_iff_toInt_lt, nI_toInt (n := i) (by omega), pk_sub_toInt (by omega) (by omega)]
      omega
    refine ek_if hl3 (fun _ => rfl) (fun hl => pk_le 45 i (fun _ => rfl) (fun h45 => ⟨pk_in i L (by omega), ?_⟩))
    obtain ⟨op, hop, eop⟩ := pk_andE (xs (nI i).toNatClampNeg) (m := 7) 3 (by decide)
    obtain ⟨a, ha, ea⟩ := pk_andE (xs (nI i + 1).toNatClampNeg) (m := 1048575) 20 (by decide)
    obtain ⟨b, hb, eb⟩ := pk_andE (xs (nI i + 2).toNatClampNeg) (m := 1048575) 20 (by decide)
    refine nm_r eop ⟨pk_in (i + 1) L (by omega) (nI_add i 1), nm_r ea ⟨pk_in (i + 2) L (by omega) (nI_add i 2), nm_r eb ?_⟩⟩
    have J : ∀ {s e : Nat} {ct ms ds ws : Int32} {ex : Nat} {a1 a2 : Nat → Int32} (u v : St1), kr_ok s e ct ms ds ws ex a1 a2 u → kr_ok s e ct ms ds ws ex a1 a2 v → wL_law_42 (fun r => r = 1) L xs kc ks n (nI (i + 3)) u.1 u.2.1 u.2.2.1 u.2.2.2.1 u.2.2.2.2.1 u.2.2.2.2.2.1 u.2.2.2.2.2.2.1 u.2.2.2.2.2.2.2.1 u.2.2.2.2.2.2.2.2.1 u.2.2.2.2.2.2.2.2.2.1 u.2.2.2.2.2.2.2.2.2.2.1 u.2.2.2.2.2.2.2.2.2.2.2.1 u.2.2.2.2.2.2.2.2.2.2.2.2.1 u.2.2.2.2.2.2.2.2.2.2.2.2.2.1 u.2.2.2.2.2.2.2.2.2.2.2.2.2.2.1 u.2.2.2.2.2.2.2.2.2.2.2.2.2.2.2.1 u.2.2.2.2.2.2.2.2.2.2.2.2.2.2.2.2.1 u.2.2.2.2.2.2.2.2.2.2.2.2.2.2.2.2.2.1 u.2.2.2.2.2.2.2.2.2.2.2.2.2.2.2.2.2.2.1 u.2.2.2.2.2.2.2.2.2.2.2.2.2.2.2.2.2.2.2.1 u.2.2.2.2.2.2.2.2.2.2.2.2.2.2.2.2.2.2.2.2.1 u.2.2.2.2.2.2.2.2.2.2.2.2.2.2.2.2.2.2.2.2.2.1 u.2.2.2.2.2.2.2.2.2.2.2.2.2.2.2.2.2.2.2.2.2.2.1 u.2.2.2.2.2.2.2.2.2.2.2.2.2.2.2.2.2.2.2.2.2.2.2 v.1 v.2.1 v.2.2.1 v.2.2.2.1 v.2.2.2.2.1 v.2.2.2.2.2.1 v.2.2.2.2.2.2.1 v.2.2.2.2.2.2.2.1 v.2.2.2.2.2.2.2.2.1 v.2.2.2.2.2.2.2.2.2.1 v.2.2.2.2.2.2.2.2.2.2.1 v.2.2.2.2.2.2.2.2.2.2.2.1 v.2.2.2.2.2.2.2.2.2.2.2.2.1 v.2.2.2.2.2.2.2.2.2.2.2.2.2.1 v.2.2.2.2.2.2.2.2.2.2.2.2.2.2.1 v.2.2.2.2.2.2.2.2.2.2.2.2.2.2.2.1 v.2.2.2.2.2.2.2.2.2.2.2.2.2.2.2.2.1 v.2.2.2.2.2.2.2.2.2.2.2.2.2.2.2.2.2.1 v.2.2.2.2.2.2.2.2.2.2.2.2.2.2.2.2.2.2.1 v.2.2.2.2.2.2.2.2.2.2.2.2.2.2.2.2.2.2.2.1 v.2.2.2.2.2.2.2.2.2.2.2.2.2.2.2.2.2.2.2.2.1 v.2.2.2.2.2.2.2.2.2.2.2.2.2.2.2.2.2.2.2.2.2.1 v.2.2.2.2.2.2.2.2.2.2.2.2.2.2.2.2.2.2.2.2.2.2.1 v.2.2.2.2.2.2.2.2.2.2.2.2.2.2.2.2.2.2.2.2.2.2.2 := by
      intro s e ct ms ds ws ex a1 a2 u v hu hv
      exact ih (i + 3) u v ⟨s, e, ct, ms, ds, ws, ex, a1, a2, hu, hv⟩ (by omega) (by omega)
    refine pk_lt 1 op (fun _ => pk_eq op 2 (fun _ => ?_) (fun _ => pk_eq op 3 (fun _ => ?_) (fun _ => pk_eq op 4 (fun _ => ?_) (fun _ => pk_eq op 5 (fun _ => ?_) (fun _ => pk_eq op 6 (fun _ => ?_) (fun _ => ?_)))))) (fun _ => ?_)
    · obtain ⟨fa, hfa, efa⟩ := pk_andE (nI a) (m := 3) 2 (by decide)
      obtain ⟨fb, hfb, efb⟩ := pk_andE (nI a >>> ((2 : Int32) &&& 31)) (m := 3) 2 (by decide)
      refine kr_frequency efa hfa hu ?_
      rintro ⟨p1, p2, p3, p4, p5, p6, p7, p8, p9, p10, p11, p12, p13, p14, p15, p16, p17, p18, p19, p20, p21, p22, p23, p24⟩ hu1
      refine br_t rfl (kr_frequency efb hfb hv ?_)
      rintro ⟨q1, q2, q3, q4, q5, q6, q7, q8, q9, q10, q11, q12, q13, q14, q15, q16, q17, q18, q19, q20, q21, q22, q23, q24⟩ hv1
      exact br_t rfl (kr_358 (by omega) rfl hu1 hv1 J)
    · refine kr_monthsM rfl hu ?_
      rintro ⟨p1, p2, p3, p4, p5, p6, p7, p8, p9, p10, p11, p12, p13, p14, p15, p16, p17, p18, p19, p20, p21, p22, p23, p24⟩ hu1
      refine kr_monthsM (kr_mset _) hv ?_
      rintro ⟨q1, q2, q3, q4, q5, q6, q7, q8, q9, q10, q11, q12, q13, q14, q15, q16, q17, q18, q19, q20, q21, q22, q23, q24⟩ hv1
      exact kr_358 (by omega) rfl hu1 hv1 J
    · refine nm_e (kr_monthDays rfl (by decide) hu ?_)
      rintro ⟨p1, p2, p3, p4, p5, p6, p7, p8, p9, p10, p11, p12, p13, p14, p15, p16, p17, p18, p19, p20, p21, p22, p23, p24⟩ hu1
      refine kr_monthDays (kr_dset _) (by decide) hv ?_
      rintro ⟨q1, q2, q3, q4, q5, q6, q7, q8, q9, q10, q11, q12, q13, q14, q15, q16, q17, q18, q19, q20, q21, q22, q23, q24⟩ hv1
      exact kr_358 (by omega) rfl hu1 hv1 J
    · have ew : (1 : Int32) + (nI a - nI a / 127 * 127) = nI (1 + a % 127) := by
        show nI 1 + (nI a - nI a / nI 127 * nI 127) = _
        rw [pk_rem (by omega) (by omega) (by omega), nI_add]
      have ew2 : nI (1 + a % 127) &&& 127 = nI (1 + a % 127) := by
        rw [pk_andN (by omega) 7 (by decide), show (1 + a % 127) % 2 ^ 7 = 1 + a % 127 by omega]
      refine ⟨by decide, nm_r ew (kr_weekDays ew2 (nI_ne0 (by omega) (by omega)) hu ?_)⟩
      rintro ⟨p1, p2, p3, p4, p5, p6, p7, p8, p9, p10, p11, p12, p13, p14, p15, p16, p17, p18, p19, p20, p21, p22, p23, p24⟩ hu1
      refine kr_weekDays ((kr_wset _ _).trans ew2) (nI_ne0 (by omega) (by omega)) hv ?_
      rintro ⟨q1, q2, q3, q4, q5, q6, q7, q8, q9, q10, q11, q12, q13, q14, q15, q16, q17, q18, q19, q20, q21, q22, q23, q24⟩ hv1
      exact kr_358 (by omega) rfl hu1 hv1 J
    · obtain ⟨c, hc, ec⟩ := pk_andE (nI a) (m := 255) 8 (by decide)
      have ee : (7304 : Int32) - (nI b - nI b / 3000 * 3000) = nI (7304 - b % 3000) := by
        show nI 7304 - (nI b - nI b / nI 3000 * nI 3000) = _
        rw [pk_rem (by omega) (by omega) (by omega), pk_sub (by omega)]
      refine ⟨by decide, kr_limit ec (by omega) ee (by omega) hu ?_⟩
      rintro ⟨p1, p2, p3, p4, p5, p6, p7, p8, p9, p10, p11, p12, p13, p14, p15, p16, p17, p18, p19, p20, p21, p22, p23, p24⟩ hu1
      refine ⟨by decide, kr_limit ec (by omega) ee (by omega) hv ?_⟩
      rintro ⟨q1, q2, q3, q4, q5, q6, q7, q8, q9, q10, q11, q12, q13, q14, q15, q16, q17, q18, q19, q20, q21, q22, q23, q24⟩ hv1
      exact kr_358 (by omega) rfl hu1 hv1 J
    · have ed : nI a - nI a / 7305 * 7305 = nI (a % 7305) := pk_rem (d := 7305) (by omega) (by omega) (by omega)
      obtain ⟨r, ex', b1, b2, w⟩ := kr_extra (ct := ct) (ms := ms) (ds := ds) (how := nI b &&& 3) (a2 := a2) hR (show a % 7305 ≤ 7304 by omega)
      rw [ed]
      refine ⟨by decide, w _ _ hu ?_⟩
      rintro ⟨p1, p2, p3, p4, p5, p6, p7, p8, p9, p10, p11, p12, p13, p14, p15, p16, p17, p18, p19, p20, p21, p22, p23, p24⟩ hu1
      refine ⟨by decide, w _ _ hv ?_⟩
      rintro ⟨q1, q2, q3, q4, q5, q6, q7, q8, q9, q10, q11, q12, q13, q14, q15, q16, q17, q18, q19, q20, q21, q22, q23, q24⟩ hv1
      exact kr_358 (by omega) rfl hu1 hv1 J
    · have ed : nI a - nI a / 7305 * 7305 = nI (a % 7305) := pk_rem (d := 7305) (by omega) (by omega) (by omega)
      rw [ed]
      refine ⟨by decide, kr_start hu (by omega) ?_⟩
      rintro ⟨p1, p2, p3, p4, p5, p6, p7, p8, p9, p10, p11, p12, p13, p14, p15, p16, p17, p18, p19, p20, p21, p22, p23, p24⟩ hu1
      refine ⟨by decide, kr_start hv (by omega) ?_⟩
      rintro ⟨q1, q2, q3, q4, q5, q6, q7, q8, q9, q10, q11, q12, q13, q14, q15, q16, q17, q18, q19, q20, q21, q22, q23, q24⟩ hv1
      exact kr_358 (by omega) rfl hu1 hv1 J
end
section
/-! ===== part 10: the law ===== -/
theorem kr_first0 : kr_ok 0 7304 0 0 0 31 0 (fun _ => 0) (fun _ => 0) (0, 0, 1, 0, 0, 0, 31, 0, 0, 0, 7304, 0, 0, 0, 0, 0, 0, 0, 0, 0, fun _ => 0, fun _ => 0, fun _ => 0, fun _ => 0) :=
  ⟨⟨by omega, by omega, by decide, by omega, fun i hi => absurd hi (by omega)⟩, 0, 0, 0, 0, 0, 0, 0, 0, 0, fun _ => 0, fun _ => 0, rfl, fun _ _ => rfl, fun z => absurd rfl z⟩
theorem i_vc (xs : Nat → Int32) (L : Nat) (hL : L ≤ 260) : wpL_law (fun r => r = 1) L xs := by
  refine ⟨4, 151, by omega, by omega, ?_⟩
  refine ⟨by omega, by omega, by omega, by omega, by omega, by omega, by omega, by omega, ?_⟩
  refine ⟨by omega, by omega, 4, 151, by omega, by omega, ?_⟩
  refine ⟨by omega, by omega, by omega, by omega, by omega, by omega, by omega, by omega, ?_⟩
  refine br_f (by decide) (br_t (by decide) (nm_r (e' := 31) (by decide) (kr_bits (br_t (by decide +kernel) ?_))))
  refine br_f (by decide) (br_t (by decide) (nm_r (e' := 31) (by decide) (kr_bits (br_t (by decide +kernel) ?_))))
  exact ⟨49, kr_loop hL 49 0 _ _ ⟨0, 7304, 0, 0, 0, 31, 0, fun _ => 0, fun _ => 0, kr_first0, kr_first0⟩ (by omega) (by omega)⟩
end
