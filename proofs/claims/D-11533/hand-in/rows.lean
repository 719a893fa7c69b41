section
/-! ===== numbers ===== -/
theorem tr_at {a : Nat → Int32} {x v : Int32} {n : Nat} (h : a n = v) (hx : x = nI n) (hn : n < 2 ^ 31 := by omega) : a x.toNatClampNeg = v := by
  rw [hx, nI_clamp hn]; exact h
theorem tr_bq {x y v : Int32} {A B : Prop} (hx : x = v) (f : v = y → A) (g : ¬ v = y → B) : (x = y → A) ∧ (¬ x = y → B) := by
  subst hx; exact ⟨f, g⟩
theorem tr_ble {x y v w : Int32} {A B : Prop} (hx : x = v) (hy : y = w) (f : v ≤ w → A) (g : ¬ v ≤ w → B) : (x ≤ y → A) ∧ (¬ x ≤ y → B) := by
  subst hx hy; exact ⟨f, g⟩
theorem tr_blt {x y v w : Int32} {A B : Prop} (hx : x = v) (hy : y = w) (f : v < w → A) (g : ¬ v < w → B) : (x < y → A) ∧ (¬ x < y → B) := by
  subst hx hy; exact ⟨f, g⟩
theorem tr_ix3 (r i : Nat) : (3 : Int32) * nI r + nI i = nI (3 * r + i) := by
  rw [show (3 : Int32) = nI 3 from rfl, pk_mul, nI_add]
theorem tr_m3 (r : Nat) : (3 : Int32) * nI r = nI (3 * r) := by
  rw [show (3 : Int32) = nI 3 from rfl, pk_mul]
theorem tr_ix8 (r i : Nat) : (8 : Int32) * nI r + nI i = nI (8 * r + i) := by
  rw [show (8 : Int32) = nI 8 from rfl, pk_mul, nI_add]
theorem tr_ix16 (y x : Nat) : (16 : Int32) * nI y + nI x = nI (16 * y + x) := by
  rw [show (16 : Int32) = nI 16 from rfl, pk_mul, nI_add]
/-- x0 = max, y1 = min: both roads of a choice -/
theorem tr_max {P : Int32 → Prop} {x y : Int32} (a b : Nat) (h : P (nI (max a b))) (hx : x = nI a) (hy : y = nI b) (ha : a < 2 ^ 31 := by omega) (hb : b < 2 ^ 31 := by omega) : (x ≤ y → P y) ∧ (¬ x ≤ y → P x) := by
  subst hx hy
  rw [nI_leI ha hb]
  constructor
  · intro z; rwa [show max a b = b by omega] at h
  · intro z; rwa [show max a b = a by omega] at h
theorem tr_min {P : Int32 → Prop} {x y : Int32} (a b : Nat) (h : P (nI (min a b))) (hx : x = nI a) (hy : y = nI b) (ha : a < 2 ^ 31 := by omega) (hb : b < 2 ^ 31 := by omega) : (x ≤ y → P x) ∧ (¬ x ≤ y → P y) := by
  subst hx hy
  rw [nI_leI ha hb]
  constructor
  · intro z; rwa [show min a b = a by omega] at h
  · intro z; rwa [show min a b = b by omega] at h
/-! ===== the triangles: their corners, edges, sides ===== -/
def tr_rx (q i : Nat) : Int32 := if q = 0 then (if i = 1 then 319 else -64) else (if i = 2 then -64 else 319)
def tr_ry (q i : Nat) : Int32 := if q = 0 then (if i = 2 then 319 else -64) else (if i = 0 then -64 else 319)
def tr_dx (q i : Nat) : Int32 := tr_rx q ((i + 2) % 3) - tr_rx q ((i + 1) % 3)
def tr_dy (q i : Nat) : Int32 := tr_ry q ((i + 2) % 3) - tr_ry q ((i + 1) % 3)
def tr_sx (q i : Nat) : Int32 := (-16) * tr_dy q i
def tr_sy (q i : Nat) : Int32 := 16 * tr_dx q i
def tr_tk (q i : Nat) : Int32 := if tr_dy q i < 0 then 1 else if tr_dy q i = 0 then (if tr_dx q i ≤ 0 then 0 else 1) else 0
def tr_az (q i : Nat) : Int32 := tr_dx q i * (8 - tr_ry q ((i + 1) % 3)) - tr_dy q i * (8 - tr_rx q ((i + 1) % 3))
def tr_sd (q x y i : Nat) : Int32 := (tr_az q i + tr_sx q i * nI x) + tr_sy q i * nI y
def tr_cov (q x y : Nat) : Bool := if q = 0 then decide (x + y ≤ 14) else decide (15 ≤ x + y)
abbrev tr_good (q x y i : Nat) : Prop := ¬ tr_sd q x y i < 0 ∧ ¬ (tr_sd q x y i = 0 ∧ tr_tk q i = 0)
theorem tr_all {n : Nat} {f : Nat → Bool} (h : (List.range n).all f = true) {i : Nat} (hi : i < n) : f i = true := List.all_eq_true.mp h i (List.mem_range.mpr hi)
def tr_covB (q x y : Nat) : Bool := decide (tr_good q x y 0 ∧ tr_good q x y 1 ∧ tr_good q x y 2) == tr_cov q x y
theorem tr_covA : (List.range 2).all (fun q => (List.range 16).all (fun x => (List.range 16).all (fun y => tr_covB q x y))) = true := by decide +kernel
theorem tr_covT (q : Nat) (hq : q < 2) (x : Nat) (hx : x < 16) (y : Nat) (hy : y < 16) : (∀ i, i < 3 → tr_good q x y i) ↔ tr_cov q x y = true := by
  have h := tr_all (tr_all (tr_all tr_covA hq) hx) hy
  unfold tr_covB at h
  rw [beq_iff_eq] at h
  rw [← h, decide_eq_true_eq]
  constructor
  · intro g
    exact ⟨g 0 (by omega), g 1 (by omega), g 2 (by omega)⟩
  · intro g i hi
    rcases (by omega : i = 0 ∨ i = 1 ∨ i = 2) with e | e | e
    · rw [e]; exact g.1
    · rw [e]; exact g.2.1
    · rw [e]; exact g.2.2
def tr_most (q l t i : Nat) : Int32 := (tr_sd q l t i + (if tr_sx q i ≤ 0 then 0 else tr_sx q i * 3)) + (if tr_sy q i ≤ 0 then 0 else tr_sy q i * 3)
def tr_outB (q a b i : Nat) : Bool := decide (0 ≤ tr_most q (4 * a) (4 * b) i) || (List.range 4).all (fun x => (List.range 4).all (fun y => !tr_cov q (4 * a + x) (4 * b + y)))
theorem tr_outA : (List.range 2).all (fun q => (List.range 4).all (fun a => (List.range 4).all (fun b => (List.range 3).all (fun i => tr_outB q a b i)))) = true := by decide +kernel
theorem tr_outT (q : Nat) (hq : q < 2) (a : Nat) (ha : a < 4) (b : Nat) (hb : b < 4) (i : Nat) (hi : i < 3) (h : ¬ 0 ≤ tr_most q (4 * a) (4 * b) i) (x : Nat) (hx : x < 4) (y : Nat) (hy : y < 4) : tr_cov q (4 * a + x) (4 * b + y) = false := by
  have g := tr_all (tr_all (tr_all (tr_all tr_outA hq) ha) hb) hi
  unfold tr_outB at g
  rw [decide_eq_false h, Bool.false_or] at g
  have k := tr_all (tr_all g hx) hy
  rw [Bool.not_eq_true'] at k
  exact k
theorem tr_tab : ∀ q, q < 2 → tr_az q 0 + tr_az q 1 + tr_az q 2 = 146689 ∧ tr_sx q 0 + tr_sx q 1 + tr_sx q 2 = 0 ∧ tr_sy q 0 + tr_sy q 1 + tr_sy q 2 = 0 := by decide +kernel
theorem tr_sum (q x y : Nat) (hq : q < 2) : tr_sd q x y 0 + tr_sd q x y 1 + tr_sd q x y 2 = 146689 := by
  obtain ⟨h1, h2, h3⟩ := tr_tab q hq
  unfold tr_sd
  generalize nI x = X
  generalize nI y = Y
  generalize tr_az q 0 = z0 at *
  generalize tr_az q 1 = z1 at *
  generalize tr_az q 2 = z2 at *
  generalize tr_sx q 0 = u0 at *
  generalize tr_sx q 1 = u1 at *
  generalize tr_sx q 2 = u2 at *
  generalize tr_sy q 0 = v0 at *
  generalize tr_sy q 1 = v1 at *
  generalize tr_sy q 2 = v2 at *
  have e : (z0 + u0 * X + v0 * Y) + (z1 + u1 * X + v1 * Y) + (z2 + u2 * X + v2 * Y) = (z0 + z1 + z2) + (u0 + u1 + u2) * X + (v0 + v1 + v2) * Y := by grind
  rw [e, h1, h2, h3]
  grind
theorem tr_step (q x y i : Nat) : tr_sd q x y i + tr_sx q i = tr_sd q (x + 1) y i := by
  unfold tr_sd
  rw [← nI_1 x]
  grind
theorem tr_dv {k : Nat} (h : k < 256) : (146689 : Int32) * nI k / 146689 = nI k := by
  show nI 146689 * nI k / nI 146689 = nI k
  rw [pk_mul, pk_div (by omega) (by omega) (by omega), Nat.mul_div_cancel_left k (by omega)]
def tr_acc (f : Nat → Int32) : Nat → Int32
  | 0 => 0
  | n + 1 => tr_acc f n + f n
theorem tr_acc3 {q x y : Nat} (hq : q < 2) {k : Nat} (hk : k < 256) : tr_acc (fun j => tr_sd q x y j * nI k) 3 / 146689 = nI k := by
  have e : tr_acc (fun j => tr_sd q x y j * nI k) 3 = 146689 * nI k := by
    show ((0 + tr_sd q x y 0 * nI k) + tr_sd q x y 1 * nI k) + tr_sd q x y 2 * nI k = 146689 * nI k
    rw [← tr_sum q x y hq]
    grind
  rw [e, tr_dv hk]
/-! ===== counting ===== -/
def tr_cnt (H : Nat → Bool) : Nat → Nat
  | 0 => 0
  | n + 1 => tr_cnt H n + (if H n = true then 1 else 0)
theorem tr_cnt_le (H : Nat → Bool) (n : Nat) : tr_cnt H n ≤ n := by
  induction n with
  | zero => exact Nat.le_refl 0
  | succ n ih =>
    show tr_cnt H n + (if H n = true then 1 else 0) ≤ n + 1
    split <;> omega
theorem tr_cnt_congr {H G : Nat → Bool} (n : Nat) (h : ∀ p, p < n → H p = G p) : tr_cnt H n = tr_cnt G n := by
  induction n with
  | zero => rfl
  | succ n ih =>
    show tr_cnt H n + (if H n = true then 1 else 0) = tr_cnt G n + (if G n = true then 1 else 0)
    rw [ih (fun p hp => h p (by omega)), h n (by omega)]
theorem tr_cnt_add {H : Nat → Bool} {p : Nat} (n : Nat) (hp : p < n) (h : H p = false) : tr_cnt (fun j => H j || decide (j = p)) n = tr_cnt H n + 1 := by
  induction n with
  | zero => omega
  | succ n ih =>
    show tr_cnt (fun j => H j || decide (j = p)) n + (if (H n || decide (n = p)) = true then 1 else 0) = tr_cnt H n + (if H n = true then 1 else 0) + 1
    by_cases e : p = n
    · subst e
      rw [tr_cnt_congr (H := fun j => H j || decide (j = p)) (G := H) p (fun j hj => by simp; omega), h]
      simp
    · rw [ih (by omega)]
      have : decide (n = p) = false := by simp; omega
      rw [this, Bool.or_false]
      omega
/-! ===== the picture ===== -/
def tr_Pic (old : Int32) (od : Nat) (om du : Int32) (d : Nat) (mk wr : Int32) (H : Nat → Bool) (hc : Int32) (a1 a2 a3 : Nat → Int32) : Prop :=
  hc = nI (tr_cnt H 256) ∧ ∀ p, p < 256 → a1 p = (if H p = true then du else old) ∧ a2 p = (if H p = true ∧ wr = 1 then nI d else nI od) ∧ a3 p = (if H p = true then mk else om)
theorem tr_pic_congr {old : Int32} {od : Nat} {om du : Int32} {d : Nat} {mk wr : Int32} {H G : Nat → Bool} {hc : Int32} {a1 a2 a3 : Nat → Int32} (h : tr_Pic old od om du d mk wr H hc a1 a2 a3) (e : ∀ p, p < 256 → H p = G p) : tr_Pic old od om du d mk wr G hc a1 a2 a3 := by
  refine ⟨?_, fun p hp => ?_⟩
  · rw [h.1, tr_cnt_congr 256 e]
  · rw [← e p hp]
    exact h.2 p hp
/-- what passes, the new mark, the parts of a colour, the mixing -/
def tr_ps (ru : Nat → Int32) (om : Int32) (d od : Nat) : Bool :=
  decide ((¬ (ru 3 = 1 ∧ ¬ om = ru 5) ∧ ¬ (ru 3 = 2 ∧ om = ru 5)) ∧ (ru 0 = 1 ∨ (ru 0 = 2 ∧ d < od) ∨ (ru 0 = 3 ∧ d ≤ od)))
def tr_mk (ch om sg : Int32) : Int32 := if ch = 0 then om else if ch = 1 then sg else if ch = 2 then (om + 1) &&& 15 else om ^^^ sg
def tr_pa (c s : Int32) : Int32 := (c >>> (s &&& 31)) &&& 255
theorem tr_paE (c s : Int32) : ∃ k, k < 256 ∧ tr_pa c s = nI k := by
  obtain ⟨k, hk, e⟩ := pk_andE (c >>> (s &&& 31)) (m := 255) 8 (by decide)
  exact ⟨k, hk, e⟩
def tr_mx (m o t : Int32) : Int32 := if m = 0 then o else if m = 1 then (if o + t ≤ 255 then o + t else 255) else if m = 2 then (o + t) / 2 else if m = 3 then o * t / 255 else t
def tr_own (pt c cl s : Int32) : Int32 := if pt = 1 then tr_pa c s * tr_pa cl s / 255 else tr_pa c s
def tr_mm (ru : Nat → Int32) (c cl old s : Int32) : Int32 := tr_mx (ru 2) (tr_own (ru 7) c cl s) (tr_pa old s)
def tr_due (ru : Nat → Int32) (c cl old : Int32) : Int32 := ((0 ||| (tr_mm ru c cl old 0 <<< ((0 : Int32) &&& 31))) ||| (tr_mm ru c cl old 8 <<< ((8 : Int32) &&& 31))) ||| (tr_mm ru c cl old 16 <<< ((16 : Int32) &&& 31))
def tr_full (ps : Bool) (L R p : Nat) : Bool := ps && decide (L ≤ p % 16 ∧ p % 16 ≤ R ∧ 2 ≤ p / 16 ∧ p / 16 ≤ 12)
theorem tr_255 {k : Nat} (h : k < 256) : nI k * 255 / 255 = nI k := by
  show nI k * nI 255 / nI 255 = nI k
  rw [pk_mul, pk_div (by omega) (by omega) (by omega), Nat.mul_div_cancel k (by omega)]
end
section
/-! ===== bits (the first rows: kit/laws/BITS.to-paste, renamed) ===== -/
def tr_bt (x : Int32) (i : Nat) : Bool := x.toBitVec.getLsbD i
theorem tr_b_ext {x y : Int32} (h : ∀ i, i < 32 → tr_bt x i = tr_bt y i) : x = y := Int32.toBitVec_inj.mp (BitVec.eq_of_getLsbD_eq (fun i hi => h i hi))
theorem tr_b_or (x y : Int32) (i : Nat) : tr_bt (x ||| y) i = (tr_bt x i || tr_bt y i) := by unfold tr_bt; rw [Int32.toBitVec_or, BitVec.getLsbD_or]
theorem tr_b_and (x y : Int32) (i : Nat) : tr_bt (x &&& y) i = (tr_bt x i && tr_bt y i) := by unfold tr_bt; rw [Int32.toBitVec_and, BitVec.getLsbD_and]
theorem tr_b_big {x : Int32} {i : Nat} (h : 32 ≤ i) : tr_bt x i = false := BitVec.getLsbD_of_ge _ _ h
theorem tr_b_255 (i : Nat) : tr_bt 255 i = decide (i < 8) := by
  rcases Nat.lt_or_ge i 32 with h | h
  · exact (by decide +kernel : ∀ i, i < 32 → tr_bt 255 i = decide (i < 8)) i h
  · rw [tr_b_big h, decide_eq_false (by omega)]
theorem tr_b_24 (i : Nat) : tr_bt 16777215 i = decide (i < 24) := by
  rcases Nat.lt_or_ge i 32 with h | h
  · exact (by decide +kernel : ∀ i, i < 32 → tr_bt 16777215 i = decide (i < 24)) i h
  · rw [tr_b_big h, decide_eq_false (by omega)]
theorem tr_b_0 (i : Nat) : tr_bt 0 i = false := BitVec.getLsbD_zero
theorem tr_s_l : ∀ n, n < 32 → ((nI n &&& 31).toBitVec.smod 32).toNat = n := by decide +kernel
theorem tr_b_shl (n : Nat) (hn : n < 32) (x : Int32) {i : Nat} (hi : i < 32) : tr_bt (x <<< (nI n &&& 31)) i = (decide (n ≤ i) && tr_bt x (i - n)) := by
  unfold tr_bt
  rw [Int32.toBitVec_shiftLeft]
  show (x.toBitVec <<< ((nI n &&& 31).toBitVec.smod 32).toNat).getLsbD i = _
  rw [tr_s_l n hn, BitVec.getLsbD_shiftLeft]
  rcases Nat.lt_or_ge i n with h | h
  · simp [h, Nat.not_le.mpr h]
  · simp [hi, h, Nat.not_lt.mpr h]
theorem tr_b_sshr (n : Nat) (hn : n < 32) (x : Int32) {i : Nat} (hi : i < 32) : tr_bt (x >>> (nI n &&& 31)) i = if n + i < 32 then tr_bt x (n + i) else tr_bt x 31 := by
  unfold tr_bt
  rw [Int32.toBitVec_shiftRight]
  show (x.toBitVec.sshiftRight ((nI n &&& 31).toBitVec.smod 32).toNat).getLsbD i = _
  rw [tr_s_l n hn, BitVec.getLsbD_sshiftRight, BitVec.msb_eq_getLsbD_last]
  simp [hi]
theorem tr_shl0 (x : Int32) {i : Nat} (hi : i < 32) : tr_bt (x <<< ((0 : Int32) &&& 31)) i = tr_bt x i := by
  have := tr_b_shl 0 (by omega) x hi
  simpa using this
theorem tr_shl8 (x : Int32) {i : Nat} (hi : i < 32) : tr_bt (x <<< ((8 : Int32) &&& 31)) i = (decide (8 ≤ i) && tr_bt x (i - 8)) := tr_b_shl 8 (by omega) x hi
theorem tr_shl16 (x : Int32) {i : Nat} (hi : i < 32) : tr_bt (x <<< ((16 : Int32) &&& 31)) i = (decide (16 ≤ i) && tr_bt x (i - 16)) := tr_b_shl 16 (by omega) x hi
/-- the colour put together from above and from below -/
theorem tr_col (a b c : Int32) : (((((0 : Int32) <<< ((8 : Int32) &&& 31)) ||| a) <<< ((8 : Int32) &&& 31) ||| b) <<< ((8 : Int32) &&& 31)) ||| c = ((0 ||| (c <<< ((0 : Int32) &&& 31))) ||| (b <<< ((8 : Int32) &&& 31))) ||| (a <<< ((16 : Int32) &&& 31)) := by
  apply tr_b_ext
  intro i hi
  rw [tr_b_or, tr_b_or, tr_b_or, tr_b_or, tr_shl8 _ hi, tr_b_or, tr_shl0 _ hi, tr_shl8 _ hi, tr_shl16 _ hi, tr_b_0, Bool.false_or]
  by_cases h8 : 8 ≤ i
  · rw [tr_shl8 _ (show i - 8 < 32 by omega), tr_b_or, tr_shl8 _ (show i - 8 - 8 < 32 by omega), tr_b_0, Bool.and_false, Bool.false_or]
    rw [show i - 8 - 8 = i - 16 by omega]
    by_cases h16 : 16 ≤ i
    · rw [decide_eq_true h8, decide_eq_true h16, decide_eq_true (show 8 ≤ i - 8 by omega)]
      simp only [Bool.true_and]
      cases tr_bt a (i - 16) <;> cases tr_bt b (i - 8) <;> cases tr_bt c i <;> rfl
    · rw [decide_eq_true h8, decide_eq_false h16, decide_eq_false (show ¬ 8 ≤ i - 8 by omega)]
      simp only [Bool.true_and, Bool.false_and, Bool.false_or, Bool.or_false]
      cases tr_bt b (i - 8) <;> cases tr_bt c i <;> rfl
  · rw [decide_eq_false h8, decide_eq_false (show ¬ 16 ≤ i by omega)]
    simp
/-- mixing 4: the parts of the old colour, put together, are the old colour -/
theorem tr_parts (x : Int32) : ((0 ||| (tr_pa (x &&& 16777215) 0 <<< ((0 : Int32) &&& 31))) ||| (tr_pa (x &&& 16777215) 8 <<< ((8 : Int32) &&& 31))) ||| (tr_pa (x &&& 16777215) 16 <<< ((16 : Int32) &&& 31)) = x &&& 16777215 := by
  have pa0 : ∀ i, i < 32 → tr_bt (tr_pa (x &&& 16777215) 0) i = (decide (i < 8) && tr_bt x i) := by
    intro i hi
    have h := tr_b_sshr 0 (by omega) (x &&& 16777215) hi
    have e : tr_bt (tr_pa (x &&& 16777215) 0) i = (tr_bt ((x &&& 16777215) >>> (nI 0 &&& 31)) i && tr_bt 255 i) := tr_b_and _ _ _
    rw [e, h, tr_b_255, if_pos (by omega), tr_b_and, tr_b_24, Nat.zero_add]
    by_cases h8 : i < 8
    · rw [decide_eq_true h8, decide_eq_true (show i < 24 by omega)]; simp
    · rw [decide_eq_false h8]; simp
  have pa8 : ∀ i, i < 32 → tr_bt (tr_pa (x &&& 16777215) 8) i = (decide (i < 8) && tr_bt x (8 + i)) := by
    intro i hi
    have h := tr_b_sshr 8 (by omega) (x &&& 16777215) hi
    have e : tr_bt (tr_pa (x &&& 16777215) 8) i = (tr_bt ((x &&& 16777215) >>> (nI 8 &&& 31)) i && tr_bt 255 i) := tr_b_and _ _ _
    rw [e, h, tr_b_255]
    by_cases h8 : i < 8
    · rw [decide_eq_true h8, if_pos (by omega), tr_b_and, tr_b_24, decide_eq_true (show 8 + i < 24 by omega)]; simp
    · rw [decide_eq_false h8]; simp
  have pa16 : ∀ i, i < 32 → tr_bt (tr_pa (x &&& 16777215) 16) i = (decide (i < 8) && tr_bt x (16 + i)) := by
    intro i hi
    have h := tr_b_sshr 16 (by omega) (x &&& 16777215) hi
    have e : tr_bt (tr_pa (x &&& 16777215) 16) i = (tr_bt ((x &&& 16777215) >>> (nI 16 &&& 31)) i && tr_bt 255 i) := tr_b_and _ _ _
    rw [e, h, tr_b_255]
    by_cases h8 : i < 8
    · rw [decide_eq_true h8, if_pos (by omega), tr_b_and, tr_b_24, decide_eq_true (show 16 + i < 24 by omega)]; simp
    · rw [decide_eq_false h8]; simp
  apply tr_b_ext
  intro i hi
  rw [tr_b_or, tr_b_or, tr_b_or, tr_b_0, Bool.false_or, tr_shl0 _ hi, tr_shl8 _ hi, tr_shl16 _ hi, pa0 i hi, pa8 (i - 8) (by omega), pa16 (i - 16) (by omega), tr_b_and, tr_b_24]
  by_cases h8 : i < 8
  · rw [decide_eq_true h8, decide_eq_false (show ¬ 8 ≤ i by omega), decide_eq_false (show ¬ 16 ≤ i by omega), decide_eq_true (show i < 24 by omega)]; simp
  · by_cases h16 : i < 16
    · rw [decide_eq_false h8, decide_eq_true (show 8 ≤ i by omega), decide_eq_true (show i - 8 < 8 by omega), decide_eq_false (show ¬ 16 ≤ i by omega), decide_eq_true (show i < 24 by omega), show 8 + (i - 8) = i by omega]; simp
    · by_cases h24 : i < 24
      · rw [decide_eq_false h8, decide_eq_true (show 8 ≤ i by omega), decide_eq_false (show ¬ i - 8 < 8 by omega), decide_eq_true (show 16 ≤ i by omega), decide_eq_true (show i - 16 < 8 by omega), decide_eq_true h24, show 16 + (i - 16) = i by omega]; simp
      · rw [decide_eq_false h8, decide_eq_false (show ¬ i - 8 < 8 by omega), decide_eq_false (show ¬ i - 16 < 8 by omega), decide_eq_false h24]; simp
theorem tr_due4 {ru : Nat → Int32} {c cl : Int32} (x : Int32) (h : ru 2 = 4) : tr_due ru c cl (x &&& 16777215) = x &&& 16777215 := by
  have e : ∀ s, tr_mm ru c cl (x &&& 16777215) s = tr_pa (x &&& 16777215) s := by
    intro s
    unfold tr_mm tr_mx
    rw [h, if_neg (by decide), if_neg (by decide), if_neg (by decide), if_neg (by decide)]
  unfold tr_due
  rw [e, e, e]
  exact tr_parts x
end
section
/-! ===== methods that change nothing ===== -/
theorem tr_isIn {post : Int32 → Prop} {x y : Int32} (p m : Nat) (h : p < m) (H : post 1) (hx : x = nI p := by rfl) (hy : y = nI m := by rfl) (hm : m < 2 ^ 31 := by omega) : wpX_isIn post () x y := by
  subst hx hy
  exact br_f (nI_pos (by omega)) (br_f (nI_ge h hm) H)
theorem tr_isCovered {bx hc rc fa : Int32} {a1 a2 a3 a4 a5 a6 a7 a8 a9 a10 a11 a12 a13 a14 a15 a16 a17 a18 a19 a20 a21 a22 a23 a24 a25 a26 : Nat → Int32} {post : Int32 → Prop} {q x y : Nat} (hq : q < 2) (hx : x < 16) (hy : y < 16) (h23 : ∀ i, i < 3 → a23 i = tr_tk q i) (h25 : ∀ i, i < 3 → a25 i = tr_sd q x y i)
    (H1 : tr_cov q x y = true → post 1) (H0 : tr_cov q x y = false → post 0) : wpX_isCovered post (bx, hc, rc, fa, a1, a2, a3, a4, a5, a6, a7, a8, a9, a10, a11, a12, a13, a14, a15, a16, a17, a18, a19, a20, a21, a22, a23, a24, a25, a26) := by
  have T := tr_covT q hq x hx y hy
  have bad : ∀ i, i < 3 → ¬ tr_good q x y i → post 0 := by
    intro i hi h
    refine H0 ?_
    cases e : tr_cov q x y with
    | false => rfl
    | true => exact absurd (T.mpr e i hi) h
  exact pk_loop (σ := Unit) (fun n i _ => wX_isCovered_2 post bx hc rc fa a1 a2 a3 a4 a5 a6 a7 a8 a9 a10 a11 a12 a13 a14 a15 a16 a17 a18 a19 a20 a21 a22 a23 a24 a25 a26 n (nI i)) (fun i _ => ∀ j, j < i → tr_good q x y j) 3 0 () (by omega) (fun j hj => absurd hj (by omega))
    (fun n _ h => pk_le 3 3 (fun _ => H1 (T.mp h)) (fun z => absurd z (by omega)))
    (fun n i _ hi h hw => pk_le 3 i (fun z => absurd z (by omega)) (fun _ => ⟨pk_in i 3 hi, tr_blt (tr_at (h25 i hi) rfl) rfl
      (fun z => bad i hi (fun g => g.1 z))
      (fun z => ⟨pk_in i 3 hi, tr_bq (tr_at (h25 i hi) rfl)
        (fun z0 => ⟨pk_in i 3 hi, tr_bq (tr_at (h23 i hi) rfl) (fun t => bad i hi (fun g => g.2 ⟨z0, t⟩)) (fun t => nm_r (nI_1 i) (hw () (lt_s h ⟨z, fun g => t g.2⟩)))⟩)
        (fun z0 => nm_r (nI_1 i) (hw () (lt_s h ⟨z, fun g => z0 g.1⟩)))⟩)⟩))
theorem tr_isOutside {bx hc rc fa : Int32} {a1 a2 a3 a4 a5 a6 a7 a8 a9 a10 a11 a12 a13 a14 a15 a16 a17 a18 a19 a20 a21 a22 a23 a24 a25 a26 : Nat → Int32} {post : Int32 → Prop} {q a b : Nat} (hq : q < 2) (ha : a < 4) (hb : b < 4) (h21 : ∀ i, i < 3 → a21 i = tr_sx q i) (h22 : ∀ i, i < 3 → a22 i = tr_sy q i) (h24 : ∀ i, i < 3 → a24 i = tr_az q i)
    (H0 : post 0) (H1 : (∀ x, x < 4 → ∀ y, y < 4 → tr_cov q (4 * a + x) (4 * b + y) = false) → post 1) : wpX_isOutside post (bx, hc, rc, fa, a1, a2, a3, a4, a5, a6, a7, a8, a9, a10, a11, a12, a13, a14, a15, a16, a17, a18, a19, a20, a21, a22, a23, a24, a25, a26) (nI (4 * a)) (nI (4 * b)) := by
  have fin : ∀ (i : Nat) (J : Int32 → Prop), i < 3 → J (nI (i + 1)) → ∀ z0 z1 : Int32, z1 + z0 = tr_most q (4 * a) (4 * b) i → wX_isOutside_82 post J (nI (4 * a)) (nI (4 * b)) (nI i) z0 z1 bx hc rc fa a1 a2 a3 a4 a5 a6 a7 a8 a9 a10 a11 a12 a13 a14 a15 a16 a17 a18 a19 a20 a21 a22 a23 a24 a25 a26 := by
    intro i J hi hJ z0 z1 e
    exact nm_r e (br_c (fun _ => nm_r (nI_1 i) hJ) (fun z => H1 (tr_outT q hq a ha b hb i hi z)))
  have mid : ∀ (i : Nat) (J : Int32 → Prop), i < 3 → J (nI (i + 1)) → ∀ z0 z1 : Int32, z1 = tr_sd q (4 * a) (4 * b) i → z0 = (if tr_sx q i ≤ 0 then 0 else tr_sx q i * 3) → wX_isOutside_56 post J (nI (4 * a)) (nI (4 * b)) (nI i) z0 z1 bx hc rc fa a1 a2 a3 a4 a5 a6 a7 a8 a9 a10 a11 a12 a13 a14 a15 a16 a17 a18 a19 a20 a21 a22 a23 a24 a25 a26 := by
    intro i J hi hJ z0 z1 e e0
    refine nm_r (e' := tr_sd q (4 * a) (4 * b) i + (if tr_sx q i ≤ 0 then 0 else tr_sx q i * 3)) (by rw [e, e0]) ⟨pk_in i 3 hi, tr_ble (tr_at (h22 i hi) rfl) rfl (fun z => ?_) (fun z => ⟨pk_in i 3 hi, ?_⟩)⟩
    · refine fin i J hi hJ _ _ ?_
      unfold tr_most
      rw [if_pos z]
    · refine fin i J hi hJ _ _ ?_
      rw [tr_at (h22 i hi) rfl]
      unfold tr_most
      rw [if_neg z]
  exact pk_loop (σ := Unit) (fun n i _ => wX_isOutside_2 post (nI (4 * a)) (nI (4 * b)) bx hc rc fa a1 a2 a3 a4 a5 a6 a7 a8 a9 a10 a11 a12 a13 a14 a15 a16 a17 a18 a19 a20 a21 a22 a23 a24 a25 a26 n (nI i)) (fun _ _ => True) 3 0 () (by omega) trivial
    (fun n _ _ => pk_le 3 3 (fun _ => H0) (fun z => absurd z (by omega)))
    (fun n i _ hi _ hw => pk_le 3 i (fun z => absurd z (by omega)) (fun _ => ⟨pk_in i 3 hi, pk_in i 3 hi, pk_in i 3 hi, nm_r (e' := tr_sd q (4 * a) (4 * b) i) (by rw [tr_at (h24 i hi) rfl, tr_at (h21 i hi) rfl, tr_at (h22 i hi) rfl]; rfl)
      ⟨pk_in i 3 hi, tr_ble (tr_at (h21 i hi) rfl) rfl (fun z => mid i _ hi (hw () trivial) _ _ rfl (by rw [if_pos z]))
        (fun z => ⟨pk_in i 3 hi, mid i _ hi (hw () trivial) _ _ rfl (by rw [tr_at (h21 i hi) rfl, if_neg z])⟩)⟩⟩))
theorem tr_depthOf {bx hc rc fa : Int32} {a1 a2 a3 a4 a5 a6 a7 a8 a9 a10 a11 a12 a13 a14 a15 a16 a17 a18 a19 a20 a21 a22 a23 a24 a25 a26 : Nat → Int32} {post : Int32 → Prop} {r q x y d : Nat} (hr : r < 12) (hq : q < 2) (hd : d < 256) (h14 : ∀ i, i < 3 → a14 (3 * r + i) = nI d) (h20 : a20 r = 146689) (h25 : ∀ i, i < 3 → a25 i = tr_sd q x y i)
    (H : post (nI d)) : wpX_depthOf post (bx, hc, rc, fa, a1, a2, a3, a4, a5, a6, a7, a8, a9, a10, a11, a12, a13, a14, a15, a16, a17, a18, a19, a20, a21, a22, a23, a24, a25, a26) (nI r) := by
  refine ⟨pk_in (3 * r) 36 (by omega) (tr_m3 r), pk_in (3 * r + 1) 36 (by omega) (tr_ix3 r 1), pk_in (3 * r + 2) 36 (by omega) (tr_ix3 r 2), ?_⟩
  refine nm_r (e' := tr_acc (fun j => tr_sd q x y j * nI d) 3) ?_ ⟨pk_in r 12 hr, tr_ble (tr_at h20 rfl) rfl (fun z => absurd z (by decide)) (fun _ => ⟨pk_in r 12 hr, ?_, ?_⟩)⟩
  · have k1 : a14 ((3 : Int32) * nI r + 1).toNatClampNeg = nI d := tr_at (h14 1 (by omega)) (tr_ix3 r 1)
    have k2 : a14 ((3 : Int32) * nI r + 2).toNatClampNeg = nI d := tr_at (h14 2 (by omega)) (tr_ix3 r 2)
    rw [h25 0 (by omega), h25 1 (by omega), h25 2 (by omega), tr_at (h14 0 (by omega)) (tr_m3 r), k1, k2]
    show _ = ((0 + tr_sd q x y 0 * nI d) + tr_sd q x y 1 * nI d) + tr_sd q x y 2 * nI d
    rw [Int32.zero_add]
  · rw [tr_at h20 rfl]; decide
  · rw [tr_at h20 rfl, tr_acc3 hq hd]; exact H
theorem tr_partOf {bx hc rc fa : Int32} {a1 a2 a3 a4 a5 a6 a7 a8 a9 a10 a11 a12 a13 a14 a15 a16 a17 a18 a19 a20 a21 a22 a23 a24 a25 a26 : Nat → Int32} {post : Int32 → Prop} {r q x y : Nat} {c s : Int32} (hr : r < 12) (hq : q < 2) (h15 : ∀ i, i < 3 → a15 (3 * r + i) = c) (h20 : a20 r = 146689) (h25 : ∀ i, i < 3 → a25 i = tr_sd q x y i)
    (H : post (tr_pa c s)) : wpX_partOf post (bx, hc, rc, fa, a1, a2, a3, a4, a5, a6, a7, a8, a9, a10, a11, a12, a13, a14, a15, a16, a17, a18, a19, a20, a21, a22, a23, a24, a25, a26) (nI r) s := by
  obtain ⟨k, hk, e⟩ := tr_paE c s
  exact pk_loop (fun n i z => wX_partOf_5 post (nI r) s bx hc rc fa a1 a2 a3 a4 a5 a6 a7 a8 a9 a10 a11 a12 a13 a14 a15 a16 a17 a18 a19 a20 a21 a22 a23 a24 a25 a26 n z (nI i)) (fun i z => z = tr_acc (fun j => tr_sd q x y j * nI k) i) 3 0 0 (by omega) rfl
    (fun n z h => pk_le 3 3 (fun _ => ⟨pk_in r 12 hr, tr_ble (tr_at h20 rfl) rfl (fun z => absurd z (by decide)) (fun _ => ⟨pk_in r 12 hr, (by rw [tr_at h20 rfl]; decide), (by rw [tr_at h20 rfl, h, tr_acc3 hq hk, ← e]; exact H)⟩)⟩) (fun z => absurd z (by omega)))
    (fun n i z hi h hw => pk_le 3 i (fun z => absurd z (by omega)) (fun _ => ⟨pk_in i 3 hi, pk_in (3 * r + i) 36 (by omega) (tr_ix3 r i),
      nm_r (e' := tr_acc (fun j => tr_sd q x y j * nI k) (i + 1)) (by rw [tr_at (h25 i hi) rfl, tr_at (h15 i hi) (tr_ix3 r i), h, ← e]; rfl) (nm_r (nI_1 i) (hw _ rfl))⟩))
theorem tr_cellOf {bx hc rc fa : Int32} {a1 a2 a3 a4 a5 a6 a7 a8 a9 a10 a11 a12 a13 a14 a15 a16 a17 a18 a19 a20 a21 a22 a23 a24 a25 a26 : Nat → Int32} {post : Int32 → Prop} {r q x y U V : Nat} (hr : r < 12) (hq : q < 2) (hU : U < 128) (hV : V < 128) (h16 : ∀ i, i < 3 → a16 (3 * r + i) = nI U) (h17 : ∀ i, i < 3 → a17 (3 * r + i) = nI V) (h20 : a20 r = 146689) (h25 : ∀ i, i < 3 → a25 i = tr_sd q x y i)
    (H : post (nI (8 * (V / 16) + U / 16))) : wpX_cellOf post (bx, hc, rc, fa, a1, a2, a3, a4, a5, a6, a7, a8, a9, a10, a11, a12, a13, a14, a15, a16, a17, a18, a19, a20, a21, a22, a23, a24, a25, a26) (nI r) := by
  refine pk_loop (fun n i (z : Int32 × Int32) => wX_cellOf_7 post (nI r) bx hc rc fa a1 a2 a3 a4 a5 a6 a7 a8 a9 a10 a11 a12 a13 a14 a15 a16 a17 a18 a19 a20 a21 a22 a23 a24 a25 a26 n z.1 z.2 (nI i)) (fun i z => z.1 = tr_acc (fun j => tr_sd q x y j * nI U) i ∧ z.2 = tr_acc (fun j => tr_sd q x y j * nI V) i) 3 0 (0, 0) (by omega) ⟨rfl, rfl⟩
    (fun n z h => pk_le 3 3 (fun _ => ⟨pk_in r 12 hr, tr_ble (tr_at h20 rfl) rfl (fun z => absurd z (by decide)) (fun _ => ⟨pk_in r 12 hr, ?_⟩)⟩) (fun z => absurd z (by omega)))
    (fun n i z hi h hw => pk_le 3 i (fun z => absurd z (by omega)) (fun _ => ⟨pk_in i 3 hi, pk_in (3 * r + i) 36 (by omega) (tr_ix3 r i),
      nm_r (e' := tr_acc (fun j => tr_sd q x y j * nI U) (i + 1)) (by rw [tr_at (h25 i hi) rfl, tr_at (h16 i hi) (tr_ix3 r i), h.1]; rfl) ⟨pk_in i 3 hi, pk_in (3 * r + i) 36 (by omega) (tr_ix3 r i),
      nm_r (e' := tr_acc (fun j => tr_sd q x y j * nI V) (i + 1)) (by rw [tr_at (h25 i hi) rfl, tr_at (h17 i hi) (tr_ix3 r i), h.2]; rfl) (nm_r (nI_1 i) (hw (_, _) ⟨rfl, rfl⟩))⟩⟩))
  rw [tr_at h20 rfl, h.1, h.2]
  refine ⟨by decide, by decide, by decide, by decide, ?_⟩
  rw [tr_acc3 hq (by omega), tr_acc3 hq (by omega)]
  have e1 : nI V / 16 = nI (V / 16) := pk_div (d := 16) (by omega) (by omega) (by omega)
  have e2 : nI U / 16 = nI (U / 16) := pk_div (d := 16) (by omega) (by omega) (by omega)
  rw [e1, e2, tr_ix8]
  exact H
theorem tr_mixed {post : Int32 → Prop} {m o t : Int32} (hm : m = 0 ∨ m = 1 ∨ m = 2 ∨ m = 3) (H : post (tr_mx m o t)) : wpX_mixed post () m o t := by
  unfold tr_mx at H
  refine br_c (fun h => ?_) (fun h0 => br_c (fun h => br_c (fun g => ?_) (fun g => ?_)) (fun h1 => br_c (fun h => ⟨by decide, ?_⟩) (fun h2 => ⟨by decide, ?_⟩)))
  · rwa [if_pos h] at H
  · rwa [if_neg h0, if_pos h, if_pos g] at H
  · rwa [if_neg h0, if_pos h, if_neg g] at H
  · rwa [if_neg h0, if_neg h1, if_pos h] at H
  · have h3 : m = 3 := by
      rcases hm with h | h | h | h
      · exact absurd h h0
      · exact absurd h h1
      · exact absurd h h2
      · exact h
    rwa [if_neg h0, if_neg h1, if_neg h2, if_pos h3] at H
theorem tr_mixedL {post : Int32 → Prop} {m o t : Int32} (H : post (tr_mx m o t)) : wpL_mixed post () m o t := by
  unfold tr_mx at H
  refine br_c (fun h => ?_) (fun h0 => br_c (fun h => br_c (fun g => ?_) (fun g => ?_)) (fun h1 => br_c (fun h => ⟨by decide, ?_⟩) (fun h2 => br_c (fun h => ⟨by decide, ?_⟩) (fun h3 => ?_))))
  · rwa [if_pos h] at H
  · rwa [if_neg h0, if_pos h, if_pos g] at H
  · rwa [if_neg h0, if_pos h, if_neg g] at H
  · rwa [if_neg h0, if_neg h1, if_pos h] at H
  · rwa [if_neg h0, if_neg h1, if_neg h2, if_pos h] at H
  · rwa [if_neg h0, if_neg h1, if_neg h2, if_neg h3] at H
theorem tr_newMark {bx hc rc fa : Int32} {a1 a2 a3 a4 a5 a6 a7 a8 a9 a10 a11 a12 a13 a14 a15 a16 a17 a18 a19 a20 a21 a22 a23 a24 a25 a26 : Nat → Int32} {post : Int32 → Prop} {r : Nat} {ru : Nat → Int32} {m : Int32} (hr : r < 12) (h19 : ∀ k, k < 8 → a19 (8 * r + k) = ru k) (H : post (tr_mk (ru 4) m (ru 5))) : wpX_newMark post (bx, hc, rc, fa, a1, a2, a3, a4, a5, a6, a7, a8, a9, a10, a11, a12, a13, a14, a15, a16, a17, a18, a19, a20, a21, a22, a23, a24, a25, a26) (nI r) m := by
  unfold tr_mk at H
  refine ⟨pk_in (8 * r + 4) 96 (by omega) (tr_ix8 r 4), nm_r (tr_at (h19 4 (by omega)) (tr_ix8 r 4)) ⟨pk_in (8 * r + 5) 96 (by omega) (tr_ix8 r 5), nm_r (tr_at (h19 5 (by omega)) (tr_ix8 r 5)) ?_⟩⟩
  refine br_c (fun h => ?_) (fun h0 => br_c (fun h => ?_) (fun h1 => br_c (fun h => ?_) (fun h2 => ?_)))
  · rwa [if_pos h] at H
  · rwa [if_neg h0, if_pos h] at H
  · rwa [if_neg h0, if_neg h1, if_pos h] at H
  · rwa [if_neg h0, if_neg h1, if_neg h2] at H
theorem tr_passes {bx hc rc fa : Int32} {a1 a2 a3 a4 a5 a6 a7 a8 a9 a10 a11 a12 a13 a14 a15 a16 a17 a18 a19 a20 a21 a22 a23 a24 a25 a26 : Nat → Int32} {post : Int32 → Prop} {r p d od : Nat} {ru : Nat → Int32} {om : Int32} (hr : r < 12) (hp : p < 256) (hd : d < 256) (hod : od < 256) (h19 : ∀ k, k < 8 → a19 (8 * r + k) = ru k) (h3 : a3 p = om) (h2 : a2 p = nI od)
    (H1 : tr_ps ru om d od = true → post 1) (H0 : tr_ps ru om d od = false → post 0) : wpX_passes post (bx, hc, rc, fa, a1, a2, a3, a4, a5, a6, a7, a8, a9, a10, a11, a12, a13, a14, a15, a16, a17, a18, a19, a20, a21, a22, a23, a24, a25, a26) (nI r) (nI p) (nI d) := by
  have no : ¬ ((¬ (ru 3 = 1 ∧ ¬ om = ru 5) ∧ ¬ (ru 3 = 2 ∧ om = ru 5)) ∧ (ru 0 = 1 ∨ (ru 0 = 2 ∧ d < od) ∨ (ru 0 = 3 ∧ d ≤ od))) → post 0 := fun h => H0 (decide_eq_false h)
  have yes : ((¬ (ru 3 = 1 ∧ ¬ om = ru 5) ∧ ¬ (ru 3 = 2 ∧ om = ru 5)) ∧ (ru 0 = 1 ∨ (ru 0 = 2 ∧ d < od) ∨ (ru 0 = 3 ∧ d ≤ od))) → post 1 := fun h => H1 (decide_eq_true h)
  have k99 : (¬ (ru 3 = 1 ∧ ¬ om = ru 5) ∧ ¬ (ru 3 = 2 ∧ om = ru 5)) → ¬ ru 0 = 1 → (ru 0 = 2 → ¬ d < od) → wX_passes_99 post (nI p) (nI d) (ru 0) bx hc rc fa a1 a2 a3 a4 a5 a6 a7 a8 a9 a10 a11 a12 a13 a14 a15 a16 a17 a18 a19 a20 a21 a22 a23 a24 a25 a26 := by
    intro hm n1 n2
    refine br_c (fun e3 => ⟨pk_in p 256 hp, tr_blt (tr_at h2 rfl) rfl (fun z => no (fun g => ?_)) (fun z => yes ⟨hm, Or.inr (Or.inr ⟨e3, ?_⟩)⟩)⟩) (fun e3 => no (fun g => ?_))
    · rw [nI_ltI (by omega) (by omega)] at z
      rcases g.2 with g | g | g
      · exact n1 g
      · exact n2 g.1 g.2
      · omega
    · rw [nI_ltI (by omega) (by omega)] at z
      omega
    · rcases g.2 with g | g | g
      · exact n1 g
      · exact n2 g.1 g.2
      · exact e3 g.1
  have k64 : (¬ (ru 3 = 1 ∧ ¬ om = ru 5) ∧ ¬ (ru 3 = 2 ∧ om = ru 5)) → wX_passes_64 post (nI r) (nI p) (nI d) bx hc rc fa a1 a2 a3 a4 a5 a6 a7 a8 a9 a10 a11 a12 a13 a14 a15 a16 a17 a18 a19 a20 a21 a22 a23 a24 a25 a26 := by
    intro hm
    refine ⟨pk_in (8 * r + 0) 96 (by omega) (tr_ix8 r 0), nm_r (tr_at (h19 0 (by omega)) (tr_ix8 r 0)) (br_c (fun h => yes ⟨hm, Or.inl h⟩) (fun n1 => br_c (fun e2 => ⟨pk_in p 256 hp, tr_blt rfl (tr_at h2 rfl) (fun z => yes ⟨hm, Or.inr (Or.inl ⟨e2, ?_⟩)⟩) (fun z => k99 hm n1 (fun _ => ?_))⟩) (fun n2 => k99 hm n1 (fun g => absurd g n2))))⟩
    · rw [nI_ltI (by omega) (by omega)] at z
      exact z
    · rw [nI_ltI (by omega) (by omega)] at z
      exact z
  refine ⟨pk_in (8 * r + 3) 96 (by omega) (tr_ix8 r 3), nm_r (tr_at (h19 3 (by omega)) (tr_ix8 r 3)) ⟨pk_in p 256 hp, pk_in (8 * r + 5) 96 (by omega) (tr_ix8 r 5), ?_⟩⟩
  have k5 : a19 ((8 : Int32) * nI r + 5).toNatClampNeg = ru 5 := tr_at (h19 5 (by omega)) (tr_ix8 r 5)
  rw [tr_at h3 rfl, k5]
  refine br_c (fun e => ?_) (fun e => ?_)
  · refine br_c (fun e1 => br_f (by decide) (br_c (fun e2 => br_f (by decide) (no (fun g => g.1.2 ⟨e2, e⟩))) (fun e2 => k64 ⟨fun g => g.2 e, fun g => e2 g.1⟩))) (fun e1 => br_c (fun e2 => br_f (by decide) (no (fun g => g.1.2 ⟨e2, e⟩))) (fun e2 => k64 ⟨fun g => e1 g.1, fun g => e2 g.1⟩))
  · refine br_c (fun e1 => br_t rfl (no (fun g => g.1.1 ⟨e1, e⟩))) (fun e1 => br_c (fun e2 => br_t rfl (k64 ⟨fun g => e1 g.1, fun g => e g.2⟩)) (fun e2 => k64 ⟨fun g => e1 g.1, fun g => e g.2⟩))
theorem tr_behind {bx hc rc fa : Int32} {a1 a2 a3 a4 a5 a6 a7 a8 a9 a10 a11 a12 a13 a14 a15 a16 a17 a18 a19 a20 a21 a22 a23 a24 a25 a26 : Nat → Int32} {post : Int32 → Prop} {r d : Nat} {te : Int32} (hr : r < 12) (h14 : ∀ i, i < 3 → a14 (3 * r + i) = nI d) (h19 : a19 (8 * r + 0) = te)
    (H0 : post 0) (H1 : (te = 0 ∨ (te = 2 ∧ ¬ nI d < fa) ∨ (2 ≤ te ∧ ¬ te = 2 ∧ ¬ nI d ≤ fa)) → post 1) : wpX_isBehindAll post (bx, hc, rc, fa, a1, a2, a3, a4, a5, a6, a7, a8, a9, a10, a11, a12, a13, a14, a15, a16, a17, a18, a19, a20, a21, a22, a23, a24, a25, a26) (nI r) := by
  refine ⟨pk_in (8 * r + 0) 96 (by omega) (tr_ix8 r 0), nm_r (tr_at h19 (tr_ix8 r 0)) (br_c (fun g2 => ⟨pk_in (3 * r) 36 (by omega) (tr_m3 r), nm_r (tr_at (h14 0 (by omega)) (tr_m3 r)) ⟨pk_in (3 * r + 1) 36 (by omega) (tr_ix3 r 1), ?_⟩⟩) (fun _ => br_c (fun e => H1 (Or.inl e)) (fun _ => H0)))⟩
  have k : wX_isBehindAll_93 post te (nI d) bx hc rc fa a1 a2 a3 a4 a5 a6 a7 a8 a9 a10 a11 a12 a13 a14 a15 a16 a17 a18 a19 a20 a21 a22 a23 a24 a25 a26 := br_c (fun e => br_c (fun _ => H0) (fun z => H1 (Or.inr (Or.inl ⟨e, z⟩)))) (fun e => br_c (fun _ => H0) (fun z => H1 (Or.inr (Or.inr ⟨g2, e, z⟩))))
  exact tr_ble rfl (tr_at (h14 1 (by omega)) (tr_ix3 r 1)) (fun _ => ⟨pk_in (3 * r + 2) 36 (by omega) (tr_ix3 r 2), tr_ble rfl (tr_at (h14 2 (by omega)) (tr_ix3 r 2)) (fun _ => k) (fun z => absurd (Int32.le_refl _) z)⟩) (fun z => absurd (Int32.le_refl _) z)
end
section
/-! ===== edges, sides, the farthest depth ===== -/
theorem tr_fill {f s : Nat → Int32} {i k : Nat} {x : Int32} (hk : k = i) (h : ∀ j, j < i → s j = f j) (hx : x = f i) : ∀ j, j < i + 1 → upd s k x j = f j := by
  intro j hj
  rw [hk]
  by_cases e : j = i
  · rw [e, pk_us, hx]
  · rw [pk_un e]
    exact h j (by omega)
theorem tr_mod3 {i : Nat} (k : Nat) (hi : i + k < 1000) : (nI i + nI k) - (nI i + nI k) / 3 * 3 = nI ((i + k) % 3) := by
  rw [nI_add]
  exact pk_rem (d := 3) (by omega) (by omega) (by omega)
theorem tr_edIx (r i k : Nat) (hi : i + k < 1000) : (3 : Int32) * nI r + ((nI i + nI k) - (nI i + nI k) / 3 * 3) = nI (3 * r + (i + k) % 3) := by
  rw [tr_mod3 k hi, tr_ix3]
theorem tr_takeEdges {bx hc rc fa : Int32} {a1 a2 a3 a4 a5 a6 a7 a8 a9 a10 a11 a12 a13 a14 a15 a16 a17 a18 a19 a20 a21 a22 a23 a24 a25 a26 : Nat → Int32} {post : St2 → Prop} {r q : Nat} (hr : r < 12) (h12 : ∀ i, i < 3 → a12 (3 * r + i) = tr_rx q i) (h13 : ∀ i, i < 3 → a13 (3 * r + i) = tr_ry q i)
    (H : ∀ (a21' a22' a23' a24' : Nat → Int32), (∀ i, i < 3 → a21' i = tr_sx q i) → (∀ i, i < 3 → a22' i = tr_sy q i) → (∀ i, i < 3 → a23' i = tr_tk q i) → (∀ i, i < 3 → a24' i = tr_az q i) → post (bx, hc, rc, fa, a1, a2, a3, a4, a5, a6, a7, a8, a9, a10, a11, a12, a13, a14, a15, a16, a17, a18, a19, a20, a21', a22', a23', a24', a25, a26)) : wpX_takeEdges post (bx, hc, rc, fa, a1, a2, a3, a4, a5, a6, a7, a8, a9, a10, a11, a12, a13, a14, a15, a16, a17, a18, a19, a20, a21, a22, a23, a24, a25, a26) (nI r) := by
  refine pk_loop (fun n i (s : (Nat → Int32) × (Nat → Int32) × (Nat → Int32) × (Nat → Int32)) => wX_takeEdges_2 post (nI r) bx hc rc fa n (nI i) a1 a2 a3 a4 a5 a6 a7 a8 a9 a10 a11 a12 a13 a14 a15 a16 a17 a18 a19 a20 s.1 s.2.1 s.2.2.1 s.2.2.2 a25 a26)
    (fun i s => (∀ j, j < i → s.1 j = tr_sx q j) ∧ (∀ j, j < i → s.2.1 j = tr_sy q j) ∧ (∀ j, j < i → s.2.2.1 j = tr_tk q j) ∧ (∀ j, j < i → s.2.2.2 j = tr_az q j)) 3 0 (a21, a22, a23, a24) (by omega)
    ⟨fun j hj => absurd hj (by omega), fun j hj => absurd hj (by omega), fun j hj => absurd hj (by omega), fun j hj => absurd hj (by omega)⟩
    (fun n s h => pk_le 3 3 (fun _ => H s.1 s.2.1 s.2.2.1 s.2.2.2 h.1 h.2.1 h.2.2.1 h.2.2.2) (fun z => absurd z (by omega))) ?_
  intro n i s hi h hw
  have e3 : (3 : Int32) * nI r + ((nI i + 1) - (nI i + 1) / 3 * 3) = nI (3 * r + (i + 1) % 3) := tr_edIx r i 1 (by omega)
  have e4 : (3 : Int32) * nI r + ((nI i + 2) - (nI i + 2) / 3 * 3) = nI (3 * r + (i + 2) % 3) := tr_edIx r i 2 (by omega)
  have m1 : (i + 1) % 3 < 3 := Nat.mod_lt _ (by omega)
  have m2 : (i + 2) % 3 < 3 := Nat.mod_lt _ (by omega)
  have fin : ∀ z : Int32, z = tr_tk q i → vp_nar .boolean z = z → wX_takeEdges_107 post (wX_takeEdges_2 post (nI r) bx hc rc fa n) (nI r) (nI i) (nI (3 * r + (i + 1) % 3)) (tr_dx q i) (tr_dy q i) z (nI i) bx hc rc fa a1 a2 a3 a4 a5 a6 a7 a8 a9 a10 a11 a12 a13 a14 a15 a16 a17 a18 a19 a20 (upd s.1 i (tr_sx q i)) (upd s.2.1 i (tr_sy q i)) s.2.2.1 s.2.2.2 a25 a26 := by
    intro z hz hn
    refine ⟨pk_in i 3 hi, nm_r (e' := upd s.2.2.1 i (tr_tk q i)) (by rw [hn, hz, nI_clamp (by omega)]) ⟨pk_in (3 * r + (i + 1) % 3) 36 (by omega), pk_in (3 * r + (i + 1) % 3) 36 (by omega), pk_in i 3 hi, nm_r (e' := upd s.2.2.2 i (tr_az q i)) ?_ (nm_r (nI_1 i) ?_)⟩⟩
    · rw [tr_at (h12 _ m1) rfl, tr_at (h13 _ m1) rfl, nI_clamp (by omega)]
      rfl
    · exact hw (_, _, _, _) ⟨tr_fill rfl h.1 rfl, tr_fill rfl h.2.1 rfl, tr_fill rfl h.2.2.1 rfl, tr_fill rfl h.2.2.2 rfl⟩
  refine pk_le 3 i (fun z => absurd z (by omega)) (fun _ => ⟨by decide, nm_r e3 ⟨by decide, nm_r e4 ⟨pk_in (3 * r + (i + 2) % 3) 36 (by omega), pk_in (3 * r + (i + 1) % 3) 36 (by omega), nm_r (e' := tr_dx q i) ?_ ⟨pk_in (3 * r + (i + 2) % 3) 36 (by omega), pk_in (3 * r + (i + 1) % 3) 36 (by omega), nm_r (e' := tr_dy q i) ?_ ⟨pk_in i 3 hi, nm_r (e' := upd s.1 i (tr_sx q i)) ?_ ⟨pk_in i 3 hi, nm_r (e' := upd s.2.1 i (tr_sy q i)) ?_ ?_⟩⟩⟩⟩⟩⟩)
  · rw [tr_at (h12 _ m2) rfl, tr_at (h12 _ m1) rfl]; rfl
  · rw [tr_at (h13 _ m2) rfl, tr_at (h13 _ m1) rfl]; rfl
  · rw [nI_clamp (by omega)]; rfl
  · rw [nI_clamp (by omega)]; rfl
  · refine br_c (fun c => fin 1 (by unfold tr_tk; rw [if_pos c]) (by rfl)) (fun c => br_c (fun c0 => br_c (fun c1 => fin 0 (by unfold tr_tk; rw [if_neg c, if_pos c0, if_pos c1]) (by rfl)) (fun c1 => fin 1 (by unfold tr_tk; rw [if_neg c, if_pos c0, if_neg c1]) (by rfl))) (fun c0 => fin 0 (by unfold tr_tk; rw [if_neg c, if_neg c0]) (by rfl)))
theorem tr_goTo {bx hc rc fa : Int32} {a1 a2 a3 a4 a5 a6 a7 a8 a9 a10 a11 a12 a13 a14 a15 a16 a17 a18 a19 a20 a21 a22 a23 a24 a25 a26 : Nat → Int32} {post : St2 → Prop} {q x y : Nat} (h21 : ∀ i, i < 3 → a21 i = tr_sx q i) (h22 : ∀ i, i < 3 → a22 i = tr_sy q i) (h24 : ∀ i, i < 3 → a24 i = tr_az q i)
    (H : ∀ (a25' : Nat → Int32), (∀ i, i < 3 → a25' i = tr_sd q x y i) → post (bx, hc, rc, fa, a1, a2, a3, a4, a5, a6, a7, a8, a9, a10, a11, a12, a13, a14, a15, a16, a17, a18, a19, a20, a21, a22, a23, a24, a25', a26)) : wpX_goTo post (bx, hc, rc, fa, a1, a2, a3, a4, a5, a6, a7, a8, a9, a10, a11, a12, a13, a14, a15, a16, a17, a18, a19, a20, a21, a22, a23, a24, a25, a26) (nI x) (nI y) :=
  pk_loop (fun n i s => wX_goTo_2 post (nI x) (nI y) bx hc rc fa n (nI i) a1 a2 a3 a4 a5 a6 a7 a8 a9 a10 a11 a12 a13 a14 a15 a16 a17 a18 a19 a20 a21 a22 a23 a24 s a26) (fun i s => ∀ j, j < i → s j = tr_sd q x y j) 3 0 a25 (by omega) (fun j hj => absurd hj (by omega))
    (fun n s h => pk_le 3 3 (fun _ => H s h) (fun z => absurd z (by omega)))
    (fun n i s hi h hw => pk_le 3 i (fun z => absurd z (by omega)) (fun _ => ⟨pk_in i 3 hi, pk_in i 3 hi, pk_in i 3 hi, pk_in i 3 hi, nm_r (e' := upd s i (tr_sd q x y i)) (by rw [tr_at (h24 i hi) rfl, tr_at (h21 i hi) rfl, tr_at (h22 i hi) rfl, nI_clamp (by omega)]; rfl) (nm_r (nI_1 i) (hw _ (tr_fill rfl h rfl)))⟩))
theorem tr_goOn {bx hc rc fa : Int32} {a1 a2 a3 a4 a5 a6 a7 a8 a9 a10 a11 a12 a13 a14 a15 a16 a17 a18 a19 a20 a21 a22 a23 a24 a25 a26 : Nat → Int32} {post : St2 → Prop} {q x y : Nat} (h21 : ∀ i, i < 3 → a21 i = tr_sx q i) (h25 : ∀ i, i < 3 → a25 i = tr_sd q x y i)
    (H : ∀ (a25' : Nat → Int32), (∀ i, i < 3 → a25' i = tr_sd q (x + 1) y i) → post (bx, hc, rc, fa, a1, a2, a3, a4, a5, a6, a7, a8, a9, a10, a11, a12, a13, a14, a15, a16, a17, a18, a19, a20, a21, a22, a23, a24, a25', a26)) : wpX_goOn post (bx, hc, rc, fa, a1, a2, a3, a4, a5, a6, a7, a8, a9, a10, a11, a12, a13, a14, a15, a16, a17, a18, a19, a20, a21, a22, a23, a24, a25, a26) := by
  refine nm_r (e' := upd a25 0 (tr_sd q (x + 1) y 0)) (by rw [h25 0 (by omega), h21 0 (by omega), tr_step]) (nm_r (e' := upd (upd a25 0 (tr_sd q (x + 1) y 0)) 1 (tr_sd q (x + 1) y 1)) ?_ (nm_r (e' := upd (upd (upd a25 0 (tr_sd q (x + 1) y 0)) 1 (tr_sd q (x + 1) y 1)) 2 (tr_sd q (x + 1) y 2)) ?_ (H _ ?_)))
  · rw [pk_un (by omega), h25 1 (by omega), h21 1 (by omega), tr_step]
  · rw [pk_un (by omega), pk_un (by omega), h25 2 (by omega), h21 2 (by omega), tr_step]
  · exact tr_fill rfl (tr_fill rfl (tr_fill rfl (fun j hj => absurd hj (by omega)) rfl) rfl) rfl
theorem tr_ixF {l t k : Nat} (hk : k < 16) : ((16 * (nI t + (nI k >>> ((2 : Int32) &&& 31)))) + nI l) + (nI k &&& 3) = nI (16 * (t + k / 4) + l + k % 4) := by
  have e1 : nI k >>> ((2 : Int32) &&& 31) = nI (k / 4) := pk_shrN (by omega) _ 2 (by decide)
  have e2 : nI k &&& 3 = nI (k % 4) := pk_andN (by omega) 2 (by decide)
  rw [e1, e2, nI_add, tr_ix16, nI_add]
theorem tr_far {bx hc rc fa : Int32} {a1 a2 a3 a4 a5 a6 a7 a8 a9 a10 a11 a12 a13 a14 a15 a16 a17 a18 a19 a20 a21 a22 a23 a24 a25 a26 : Nat → Int32} {post : St2 → Prop} {l t : Nat} (hl : l ≤ 12) (ht : t ≤ 12) (H : ∀ (fa' : Int32), (∀ x y, x < 4 → y < 4 → a2 (16 * (t + y) + l + x) ≤ fa') → post (bx, hc, rc, fa', a1, a2, a3, a4, a5, a6, a7, a8, a9, a10, a11, a12, a13, a14, a15, a16, a17, a18, a19, a20, a21, a22, a23, a24, a25, a26)) : wpX_findFarthest post (bx, hc, rc, fa, a1, a2, a3, a4, a5, a6, a7, a8, a9, a10, a11, a12, a13, a14, a15, a16, a17, a18, a19, a20, a21, a22, a23, a24, a25, a26) (nI l) (nI t) := by
  refine pk_loop (fun n k s => wX_findFarthest_7 post (nI l) (nI t) bx hc rc a1 a2 a3 a4 a5 a6 a7 a8 a9 a10 a11 a12 a13 a14 a15 a16 a17 a18 a19 a20 a21 a22 a23 a24 a25 a26 n (nI k) s) (fun k s => ∀ j, j < k → a2 (16 * (t + j / 4) + l + j % 4) ≤ s) 16 0 0 (by omega) (fun j hj => absurd hj (by omega))
    (fun n s h => pk_le 16 16 (fun _ => H s (fun x y hx hy => ?_)) (fun z => absurd z (by omega))) ?_
  · have g := h (4 * y + x) (by omega)
    rwa [show (4 * y + x) / 4 = y by omega, show (4 * y + x) % 4 = x by omega] at g
  · intro n k s hk h hw
    refine pk_le 16 k (fun z => absurd z (by omega)) (fun _ => ⟨pk_in (16 * (t + k / 4) + l + k % 4) 256 (by omega) (tr_ixF hk), nm_r (tr_at rfl (tr_ixF hk)) (br_c (fun z => nm_r (nI_1 k) (hw s (lt_s h z))) (fun z => nm_r (nI_1 k) (hw _ (lt_s (fun j hj => ?_) (Int32.le_refl _)))))⟩)
    exact Int32.le_trans (h j hj) (Int32.le_of_lt (Int32.not_le.mp z))
end
section
/-! ===== one pixel ===== -/
def tr_R (d U V : Nat) (c bv : Int32) (ru : Nat → Int32) (a12 a13 a14 a15 a16 a17 a18 a19 a20 : Nat → Int32) (r q : Nat) : Prop :=
  (∀ i, i < 3 → a12 (3 * r + i) = tr_rx q i) ∧ (∀ i, i < 3 → a13 (3 * r + i) = tr_ry q i) ∧ (∀ i, i < 3 → a14 (3 * r + i) = nI d) ∧ (∀ i, i < 3 → a15 (3 * r + i) = c) ∧ (∀ i, i < 3 → a16 (3 * r + i) = nI U) ∧ (∀ i, i < 3 → a17 (3 * r + i) = nI V) ∧ a18 r = bv ∧ (∀ k, k < 8 → a19 (8 * r + k) = ru k) ∧ a20 r = 146689
theorem tr_pic_hit {old : Int32} {od : Nat} {om du : Int32} {d : Nat} {mk wr : Int32} {H : Nat → Bool} {hc : Int32} {a1 a2 a3 a1' a2' a3' : Nat → Int32} {p : Nat} (h : tr_Pic old od om du d mk wr H hc a1 a2 a3) (hp : p < 256) (hH : H p = false)
    (e1 : ∀ j, j ≠ p → a1' j = a1 j) (f1 : a1' p = du) (e2 : ∀ j, j ≠ p → a2' j = a2 j) (f2 : a2' p = (if wr = 1 then nI d else nI od)) (e3 : ∀ j, j ≠ p → a3' j = a3 j) (f3 : a3' p = mk) :
    tr_Pic old od om du d mk wr (fun j => H j || decide (j = p)) (hc + 1) a1' a2' a3' := by
  refine ⟨?_, fun j hj => ?_⟩
  · rw [h.1, tr_cnt_add 256 hp hH, nI_1]
  · by_cases e : j = p
    · subst e
      have t : (H j || decide (j = j)) = true := by simp
      show a1' j = (if (H j || decide (j = j)) = true then du else old) ∧ a2' j = (if (H j || decide (j = j)) = true ∧ wr = 1 then nI d else nI od) ∧ a3' j = (if (H j || decide (j = j)) = true then mk else om)
      rw [t, f1, f2, f3, if_pos rfl, if_pos rfl]
      refine ⟨rfl, ?_, rfl⟩
      by_cases w : wr = 1
      · rw [if_pos w, if_pos ⟨rfl, w⟩]
      · rw [if_neg w, if_neg (fun g => w g.2)]
    · have t : (H j || decide (j = p)) = H j := by simp [e]
      show a1' j = (if (H j || decide (j = p)) = true then du else old) ∧ a2' j = (if (H j || decide (j = p)) = true ∧ wr = 1 then nI d else nI od) ∧ a3' j = (if (H j || decide (j = p)) = true then mk else om)
      rw [t, e1 j e, e2 j e, e3 j e]
      exact h.2 j hj
theorem tr_touch126 {bx hc rc fa : Int32} {a1 a2 a3 a4 a5 a6 a7 a8 a9 a10 a11 a12 a13 a14 a15 a16 a17 a18 a19 a20 a21 a22 a23 a24 a25 a26 : Nat → Int32} {post : St2 → Prop} {r q x y p : Nat} {ru : Nat → Int32} {c cl cl' old : Int32} (hr : r < 12) (hq : q < 2) (hp : p < 256) (h15 : ∀ i, i < 3 → a15 (3 * r + i) = c) (h20 : a20 r = 146689) (h25 : ∀ i, i < 3 → a25 i = tr_sd q x y i)
    (hm : ru 2 = 0 ∨ ru 2 = 1 ∨ ru 2 = 2 ∨ ru 2 = 3) (h1 : a1 p = old) (hcl : ∀ s : Int32, (s = 16 ∨ s = 8 ∨ s = 0) → tr_pa c s * tr_pa cl' s / 255 = tr_own (ru 7) c cl s)
    (K : post (bx, hc, rc, fa, upd a1 p (tr_due ru c cl old), a2, a3, a4, a5, a6, a7, a8, a9, a10, a11, a12, a13, a14, a15, a16, a17, a18, a19, a20, a21, a22, a23, a24, a25, a26)) : ∃ n, wX_touch_126 post (nI r) (nI p) (ru 2) cl' bx hc rc fa a1 a2 a3 a4 a5 a6 a7 a8 a9 a10 a11 a12 a13 a14 a15 a16 a17 a18 a19 a20 a21 a22 a23 a24 a25 a26 n 0 16 := by
  have step : ∀ (n : Nat) (z s s' : Int32), (s = 16 ∨ s = 8 ∨ s = 0) → ¬ s < 0 → s + (-8) = s' → wX_touch_126 post (nI r) (nI p) (ru 2) cl' bx hc rc fa a1 a2 a3 a4 a5 a6 a7 a8 a9 a10 a11 a12 a13 a14 a15 a16 a17 a18 a19 a20 a21 a22 a23 a24 a25 a26 n ((z <<< ((8 : Int32) &&& 31)) ||| tr_mm ru c cl old s) s' → wX_touch_126 post (nI r) (nI p) (ru 2) cl' bx hc rc fa a1 a2 a3 a4 a5 a6 a7 a8 a9 a10 a11 a12 a13 a14 a15 a16 a17 a18 a19 a20 a21 a22 a23 a24 a25 a26 (n + 1) z s := by
    intro n z s s' h3 hs es hw
    refine br_f hs (tr_partOf hr hq h15 h20 h25 ⟨by decide, nm_r (hcl s h3) ⟨pk_in p 256 hp, nm_r (e' := tr_pa old s) (by rw [tr_at h1 rfl]; rfl) (tr_mixed hm (nm_e (nm_r es hw)))⟩⟩)
  refine Exists.intro 4 (step 3 0 16 8 (Or.inl rfl) (by decide) (by decide) (step 2 _ 8 0 (Or.inr (Or.inl rfl)) (by decide) (by decide) (step 1 _ 0 (-8) (Or.inr (Or.inr rfl)) (by decide) (by decide) (br_t (by decide) ⟨pk_in p 256 hp, nm_r ?_ K⟩))))
  rw [nI_clamp (by omega), tr_col]
  rfl
theorem tr_touch66 {bx hc rc fa : Int32} {a1 a2 a3 a4 a5 a6 a7 a8 a9 a10 a11 a12 a13 a14 a15 a16 a17 a18 a19 a20 a21 a22 a23 a24 a25 a26 : Nat → Int32} {post : St2 → Prop} {r q x y p U V : Nat} {ru : Nat → Int32} {c cl old x0 : Int32} (hr : r < 12) (hq : q < 2) (hp : p < 256) (hU : U < 128) (hV : V < 128) (h15 : ∀ i, i < 3 → a15 (3 * r + i) = c) (h16 : ∀ i, i < 3 → a16 (3 * r + i) = nI U) (h17 : ∀ i, i < 3 → a17 (3 * r + i) = nI V) (h19 : ∀ k, k < 8 → a19 (8 * r + k) = ru k) (h20 : a20 r = 146689) (h25 : ∀ i, i < 3 → a25 i = tr_sd q x y i)
    (hm : ru 2 = 0 ∨ ru 2 = 1 ∨ ru 2 = 2 ∨ ru 2 = 3 ∨ ru 2 = 4) (ho : old = x0 &&& 16777215) (h1 : a1 p = old) (h4 : a4 (8 * (V / 16) + U / 16) = cl)
    (K : ∀ (a1' : Nat → Int32), (∀ j, j ≠ p → a1' j = a1 j) → a1' p = tr_due ru c cl old → post (bx, hc, rc, fa, a1', a2, a3, a4, a5, a6, a7, a8, a9, a10, a11, a12, a13, a14, a15, a16, a17, a18, a19, a20, a21, a22, a23, a24, a25, a26)) : wX_touch_66 post (nI r) (nI p) bx hc rc fa a1 a2 a3 a4 a5 a6 a7 a8 a9 a10 a11 a12 a13 a14 a15 a16 a17 a18 a19 a20 a21 a22 a23 a24 a25 a26 := by
  refine ⟨pk_in (8 * r + 2) 96 (by omega) (tr_ix8 r 2), nm_r (tr_at (h19 2 (by omega)) (tr_ix8 r 2)) (br_c (fun e4 => ?_) (fun n4 => ?_))⟩
  · refine K a1 (fun j _ => rfl) ?_
    rw [h1, ho, tr_due4 x0 e4]
  · have hm' : ru 2 = 0 ∨ ru 2 = 1 ∨ ru 2 = 2 ∨ ru 2 = 3 := by
      rcases hm with h | h | h | h | h
      · exact Or.inl h
      · exact Or.inr (Or.inl h)
      · exact Or.inr (Or.inr (Or.inl h))
      · exact Or.inr (Or.inr (Or.inr h))
      · exact absurd h n4
    have K' : post (bx, hc, rc, fa, upd a1 p (tr_due ru c cl old), a2, a3, a4, a5, a6, a7, a8, a9, a10, a11, a12, a13, a14, a15, a16, a17, a18, a19, a20, a21, a22, a23, a24, a25, a26) := K _ (fun j hj => pk_un hj) pk_us
    refine ⟨pk_in (8 * r + 7) 96 (by omega) (tr_ix8 r 7), tr_bq (tr_at (h19 7 (by omega)) (tr_ix8 r 7)) (fun e7 => tr_cellOf hr hq hU hV h16 h17 h20 h25 ⟨pk_in (8 * (V / 16) + U / 16) 64 (by omega), nm_r (tr_at h4 rfl) (tr_touch126 hr hq hp h15 h20 h25 hm' h1 (fun s h3 => ?_) K')⟩) (fun n7 => tr_touch126 hr hq hp h15 h20 h25 hm' h1 (fun s h3 => ?_) K')⟩
    · unfold tr_own
      rw [if_pos e7]
    · unfold tr_own
      rw [if_neg n7]
      obtain ⟨k, hk, e⟩ := tr_paE c s
      have e' : tr_pa 16777215 s = 255 := by
        rcases h3 with h | h | h
        · rw [h]; decide
        · rw [h]; decide
        · rw [h]; decide
      rw [e', e, tr_255 hk]
theorem tr_touch {bx hc rc fa : Int32} {a1 a2 a3 a4 a5 a6 a7 a8 a9 a10 a11 a12 a13 a14 a15 a16 a17 a18 a19 a20 a21 a22 a23 a24 a25 a26 : Nat → Int32} {post : St2 → Prop} {r q x y d od U V : Nat} {ru : Nat → Int32} {c cl old om x0 bv P : Int32} {H : Nat → Bool} (hr : r < 12) (hq : q < 2) (hx : x < 16) (hy : y < 16) (hd : d < 256) (hod : od < 256) (hU : U < 128) (hV : V < 128)
    (hR : tr_R d U V c bv ru a12 a13 a14 a15 a16 a17 a18 a19 a20 r q) (h25 : ∀ i, i < 3 → a25 i = tr_sd q x y i)
    (hm : ru 2 = 0 ∨ ru 2 = 1 ∨ ru 2 = 2 ∨ ru 2 = 3 ∨ ru 2 = 4) (ho : old = x0 &&& 16777215) (h4 : a4 (8 * (V / 16) + U / 16) = cl) (hPx : P = nI (16 * y + x))
    (hP : tr_Pic old od om (tr_due ru c cl old) d (tr_mk (ru 4) om (ru 5)) (ru 1) H hc a1 a2 a3) (hH : H (16 * y + x) = false)
    (K : ∀ (hc' : Int32) (a1' a2' a3' : Nat → Int32), tr_Pic old od om (tr_due ru c cl old) d (tr_mk (ru 4) om (ru 5)) (ru 1) (fun j => H j || (tr_ps ru om d od && decide (j = 16 * y + x))) hc' a1' a2' a3' → post (bx, hc', rc, fa, a1', a2', a3', a4, a5, a6, a7, a8, a9, a10, a11, a12, a13, a14, a15, a16, a17, a18, a19, a20, a21, a22, a23, a24, a25, a26)) : wpX_touch post (bx, hc, rc, fa, a1, a2, a3, a4, a5, a6, a7, a8, a9, a10, a11, a12, a13, a14, a15, a16, a17, a18, a19, a20, a21, a22, a23, a24, a25, a26) (nI r) P := by
  subst hPx
  obtain ⟨h12, h13, h14, h15, h16, h17, h18, h19, h20⟩ := hR
  have hp : 16 * y + x < 256 := by omega
  obtain ⟨p1, p2, p3⟩ := hP.2 _ hp
  rw [hH, if_neg (by decide)] at p1 p3
  rw [hH, if_neg (fun g => absurd g.1 (by decide))] at p2
  unfold wpX_touch
  refine tr_depthOf hr hq hd h14 h20 h25 ?_
  refine tr_passes hr hp hd hod h19 p3 p2 (fun ps => ?_) (fun ps => ?_)
  · have fin : ∀ (a1' a2' : Nat → Int32), (∀ j, j ≠ 16 * y + x → a1' j = a1 j) → a1' (16 * y + x) = tr_due ru c cl old → (∀ j, j ≠ 16 * y + x → a2' j = a2 j) → a2' (16 * y + x) = (if ru 1 = 1 then nI d else nI od) → post (bx, hc + 1, rc, fa, a1', a2', upd a3 (16 * y + x) (tr_mk (ru 4) om (ru 5)), a4, a5, a6, a7, a8, a9, a10, a11, a12, a13, a14, a15, a16, a17, a18, a19, a20, a21, a22, a23, a24, a25, a26) := by
      intro a1' a2' e1 f1 e2 f2
      refine K _ _ _ _ (tr_pic_congr (tr_pic_hit hP hp hH e1 f1 e2 f2 (fun j hj => pk_un hj) pk_us) (fun j _ => ?_))
      rw [ps, Bool.true_and]
    refine br_f (by decide) (nm_e ⟨pk_in _ 256 hp, tr_newMark hr h19 ⟨pk_in _ 256 hp, nm_r (e' := upd a3 (16 * y + x) (tr_mk (ru 4) om (ru 5))) (by rw [tr_at p3 rfl, nI_clamp (by omega)]) ⟨pk_in (8 * r + 1) 96 (by omega) (tr_ix8 r 1), tr_bq (tr_at (h19 1 (by omega)) (tr_ix8 r 1)) (fun w => ⟨pk_in _ 256 hp, nm_r (e' := upd a2 (16 * y + x) (nI d)) (by rw [nI_clamp (by omega)]) ?_⟩) (fun w => ?_)⟩⟩⟩)
    · exact tr_touch66 hr hq hp hU hV h15 h16 h17 h19 h20 h25 hm ho p1 h4 (fun a1' e1 f1 => fin a1' _ e1 f1 (fun j hj => pk_un hj) (by rw [pk_us, if_pos w]))
    · exact tr_touch66 hr hq hp hU hV h15 h16 h17 h19 h20 h25 hm ho p1 h4 (fun a1' e1 f1 => fin a1' a2 e1 f1 (fun j _ => rfl) (by rw [p2, if_neg w]))
  · refine br_t rfl (K hc a1 a2 a3 (tr_pic_congr hP (fun j _ => ?_)))
    rw [ps, Bool.false_and, Bool.or_false]
end
section
/-! ===== a record in a tile ===== -/
def tr_tile (a b p : Nat) : Bool := decide (p % 16 / 4 = a ∧ p / 16 / 4 = b)
def tr_T (ps : Bool) (L R q a b p : Nat) : Bool := tr_full ps L R p && (tr_cov q (p % 16) (p / 16) && tr_tile a b p)
def tr_G (H : Nat → Bool) (ps : Bool) (L R q a b Y X p : Nat) : Bool := H p || (tr_T ps L R q a b p && decide (p / 16 < Y ∨ (p / 16 = Y ∧ p % 16 < X)))
def tr_D (H : Nat → Bool) (ps : Bool) (L R q a b p : Nat) : Bool := H p || tr_T ps L R q a b p
theorem tr_T_iff {ps : Bool} {L R q a b p : Nat} : tr_T ps L R q a b p = true ↔ (ps = true ∧ L ≤ p % 16 ∧ p % 16 ≤ R ∧ 2 ≤ p / 16 ∧ p / 16 ≤ 12) ∧ tr_cov q (p % 16) (p / 16) = true ∧ p % 16 / 4 = a ∧ p / 16 / 4 = b := by
  unfold tr_T tr_full tr_tile
  simp only [Bool.and_eq_true, decide_eq_true_eq]
theorem tr_G_iff {H : Nat → Bool} {ps : Bool} {L R q a b Y X p : Nat} : tr_G H ps L R q a b Y X p = true ↔ H p = true ∨ (tr_T ps L R q a b p = true ∧ (p / 16 < Y ∨ (p / 16 = Y ∧ p % 16 < X))) := by
  unfold tr_G
  simp only [Bool.or_eq_true, Bool.and_eq_true, decide_eq_true_eq]
theorem tr_D_iff {H : Nat → Bool} {ps : Bool} {L R q a b p : Nat} : tr_D H ps L R q a b p = true ↔ H p = true ∨ tr_T ps L R q a b p = true := by
  unfold tr_D
  simp only [Bool.or_eq_true]
theorem tr_or_congr {A B C : Prop} (h : B ↔ C) : (A ∨ B) ↔ (A ∨ C) := ⟨fun g => g.elim Or.inl (fun z => Or.inr (h.mp z)), fun g => g.elim Or.inl (fun z => Or.inr (h.mpr z))⟩
/-- the places of the sets: begin, row's end, next pixel, end -/
theorem tr_G_begin {H : Nat → Bool} {ps : Bool} {L R q a b Y : Nat} (hY : Y ≤ max 2 (4 * b)) (p : Nat) : H p = tr_G H ps L R q a b Y 0 p := by
  rw [Bool.eq_iff_iff, tr_G_iff]
  constructor
  · exact Or.inl
  · rintro (h | ⟨h, g⟩)
    · exact h
    · rw [tr_T_iff] at h
      omega
theorem tr_G_row {H : Nat → Bool} {ps : Bool} {L R q a b y X : Nat} (hX : X ≤ max L (4 * a)) (p : Nat) : tr_G H ps L R q a b y 0 p = tr_G H ps L R q a b y X p := by
  rw [Bool.eq_iff_iff, tr_G_iff, tr_G_iff]
  refine tr_or_congr ⟨fun h => ⟨h.1, by omega⟩, fun h => ⟨h.1, ?_⟩⟩
  have g := h.2
  have t := tr_T_iff.mp h.1
  omega
theorem tr_G_next {H : Nat → Bool} {ps : Bool} {L R q a b y X : Nat} (hX : min (4 * a + 3) R < X) (p : Nat) : tr_G H ps L R q a b y X p = tr_G H ps L R q a b (y + 1) 0 p := by
  rw [Bool.eq_iff_iff, tr_G_iff, tr_G_iff]
  refine tr_or_congr ⟨fun h => ⟨h.1, by omega⟩, fun h => ⟨h.1, ?_⟩⟩
  have g := h.2
  have t := tr_T_iff.mp h.1
  omega
theorem tr_G_end {H : Nat → Bool} {ps : Bool} {L R q a b Y : Nat} (hY : min (4 * b + 3) 12 < Y) (p : Nat) : tr_G H ps L R q a b Y 0 p = tr_D H ps L R q a b p := by
  rw [Bool.eq_iff_iff, tr_G_iff, tr_D_iff]
  refine tr_or_congr ⟨fun h => h.1, fun h => ⟨h, ?_⟩⟩
  have t := tr_T_iff.mp h
  omega
theorem tr_G_skip {H : Nat → Bool} {ps : Bool} {L R q a b y x : Nat} (hx : x < 16) (hc : tr_cov q x y = false) (p : Nat) : tr_G H ps L R q a b y x p = tr_G H ps L R q a b y (x + 1) p := by
  rw [Bool.eq_iff_iff, tr_G_iff, tr_G_iff]
  refine tr_or_congr ⟨fun h => ⟨h.1, by omega⟩, fun h => ⟨h.1, ?_⟩⟩
  have g := h.2
  have t := tr_T_iff.mp h.1
  by_cases e : p / 16 = y ∧ p % 16 = x
  · rw [e.1, e.2, hc] at t
    exact absurd t.2.1 (by decide)
  · omega
theorem tr_G_hit {H : Nat → Bool} {ps : Bool} {L R q a b y x : Nat} (hx : x < 16) (hc : tr_cov q x y = true) (hx0 : max L (4 * a) ≤ x) (hx1 : x ≤ min (4 * a + 3) R) (hy0 : max 2 (4 * b) ≤ y) (hy1 : y ≤ min (4 * b + 3) 12) (p : Nat) :
    (tr_G H ps L R q a b y x p || (ps && decide (p = 16 * y + x))) = tr_G H ps L R q a b y (x + 1) p := by
  rw [Bool.eq_iff_iff, Bool.or_eq_true, Bool.and_eq_true, decide_eq_true_eq, tr_G_iff, tr_G_iff]
  constructor
  · rintro ((h | ⟨h, g⟩) | ⟨h, g⟩)
    · exact Or.inl h
    · exact Or.inr ⟨h, by omega⟩
    · refine Or.inr ⟨tr_T_iff.mpr ?_, by omega⟩
      have e1 : p % 16 = x := by omega
      have e2 : p / 16 = y := by omega
      rw [e1, e2]
      exact ⟨⟨h, by omega, by omega, by omega, by omega⟩, hc, by omega, by omega⟩
  · rintro (h | ⟨h, g⟩)
    · exact Or.inl (Or.inl h)
    · by_cases e : p / 16 = y ∧ p % 16 = x
      · exact Or.inr ⟨(tr_T_iff.mp h).1.1, by omega⟩
      · exact Or.inl (Or.inr ⟨h, by omega⟩)
theorem tr_G_not {H : Nat → Bool} {ps : Bool} {L R q a b y x : Nat} (hx : x < 16) (h : H (16 * y + x) = false) : tr_G H ps L R q a b y x (16 * y + x) = false := by
  cases e : tr_G H ps L R q a b y x (16 * y + x) with
  | false => rfl
  | true =>
    rcases tr_G_iff.mp e with g | g
    · rw [h] at g; exact absurd g (by decide)
    · have := g.2
      omega
theorem tr_row {bx hc rc fa : Int32} {a1 a2 a3 a4 a5 a6 a7 a8 a9 a10 a11 a12 a13 a14 a15 a16 a17 a18 a19 a20 a21 a22 a23 a24 a25 a26 : Nat → Int32} {post : St2 → Prop} {J : Int32 → Int32 → Int32 → Int32 → Int32 → (Nat → Int32) → (Nat → Int32) → (Nat → Int32) → (Nat → Int32) → (Nat → Int32) → (Nat → Int32) → (Nat → Int32) → (Nat → Int32) → (Nat → Int32) → (Nat → Int32) → (Nat → Int32) → (Nat → Int32) → (Nat → Int32) → (Nat → Int32) → (Nat → Int32) → (Nat → Int32) → (Nat → Int32) → (Nat → Int32) → (Nat → Int32) → (Nat → Int32) → (Nat → Int32) → (Nat → Int32) → (Nat → Int32) → (Nat → Int32) → (Nat → Int32) → (Nat → Int32) → Prop} {d od U V L R : Nat} {ru : Nat → Int32} {c cl old om x0 bv : Int32} (hd : d < 256) (hod : od < 256) (hU : U < 128) (hV : V < 128) (hL : L < 8) (hR8 : 8 ≤ R) (hR : R < 16) (hm : ru 2 = 0 ∨ ru 2 = 1 ∨ ru 2 = 2 ∨ ru 2 = 3 ∨ ru 2 = 4) (ho : old = x0 &&& 16777215) {H : Nat → Bool} {r q a b y : Nat} {X2 X3 X8 : Int32} (hr : r < 12) (hq : q < 2) (ha : a < 4) (hb : b < 4) (h01 : max L (4 * a) ≤ min (4 * a + 3) R) (hy0 : max 2 (4 * b) ≤ y) (hy1 : y ≤ min (4 * b + 3) 12)
    (hRr : tr_R d U V c bv ru a12 a13 a14 a15 a16 a17 a18 a19 a20 r q) (h4 : a4 (8 * (V / 16) + U / 16) = cl) (h21 : ∀ i, i < 3 → a21 i = tr_sx q i) (h23 : ∀ i, i < 3 → a23 i = tr_tk q i) (h25 : ∀ i, i < 3 → a25 i = tr_sd q (max L (4 * a)) y i)
    (hN : ∀ x y, x < 16 → y < 16 → tr_cov q x y = true → x / 4 = a → y / 4 = b → H (16 * y + x) = false)
    (hP : tr_Pic old od om (tr_due ru c cl old) d (tr_mk (ru 4) om (ru 5)) (ru 1) (tr_G H (tr_ps ru om d od) L R q a b y 0) hc a1 a2 a3)
    (hJ : ∀ (hc' : Int32) (a1' a2' a3' a25' : Nat → Int32), tr_Pic old od om (tr_due ru c cl old) d (tr_mk (ru 4) om (ru 5)) (ru 1) (tr_G H (tr_ps ru om d od) L R q a b (y + 1) 0) hc' a1' a2' a3' → J (nI (y + 1)) bx hc' rc fa a1' a2' a3' a4 a5 a6 a7 a8 a9 a10 a11 a12 a13 a14 a15 a16 a17 a18 a19 a20 a21 a22 a23 a24 a25' a26) :
    ∃ n, wX_drawIn_175 post J (nI r) X2 X3 (nI (max L (4 * a))) (nI (min (4 * a + 3) R)) X8 (nI y) n (nI (max L (4 * a))) bx hc rc fa a1 a2 a3 a4 a5 a6 a7 a8 a9 a10 a11 a12 a13 a14 a15 a16 a17 a18 a19 a20 a21 a22 a23 a24 a25 a26 := by
  refine pk_loop (fun n i (s : Int32 × (Nat → Int32) × (Nat → Int32) × (Nat → Int32) × (Nat → Int32)) => wX_drawIn_175 post J (nI r) X2 X3 (nI (max L (4 * a))) (nI (min (4 * a + 3) R)) X8 (nI y) n (nI i) bx s.1 rc fa s.2.1 s.2.2.1 s.2.2.2.1 a4 a5 a6 a7 a8 a9 a10 a11 a12 a13 a14 a15 a16 a17 a18 a19 a20 a21 a22 a23 a24 s.2.2.2.2 a26)
    (fun i s => max L (4 * a) ≤ i ∧ tr_Pic old od om (tr_due ru c cl old) d (tr_mk (ru 4) om (ru 5)) (ru 1) (tr_G H (tr_ps ru om d od) L R q a b y i) s.1 s.2.1 s.2.2.1 s.2.2.2.1 ∧ ∀ j, j < 3 → s.2.2.2.2 j = tr_sd q i y j) (min (4 * a + 3) R + 1) (max L (4 * a)) (hc, a1, a2, a3, a25) (by omega)
    ⟨Nat.le_refl _, tr_pic_congr hP (fun p _ => tr_G_row (Nat.le_refl _) p), h25⟩
    (fun n s h => pk_lt (min (4 * a + 3) R) (min (4 * a + 3) R + 1) (fun _ => nm_r (nI_1 y) (hJ _ _ _ _ _ (tr_pic_congr h.2.1 (fun p _ => tr_G_next (by omega) p)))) (fun z => absurd z (by omega))) ?_
  intro n i s hi h hw
  obtain ⟨hi0, hPi, hs⟩ := h
  have hi16 : i < 16 := by omega
  have hy16 : y < 16 := by omega
  refine pk_lt (min (4 * a + 3) R) i (fun z => absurd z (by omega)) (fun _ => tr_isCovered hq hi16 hy16 h23 hs (fun c1 => br_f (by decide) ?_) (fun c0 => br_t rfl ?_))
  · refine tr_touch hr hq hi16 hy16 hd hod hU hV hRr hs hm ho h4 (tr_ix16 y i) hPi (tr_G_not hi16 (hN i y hi16 hy16 c1 (by omega) (by omega))) (fun hc' a1' a2' a3' hP' => ?_)
    exact tr_goOn h21 hs (fun a25' h25' => nm_r (nI_1 i) (hw (_, _, _, _, _) ⟨by omega, tr_pic_congr hP' (fun p _ => tr_G_hit hi16 c1 hi0 (by omega) hy0 hy1 p), h25'⟩))
  · exact tr_goOn h21 hs (fun a25' h25' => nm_r (nI_1 i) (hw (s.1, s.2.1, s.2.2.1, s.2.2.2.1, a25') ⟨by omega, tr_pic_congr hPi (fun p _ => tr_G_skip hi16 c0 p), h25'⟩))
theorem tr_rows {bx hc rc fa : Int32} {a1 a2 a3 a4 a5 a6 a7 a8 a9 a10 a11 a12 a13 a14 a15 a16 a17 a18 a19 a20 a21 a22 a23 a24 a25 a26 : Nat → Int32} {post : St2 → Prop} {d od U V L R : Nat} {ru : Nat → Int32} {c cl old om x0 bv : Int32} (hd : d < 256) (hod : od < 256) (hU : U < 128) (hV : V < 128) (hL : L < 8) (hR8 : 8 ≤ R) (hR : R < 16) (hm : ru 2 = 0 ∨ ru 2 = 1 ∨ ru 2 = 2 ∨ ru 2 = 3 ∨ ru 2 = 4) (ho : old = x0 &&& 16777215) {H : Nat → Bool} {r q a b : Nat} (hr : r < 12) (hq : q < 2) (ha : a < 4) (hb : b < 4) (h01 : max L (4 * a) ≤ min (4 * a + 3) R) (hy01 : max 2 (4 * b) ≤ min (4 * b + 3) 12)
    (hRr : tr_R d U V c bv ru a12 a13 a14 a15 a16 a17 a18 a19 a20 r q) (h4 : a4 (8 * (V / 16) + U / 16) = cl) (h21 : ∀ i, i < 3 → a21 i = tr_sx q i) (h22 : ∀ i, i < 3 → a22 i = tr_sy q i) (h23 : ∀ i, i < 3 → a23 i = tr_tk q i) (h24 : ∀ i, i < 3 → a24 i = tr_az q i)
    (hN : ∀ x y, x < 16 → y < 16 → tr_cov q x y = true → x / 4 = a → y / 4 = b → H (16 * y + x) = false)
    (hfar : ∀ x y, x < 4 → y < 4 → a2 (16 * (4 * b + y) + 4 * a + x) ≤ fa)
    (hP : tr_Pic old od om (tr_due ru c cl old) d (tr_mk (ru 4) om (ru 5)) (ru 1) H hc a1 a2 a3)
    (K : ∀ (hc' fa' : Int32) (a1' a2' a3' a25' : Nat → Int32), tr_Pic old od om (tr_due ru c cl old) d (tr_mk (ru 4) om (ru 5)) (ru 1) (tr_D H (tr_ps ru om d od) L R q a b) hc' a1' a2' a3' → (∀ x y, x < 4 → y < 4 → a2' (16 * (4 * b + y) + 4 * a + x) ≤ fa') → post (bx, hc', rc, fa', a1', a2', a3', a4, a5, a6, a7, a8, a9, a10, a11, a12, a13, a14, a15, a16, a17, a18, a19, a20, a21, a22, a23, a24, a25', a26)) :
    ∃ n, wX_drawIn_156 post (nI r) (nI (4 * a)) (nI (4 * b)) (nI (max L (4 * a))) (nI (min (4 * a + 3) R)) (nI (min (4 * b + 3) 12)) n (nI (max 2 (4 * b))) bx hc rc fa a1 a2 a3 a4 a5 a6 a7 a8 a9 a10 a11 a12 a13 a14 a15 a16 a17 a18 a19 a20 a21 a22 a23 a24 a25 a26 := by
  have h19 : ∀ k, k < 8 → a19 (8 * r + k) = ru k := hRr.2.2.2.2.2.2.2.1
  refine pk_loop (fun n i (s : Int32 × (Nat → Int32) × (Nat → Int32) × (Nat → Int32) × (Nat → Int32)) => wX_drawIn_156 post (nI r) (nI (4 * a)) (nI (4 * b)) (nI (max L (4 * a))) (nI (min (4 * a + 3) R)) (nI (min (4 * b + 3) 12)) n (nI i) bx s.1 rc fa s.2.1 s.2.2.1 s.2.2.2.1 a4 a5 a6 a7 a8 a9 a10 a11 a12 a13 a14 a15 a16 a17 a18 a19 a20 a21 a22 a23 a24 s.2.2.2.2 a26)
    (fun i s => max 2 (4 * b) ≤ i ∧ tr_Pic old od om (tr_due ru c cl old) d (tr_mk (ru 4) om (ru 5)) (ru 1) (tr_G H (tr_ps ru om d od) L R q a b i 0) s.1 s.2.1 s.2.2.1 s.2.2.2.1) (min (4 * b + 3) 12 + 1) (max 2 (4 * b)) (hc, a1, a2, a3, a25) (by omega)
    ⟨Nat.le_refl _, tr_pic_congr hP (fun p _ => tr_G_begin (Nat.le_refl _) p)⟩ ?_ ?_
  · intro n s h
    have hP' : tr_Pic old od om (tr_due ru c cl old) d (tr_mk (ru 4) om (ru 5)) (ru 1) (tr_D H (tr_ps ru om d od) L R q a b) s.1 s.2.1 s.2.2.1 s.2.2.2.1 := tr_pic_congr h.2 (fun p _ => tr_G_end (by omega) p)
    refine pk_lt (min (4 * b + 3) 12) (min (4 * b + 3) 12 + 1) (fun _ => ⟨pk_in (8 * r + 1) 96 (by omega) (tr_ix8 r 1), tr_bq (tr_at (h19 1 (by omega)) (tr_ix8 r 1)) (fun w => tr_far (by omega) (by omega) (fun fa' hf => K _ _ _ _ _ _ hP' hf)) (fun w => K _ _ _ _ _ _ hP' (fun x y hx hy => ?_))⟩) (fun z => absurd z (by omega))
    have e1 := (hP'.2 (16 * (4 * b + y) + 4 * a + x) (by omega)).2.1
    have e2 := (hP.2 (16 * (4 * b + y) + 4 * a + x) (by omega)).2.1
    have e3 := hfar x y hx hy
    rw [if_neg (fun g => w g.2)] at e1 e2
    rw [e1, ← e2]
    exact e3
  · intro n i s hi h hw
    exact pk_lt (min (4 * b + 3) 12) i (fun z => absurd z (by omega)) (fun _ => tr_goTo h21 h22 h24 (fun a25' h25' => tr_row hd hod hU hV hL hR8 hR hm ho hr hq ha hb h01 h.1 (by omega) hRr h4 h21 h23 h25' hN h.2 (fun hc' a1' a2' a3' a25'' hP' => hw (_, _, _, _, _) ⟨by omega, hP'⟩)))
theorem tr_tl (a : Nat) : (nI (4 * a) + 4) - 1 = nI (4 * a + 3) := by
  have e : nI (4 * a) + 4 = nI (4 * a + 3 + 1) := nI_add (4 * a) 4
  rw [e, nI_pred]
theorem tr_win {bx hc rc fa : Int32} {a1 a2 a3 a4 a5 a6 a7 a8 a9 a10 a11 a12 a13 a14 a15 a16 a17 a18 a19 a20 a21 a22 a23 a24 a25 a26 : Nat → Int32} {post : St2 → Prop} {r a b L R Y Z : Nat} {bv : Int32} (hr : r < 12) (ha : a < 4) (hb : b < 4) (h18 : a18 r = bv) (e12 : bv >>> ((12 : Int32) &&& 31) = nI L) (e8 : (bv >>> ((8 : Int32) &&& 31)) &&& 15 = nI R) (e4 : (bv >>> ((4 : Int32) &&& 31)) &&& 15 = nI Y) (e0 : bv &&& 15 = nI Z) (hL : L < 16) (hR : R < 16) (hY : Y < 16) (hZ : Z < 16)
    (K : wX_drawIn_112 post (nI r) (nI (4 * a)) (nI (4 * b)) (nI (max L (4 * a))) (nI (min (4 * a + 3) R)) (nI (max Y (4 * b))) (nI (min (4 * b + 3) Z)) bx hc rc fa a1 a2 a3 a4 a5 a6 a7 a8 a9 a10 a11 a12 a13 a14 a15 a16 a17 a18 a19 a20 a21 a22 a23 a24 a25 a26) : wpX_drawIn post (bx, hc, rc, fa, a1, a2, a3, a4, a5, a6, a7, a8, a9, a10, a11, a12, a13, a14, a15, a16, a17, a18, a19, a20, a21, a22, a23, a24, a25, a26) (nI r) (nI (4 * a)) (nI (4 * b)) := by
  refine ⟨pk_in r 12 hr, nm_r (tr_at h18 rfl) (tr_max (P := fun z => wX_drawIn_26 post (nI r) (nI (4 * a)) (nI (4 * b)) bv z bx hc rc fa a1 a2 a3 a4 a5 a6 a7 a8 a9 a10 a11 a12 a13 a14 a15 a16 a17 a18 a19 a20 a21 a22 a23 a24 a25 a26) L (4 * a) ?_ e12 rfl)⟩
  refine tr_min (P := fun z => wX_drawIn_60 post (nI r) (nI (4 * a)) (nI (4 * b)) bv (nI (max L (4 * a))) z bx hc rc fa a1 a2 a3 a4 a5 a6 a7 a8 a9 a10 a11 a12 a13 a14 a15 a16 a17 a18 a19 a20 a21 a22 a23 a24 a25 a26) (4 * a + 3) R ?_ (tr_tl a) e8
  refine tr_max (P := fun z => wX_drawIn_84 post (nI r) (nI (4 * a)) (nI (4 * b)) bv (nI (max L (4 * a))) (nI (min (4 * a + 3) R)) z bx hc rc fa a1 a2 a3 a4 a5 a6 a7 a8 a9 a10 a11 a12 a13 a14 a15 a16 a17 a18 a19 a20 a21 a22 a23 a24 a25 a26) Y (4 * b) ?_ e4 rfl
  exact tr_min (P := fun z => wX_drawIn_112 post (nI r) (nI (4 * a)) (nI (4 * b)) (nI (max L (4 * a))) (nI (min (4 * a + 3) R)) (nI (max Y (4 * b))) z bx hc rc fa a1 a2 a3 a4 a5 a6 a7 a8 a9 a10 a11 a12 a13 a14 a15 a16 a17 a18 a19 a20 a21 a22 a23 a24 a25 a26) (4 * b + 3) Z K (tr_tl b) e0
theorem tr_drawIn {bx hc rc fa : Int32} {a1 a2 a3 a4 a5 a6 a7 a8 a9 a10 a11 a12 a13 a14 a15 a16 a17 a18 a19 a20 a21 a22 a23 a24 a25 a26 : Nat → Int32} {post : St2 → Prop} {d od U V L R : Nat} {ru : Nat → Int32} {c cl old om x0 bv : Int32} (hd : d < 256) (hod : od < 256) (hU : U < 128) (hV : V < 128) (hL : L < 8) (hR8 : 8 ≤ R) (hR : R < 16) (hm : ru 2 = 0 ∨ ru 2 = 1 ∨ ru 2 = 2 ∨ ru 2 = 3 ∨ ru 2 = 4) (ho : old = x0 &&& 16777215) {H : Nat → Bool} {r a b : Nat} (hr : r < 2) (ha : a < 4) (hb : b < 4) (hbv : bv = nI (4096 * L + 256 * R + 44))
    (hRr : tr_R d U V c bv ru a12 a13 a14 a15 a16 a17 a18 a19 a20 r r) (h4 : a4 (8 * (V / 16) + U / 16) = cl)
    (hN : ∀ x y, x < 16 → y < 16 → tr_cov r x y = true → x / 4 = a → y / 4 = b → H (16 * y + x) = false)
    (hfar : ∀ x y, x < 4 → y < 4 → a2 (16 * (4 * b + y) + 4 * a + x) ≤ fa)
    (hP : tr_Pic old od om (tr_due ru c cl old) d (tr_mk (ru 4) om (ru 5)) (ru 1) H hc a1 a2 a3)
    (K : ∀ (hc' fa' : Int32) (a1' a2' a3' a21' a22' a23' a24' a25' : Nat → Int32), tr_Pic old od om (tr_due ru c cl old) d (tr_mk (ru 4) om (ru 5)) (ru 1) (tr_D H (tr_ps ru om d od) L R r a b) hc' a1' a2' a3' → (∀ x y, x < 4 → y < 4 → a2' (16 * (4 * b + y) + 4 * a + x) ≤ fa') → post (bx, hc', rc, fa', a1', a2', a3', a4, a5, a6, a7, a8, a9, a10, a11, a12, a13, a14, a15, a16, a17, a18, a19, a20, a21', a22', a23', a24', a25', a26)) :
    wpX_drawIn post (bx, hc, rc, fa, a1, a2, a3, a4, a5, a6, a7, a8, a9, a10, a11, a12, a13, a14, a15, a16, a17, a18, a19, a20, a21, a22, a23, a24, a25, a26) (nI r) (nI (4 * a)) (nI (4 * b)) := by
  have same : (∀ p, p < 256 → ¬ tr_T (tr_ps ru om d od) L R r a b p = true) → tr_Pic old od om (tr_due ru c cl old) d (tr_mk (ru 4) om (ru 5)) (ru 1) (tr_D H (tr_ps ru om d od) L R r a b) hc a1 a2 a3 := by
    intro h
    refine tr_pic_congr hP (fun p hp => ?_)
    rw [Bool.eq_iff_iff, tr_D_iff]
    exact ⟨Or.inl, fun g => g.elim id (fun z => absurd z (h p hp))⟩
  have hB : 4096 * L + 256 * R + 44 < 2 ^ 31 := by omega
  have e12 : bv >>> ((12 : Int32) &&& 31) = nI L := by
    rw [hbv, pk_shrN hB _ 12 (by decide)]
    exact congrArg nI (by omega)
  have e8 : (bv >>> ((8 : Int32) &&& 31)) &&& 15 = nI R := by
    rw [hbv, pk_shrN hB _ 8 (by decide), pk_andN (by omega) 4 (by decide)]
    exact congrArg nI (by omega)
  have e4 : (bv >>> ((4 : Int32) &&& 31)) &&& 15 = nI 2 := by
    rw [hbv, pk_shrN hB _ 4 (by decide), pk_andN (by omega) 4 (by decide)]
    exact congrArg nI (by omega)
  have e0 : bv &&& 15 = nI 12 := by
    rw [hbv, pk_andN (by omega) 4 (by decide)]
    exact congrArg nI (by omega)
  have hr12 : r < 12 := by omega
  obtain ⟨h12, h13, h14, h15, h16, h17, h18, h19, h20⟩ := id hRr
  refine tr_win hr12 ha hb h18 e12 e8 e4 e0 (by omega) hR (by omega) (by omega) ?_
  refine pk_lt (min (4 * a + 3) R) (max L (4 * a)) (fun z => K _ _ _ _ _ _ _ _ _ _ (same (fun p _ t => ?_)) hfar) (fun h01 => pk_lt (min (4 * b + 3) 12) (max 2 (4 * b)) (fun z => K _ _ _ _ _ _ _ _ _ _ (same (fun p _ t => ?_)) hfar) (fun hy01 => ?_))
  · rw [tr_T_iff] at t; omega
  · rw [tr_T_iff] at t; omega
  refine tr_behind hr12 h14 (h19 0 (by omega)) (br_t rfl ?_) (fun hbe => br_f (by decide) (K _ _ _ _ _ _ _ _ _ _ (same (fun p hp t => ?_)) hfar))
  · refine tr_takeEdges hr12 h12 h13 (fun a21' a22' a23' a24' g21 g22 g23 g24 => ?_)
    refine tr_isOutside hr ha hb g21 g22 g24 (br_t rfl ?_) (fun ho' => br_f (by decide) (K _ _ _ _ _ _ _ _ _ _ (same (fun p hp t => ?_)) hfar))
    · exact tr_rows hd hod hU hV hL hR8 hR hm ho hr12 hr ha hb h01 hy01 hRr h4 g21 g22 g23 g24 hN hfar hP (fun hc' fa' a1' a2' a3' a25' hP' hf' => K _ _ _ _ _ _ _ _ _ _ hP' hf')
    · rw [tr_T_iff] at t
      have e := ho' (p % 16 - 4 * a) (by omega) (p / 16 - 4 * b) (by omega)
      rw [show 4 * a + (p % 16 - 4 * a) = p % 16 by omega, show 4 * b + (p / 16 - 4 * b) = p / 16 by omega, t.2.1] at e
      exact absurd e (by decide)
  · have t' := tr_T_iff.mp t
    have hH := hN (p % 16) (p / 16) (by omega) (by omega) t'.2.1 t'.2.2.1 t'.2.2.2
    rw [show 16 * (p / 16) + p % 16 = p by omega] at hH
    have e2 := (hP.2 p hp).2.1
    rw [hH, if_neg (fun g => absurd g.1 (by decide))] at e2
    have e3 := hfar (p % 16 - 4 * a) (p / 16 - 4 * b) (by omega) (by omega)
    rw [show 16 * (4 * b + (p / 16 - 4 * b)) + 4 * a + (p % 16 - 4 * a) = p by omega, e2] at e3
    have psT : (¬ (ru 3 = 1 ∧ ¬ om = ru 5) ∧ ¬ (ru 3 = 2 ∧ om = ru 5)) ∧ (ru 0 = 1 ∨ (ru 0 = 2 ∧ d < od) ∨ (ru 0 = 3 ∧ d ≤ od)) := of_decide_eq_true t'.1.1
    rcases psT.2 with z | z | z
    · rw [z] at hbe
      rcases hbe with g | g | g
      · exact absurd g (by decide)
      · exact absurd g.1 (by decide)
      · exact absurd g.1 (by decide)
    · rw [z.1] at hbe
      rcases hbe with g | g | g
      · exact absurd g (by decide)
      · exact g.2 (Int32.lt_of_lt_of_le (nI_lt z.2 (by omega)) e3)
      · exact g.2.1 rfl
    · rw [z.1] at hbe
      rcases hbe with g | g | g
      · exact absurd g (by decide)
      · exact absurd g.1 (by decide)
      · exact g.2.2 (Int32.le_trans (nI_le z.2 (by omega)) e3)
end
section
/-! ===== the tiles ===== -/
def tr_K (ps : Bool) (L R k p : Nat) : Bool := tr_full ps L R p && decide (4 * (p / 16 / 4) + p % 16 / 4 < k)
theorem tr_K_iff {ps : Bool} {L R k p : Nat} : tr_K ps L R k p = true ↔ tr_full ps L R p = true ∧ 4 * (p / 16 / 4) + p % 16 / 4 < k := by
  unfold tr_K
  rw [Bool.and_eq_true, decide_eq_true_eq]
theorem tr_cov_two (x y : Nat) : (tr_cov 0 x y = true ∨ tr_cov 1 x y = true) ∧ (tr_cov 1 x y = true → tr_cov 0 x y = false) := by
  unfold tr_cov
  rw [if_pos rfl, if_neg (by decide), decide_eq_true_eq, decide_eq_true_eq, decide_eq_false_iff_not]
  omega
theorem tr_K_step {ps : Bool} {L R k : Nat} (hk : k < 16) (p : Nat) : tr_D (tr_D (tr_K ps L R k) ps L R 0 (k % 4) (k / 4)) ps L R 1 (k % 4) (k / 4) p = tr_K ps L R (k + 1) p := by
  rw [Bool.eq_iff_iff, tr_D_iff, tr_D_iff, tr_K_iff, tr_K_iff]
  unfold tr_T tr_tile
  simp only [Bool.and_eq_true, decide_eq_true_eq]
  have c := (tr_cov_two (p % 16) (p / 16)).1
  constructor
  · rintro ((h | h) | h)
    · exact ⟨h.1, by omega⟩
    · exact ⟨h.1, by omega⟩
    · exact ⟨h.1, by omega⟩
  · rintro ⟨h, g⟩
    by_cases e : 4 * (p / 16 / 4) + p % 16 / 4 < k
    · exact Or.inl (Or.inl ⟨h, e⟩)
    · rcases c with c | c
      · exact Or.inl (Or.inr ⟨h, c, by omega, by omega⟩)
      · exact Or.inr ⟨h, c, by omega, by omega⟩
theorem tr_K_not {ps : Bool} {L R k x y : Nat} (hx : x < 16) (ha : x / 4 = k % 4) (hb : y / 4 = k / 4) : tr_K ps L R k (16 * y + x) = false := by
  cases e : tr_K ps L R k (16 * y + x) with
  | false => rfl
  | true =>
    have := (tr_K_iff.mp e).2
    omega
theorem tr_D_not {H : Nat → Bool} {ps : Bool} {L R a b x y : Nat} (hx : x < 16) (h : H (16 * y + x) = false) (c : tr_cov 1 x y = true) : tr_D H ps L R 0 a b (16 * y + x) = false := by
  cases e : tr_D H ps L R 0 a b (16 * y + x) with
  | false => rfl
  | true =>
    rcases tr_D_iff.mp e with g | g
    · rw [h] at g; exact absurd g (by decide)
    · have t := (tr_T_iff.mp g).2.1
      rw [show (16 * y + x) % 16 = x by omega, show (16 * y + x) / 16 = y by omega, (tr_cov_two x y).2 c] at t
      exact absurd t (by decide)
theorem tr_l4 {k : Nat} (hk : k < 16) : 4 * (nI k &&& 3) = nI (4 * (k % 4)) := by
  have e2 : nI k &&& 3 = nI (k % 4) := pk_andN (by omega) 2 (by decide)
  rw [e2]
  exact pk_mul 4 (k % 4)
theorem tr_t4 {k : Nat} (hk : k < 16) : 4 * (nI k >>> ((2 : Int32) &&& 31)) = nI (4 * (k / 4)) := by
  have e1 : nI k >>> ((2 : Int32) &&& 31) = nI (k / 4) := pk_shrN (by omega) _ 2 (by decide)
  rw [e1]
  exact pk_mul 4 (k / 4)
theorem tr_flush0 {bx hc rc fa : Int32} {a1 a2 a3 a4 a5 a6 a7 a8 a9 a10 a11 a12 a13 a14 a15 a16 a17 a18 a19 a20 a21 a22 a23 a24 a25 a26 : Nat → Int32} {post : St2 → Prop} (hrc : rc = 0) (K : post (bx, hc, rc, fa, a1, a2, a3, a4, a5, a6, a7, a8, a9, a10, a11, a12, a13, a14, a15, a16, a17, a18, a19, a20, a21, a22, a23, a24, a25, a26)) : wpX_flush post (bx, hc, rc, fa, a1, a2, a3, a4, a5, a6, a7, a8, a9, a10, a11, a12, a13, a14, a15, a16, a17, a18, a19, a20, a21, a22, a23, a24, a25, a26) := br_t hrc K
theorem tr_flush2 {bx hc rc fa : Int32} {a1 a2 a3 a4 a5 a6 a7 a8 a9 a10 a11 a12 a13 a14 a15 a16 a17 a18 a19 a20 a21 a22 a23 a24 a25 a26 : Nat → Int32} {post : St2 → Prop} {d od U V L R : Nat} {ru : Nat → Int32} {c cl old om x0 bv : Int32} (hd : d < 256) (hod : od < 256) (hU : U < 128) (hV : V < 128) (hL : L < 8) (hR8 : 8 ≤ R) (hR : R < 16) (hm : ru 2 = 0 ∨ ru 2 = 1 ∨ ru 2 = 2 ∨ ru 2 = 3 ∨ ru 2 = 4) (ho : old = x0 &&& 16777215) (hrc : rc = 2) (hbv : bv = nI (4096 * L + 256 * R + 44)) (hR0 : tr_R d U V c bv ru a12 a13 a14 a15 a16 a17 a18 a19 a20 0 0) (hR1 : tr_R d U V c bv ru a12 a13 a14 a15 a16 a17 a18 a19 a20 1 1) (h4 : a4 (8 * (V / 16) + U / 16) = cl)
    (hP : tr_Pic old od om (tr_due ru c cl old) d (tr_mk (ru 4) om (ru 5)) (ru 1) (fun _ => false) hc a1 a2 a3)
    (K : ∀ (hc' fa' : Int32) (a1' a2' a3' a21' a22' a23' a24' a25' : Nat → Int32), tr_Pic old od om (tr_due ru c cl old) d (tr_mk (ru 4) om (ru 5)) (ru 1) (tr_full (tr_ps ru om d od) L R) hc' a1' a2' a3' → post (bx, hc', 0, fa', a1', a2', a3', a4, a5, a6, a7, a8, a9, a10, a11, a12, a13, a14, a15, a16, a17, a18, a19, a20, a21', a22', a23', a24', a25', a26)) : wpX_flush post (bx, hc, rc, fa, a1, a2, a3, a4, a5, a6, a7, a8, a9, a10, a11, a12, a13, a14, a15, a16, a17, a18, a19, a20, a21, a22, a23, a24, a25, a26) := by
  refine br_f (by rw [hrc]; decide) ?_
  refine pk_loop (fun n k (s : Int32 × Int32 × (Nat → Int32) × (Nat → Int32) × (Nat → Int32) × (Nat → Int32) × (Nat → Int32) × (Nat → Int32) × (Nat → Int32) × (Nat → Int32)) => wX_flush_10 post n (nI k) bx s.1 rc s.2.1 s.2.2.1 s.2.2.2.1 s.2.2.2.2.1 a4 a5 a6 a7 a8 a9 a10 a11 a12 a13 a14 a15 a16 a17 a18 a19 a20 s.2.2.2.2.2.1 s.2.2.2.2.2.2.1 s.2.2.2.2.2.2.2.1 s.2.2.2.2.2.2.2.2.1 s.2.2.2.2.2.2.2.2.2 a26)
    (fun k s => tr_Pic old od om (tr_due ru c cl old) d (tr_mk (ru 4) om (ru 5)) (ru 1) (tr_K (tr_ps ru om d od) L R k) s.1 s.2.2.1 s.2.2.2.1 s.2.2.2.2.1) 16 0 (hc, fa, a1, a2, a3, a21, a22, a23, a24, a25) (by omega)
    (tr_pic_congr hP (fun p _ => ?_)) (fun n s h => pk_le 16 16 (fun _ => K _ _ _ _ _ _ _ _ _ _ (tr_pic_congr h (fun p hp => ?_))) (fun z => absurd z (by omega))) ?_
  · unfold tr_K
    rw [decide_eq_false (by omega), Bool.and_false]
  · unfold tr_K
    rw [decide_eq_true (by omega), Bool.and_true]
  intro n k s hk h hw
  have ha : k % 4 < 4 := Nat.mod_lt _ (by omega)
  have hb : k / 4 < 4 := by omega
  refine pk_le 16 k (fun z => absurd z (by omega)) (fun _ => nm_r (tr_l4 hk) (nm_r (tr_t4 hk) (tr_far (by omega) (by omega) (fun fa1 hf1 => Exists.intro 3 ?_))))
  refine pk_le 2 0 (fun z => absurd z (by omega)) (fun _ => ?_) hrc
  refine tr_drawIn (r := 0) hd hod hU hV hL hR8 hR hm ho (by omega) ha hb hbv hR0 h4 (fun x y hx hy c ha' hb' => tr_K_not hx ha' hb') hf1 h (fun hc1 fa1' b1 b2 b3 b21 b22 b23 b24 b25 hP1 hf2 => nm_r (nI_1 0) ?_)
  refine pk_le 2 1 (fun z => absurd z (by omega)) (fun _ => ?_) hrc
  refine tr_drawIn (r := 1) hd hod hU hV hL hR8 hR hm ho (by omega) ha hb hbv hR1 h4 (fun x y hx hy c ha' hb' => tr_D_not hx (tr_K_not hx ha' hb') c) hf2 hP1 (fun hc2 fa2' c1 c2 c3 c21 c22 c23 c24 c25 hP2 hf3 => nm_r (nI_1 1) ?_)
  refine pk_le 2 2 (fun _ => nm_r (nI_1 k) ?_) (fun z => absurd z (by omega)) hrc
  exact hw (_, _, _, _, _, _, _, _, _, _) (tr_pic_congr hP2 (fun p _ => tr_K_step hk p))
/-- a flush whose one record draws nothing -/
theorem tr_flush1 {bx hc rc fa : Int32} {a1 a2 a3 a4 a5 a6 a7 a8 a9 a10 a11 a12 a13 a14 a15 a16 a17 a18 a19 a20 a21 a22 a23 a24 a25 a26 : Nat → Int32} {post : St2 → Prop} (hrc : rc = 1) (hD : ∀ (φ : St2 → Prop) (fa' : Int32) (a b : Nat), a < 4 → b < 4 → φ (bx, hc, rc, fa', a1, a2, a3, a4, a5, a6, a7, a8, a9, a10, a11, a12, a13, a14, a15, a16, a17, a18, a19, a20, a21, a22, a23, a24, a25, a26) → wpX_drawIn φ (bx, hc, rc, fa', a1, a2, a3, a4, a5, a6, a7, a8, a9, a10, a11, a12, a13, a14, a15, a16, a17, a18, a19, a20, a21, a22, a23, a24, a25, a26) (nI 0) (nI (4 * a)) (nI (4 * b)))
    (K : ∀ (fa' : Int32), post (bx, hc, 0, fa', a1, a2, a3, a4, a5, a6, a7, a8, a9, a10, a11, a12, a13, a14, a15, a16, a17, a18, a19, a20, a21, a22, a23, a24, a25, a26)) : wpX_flush post (bx, hc, rc, fa, a1, a2, a3, a4, a5, a6, a7, a8, a9, a10, a11, a12, a13, a14, a15, a16, a17, a18, a19, a20, a21, a22, a23, a24, a25, a26) := by
  refine br_f (by rw [hrc]; decide) ?_
  refine pk_loop (fun n k (s : Int32) => wX_flush_10 post n (nI k) bx hc rc s a1 a2 a3 a4 a5 a6 a7 a8 a9 a10 a11 a12 a13 a14 a15 a16 a17 a18 a19 a20 a21 a22 a23 a24 a25 a26) (fun k s => True) 16 0 fa (by omega) trivial
    (fun n s h => pk_le 16 16 (fun _ => K s) (fun z => absurd z (by omega))) ?_
  intro n k s hk h hw
  refine pk_le 16 k (fun z => absurd z (by omega)) (fun _ => nm_r (tr_l4 hk) (nm_r (tr_t4 hk) (tr_far (by omega) (by omega) (fun fa1 hf1 => Exists.intro 2 ?_))))
  refine pk_le 1 0 (fun z => absurd z (by omega)) (fun _ => ?_) hrc
  refine hD _ fa1 (k % 4) (k / 4) (Nat.mod_lt _ (by omega)) (by omega) (nm_r (nI_1 0) ?_)
  exact pk_le 1 1 (fun _ => nm_r (nI_1 k) (hw fa1 trivial)) (fun z => absurd z (by omega)) hrc
theorem tr_noTest {bx hc rc fa : Int32} {a1 a2 a3 a4 a5 a6 a7 a8 a9 a10 a11 a12 a13 a14 a15 a16 a17 a18 a19 a20 a21 a22 a23 a24 a25 a26 : Nat → Int32} {L R : Nat} (hL : L < 8) (hR : R < 16) (h18 : a18 0 = nI (4096 * L + 256 * R + 44)) (h19 : a19 0 = 0) : ∀ (φ : St2 → Prop) (fa' : Int32) (a b : Nat), a < 4 → b < 4 → φ (bx, hc, rc, fa', a1, a2, a3, a4, a5, a6, a7, a8, a9, a10, a11, a12, a13, a14, a15, a16, a17, a18, a19, a20, a21, a22, a23, a24, a25, a26) → wpX_drawIn φ (bx, hc, rc, fa', a1, a2, a3, a4, a5, a6, a7, a8, a9, a10, a11, a12, a13, a14, a15, a16, a17, a18, a19, a20, a21, a22, a23, a24, a25, a26) (nI 0) (nI (4 * a)) (nI (4 * b)) := by
  intro φ fa' a b ha hb K
  have hB : 4096 * L + 256 * R + 44 < 2 ^ 31 := by omega
  refine tr_win (r := 0) (L := L) (R := R) (Y := 2) (Z := 12) (by omega) ha hb h18 ?_ ?_ ?_ ?_ (by omega) hR (by omega) (by omega) ?_
  · rw [pk_shrN hB _ 12 (by decide)]
    exact congrArg nI (by omega)
  · rw [pk_shrN hB _ 8 (by decide), pk_andN (by omega) 4 (by decide)]
    exact congrArg nI (by omega)
  · rw [pk_shrN hB _ 4 (by decide), pk_andN (by omega) 4 (by decide)]
    exact congrArg nI (by omega)
  · rw [pk_andN (by omega) 4 (by decide)]
    exact congrArg nI (by omega)
  · exact br_c (fun _ => K) (fun _ => br_c (fun _ => K) (fun _ => ⟨pk_in 0 96 (by omega), nm_r (tr_at (n := 0) h19 rfl) (br_f (by decide) (br_t rfl (br_f (by decide) K)))⟩))
theorem tr_noBox {bx hc rc fa : Int32} {a1 a2 a3 a4 a5 a6 a7 a8 a9 a10 a11 a12 a13 a14 a15 a16 a17 a18 a19 a20 a21 a22 a23 a24 a25 a26 : Nat → Int32} (h18 : a18 0 = 61440) : ∀ (φ : St2 → Prop) (fa' : Int32) (a b : Nat), a < 4 → b < 4 → φ (bx, hc, rc, fa', a1, a2, a3, a4, a5, a6, a7, a8, a9, a10, a11, a12, a13, a14, a15, a16, a17, a18, a19, a20, a21, a22, a23, a24, a25, a26) → wpX_drawIn φ (bx, hc, rc, fa', a1, a2, a3, a4, a5, a6, a7, a8, a9, a10, a11, a12, a13, a14, a15, a16, a17, a18, a19, a20, a21, a22, a23, a24, a25, a26) (nI 0) (nI (4 * a)) (nI (4 * b)) := by
  intro φ fa' a b ha hb K
  refine tr_win (r := 0) (L := 15) (R := 0) (Y := 0) (Z := 0) (by omega) ha hb h18 (by decide) (by decide) (by decide) (by decide) (by omega) (by omega) (by omega) (by omega) ?_
  exact pk_lt (min (4 * a + 3) 0) (max 15 (4 * a)) (fun _ => K) (fun z => absurd z (by omega))
end
section
/-! ===== making, corners, rules, clearing ===== -/
theorem tr_setRules {bx hc rc fa : Int32} {a1 a2 a3 a4 a5 a6 a7 a8 a9 a10 a11 a12 a13 a14 a15 a16 a17 a18 a19 a20 a21 a22 a23 a24 a25 a26 : Nat → Int32} {post : St2 → Prop} (K : ∀ (a11' : Nat → Int32), post (3855, hc, rc, fa, a1, a2, a3, a4, a5, a6, a7, a8, a9, a10, a11', a12, a13, a14, a15, a16, a17, a18, a19, a20, a21, a22, a23, a24, a25, a26)) : wpX_setRules post (bx, hc, rc, fa, a1, a2, a3, a4, a5, a6, a7, a8, a9, a10, a11, a12, a13, a14, a15, a16, a17, a18, a19, a20, a21, a22, a23, a24, a25, a26) :=
  pk_loop (fun n i s => wX_setRules_9 post 3855 hc rc fa n (nI i) a1 a2 a3 a4 a5 a6 a7 a8 a9 a10 s a12 a13 a14 a15 a16 a17 a18 a19 a20 a21 a22 a23 a24 a25 a26) (fun _ _ => True) 8 0 a11 (by omega) trivial
    (fun n s _ => pk_le 8 8 (fun _ => nm_e (nm_e (K _))) (fun z => absurd z (by omega)))
    (fun n i s hi _ hw => pk_le 8 i (fun z => absurd z (by omega)) (fun _ => ⟨pk_in i 8 hi, nm_e (nm_r (nI_1 i) (hw _ trivial))⟩))
theorem tr_init {post : St2 → Prop} {mc ms : Nat} (hmc : 26 ≤ mc) (hms : 1230 ≤ ms) (K : ∀ (bx : Int32) (a1 a2 a3 a4 a5 a6 a7 a8 a9 a10 a11 a12 a13 a14 a15 a16 a17 a18 a19 a20 a21 a22 a23 a24 a25 a26 : Nat → Int32), post (bx, 0, 0, 0, a1, a2, a3, a4, a5, a6, a7, a8, a9, a10, a11, a12, a13, a14, a15, a16, a17, a18, a19, a20, a21, a22, a23, a24, a25, a26)) : wpX_init post mc ms (0, 0, 0, 0) := by
  refine ⟨by omega, by omega, by omega, by omega, by omega, by omega, by omega, by omega, by omega, by omega, by omega, by omega, by omega, by omega, by omega, by omega, by omega, by omega, by omega, by omega, by omega, by omega, by omega, by omega, by omega, by omega, by omega, by omega, by omega, by omega, by omega, by omega, by omega, by omega, by omega, by omega, by omega, by omega, by omega, by omega, by omega, by omega, by omega, by omega, by omega, by omega, by omega, by omega, by omega, by omega, by omega, by omega, ?_⟩
  exact pk_loop (fun n i s => wX_init_211 post mc ms 26 1230 0 0 0 0 n (nI i) (fun _ => 0) s (fun _ => 0) (fun _ => 0) (fun _ => 0) (fun _ => 0) (fun _ => 0) (fun _ => 0) (fun _ => 0) (fun _ => 0) (fun _ => 0) (fun _ => 0) (fun _ => 0) (fun _ => 0) (fun _ => 0) (fun _ => 0) (fun _ => 0) (fun _ => 0) (fun _ => 0) (fun _ => 0) (fun _ => 0) (fun _ => 0) (fun _ => 0) (fun _ => 0) (fun _ => 0) (fun _ => 0)) (fun _ _ => True) 256 0 (fun _ => 0) (by omega) trivial
    (fun n s _ => pk_le 256 256 (fun _ => tr_setRules (fun a11' => K _ _ _ _ _ _ _ _ _ _ _ _ _ _ _ _ _ _ _ _ _ _ _ _ _ _ _)) (fun z => absurd z (by omega)))
    (fun n i s hi _ hw => pk_le 256 i (fun z => absurd z (by omega)) (fun _ => ⟨pk_in i 256 hi, nm_e (nm_r (nI_1 i) (hw _ trivial))⟩))
theorem tr_upE {s : Nat → Int32} {x v w : Int32} {n : Nat} (hx : x = nI n) (hv : v = w) (hn : n < 2 ^ 31 := by omega) : upd s x.toNatClampNeg v = upd s n w := by
  rw [hx, nI_clamp hn, hv]
theorem tr_corner {bx hc rc fa : Int32} {a1 a2 a3 a4 a5 a6 a7 a8 a9 a10 a11 a12 a13 a14 a15 a16 a17 a18 a19 a20 a21 a22 a23 a24 a25 a26 : Nat → Int32} {post : Int32 → St2 → Prop} (k pl dp co : Nat) (X Y : Int32) {P2 P3 : Int32} (hk : k < 6) (hpl : pl < 147456) (hdp : dp < 256) (hco : co < 16777216) (hX : (nI pl - nI pl / 384 * 384) - 64 = X) (hY : (nI pl / 384) - 64 = Y) (h2 : P2 = nI dp) (h3 : P3 = nI co)
    (K : post 0 (bx, hc, rc, fa, a1, a2, a3, a4, upd a5 k X, upd a6 k Y, upd a7 k P2, upd a8 k P3, a9, a10, a11, a12, a13, a14, a15, a16, a17, a18, a19, a20, a21, a22, a23, a24, a25, a26)) : wpX_corner post (bx, hc, rc, fa, a1, a2, a3, a4, a5, a6, a7, a8, a9, a10, a11, a12, a13, a14, a15, a16, a17, a18, a19, a20, a21, a22, a23, a24, a25, a26) (nI k) (nI pl) P2 P3 := by
  unfold wpX_corner
  refine tr_isIn k 6 hk (br_f (by decide) (tr_isIn pl 147456 hpl (br_f (by decide) (tr_isIn dp 256 hdp (br_f (by decide) (tr_isIn co 16777216 hco (br_f (by decide) ?_) h3)) h2))))
  refine ⟨by decide, pk_in k 6 hk, nm_r (tr_upE rfl hX) ⟨by decide, pk_in k 6 hk, nm_r (tr_upE rfl hY) ⟨pk_in k 6 hk, nm_r (tr_upE rfl rfl) ⟨pk_in k 6 hk, nm_r (tr_upE rfl rfl) K⟩⟩⟩⟩
theorem tr_aim {bx hc rc fa : Int32} {a1 a2 a3 a4 a5 a6 a7 a8 a9 a10 a11 a12 a13 a14 a15 a16 a17 a18 a19 a20 a21 a22 a23 a24 a25 a26 : Nat → Int32} {post : Int32 → St2 → Prop} {k u v : Nat} {P1 P2 : Int32} (hk : k < 6) (hu : u < 128) (hv : v < 128) (h1 : P1 = nI u) (h2 : P2 = nI v)
    (K : post 0 (bx, hc, rc, fa, a1, a2, a3, a4, a5, a6, a7, a8, upd a9 k (nI u), upd a10 k (nI v), a11, a12, a13, a14, a15, a16, a17, a18, a19, a20, a21, a22, a23, a24, a25, a26)) : wpX_aim post (bx, hc, rc, fa, a1, a2, a3, a4, a5, a6, a7, a8, a9, a10, a11, a12, a13, a14, a15, a16, a17, a18, a19, a20, a21, a22, a23, a24, a25, a26) (nI k) P1 P2 := by
  unfold wpX_aim
  exact tr_isIn k 6 hk (br_f (by decide) (tr_isIn u 128 hu (br_f (by decide) (tr_isIn v 128 hv (br_f (by decide) ⟨pk_in k 6 hk, nm_r (tr_upE rfl h1) ⟨pk_in k 6 hk, nm_r (tr_upE rfl h2) K⟩⟩) h2)) h1))
theorem tr_window {bx hc rc fa : Int32} {a1 a2 a3 a4 a5 a6 a7 a8 a9 a10 a11 a12 a13 a14 a15 a16 a17 a18 a19 a20 a21 a22 a23 a24 a25 a26 : Nat → Int32} {post : Int32 → St2 → Prop} {b : Nat} {P : Int32} (hb : b < 65536) (h : P = nI b) (K : post 0 (nI b, hc, rc, fa, a1, a2, a3, a4, a5, a6, a7, a8, a9, a10, a11, a12, a13, a14, a15, a16, a17, a18, a19, a20, a21, a22, a23, a24, a25, a26)) : wpX_window post (bx, hc, rc, fa, a1, a2, a3, a4, a5, a6, a7, a8, a9, a10, a11, a12, a13, a14, a15, a16, a17, a18, a19, a20, a21, a22, a23, a24, a25, a26) P := by
  subst h
  unfold wpX_window
  exact tr_isIn b 65536 hb (br_f (by decide) K)
theorem tr_cell {bx hc rc fa : Int32} {a1 a2 a3 a4 a5 a6 a7 a8 a9 a10 a11 a12 a13 a14 a15 a16 a17 a18 a19 a20 a21 a22 a23 a24 a25 a26 : Nat → Int32} {post : Int32 → St2 → Prop} {u v co : Nat} {P0 P1 P2 : Int32} (hrc : rc = 0) (hu : u < 8) (hv : v < 8) (hco : co < 16777216) (h0 : P0 = nI u) (h1 : P1 = nI v) (h2 : P2 = nI co)
    (K : post (a4 (8 * v + u)) (bx, hc, rc, fa, a1, a2, a3, upd a4 (8 * v + u) P2, a5, a6, a7, a8, a9, a10, a11, a12, a13, a14, a15, a16, a17, a18, a19, a20, a21, a22, a23, a24, a25, a26)) : wpX_cell post (bx, hc, rc, fa, a1, a2, a3, a4, a5, a6, a7, a8, a9, a10, a11, a12, a13, a14, a15, a16, a17, a18, a19, a20, a21, a22, a23, a24, a25, a26) P0 P1 P2 := by
  subst h0 h1
  unfold wpX_cell
  exact tr_isIn u 8 hu (br_f (by decide) (tr_isIn v 8 hv (br_f (by decide) (tr_isIn co 16777216 hco (br_f (by decide) (tr_flush0 hrc ⟨pk_in (8 * v + u) 64 (by omega) (tr_ix8 v u), nm_r (tr_at rfl (tr_ix8 v u)) ⟨pk_in (8 * v + u) 64 (by omega) (tr_ix8 v u), nm_r (tr_upE (tr_ix8 v u) rfl) K⟩⟩)) h2))))
def tr_mo (k : Nat) : Nat := if k = 0 then 3 else if k = 4 then 3 else if k = 2 then 4 else if k = 3 then 2 else if k = 5 then 15 else 1
theorem tr_mostOf {post : Int32 → Prop} {k : Nat} (hk : k < 8) (H : post (nI (tr_mo k))) : wpX_mostOf post () (nI k) := by
  unfold tr_mo at H
  refine pk_eq k 0 (fun e => ?_) (fun e0 => pk_eq k 4 (fun e => ?_) (fun e4 => pk_eq k 2 (fun e => ?_) (fun e2 => pk_eq k 3 (fun e => ?_) (fun e3 => pk_eq k 5 (fun e => ?_) (fun e5 => ?_)))))
  · rw [if_pos e] at H; exact H
  · rw [if_neg e0, if_pos e] at H; exact H
  · rw [if_neg e0, if_neg e4, if_pos e] at H; exact H
  · rw [if_neg e0, if_neg e4, if_neg e2, if_pos e] at H; exact H
  · rw [if_neg e0, if_neg e4, if_neg e2, if_neg e3, if_pos e] at H; exact H
  · rw [if_neg e0, if_neg e4, if_neg e2, if_neg e3, if_neg e5] at H; exact H
theorem tr_mo_le (k : Nat) : tr_mo k ≤ 15 := by
  unfold tr_mo
  repeat' split
  all_goals omega
theorem tr_rule {bx hc rc fa : Int32} {a1 a2 a3 a4 a5 a6 a7 a8 a9 a10 a11 a12 a13 a14 a15 a16 a17 a18 a19 a20 a21 a22 a23 a24 a25 a26 : Nat → Int32} {post : Int32 → St2 → Prop} (k v : Nat) {P : Int32} (hk : k < 8) (hv : v ≤ tr_mo k) (h : P = nI v)
    (K : post (a11 k) (bx, hc, rc, fa, a1, a2, a3, a4, a5, a6, a7, a8, a9, a10, upd a11 k P, a12, a13, a14, a15, a16, a17, a18, a19, a20, a21, a22, a23, a24, a25, a26)) : wpX_rule post (bx, hc, rc, fa, a1, a2, a3, a4, a5, a6, a7, a8, a9, a10, a11, a12, a13, a14, a15, a16, a17, a18, a19, a20, a21, a22, a23, a24, a25, a26) (nI k) P := by
  have hm := tr_mo_le k
  unfold wpX_rule
  refine tr_isIn k 8 hk (br_f (by decide) (br_f (by rw [h]; exact nI_pos (by omega)) (tr_mostOf hk (pk_le v (tr_mo k) (fun _ => ⟨pk_in k 8 hk, nm_r (tr_at rfl rfl) ⟨pk_in k 8 hk, nm_r (tr_upE rfl rfl) K⟩⟩) (fun z => absurd z (by omega)) h))))
theorem tr_clear {bx hc rc fa : Int32} {a1 a2 a3 a4 a5 a6 a7 a8 a9 a10 a11 a12 a13 a14 a15 a16 a17 a18 a19 a20 a21 a22 a23 a24 a25 a26 : Nat → Int32} {post : Int32 → St2 → Prop} {co dp m : Nat} {P0 P1 P2 : Int32} (hrc : rc = 0) (hco : co < 16777216) (hdp : dp < 256) (hm : m < 16) (h0 : P0 = nI co) (h1 : P1 = nI dp) (h2 : P2 = nI m)
    (K : ∀ (a1' a2' a3' : Nat → Int32), (∀ p, p < 256 → a1' p = P0 ∧ a2' p = P1 ∧ a3' p = P2) → post 0 (bx, hc, rc, fa, a1', a2', a3', a4, a5, a6, a7, a8, a9, a10, a11, a12, a13, a14, a15, a16, a17, a18, a19, a20, a21, a22, a23, a24, a25, a26)) : wpX_clear post (bx, hc, rc, fa, a1, a2, a3, a4, a5, a6, a7, a8, a9, a10, a11, a12, a13, a14, a15, a16, a17, a18, a19, a20, a21, a22, a23, a24, a25, a26) P0 P1 P2 := by
  unfold wpX_clear
  refine tr_isIn co 16777216 hco (br_f (by decide) (tr_isIn dp 256 hdp (br_f (by decide) (tr_isIn m 16 hm (br_f (by decide) (tr_flush0 hrc ?_)) h2)) h1)) h0
  refine pk_loop (fun n i (s : (Nat → Int32) × (Nat → Int32) × (Nat → Int32)) => wX_clear_37 post P0 P1 P2 bx hc rc fa n (nI i) s.1 s.2.1 s.2.2 a4 a5 a6 a7 a8 a9 a10 a11 a12 a13 a14 a15 a16 a17 a18 a19 a20 a21 a22 a23 a24 a25 a26) (fun i s => ∀ p, p < i → s.1 p = P0 ∧ s.2.1 p = P1 ∧ s.2.2 p = P2) 256 0 (a1, a2, a3) (by omega) (fun p hp => absurd hp (by omega))
    (fun n s h => pk_le 256 256 (fun _ => K _ _ _ h) (fun z => absurd z (by omega)))
    (fun n i s hi h hw => pk_le 256 i (fun z => absurd z (by omega)) (fun _ => ⟨pk_in i 256 hi, nm_r (tr_upE rfl rfl) ⟨pk_in i 256 hi, nm_r (tr_upE rfl rfl) ⟨pk_in i 256 hi, nm_r (tr_upE rfl rfl) (nm_r (nI_1 i) (hw (_, _, _) (fun p hp => ?_)))⟩⟩⟩))
  by_cases e : p = i
  · subst e
    exact ⟨pk_us, pk_us, pk_us⟩
  · have g := h p (by omega)
    exact ⟨(pk_un e).trans g.1, (pk_un e).trans g.2.1, (pk_un e).trans g.2.2⟩
end
section
/-! ===== choosing, writing, drawing ===== -/
def tr_cx (k : Nat) : Int32 := if k = 1 then 319 else if k = 3 then 319 else -64
def tr_cy (k : Nat) : Int32 := if k = 2 then 319 else if k = 3 then 319 else -64
def tr_ch (q i : Nat) : Nat := if q = 0 then i else (if i = 0 then 1 else if i = 1 then 3 else 2)
theorem tr_chT : ∀ q, q < 2 → nI (8 + 48 * q) / 36 = nI (tr_ch q 0) ∧ (nI (8 + 48 * q) / 6) - (nI (8 + 48 * q) / 6) / 6 * 6 = nI (tr_ch q 1) ∧ nI (8 + 48 * q) - nI (8 + 48 * q) / 6 * 6 = nI (tr_ch q 2) := by decide +kernel
theorem tr_chA : ∀ q, q < 2 → ((tr_cx (tr_ch q 1) - tr_cx (tr_ch q 0)) * (tr_cy (tr_ch q 2) - tr_cy (tr_ch q 0))) - ((tr_cy (tr_ch q 1) - tr_cy (tr_ch q 0)) * (tr_cx (tr_ch q 2) - tr_cx (tr_ch q 0))) = 146689 := by decide +kernel
theorem tr_chL : ∀ q, q < 2 → ∀ i, i < 3 → tr_ch q i < 4 ∧ tr_cx (tr_ch q i) = tr_rx q i ∧ tr_cy (tr_ch q i) = tr_ry q i := by decide +kernel
theorem tr_sideOf {post : Int32 → Prop} {p0 p1 p2 p3 p4 p5 v : Int32} (e : ((p2 - p0) * (p5 - p1)) - ((p3 - p1) * (p4 - p0)) = v) (H : post v) : wpX_sideOf post () p0 p1 p2 p3 p4 p5 := by
  unfold wpX_sideOf
  rw [e]
  exact H
theorem tr_choose {bx hc rc fa : Int32} {a1 a2 a3 a4 a5 a6 a7 a8 a9 a10 a11 a12 a13 a14 a15 a16 a17 a18 a19 a20 a21 a22 a23 a24 a25 a26 : Nat → Int32} {post : Int32 → St2 → Prop} {q : Nat} (hq : q < 2) (h5 : ∀ k, k < 4 → a5 k = tr_cx k) (h6 : ∀ k, k < 4 → a6 k = tr_cy k)
    (K : ∀ (a26' : Nat → Int32), (∀ i, i < 3 → a26' i = nI (tr_ch q i)) → post 146689 (bx, hc, rc, fa, a1, a2, a3, a4, a5, a6, a7, a8, a9, a10, a11, a12, a13, a14, a15, a16, a17, a18, a19, a20, a21, a22, a23, a24, a25, a26')) : wpX_choose post (bx, hc, rc, fa, a1, a2, a3, a4, a5, a6, a7, a8, a9, a10, a11, a12, a13, a14, a15, a16, a17, a18, a19, a20, a21, a22, a23, a24, a25, a26) (nI (8 + 48 * q)) := by
  obtain ⟨t0, t1, t2⟩ := tr_chT q hq
  have b0 := (tr_chL q hq 0 (by omega)).1
  have b1 := (tr_chL q hq 1 (by omega)).1
  have b2 := (tr_chL q hq 2 (by omega)).1
  refine ⟨by decide, nm_r t0 ⟨by decide, by decide, nm_r t1 ⟨by decide, nm_r t2 ⟨pk_in _ 6 (show tr_ch q 0 < 6 by omega), pk_in _ 6 (show tr_ch q 0 < 6 by omega), pk_in _ 6 (show tr_ch q 1 < 6 by omega), pk_in _ 6 (show tr_ch q 1 < 6 by omega), pk_in _ 6 (show tr_ch q 2 < 6 by omega), pk_in _ 6 (show tr_ch q 2 < 6 by omega), tr_sideOf (v := 146689) ?_ (br_t (by decide) ?_)⟩⟩⟩⟩
  · rw [tr_at (h5 _ b0) rfl, tr_at (h5 _ b1) rfl, tr_at (h5 _ b2) rfl, tr_at (h6 _ b0) rfl, tr_at (h6 _ b1) rfl, tr_at (h6 _ b2) rfl]
    exact tr_chA q hq
  · refine nm_e (br_t (by decide) ⟨pk_in 1 3 (by omega), nm_r (tr_upE (n := 1) rfl rfl) (br_t (by decide) ⟨pk_in 2 3 (by omega), nm_r (tr_upE (n := 2) rfl rfl) (br_t (by decide) (K _ ?_))⟩)⟩)
    exact tr_fill (f := fun i => nI (tr_ch q i)) rfl (tr_fill (f := fun i => nI (tr_ch q i)) rfl (tr_fill (f := fun i => nI (tr_ch q i)) rfl (fun j hj => absurd hj (by omega)) rfl) rfl) rfl
/-- a block of m places at m * r, filled up to i; the rest as it was -/
def tr_W (m : Nat) (f : Nat → Int32) (r i : Nat) (s s0 : Nat → Int32) : Prop := (∀ j, j < i → s (m * r + j) = f j) ∧ (∀ k, (k < m * r ∨ m * r + m ≤ k) → s k = s0 k)
theorem tr_W0 {m : Nat} {f : Nat → Int32} {r : Nat} {s : Nat → Int32} : tr_W m f r 0 s s := ⟨fun j hj => absurd hj (by omega), fun _ _ => rfl⟩
theorem tr_W1 {m : Nat} {f : Nat → Int32} {r i : Nat} {s s0 : Nat → Int32} (h : tr_W m f r i s s0) (hi : i < m) : tr_W m f r (i + 1) (upd s (m * r + i) (f i)) s0 := by
  refine ⟨fun j hj => ?_, fun k hk => ?_⟩
  · by_cases e : j = i
    · rw [e, pk_us]
    · rw [pk_un (by omega)]
      exact h.1 j (by omega)
  · rw [pk_un (by omega)]
    exact h.2 k hk
theorem tr_keep {m r r' i : Nat} (h : r' ≠ r) (hi : i < m) : m * r' + i < m * r ∨ m * r + m ≤ m * r' + i := by
  rcases Nat.lt_or_gt_of_ne h with z | z
  · left
    have := Nat.mul_le_mul_left m (show r' + 1 ≤ r from z)
    rw [Nat.mul_add, Nat.mul_one] at this
    omega
  · right
    have := Nat.mul_le_mul_left m (show r + 1 ≤ r' from z)
    rw [Nat.mul_add, Nat.mul_one] at this
    omega
theorem tr_write {bx hc rc fa : Int32} {a1 a2 a3 a4 a5 a6 a7 a8 a9 a10 a11 a12 a13 a14 a15 a16 a17 a18 a19 a20 a21 a22 a23 a24 a25 a26 : Nat → Int32} {post : St2 → Prop} {r q d U V : Nat} {c : Int32} (hr : r < 12) (hq : q < 2) (h26 : ∀ i, i < 3 → a26 i = nI (tr_ch q i)) (h5 : ∀ k, k < 4 → a5 k = tr_cx k) (h6 : ∀ k, k < 4 → a6 k = tr_cy k) (h7 : ∀ k, k < 4 → a7 k = nI d) (h8 : ∀ k, k < 4 → a8 k = c) (h9 : ∀ k, k < 4 → a9 k = nI U) (h10 : ∀ k, k < 4 → a10 k = nI V)
    (K : ∀ (a12' a13' a14' a15' a16' a17' a18' a19' a20' : Nat → Int32), tr_R d U V c bx a11 a12' a13' a14' a15' a16' a17' a18' a19' a20' r q → (∀ (d U V : Nat) (c bv : Int32) (ru : Nat → Int32) (r' q' : Nat), r' ≠ r → tr_R d U V c bv ru a12 a13 a14 a15 a16 a17 a18 a19 a20 r' q' → tr_R d U V c bv ru a12' a13' a14' a15' a16' a17' a18' a19' a20' r' q') → post (bx, hc, rc, fa, a1, a2, a3, a4, a5, a6, a7, a8, a9, a10, a11, a12', a13', a14', a15', a16', a17', a18', a19', a20', a21, a22, a23, a24, a25, a26)) : wpX_write post (bx, hc, rc, fa, a1, a2, a3, a4, a5, a6, a7, a8, a9, a10, a11, a12, a13, a14, a15, a16, a17, a18, a19, a20, a21, a22, a23, a24, a25, a26) (nI r) 146689 := by
  refine pk_loop (fun n i (s : (Nat → Int32) × (Nat → Int32) × (Nat → Int32) × (Nat → Int32) × (Nat → Int32) × (Nat → Int32)) => wX_write_2 post (nI r) 146689 bx hc rc fa n (nI i) a1 a2 a3 a4 a5 a6 a7 a8 a9 a10 a11 s.1 s.2.1 s.2.2.1 s.2.2.2.1 s.2.2.2.2.1 s.2.2.2.2.2 a18 a19 a20 a21 a22 a23 a24 a25 a26)
    (fun i s => tr_W 3 (tr_rx q) r i s.1 a12 ∧ tr_W 3 (tr_ry q) r i s.2.1 a13 ∧ tr_W 3 (fun _ => nI d) r i s.2.2.1 a14 ∧ tr_W 3 (fun _ => c) r i s.2.2.2.1 a15 ∧ tr_W 3 (fun _ => nI U) r i s.2.2.2.2.1 a16 ∧ tr_W 3 (fun _ => nI V) r i s.2.2.2.2.2 a17) 3 0 (a12, a13, a14, a15, a16, a17) (by omega)
    ⟨tr_W0, tr_W0, tr_W0, tr_W0, tr_W0, tr_W0⟩ ?_ ?_
  · intro n s h
    obtain ⟨w12, w13, w14, w15, w16, w17⟩ := h
    refine pk_le 3 3 (fun _ => ⟨pk_in r 12 hr, nm_r (tr_upE rfl rfl) ⟨pk_in r 12 hr, nm_r (tr_upE rfl rfl) ?_⟩⟩) (fun z => absurd z (by omega))
    refine pk_loop (fun n i t => wX_write_142 post (nI r) bx hc rc fa n (nI i) a1 a2 a3 a4 a5 a6 a7 a8 a9 a10 a11 s.1 s.2.1 s.2.2.1 s.2.2.2.1 s.2.2.2.2.1 s.2.2.2.2.2 (upd a18 r bx) t (upd a20 r 146689) a21 a22 a23 a24 a25 a26) (fun i t => tr_W 8 a11 r i t a19) 8 0 a19 (by omega) tr_W0
      (fun n t h => pk_le 8 8 (fun _ => K _ _ _ _ _ _ _ _ _ ⟨w12.1, w13.1, w14.1, w15.1, w16.1, w17.1, pk_us, h.1, pk_us⟩ ?_) (fun z => absurd z (by omega)))
      (fun n i t hi h hw => pk_le 8 i (fun z => absurd z (by omega)) (fun _ => ⟨pk_in i 8 hi, pk_in (8 * r + i) 96 (by omega) (tr_ix8 r i), nm_r (tr_upE (tr_ix8 r i) (tr_at rfl rfl)) (nm_r (nI_1 i) (hw _ (tr_W1 h hi)))⟩))
    intro d U V c bv ru r' q' hne g
    obtain ⟨g12, g13, g14, g15, g16, g17, g18, g19, g20⟩ := g
    exact ⟨fun i hi => (w12.2 _ (tr_keep hne hi)).trans (g12 i hi), fun i hi => (w13.2 _ (tr_keep hne hi)).trans (g13 i hi), fun i hi => (w14.2 _ (tr_keep hne hi)).trans (g14 i hi), fun i hi => (w15.2 _ (tr_keep hne hi)).trans (g15 i hi), fun i hi => (w16.2 _ (tr_keep hne hi)).trans (g16 i hi), fun i hi => (w17.2 _ (tr_keep hne hi)).trans (g17 i hi), (pk_un hne).trans g18, fun i hi => (h.2 _ (tr_keep hne hi)).trans (g19 i hi), (pk_un hne).trans g20⟩
  · intro n i s hi h hw
    obtain ⟨w12, w13, w14, w15, w16, w17⟩ := h
    obtain ⟨b, ex, ey⟩ := tr_chL q hq i hi
    have p6 : vp_in (nI (tr_ch q i)) 6 := pk_in (tr_ch q i) 6 (by omega)
    have p36 : vp_in ((3 : Int32) * nI r + nI i) 36 := pk_in (3 * r + i) 36 (by omega) (tr_ix3 r i)
    refine pk_le 3 i (fun z => absurd z (by omega)) (fun _ => ⟨pk_in i 3 hi, nm_r (tr_at (h26 i hi) rfl) ⟨p6, p36, nm_r (tr_upE (tr_ix3 r i) (tr_at ((h5 _ b).trans ex) rfl)) ⟨p6, p36, nm_r (tr_upE (tr_ix3 r i) (tr_at ((h6 _ b).trans ey) rfl)) ⟨p6, p36, nm_r (tr_upE (tr_ix3 r i) (tr_at (h7 _ b) rfl)) ⟨p6, p36, nm_r (tr_upE (tr_ix3 r i) (tr_at (h8 _ b) rfl)) ⟨p6, p36, nm_r (tr_upE (tr_ix3 r i) (tr_at (h9 _ b) rfl)) ⟨p6, p36, nm_r (tr_upE (tr_ix3 r i) (tr_at (h10 _ b) rfl)) (nm_r (nI_1 i) ?_)⟩⟩⟩⟩⟩⟩⟩)
    exact hw (_, _, _, _, _, _) ⟨tr_W1 w12 hi, tr_W1 w13 hi, tr_W1 w14 hi, tr_W1 w15 hi, tr_W1 w16 hi, tr_W1 w17 hi⟩
theorem tr_draw {bx hc rc fa : Int32} {a1 a2 a3 a4 a5 a6 a7 a8 a9 a10 a11 a12 a13 a14 a15 a16 a17 a18 a19 a20 a21 a22 a23 a24 a25 a26 : Nat → Int32} {post : Int32 → St2 → Prop} {q n d U V : Nat} {c : Int32} (hq : q < 2) (hrc : rc = nI n) (hn : n < 11) (h5 : ∀ k, k < 4 → a5 k = tr_cx k) (h6 : ∀ k, k < 4 → a6 k = tr_cy k) (h7 : ∀ k, k < 4 → a7 k = nI d) (h8 : ∀ k, k < 4 → a8 k = c) (h9 : ∀ k, k < 4 → a9 k = nI U) (h10 : ∀ k, k < 4 → a10 k = nI V)
    (K : ∀ (a12' a13' a14' a15' a16' a17' a18' a19' a20' a26' : Nat → Int32), tr_R d U V c bx a11 a12' a13' a14' a15' a16' a17' a18' a19' a20' n q → (∀ (d U V : Nat) (c bv : Int32) (ru : Nat → Int32) (r' q' : Nat), r' ≠ n → tr_R d U V c bv ru a12 a13 a14 a15 a16 a17 a18 a19 a20 r' q' → tr_R d U V c bv ru a12' a13' a14' a15' a16' a17' a18' a19' a20' r' q') → post 0 (bx, hc, nI (n + 1), fa, a1, a2, a3, a4, a5, a6, a7, a8, a9, a10, a11, a12', a13', a14', a15', a16', a17', a18', a19', a20', a21, a22, a23, a24, a25, a26')) : wpX_draw post (bx, hc, rc, fa, a1, a2, a3, a4, a5, a6, a7, a8, a9, a10, a11, a12, a13, a14, a15, a16, a17, a18, a19, a20, a21, a22, a23, a24, a25, a26) (nI (8 + 48 * q)) := by
  subst hrc
  unfold wpX_draw
  refine tr_isIn (8 + 48 * q) 216 (by omega) (br_f (by decide) (tr_choose hq h5 h6 (fun a26' h26 => br_f (by decide) (pk_eq n 12 (fun z => absurd z (by omega)) (fun _ => ?_)))))
  exact tr_write (by omega) hq h26 h5 h6 h7 h8 h9 h10 (fun a12' a13' a14' a15' a16' a17' a18' a19' a20' g1 g2 => nm_r (nI_1 n) (K _ _ _ _ _ _ _ _ _ _ g1 g2))
/-! ===== how much a triangle covers ===== -/
def tr_cv (q p : Nat) : Bool := tr_cov q (p % 16) (p / 16)
theorem tr_cvT : ∀ q, q < 2 → tr_cnt (tr_cv q) 256 = 120 + 16 * q := by decide +kernel
theorem tr_cvs {q y i : Nat} (hi : i < 16) : tr_cnt (tr_cv q) (16 * y + (i + 1)) = tr_cnt (tr_cv q) (16 * y + i) + (if tr_cov q i y = true then 1 else 0) := by
  show tr_cnt (tr_cv q) (16 * y + i) + (if tr_cov q ((16 * y + i) % 16) ((16 * y + i) / 16) = true then 1 else 0) = _
  rw [show (16 * y + i) % 16 = i by omega, show (16 * y + i) / 16 = y by omega]
theorem tr_cover44 {bx hc rc fa : Int32} {a1 a2 a3 a4 a5 a6 a7 a8 a9 a10 a11 a12 a13 a14 a15 a16 a17 a18 a19 a20 a21 a22 a23 a24 a25 a26 : Nat → Int32} {post : Int32 → St2 → Prop} {q : Nat} (hq : q < 2) (h21 : ∀ i, i < 3 → a21 i = tr_sx q i) (h22 : ∀ i, i < 3 → a22 i = tr_sy q i) (h23 : ∀ i, i < 3 → a23 i = tr_tk q i) (h24 : ∀ i, i < 3 → a24 i = tr_az q i)
    (K : ∀ (a25' : Nat → Int32), post (nI (120 + 16 * q)) (bx, hc, rc, fa, a1, a2, a3, a4, a5, a6, a7, a8, a9, a10, a11, a12, a13, a14, a15, a16, a17, a18, a19, a20, a21, a22, a23, a24, a25', a26)) : ∃ n, wX_covered_44 post n 0 0 bx hc rc fa a1 a2 a3 a4 a5 a6 a7 a8 a9 a10 a11 a12 a13 a14 a15 a16 a17 a18 a19 a20 a21 a22 a23 a24 a25 a26 := by
  refine pk_loop (fun n y (s : Int32 × (Nat → Int32)) => wX_covered_44 post n s.1 (nI y) bx hc rc fa a1 a2 a3 a4 a5 a6 a7 a8 a9 a10 a11 a12 a13 a14 a15 a16 a17 a18 a19 a20 a21 a22 a23 a24 s.2 a26) (fun y s => s.1 = nI (tr_cnt (tr_cv q) (16 * y))) 16 0 (0, a25) (by omega) rfl
    (fun n s h => pk_le 16 16 (fun _ => ?_) (fun z => absurd z (by omega))) ?_
  · rw [h, tr_cvT q hq]
    exact K _
  intro n y s hy h hw
  refine pk_le 16 y (fun z => absurd z (by omega)) (fun _ => tr_goTo (x := 0) h21 h22 h24 (fun a25' h25 => ?_))
  refine pk_loop (fun m x (t : Int32 × (Nat → Int32)) => wX_covered_61 post (wX_covered_44 post n) (nI y) m t.1 (nI x) bx hc rc fa a1 a2 a3 a4 a5 a6 a7 a8 a9 a10 a11 a12 a13 a14 a15 a16 a17 a18 a19 a20 a21 a22 a23 a24 t.2 a26) (fun x t => t.1 = nI (tr_cnt (tr_cv q) (16 * y + x)) ∧ ∀ i, i < 3 → t.2 i = tr_sd q x y i) 16 0 (s.1, a25') (by omega) ⟨h, h25⟩
    (fun m t g => pk_le 16 16 (fun _ => nm_r (nI_1 y) (hw (_, _) g.1)) (fun z => absurd z (by omega))) ?_
  intro m x t hx g hv
  refine pk_le 16 x (fun z => absurd z (by omega)) (fun _ => tr_isCovered hq hx hy h23 g.2 (fun c1 => br_f (by decide) ?_) (fun c0 => br_t rfl ?_))
  · refine nm_r (e' := nI (tr_cnt (tr_cv q) (16 * y + (x + 1)))) ?_ (tr_goOn h21 g.2 (fun a25'' h25' => nm_r (nI_1 x) (hv (_, _) ⟨rfl, h25'⟩)))
    rw [g.1, tr_cvs hx, if_pos c1, nI_1]
  · refine nm_r (e' := nI (tr_cnt (tr_cv q) (16 * y + (x + 1)))) ?_ (tr_goOn h21 g.2 (fun a25'' h25' => nm_r (nI_1 x) (hv (_, _) ⟨rfl, h25'⟩)))
    rw [g.1, tr_cvs hx, if_neg (by rw [c0]; decide), Int32.add_zero, Nat.add_zero]
theorem tr_covered {bx hc rc fa : Int32} {a1 a2 a3 a4 a5 a6 a7 a8 a9 a10 a11 a12 a13 a14 a15 a16 a17 a18 a19 a20 a21 a22 a23 a24 a25 a26 : Nat → Int32} {post : Int32 → St2 → Prop} {Q : Int32 → (Nat → Int32) → (Nat → Int32) → (Nat → Int32) → Prop} {q d U V : Nat} {c : Int32} (hq : q < 2) (h5 : ∀ k, k < 4 → a5 k = tr_cx k) (h6 : ∀ k, k < 4 → a6 k = tr_cy k) (h7 : ∀ k, k < 4 → a7 k = nI d) (h8 : ∀ k, k < 4 → a8 k = c) (h9 : ∀ k, k < 4 → a9 k = nI U) (h10 : ∀ k, k < 4 → a10 k = nI V)
    (F : ∀ (φ : St2 → Prop) (a26' : Nat → Int32), (∀ (hc' fa' : Int32) (a1' a2' a3' a21' a22' a23' a24' a25' : Nat → Int32), Q hc' a1' a2' a3' → φ (bx, hc', 0, fa', a1', a2', a3', a4, a5, a6, a7, a8, a9, a10, a11, a12, a13, a14, a15, a16, a17, a18, a19, a20, a21', a22', a23', a24', a25', a26')) → wpX_flush φ (bx, hc, rc, fa, a1, a2, a3, a4, a5, a6, a7, a8, a9, a10, a11, a12, a13, a14, a15, a16, a17, a18, a19, a20, a21, a22, a23, a24, a25, a26'))
    (K : ∀ (hc' fa' : Int32) (a1' a2' a3' a12' a13' a14' a15' a16' a17' a18' a19' a20' a21' a22' a23' a24' a25' a26' : Nat → Int32), Q hc' a1' a2' a3' → post (nI (120 + 16 * q)) (bx, hc', 0, fa', a1', a2', a3', a4, a5, a6, a7, a8, a9, a10, a11, a12', a13', a14', a15', a16', a17', a18', a19', a20', a21', a22', a23', a24', a25', a26')) : wpX_covered post (bx, hc, rc, fa, a1, a2, a3, a4, a5, a6, a7, a8, a9, a10, a11, a12, a13, a14, a15, a16, a17, a18, a19, a20, a21, a22, a23, a24, a25, a26) (nI (8 + 48 * q)) := by
  unfold wpX_covered
  refine tr_isIn (8 + 48 * q) 216 (by omega) (br_f (by decide) (tr_choose hq h5 h6 (fun a26' h26 => br_f (by decide) (F _ a26' (fun hc' fa' a1' a2' a3' b21 b22 b23 b24 b25 hQ => ?_)))))
  refine tr_write (r := 0) (by omega) hq h26 h5 h6 h7 h8 h9 h10 (fun a12' a13' a14' a15' a16' a17' a18' a19' a20' g1 g2 => ?_)
  refine tr_takeEdges (r := 0) (by omega) g1.1 g1.2.1 (fun a21' a22' a23' a24' k21 k22 k23 k24 => ?_)
  exact tr_cover44 hq k21 k22 k23 k24 (fun a25' => K _ _ _ _ _ _ _ _ _ _ _ _ _ _ _ _ _ _ _ _ hQ)
end
section
/-! ===== looking ===== -/
theorem tr_isPixel {post : Int32 → Prop} {x y : Nat} (hx : x < 16) (hy : y < 16) (H : post 1) : wpX_isPixel post () (nI x) (nI y) := by
  unfold wpX_isPixel
  exact tr_isIn x 16 hx (br_f (by decide) (tr_isIn y 16 hy (br_f (by decide) H)))
theorem tr_colour {bx hc rc fa : Int32} {a1 a2 a3 a4 a5 a6 a7 a8 a9 a10 a11 a12 a13 a14 a15 a16 a17 a18 a19 a20 a21 a22 a23 a24 a25 a26 : Nat → Int32} {post : Int32 → St2 → Prop} {x y : Nat} (hrc : rc = 0) (hx : x < 16) (hy : y < 16) (K : post (a1 (16 * y + x)) (bx, hc, rc, fa, a1, a2, a3, a4, a5, a6, a7, a8, a9, a10, a11, a12, a13, a14, a15, a16, a17, a18, a19, a20, a21, a22, a23, a24, a25, a26)) : wpX_colour post (bx, hc, rc, fa, a1, a2, a3, a4, a5, a6, a7, a8, a9, a10, a11, a12, a13, a14, a15, a16, a17, a18, a19, a20, a21, a22, a23, a24, a25, a26) (nI x) (nI y) := by
  unfold wpX_colour
  refine tr_flush0 hrc (tr_isPixel hx hy (br_f (by decide) ⟨pk_in (16 * y + x) 256 (by omega) (tr_ix16 y x), ?_⟩))
  rw [tr_at (a := a1) rfl (tr_ix16 y x)]
  exact K
theorem tr_depth {bx hc rc fa : Int32} {a1 a2 a3 a4 a5 a6 a7 a8 a9 a10 a11 a12 a13 a14 a15 a16 a17 a18 a19 a20 a21 a22 a23 a24 a25 a26 : Nat → Int32} {post : Int32 → St2 → Prop} {x y : Nat} (hrc : rc = 0) (hx : x < 16) (hy : y < 16) (K : post (a2 (16 * y + x)) (bx, hc, rc, fa, a1, a2, a3, a4, a5, a6, a7, a8, a9, a10, a11, a12, a13, a14, a15, a16, a17, a18, a19, a20, a21, a22, a23, a24, a25, a26)) : wpX_depth post (bx, hc, rc, fa, a1, a2, a3, a4, a5, a6, a7, a8, a9, a10, a11, a12, a13, a14, a15, a16, a17, a18, a19, a20, a21, a22, a23, a24, a25, a26) (nI x) (nI y) := by
  unfold wpX_depth
  refine tr_flush0 hrc (tr_isPixel hx hy (br_f (by decide) ⟨pk_in (16 * y + x) 256 (by omega) (tr_ix16 y x), ?_⟩))
  rw [tr_at (a := a2) rfl (tr_ix16 y x)]
  exact K
theorem tr_mark {bx hc rc fa : Int32} {a1 a2 a3 a4 a5 a6 a7 a8 a9 a10 a11 a12 a13 a14 a15 a16 a17 a18 a19 a20 a21 a22 a23 a24 a25 a26 : Nat → Int32} {post : Int32 → St2 → Prop} {x y : Nat} (hrc : rc = 0) (hx : x < 16) (hy : y < 16) (K : post (a3 (16 * y + x)) (bx, hc, rc, fa, a1, a2, a3, a4, a5, a6, a7, a8, a9, a10, a11, a12, a13, a14, a15, a16, a17, a18, a19, a20, a21, a22, a23, a24, a25, a26)) : wpX_mark post (bx, hc, rc, fa, a1, a2, a3, a4, a5, a6, a7, a8, a9, a10, a11, a12, a13, a14, a15, a16, a17, a18, a19, a20, a21, a22, a23, a24, a25, a26) (nI x) (nI y) := by
  unfold wpX_mark
  refine tr_flush0 hrc (tr_isPixel hx hy (br_f (by decide) ⟨pk_in (16 * y + x) 256 (by omega) (tr_ix16 y x), ?_⟩))
  rw [tr_at (a := a3) rfl (tr_ix16 y x)]
  exact K
theorem tr_hits0 {bx hc rc fa : Int32} {a1 a2 a3 a4 a5 a6 a7 a8 a9 a10 a11 a12 a13 a14 a15 a16 a17 a18 a19 a20 a21 a22 a23 a24 a25 a26 : Nat → Int32} {post : Int32 → St2 → Prop} (hrc : rc = 0) (K : post hc (bx, hc, rc, fa, a1, a2, a3, a4, a5, a6, a7, a8, a9, a10, a11, a12, a13, a14, a15, a16, a17, a18, a19, a20, a21, a22, a23, a24, a25, a26)) : wpX_hits post (bx, hc, rc, fa, a1, a2, a3, a4, a5, a6, a7, a8, a9, a10, a11, a12, a13, a14, a15, a16, a17, a18, a19, a20, a21, a22, a23, a24, a25, a26) := by
  unfold wpX_hits
  exact tr_flush0 hrc K
theorem tr_hits1 {bx hc rc fa : Int32} {a1 a2 a3 a4 a5 a6 a7 a8 a9 a10 a11 a12 a13 a14 a15 a16 a17 a18 a19 a20 a21 a22 a23 a24 a25 a26 : Nat → Int32} {post : Int32 → St2 → Prop} (hrc : rc = 1) (hD : ∀ (φ : St2 → Prop) (fa' : Int32) (a b : Nat), a < 4 → b < 4 → φ (bx, hc, rc, fa', a1, a2, a3, a4, a5, a6, a7, a8, a9, a10, a11, a12, a13, a14, a15, a16, a17, a18, a19, a20, a21, a22, a23, a24, a25, a26) → wpX_drawIn φ (bx, hc, rc, fa', a1, a2, a3, a4, a5, a6, a7, a8, a9, a10, a11, a12, a13, a14, a15, a16, a17, a18, a19, a20, a21, a22, a23, a24, a25, a26) (nI 0) (nI (4 * a)) (nI (4 * b)))
    (K : ∀ (fa' : Int32), post hc (bx, hc, 0, fa', a1, a2, a3, a4, a5, a6, a7, a8, a9, a10, a11, a12, a13, a14, a15, a16, a17, a18, a19, a20, a21, a22, a23, a24, a25, a26)) : wpX_hits post (bx, hc, rc, fa, a1, a2, a3, a4, a5, a6, a7, a8, a9, a10, a11, a12, a13, a14, a15, a16, a17, a18, a19, a20, a21, a22, a23, a24, a25, a26) := by
  unfold wpX_hits
  exact tr_flush1 hrc hD (fun fa' => K fa')
theorem tr_ixG (x y v u : Nat) : ((16 * (nI y + nI v)) + nI x) + nI u = nI (16 * (y + v) + x + u) := by
  rw [nI_add, tr_ix16, nI_add]
theorem tr_grab {bx hc rc fa : Int32} {a1 a2 a3 a4 a5 a6 a7 a8 a9 a10 a11 a12 a13 a14 a15 a16 a17 a18 a19 a20 a21 a22 a23 a24 a25 a26 : Nat → Int32} {post : Int32 → St2 → Prop} {x y : Nat} (hrc : rc = 0) (hx : x < 9) (hy : y < 9)
    (K : ∀ (a4' : Nat → Int32), (∀ j, j < 64 → a4' j = a1 (16 * (y + j / 8) + x + j % 8)) → post 0 (bx, hc, rc, fa, a1, a2, a3, a4', a5, a6, a7, a8, a9, a10, a11, a12, a13, a14, a15, a16, a17, a18, a19, a20, a21, a22, a23, a24, a25, a26)) : wpX_grab post (bx, hc, rc, fa, a1, a2, a3, a4, a5, a6, a7, a8, a9, a10, a11, a12, a13, a14, a15, a16, a17, a18, a19, a20, a21, a22, a23, a24, a25, a26) (nI x) (nI y) := by
  unfold wpX_grab
  refine tr_isIn x 9 hx (br_f (by decide) (tr_isIn y 9 hy (br_f (by decide) (tr_flush0 hrc ?_))))
  refine pk_loop (fun n v s => wX_grab_26 post (nI x) (nI y) bx hc rc fa n (nI v) a1 a2 a3 s a5 a6 a7 a8 a9 a10 a11 a12 a13 a14 a15 a16 a17 a18 a19 a20 a21 a22 a23 a24 a25 a26) (fun v s => ∀ j, j < 8 * v → s j = a1 (16 * (y + j / 8) + x + j % 8)) 8 0 a4 (by omega) (fun j hj => absurd hj (by omega))
    (fun n s h => pk_le 8 8 (fun _ => K s h) (fun z => absurd z (by omega))) ?_
  intro n v s hv h hw
  refine pk_le 8 v (fun z => absurd z (by omega)) (fun _ => ?_)
  refine pk_loop (fun m u t => wX_grab_35 post (wX_grab_26 post (nI x) (nI y) bx hc rc fa n) (nI x) (nI y) (nI v) bx hc rc fa m (nI u) a1 a2 a3 t a5 a6 a7 a8 a9 a10 a11 a12 a13 a14 a15 a16 a17 a18 a19 a20 a21 a22 a23 a24 a25 a26) (fun u t => ∀ j, j < 8 * v + u → t j = a1 (16 * (y + j / 8) + x + j % 8)) 8 0 s (by omega) h
    (fun m t g => pk_le 8 8 (fun _ => nm_r (nI_1 v) (hw t g)) (fun z => absurd z (by omega))) ?_
  intro m u t hu g hk
  refine pk_le 8 u (fun z => absurd z (by omega)) (fun _ => ⟨pk_in (16 * (y + v) + x + u) 256 (by omega) (tr_ixG x y v u), pk_in (8 * v + u) 64 (by omega) (tr_ix8 v u), nm_r (tr_upE (tr_ix8 v u) (tr_at rfl (tr_ixG x y v u))) (nm_r (nI_1 u) (hk _ (fun j hj => ?_)))⟩)
  by_cases e : j = 8 * v + u
  · subst e
    rw [pk_us, show (8 * v + u) / 8 = v by omega, show (8 * v + u) % 8 = u by omega]
  · rw [pk_un e]
    exact g j (by omega)
end
section
/-! ===== the law's own loop over the pixels ===== -/
theorem tr_pix {bx hc rc fa : Int32} {a1 a2 a3 a4 a5 a6 a7 a8 a9 a10 a11 a12 a13 a14 a15 a16 a17 a18 a19 a20 a21 a22 a23 a24 a25 a26 : Nat → Int32} {post : Int32 → St0 → Prop} {mc ms kc ks : Nat} {J : Int32 → Int32 → Int32 → Int32 → Int32 → Int32 → (Nat → Int32) → (Nat → Int32) → (Nat → Int32) → (Nat → Int32) → (Nat → Int32) → (Nat → Int32) → (Nat → Int32) → (Nat → Int32) → (Nat → Int32) → (Nat → Int32) → (Nat → Int32) → (Nat → Int32) → (Nat → Int32) → (Nat → Int32) → (Nat → Int32) → (Nat → Int32) → (Nat → Int32) → (Nat → Int32) → (Nat → Int32) → (Nat → Int32) → (Nat → Int32) → (Nat → Int32) → (Nat → Int32) → (Nat → Int32) → (Nat → Int32) → (Nat → Int32) → Prop} {x5 x6 x7 x9 x11 x12 x15 x20 x21 x22 x23 x24 x26 z25 hit : Int32} {i : Nat} (hi : i < 256) (hrc : rc = 0)
    (e1 : a1 i = (if hit = 0 then x5 else x23)) (e2 : a2 i = (if hit = 0 then x6 else (if x11 = 1 then x9 else x6))) (e3 : a3 i = (if hit = 0 then x7 else x24))
    (K : J z25 (nI (i + 1)) bx hc rc fa a1 a2 a3 a4 a5 a6 a7 a8 a9 a10 a11 a12 a13 a14 a15 a16 a17 a18 a19 a20 a21 a22 a23 a24 a25 a26) : wL_lawOf_715 post mc ms J x5 x6 x7 x9 x11 x12 x15 x20 x21 x22 x23 x24 x26 (nI i) (nI (i % 16)) (nI (i / 16)) hit z25 kc ks bx hc rc fa a1 a2 a3 a4 a5 a6 a7 a8 a9 a10 a11 a12 a13 a14 a15 a16 a17 a18 a19 a20 a21 a22 a23 a24 a25 a26 := by
  have ei : 16 * (i / 16) + i % 16 = i := by omega
  have hx : i % 16 < 16 := by omega
  have hy : i / 16 < 16 := by omega
  rw [← ei] at e1 e2 e3
  have M : ∀ z0 z1 : Int32, z1 = z0 → wL_lawOf_768 post mc ms J x5 x6 x7 x9 x11 x12 x15 x20 x21 x22 x23 x24 z25 x26 (nI i) (nI (i % 16)) (nI (i / 16)) hit z0 z1 kc ks bx hc rc fa a1 a2 a3 a4 a5 a6 a7 a8 a9 a10 a11 a12 a13 a14 a15 a16 a17 a18 a19 a20 a21 a22 a23 a24 a25 a26 := fun z0 z1 e =>
    br_t e (tr_mark hrc hx hy (br_c (fun z => br_t (by rw [e3, if_pos z]) (nm_r (nI_1 i) K)) (fun z => br_t (by rw [e3, if_neg z]) (nm_r (nI_1 i) K))))
  have D : ∀ z0 z1 : Int32, z1 = z0 → wL_lawOf_738 post mc ms J x5 x6 x7 x9 x11 x12 x15 x20 x21 x22 x23 x24 z25 x26 (nI i) (nI (i % 16)) (nI (i / 16)) hit z0 z1 kc ks bx hc rc fa a1 a2 a3 a4 a5 a6 a7 a8 a9 a10 a11 a12 a13 a14 a15 a16 a17 a18 a19 a20 a21 a22 a23 a24 a25 a26 := fun z0 z1 e =>
    br_t e (tr_depth hrc hx hy (br_c (fun z => M _ _ (by rw [e2, if_pos z])) (fun z => br_c (fun w => M _ _ (by rw [e2, if_neg z, if_pos w])) (fun w => M _ _ (by rw [e2, if_neg z, if_neg w])))))
  exact tr_colour hrc hx hy (br_c (fun z => D _ _ (by rw [e1, if_pos z])) (fun z => D _ _ (by rw [e1, if_neg z])))
/-- what comes behind the loop -/
theorem tr_tail {bx hc rc fa : Int32} {a1 a2 a3 a4 a5 a6 a7 a8 a9 a10 a11 a12 a13 a14 a15 a16 a17 a18 a19 a20 a21 a22 a23 a24 a25 a26 : Nat → Int32} {post : Int32 → St0 → Prop} {mc ms kc ks n : Nat} {x5 x6 x7 x9 x11 x12 x15 x20 x21 x22 x23 x24 x26 : Int32} {d U V L R : Nat} {c : Int32} (hL : L < 8) (hR : R < 16) (hrc : rc = 0) (hbx : bx = nI (4096 * L + 256 * R + 44)) (h5 : ∀ k, k < 4 → a5 k = tr_cx k) (h6 : ∀ k, k < 4 → a6 k = tr_cy k) (h7 : ∀ k, k < 4 → a7 k = nI d) (h8 : ∀ k, k < 4 → a8 k = c) (h9 : ∀ k, k < 4 → a9 k = nI U) (h10 : ∀ k, k < 4 → a10 k = nI V) (e12 : a11 2 = x12) (e15 : a11 5 = x15) (e26 : x26 = 256) (Kp : post 1 ()) :
    wL_lawOf_640 post mc ms x5 x6 x7 x9 x11 x12 x15 x20 x21 x22 x23 x24 x26 kc ks (n + 1) hc (nI 256) bx hc rc fa a1 a2 a3 a4 a5 a6 a7 a8 a9 a10 a11 a12 a13 a14 a15 a16 a17 a18 a19 a20 a21 a22 a23 a24 a25 a26 := by
  refine pk_le 256 256 (fun _ => tr_hits0 hrc (br_t rfl (br_t e26 ?_))) (fun z => absurd z (by omega))
  refine tr_rule 0 0 (by omega) (by decide) rfl ?_
  refine tr_draw (q := 0) (n := 0) (by omega) hrc (by omega) h5 h6 h7 h8 h9 h10 (fun a12' a13' a14' a15' a16' a17' a18' a19' a20' a26' g1 g2 => ?_)
  obtain ⟨_, _, _, _, _, _, g18, g19, _⟩ := g1
  refine tr_hits1 rfl (tr_noTest (fa := 0) hL hR (g18.trans hbx) ((g19 0 (by omega)).trans pk_us)) (fun fa' => br_t rfl ?_)
  refine tr_rule 5 0 (by omega) (by decide) rfl (br_t (by rw [pk_un (by decide), e15]) ?_)
  refine tr_rule 2 0 (by omega) (by decide) rfl (br_t (by rw [pk_un (by decide), pk_un (by decide), e12]) ?_)
  refine tr_colour (x := 4) (y := 5) rfl (by omega) (by omega) ?_
  refine tr_grab (x := 4) (y := 5) rfl (by omega) (by omega) (fun b4 hb4 => br_t rfl ?_)
  refine tr_cell (u := 0) (v := 0) (co := 1) rfl (by omega) (by omega) (by omega) rfl rfl rfl (br_t (hb4 0 (by omega)) ?_)
  refine tr_grab (x := 0) (y := 0) rfl (by omega) (by omega) (fun c4 hc4 => br_t rfl ?_)
  refine tr_cell (u := 4) (v := 5) (co := 2) rfl (by omega) (by omega) (by omega) rfl rfl rfl (br_t (hc4 44 (by omega)) ?_)
  refine tr_window (b := 61440) (by omega) rfl (br_t rfl ?_)
  refine tr_draw (q := 0) (n := 0) (by omega) rfl (by omega) h5 h6 h7 h8 h9 h10 (fun b12 b13 b14 b15 b16 b17 b18 b19 b20 b26 k1 k2 => br_t rfl ?_)
  obtain ⟨_, _, _, _, _, _, k18, _, _⟩ := k1
  exact tr_hits1 rfl (tr_noBox (fa := 0) k18) (fun fa'' => br_t rfl Kp)
theorem tr_fullB {ps : Bool} {L R p : Nat} : tr_full ps L R p = true ↔ ps = true ∧ L ≤ p % 16 ∧ p % 16 ≤ R ∧ 2 ≤ p / 16 ∧ p / 16 ≤ 12 := by
  unfold tr_full
  rw [Bool.and_eq_true, decide_eq_true_eq]
theorem tr_640 {bx hc rc fa : Int32} {a1 a2 a3 a4 a5 a6 a7 a8 a9 a10 a11 a12 a13 a14 a15 a16 a17 a18 a19 a20 a21 a22 a23 a24 a25 a26 : Nat → Int32} {post : Int32 → St0 → Prop} {mc ms kc ks : Nat} {x22 x26 : Int32} {d od U V L R : Nat} {ru : Nat → Int32} {c cl old om : Int32} (hL : L < 8) (hR : R < 16) (hrc : rc = 0) (hbx : bx = nI (4096 * L + 256 * R + 44)) (h5 : ∀ k, k < 4 → a5 k = tr_cx k) (h6 : ∀ k, k < 4 → a6 k = tr_cy k) (h7 : ∀ k, k < 4 → a7 k = nI d) (h8 : ∀ k, k < 4 → a8 k = c) (h9 : ∀ k, k < 4 → a9 k = nI U) (h10 : ∀ k, k < 4 → a10 k = nI V) (hru : a11 = ru) (e22 : x22 = (if (tr_ps ru om d od) = true then 1 else 0)) (e26 : x26 = 256)
    (hP : tr_Pic old od om (tr_due ru c cl old) d (tr_mk (ru 4) om (ru 5)) (ru 1) (tr_full (tr_ps ru om d od) L R) hc a1 a2 a3) (Kp : post 1 ()) :
    ∃ n, wL_lawOf_640 post mc ms old (nI od) om (nI d) (ru 1) (ru 2) (ru 5) (nI L) (nI R) x22 (tr_due ru c cl old) (tr_mk (ru 4) om (ru 5)) x26 kc ks n 0 0 bx hc rc fa a1 a2 a3 a4 a5 a6 a7 a8 a9 a10 a11 a12 a13 a14 a15 a16 a17 a18 a19 a20 a21 a22 a23 a24 a25 a26 := by
  refine pk_loop (fun n i s => wL_lawOf_640 post mc ms old (nI od) om (nI d) (ru 1) (ru 2) (ru 5) (nI L) (nI R) x22 (tr_due ru c cl old) (tr_mk (ru 4) om (ru 5)) x26 kc ks n s (nI i) bx hc rc fa a1 a2 a3 a4 a5 a6 a7 a8 a9 a10 a11 a12 a13 a14 a15 a16 a17 a18 a19 a20 a21 a22 a23 a24 a25 a26) (fun i s => s = nI (tr_cnt (tr_full (tr_ps ru om d od) L R) i)) 256 0 0 (by omega) rfl ?_ ?_
  · intro n s h
    rw [h, ← hP.1]
    exact tr_tail hL hR hrc hbx h5 h6 h7 h8 h9 h10 (by rw [hru]) (by rw [hru]) e26 Kp
  intro n i s hi h hw
  obtain ⟨p1, p2, p3⟩ := hP.2 i hi
  have A : tr_full (tr_ps ru om d od) L R i = false → wL_lawOf_698 post mc ms (wL_lawOf_640 post mc ms old (nI od) om (nI d) (ru 1) (ru 2) (ru 5) (nI L) (nI R) x22 (tr_due ru c cl old) (tr_mk (ru 4) om (ru 5)) x26 kc ks n) old (nI od) om (nI d) (ru 1) (ru 2) (ru 5) (nI L) (nI R) x22 (tr_due ru c cl old) (tr_mk (ru 4) om (ru 5)) s x26 (nI i) (nI (i % 16)) (nI (i / 16)) kc ks bx hc rc fa a1 a2 a3 a4 a5 a6 a7 a8 a9 a10 a11 a12 a13 a14 a15 a16 a17 a18 a19 a20 a21 a22 a23 a24 a25 a26 := by
    intro hf
    rw [hf, if_neg (by decide)] at p1 p3
    rw [hf, if_neg (fun g => absurd g.1 (by decide))] at p2
    refine br_t rfl (tr_pix hi hrc (by rw [if_pos rfl, p1]) (by rw [if_pos rfl, p2]) (by rw [if_pos rfl, p3]) (hw s ?_))
    rw [h]
    show nI (tr_cnt (tr_full (tr_ps ru om d od) L R) i) = nI (tr_cnt (tr_full (tr_ps ru om d od) L R) i + (if tr_full (tr_ps ru om d od) L R i = true then 1 else 0))
    rw [hf, if_neg (by decide), Nat.add_zero]
  have B : tr_full (tr_ps ru om d od) L R i = true → wL_lawOf_699 post mc ms (wL_lawOf_640 post mc ms old (nI od) om (nI d) (ru 1) (ru 2) (ru 5) (nI L) (nI R) x22 (tr_due ru c cl old) (tr_mk (ru 4) om (ru 5)) x26 kc ks n) old (nI od) om (nI d) (ru 1) (ru 2) (ru 5) (nI L) (nI R) x22 (tr_due ru c cl old) (tr_mk (ru 4) om (ru 5)) s x26 (nI i) (nI (i % 16)) (nI (i / 16)) 1 kc ks bx hc rc fa a1 a2 a3 a4 a5 a6 a7 a8 a9 a10 a11 a12 a13 a14 a15 a16 a17 a18 a19 a20 a21 a22 a23 a24 a25 a26 := by
    intro hf
    rw [hf, if_pos rfl] at p1 p3
    rw [hf] at p2
    refine br_f (by decide) (tr_pix hi hrc (by rw [if_neg (by decide), p1]) (by rw [if_neg (by decide), p2]; simp only [true_and]) (by rw [if_neg (by decide), p3]) (hw (s + 1) ?_))
    rw [h, nI_1]
    show nI (tr_cnt (tr_full (tr_ps ru om d od) L R) i + 1) = nI (tr_cnt (tr_full (tr_ps ru om d od) L R) i + (if tr_full (tr_ps ru om d od) L R i = true then 1 else 0))
    rw [hf, if_pos rfl]
  have nf : ¬ ((tr_ps ru om d od) = true ∧ L ≤ i % 16 ∧ i % 16 ≤ R ∧ 2 ≤ i / 16 ∧ i / 16 ≤ 12) → tr_full (tr_ps ru om d od) L R i = false := by
    intro g
    cases e : tr_full (tr_ps ru om d od) L R i with
    | false => rfl
    | true => exact absurd (tr_fullB.mp e) g
  have erem : nI i - nI i / 16 * 16 = nI (i % 16) := pk_rem (d := 16) (by omega) (by omega) (by omega)
  have ediv : nI i / 16 = nI (i / 16) := pk_div (d := 16) (by omega) (by omega) (by omega)
  refine pk_le 256 i (fun z => absurd z (by omega)) (fun _ => ⟨by decide, nm_r erem ⟨by decide, nm_r ediv ?_⟩⟩)
  refine br_c (fun z => A (nf (fun g => ?_))) (fun z => pk_lt (i % 16) L (fun z1 => A (nf (fun g => by omega))) (fun z1 => pk_lt R (i % 16) (fun z2 => A (nf (fun g => by omega))) (fun z2 => pk_lt (i / 16) 2 (fun z3 => A (nf (fun g => by omega))) (fun z3 => pk_lt 12 (i / 16) (fun z4 => A (nf (fun g => by omega))) (fun z4 => B (tr_fullB.mpr ⟨?_, z1, z2, z3, z4⟩))))))
  · rw [e22, if_pos g.1] at z
    exact absurd z (by decide)
  · cases e : (tr_ps ru om d od) with
    | true => rfl
    | false =>
      rw [e22, e, if_neg (by decide)] at z
      exact absurd rfl z
/-! ===== drawing, covering, then the loop ===== -/
theorem tr_599 {bx hc rc fa : Int32} {a1 a2 a3 a4 a5 a6 a7 a8 a9 a10 a11 a12 a13 a14 a15 a16 a17 a18 a19 a20 a21 a22 a23 a24 a25 a26 : Nat → Int32} {post : Int32 → St0 → Prop} {mc ms kc ks : Nat} {x22 : Int32} {d od U V L R : Nat} {ru : Nat → Int32} {c cl old om x0 : Int32} (hd : d < 256) (hod : od < 256) (hU : U < 128) (hV : V < 128) (hL : L < 8) (hR8 : 8 ≤ R) (hR : R < 16) (hm : ru 2 = 0 ∨ ru 2 = 1 ∨ ru 2 = 2 ∨ ru 2 = 3 ∨ ru 2 = 4) (ho : old = x0 &&& 16777215) (hrc : rc = 0) (hhc : hc = 0) (hbx : bx = nI (4096 * L + 256 * R + 44)) (h5 : ∀ k, k < 4 → a5 k = tr_cx k) (h6 : ∀ k, k < 4 → a6 k = tr_cy k) (h7 : ∀ k, k < 4 → a7 k = nI d) (h8 : ∀ k, k < 4 → a8 k = c) (h9 : ∀ k, k < 4 → a9 k = nI U) (h10 : ∀ k, k < 4 → a10 k = nI V) (hru : a11 = ru) (h4 : a4 (8 * (V / 16) + U / 16) = cl) (hcl : ∀ p, p < 256 → a1 p = old ∧ a2 p = nI od ∧ a3 p = om)
    (e22 : x22 = (if (tr_ps ru om d od) = true then 1 else 0)) (Kp : post 1 ()) :
    wL_lawOf_599 post mc ms old (nI od) om (nI d) (ru 1) (ru 2) (ru 5) (nI L) (nI R) x22 (tr_due ru c cl old) (tr_mk (ru 4) om (ru 5)) kc ks bx hc rc fa a1 a2 a3 a4 a5 a6 a7 a8 a9 a10 a11 a12 a13 a14 a15 a16 a17 a18 a19 a20 a21 a22 a23 a24 a25 a26 := by
  have hP : tr_Pic old od om (tr_due ru c cl old) d (tr_mk (ru 4) om (ru 5)) (ru 1) (fun _ => false) hc a1 a2 a3 := by
    refine ⟨?_, fun p hp => ?_⟩
    · rw [hhc, (by decide +kernel : tr_cnt (fun _ => false) 256 = 0)]
      rfl
    · obtain ⟨c1, c2, c3⟩ := hcl p hp
      have nf : ¬ false = true := by decide
      show a1 p = (if false = true then _ else old) ∧ a2 p = (if false = true ∧ ru 1 = 1 then _ else nI od) ∧ a3 p = (if false = true then _ else om)
      rw [if_neg nf, if_neg (fun g => nf g.1), if_neg nf]
      exact ⟨c1, c2, c3⟩
  refine tr_draw (q := 0) (n := 0) (by omega) hrc (by omega) h5 h6 h7 h8 h9 h10 (fun b12 b13 b14 b15 b16 b17 b18 b19 b20 b26 g1 _ => ?_)
  refine tr_draw (q := 1) (n := 1) (by omega) rfl (by omega) h5 h6 h7 h8 h9 h10 (fun c12 c13 c14 c15 c16 c17 c18 c19 c20 c26 k1 k2 => ?_)
  have R0 := k2 d U V c bx a11 0 0 (by omega) g1
  rw [hru] at R0 k1
  refine tr_covered (q := 0) (Q := fun hc a1 a2 a3 => tr_Pic old od om (tr_due ru c cl old) d (tr_mk (ru 4) om (ru 5)) (ru 1) (tr_full (tr_ps ru om d od) L R) hc a1 a2 a3) (by omega) h5 h6 h7 h8 h9 h10 (fun φ a26' hφ => tr_flush2 hd hod hU hV hL hR8 hR hm ho rfl hbx R0 k1 h4 hP (fun hc' fa' a1' a2' a3' a21' a22' a23' a24' a25' hP' => hφ _ _ _ _ _ _ _ _ _ _ hP')) (fun hc' fa' a1' a2' a3' e12 e13 e14 e15 e16 e17 e18 e19 e20 e21 e22' e23 e24 e25 e26 hQ => ?_)
  refine tr_covered (q := 1) (Q := fun hc a1 a2 a3 => tr_Pic old od om (tr_due ru c cl old) d (tr_mk (ru 4) om (ru 5)) (ru 1) (tr_full (tr_ps ru om d od) L R) hc a1 a2 a3) (by omega) h5 h6 h7 h8 h9 h10 (fun φ a26' hφ => tr_flush0 rfl (hφ _ _ _ _ _ _ _ _ _ _ hQ)) (fun hc'' fa'' a1'' a2'' a3'' f12 f13 f14 f15 f16 f17 f18 f19 f20 f21 f22 f23 f24 f25 f26 hQ' => nm_e ?_)
  exact tr_640 hL hR rfl hbx h5 h6 h7 h8 h9 h10 hru e22 (by decide) hQ' Kp
end
section
/-! ===== the due colour ===== -/
theorem tr_482 {bx hc rc fa : Int32} {a1 a2 a3 a4 a5 a6 a7 a8 a9 a10 a11 a12 a13 a14 a15 a16 a17 a18 a19 a20 a21 a22 a23 a24 a25 a26 : Nat → Int32} {post : Int32 → St0 → Prop} {mc ms kc ks : Nat} {x22 : Int32} {d od U V L R : Nat} {ru : Nat → Int32} {c cl old om x0 : Int32} (hd : d < 256) (hod : od < 256) (hU : U < 128) (hV : V < 128) (hL : L < 8) (hR8 : 8 ≤ R) (hR : R < 16) (hm : ru 2 = 0 ∨ ru 2 = 1 ∨ ru 2 = 2 ∨ ru 2 = 3 ∨ ru 2 = 4) (ho : old = x0 &&& 16777215) (hrc : rc = 0) (hhc : hc = 0) (hbx : bx = nI (4096 * L + 256 * R + 44)) (h5 : ∀ k, k < 4 → a5 k = tr_cx k) (h6 : ∀ k, k < 4 → a6 k = tr_cy k) (h7 : ∀ k, k < 4 → a7 k = nI d) (h8 : ∀ k, k < 4 → a8 k = c) (h9 : ∀ k, k < 4 → a9 k = nI U) (h10 : ∀ k, k < 4 → a10 k = nI V) (hru : a11 = ru) (h4 : a4 (8 * (V / 16) + U / 16) = cl) (hcl : ∀ p, p < 256 → a1 p = old ∧ a2 p = nI od ∧ a3 p = om)
    (e22 : x22 = (if (tr_ps ru om d od) = true then 1 else 0)) (Kp : post 1 ()) : ∃ n, wL_lawOf_482 post mc ms old (nI od) om c (nI d) (ru 1) (ru 2) (ru 4) (ru 5) (ru 7) cl (nI L) (nI R) x22 kc ks bx hc rc fa a1 a2 a3 a4 a5 a6 a7 a8 a9 a10 a11 a12 a13 a14 a15 a16 a17 a18 a19 a20 a21 a22 a23 a24 a25 a26 n 0 0 := by
  have X : ∀ z24 : Int32, z24 = tr_mk (ru 4) om (ru 5) → wL_lawOf_599 post mc ms old (nI od) om (nI d) (ru 1) (ru 2) (ru 5) (nI L) (nI R) x22 (tr_due ru c cl old) z24 kc ks bx hc rc fa a1 a2 a3 a4 a5 a6 a7 a8 a9 a10 a11 a12 a13 a14 a15 a16 a17 a18 a19 a20 a21 a22 a23 a24 a25 a26 := by
    intro z24 e
    subst e
    exact tr_599 hd hod hU hV hL hR8 hR hm ho hrc hhc hbx h5 h6 h7 h8 h9 h10 hru h4 hcl e22 Kp
  have fin : wL_lawOf_482 post mc ms old (nI od) om c (nI d) (ru 1) (ru 2) (ru 4) (ru 5) (ru 7) cl (nI L) (nI R) x22 kc ks bx hc rc fa a1 a2 a3 a4 a5 a6 a7 a8 a9 a10 a11 a12 a13 a14 a15 a16 a17 a18 a19 a20 a21 a22 a23 a24 a25 a26 (0 + 1) (tr_due ru c cl old) 24 := by
    refine br_t (by decide) (br_c (fun e => X _ ?_) (fun n0 => br_c (fun e => X _ ?_) (fun n1 => br_c (fun e => X _ ?_) (fun n2 => X _ ?_))))
    · unfold tr_mk; rw [if_pos e]
    · unfold tr_mk; rw [if_neg n0, if_pos e]
    · unfold tr_mk; rw [if_neg n0, if_neg n1, if_pos e]
    · unfold tr_mk; rw [if_neg n0, if_neg n1, if_neg n2]
  have step : ∀ (m : Nat) (z s s' : Int32), ¬ 24 ≤ s → s + 8 = s' → wL_lawOf_482 post mc ms old (nI od) om c (nI d) (ru 1) (ru 2) (ru 4) (ru 5) (ru 7) cl (nI L) (nI R) x22 kc ks bx hc rc fa a1 a2 a3 a4 a5 a6 a7 a8 a9 a10 a11 a12 a13 a14 a15 a16 a17 a18 a19 a20 a21 a22 a23 a24 a25 a26 m (z ||| (tr_mm ru c cl old s <<< (s &&& 31))) s' → wL_lawOf_482 post mc ms old (nI od) om c (nI d) (ru 1) (ru 2) (ru 4) (ru 5) (ru 7) cl (nI L) (nI R) x22 kc ks bx hc rc fa a1 a2 a3 a4 a5 a6 a7 a8 a9 a10 a11 a12 a13 a14 a15 a16 a17 a18 a19 a20 a21 a22 a23 a24 a25 a26 (m + 1) z s := by
    intro m z s s' hs es hw
    have F : ∀ z0 : Int32, z0 = tr_own (ru 7) c cl s → wL_lawOf_523 post mc ms (wL_lawOf_482 post mc ms old (nI od) om c (nI d) (ru 1) (ru 2) (ru 4) (ru 5) (ru 7) cl (nI L) (nI R) x22 kc ks bx hc rc fa a1 a2 a3 a4 a5 a6 a7 a8 a9 a10 a11 a12 a13 a14 a15 a16 a17 a18 a19 a20 a21 a22 a23 a24 a25 a26 m) old (nI od) om c (nI d) (ru 1) (ru 2) (ru 4) (ru 5) (ru 7) cl (nI L) (nI R) x22 z s z0 kc ks bx hc rc fa a1 a2 a3 a4 a5 a6 a7 a8 a9 a10 a11 a12 a13 a14 a15 a16 a17 a18 a19 a20 a21 a22 a23 a24 a25 a26 := by
      intro z0 e
      subst e
      unfold wL_lawOf_523 wpL_part
      refine tr_mixedL ?_
      exact nm_e (nm_r es hw)
    refine br_f hs (br_c (fun e7 => ⟨by decide, F _ ?_⟩) (fun n7 => F _ ?_))
    · unfold tr_own; rw [if_pos e7]; rfl
    · unfold tr_own; rw [if_neg n7]; rfl
  exact Exists.intro 4 (step 3 0 0 8 (by decide) (by decide) (step 2 _ 8 16 (by decide) (by decide) (step 1 _ 16 24 (by decide) (by decide) fin)))
/-! ===== what passes, as the law says it ===== -/
theorem tr_430 {bx hc rc fa : Int32} {a1 a2 a3 a4 a5 a6 a7 a8 a9 a10 a11 a12 a13 a14 a15 a16 a17 a18 a19 a20 a21 a22 a23 a24 a25 a26 : Nat → Int32} {post : Int32 → St0 → Prop} {mc ms kc ks : Nat} {d od L R : Nat} {ru : Nat → Int32} {c cl old om : Int32} (hd : d < 256) (hod : od < 256)
    (C : ∀ x22 : Int32, x22 = (if (tr_ps ru om d od) = true then 1 else 0) → ∃ n, wL_lawOf_482 post mc ms old (nI od) om c (nI d) (ru 1) (ru 2) (ru 4) (ru 5) (ru 7) cl (nI L) (nI R) x22 kc ks bx hc rc fa a1 a2 a3 a4 a5 a6 a7 a8 a9 a10 a11 a12 a13 a14 a15 a16 a17 a18 a19 a20 a21 a22 a23 a24 a25 a26 n 0 0) {z0 : Int32} (h0 : z0 = 0 → ¬ (¬ (ru 3 = 1 ∧ ¬ om = ru 5) ∧ ¬ (ru 3 = 2 ∧ om = ru 5))) (h1 : ¬ z0 = 0 → (¬ (ru 3 = 1 ∧ ¬ om = ru 5) ∧ ¬ (ru 3 = 2 ∧ om = ru 5))) : wL_lawOf_430 post mc ms old (nI od) om c (nI d) (ru 0) (ru 1) (ru 2) (ru 4) (ru 5) (ru 7) cl (nI L) (nI R) z0 kc ks bx hc rc fa a1 a2 a3 a4 a5 a6 a7 a8 a9 a10 a11 a12 a13 a14 a15 a16 a17 a18 a19 a20 a21 a22 a23 a24 a25 a26 := by
  have no : ¬ ((¬ (ru 3 = 1 ∧ ¬ om = ru 5) ∧ ¬ (ru 3 = 2 ∧ om = ru 5)) ∧ (ru 0 = 1 ∨ (ru 0 = 2 ∧ d < od) ∨ (ru 0 = 3 ∧ d ≤ od))) → (0 : Int32) = (if (tr_ps ru om d od) = true then 1 else 0) := by
    intro h
    rw [show (tr_ps ru om d od) = false from decide_eq_false h, if_neg (by decide)]
  have yes : ((¬ (ru 3 = 1 ∧ ¬ om = ru 5) ∧ ¬ (ru 3 = 2 ∧ om = ru 5)) ∧ (ru 0 = 1 ∨ (ru 0 = 2 ∧ d < od) ∨ (ru 0 = 3 ∧ d ≤ od))) → (1 : Int32) = (if (tr_ps ru om d od) = true then 1 else 0) := by
    intro h
    rw [show (tr_ps ru om d od) = true from decide_eq_true h, if_pos rfl]
  have k456 : (¬ (ru 3 = 1 ∧ ¬ om = ru 5) ∧ ¬ (ru 3 = 2 ∧ om = ru 5)) → ¬ ru 0 = 1 → (ru 0 = 2 → ¬ d < od) → wL_lawOf_456 post mc ms old (nI od) om c (nI d) (ru 0) (ru 1) (ru 2) (ru 4) (ru 5) (ru 7) cl (nI L) (nI R) kc ks bx hc rc fa a1 a2 a3 a4 a5 a6 a7 a8 a9 a10 a11 a12 a13 a14 a15 a16 a17 a18 a19 a20 a21 a22 a23 a24 a25 a26 := by
    intro hm n1 n2
    refine br_c (fun e3 => pk_lt od d (fun z => C 0 (no (fun g => ?_))) (fun z => C 1 (yes ⟨hm, Or.inr (Or.inr ⟨e3, z⟩)⟩))) (fun n3 => C 0 (no (fun g => ?_)))
    · rcases g.2 with g | g | g
      · exact n1 g
      · exact n2 g.1 g.2
      · omega
    · rcases g.2 with g | g | g
      · exact n1 g
      · exact n2 g.1 g.2
      · exact n3 g.1
  refine br_c (fun z => C 0 (no (fun g => h0 z g.1))) (fun z => br_c (fun e1 => C 1 (yes ⟨h1 z, Or.inl e1⟩)) (fun n1 => br_c (fun e2 => pk_lt d od (fun w => C 1 (yes ⟨h1 z, Or.inr (Or.inl ⟨e2, w⟩)⟩)) (fun w => k456 (h1 z) n1 (fun _ => by omega))) (fun n2 => k456 (h1 z) n1 (fun g => absurd g n2))))
theorem tr_marks {bx hc rc fa : Int32} {a1 a2 a3 a4 a5 a6 a7 a8 a9 a10 a11 a12 a13 a14 a15 a16 a17 a18 a19 a20 a21 a22 a23 a24 a25 a26 : Nat → Int32} {post : Int32 → St0 → Prop} {mc ms kc ks : Nat} {d od L R : Nat} {ru : Nat → Int32} {c cl old om : Int32} (hd : d < 256) (hod : od < 256) (hmt : ru 3 = 0 ∨ ru 3 = 1 ∨ ru 3 = 2)
    (C : ∀ x22 : Int32, x22 = (if (tr_ps ru om d od) = true then 1 else 0) → ∃ n, wL_lawOf_482 post mc ms old (nI od) om c (nI d) (ru 1) (ru 2) (ru 4) (ru 5) (ru 7) cl (nI L) (nI R) x22 kc ks bx hc rc fa a1 a2 a3 a4 a5 a6 a7 a8 a9 a10 a11 a12 a13 a14 a15 a16 a17 a18 a19 a20 a21 a22 a23 a24 a25 a26 n 0 0) :
    (ru 3 = 0 → wL_lawOf_425 post mc ms old (nI od) om c (nI d) (ru 0) (ru 1) (ru 2) (ru 4) (ru 5) (ru 7) cl (nI L) (nI R) kc ks bx hc rc fa a1 a2 a3 a4 a5 a6 a7 a8 a9 a10 a11 a12 a13 a14 a15 a16 a17 a18 a19 a20 a21 a22 a23 a24 a25 a26) ∧ (¬ ru 3 = 0 → ((ru 3 = 1 → wL_lawOf_410 post mc ms old (nI od) om c (nI d) (ru 0) (ru 1) (ru 2) (ru 4) (ru 5) (ru 7) cl (nI L) (nI R) 1 kc ks bx hc rc fa a1 a2 a3 a4 a5 a6 a7 a8 a9 a10 a11 a12 a13 a14 a15 a16 a17 a18 a19 a20 a21 a22 a23 a24 a25 a26) ∧ (¬ ru 3 = 1 → wL_lawOf_410 post mc ms old (nI od) om c (nI d) (ru 0) (ru 1) (ru 2) (ru 4) (ru 5) (ru 7) cl (nI L) (nI R) 0 kc ks bx hc rc fa a1 a2 a3 a4 a5 a6 a7 a8 a9 a10 a11 a12 a13 a14 a15 a16 a17 a18 a19 a20 a21 a22 a23 a24 a25 a26))) := by
  have k425 : (¬ (ru 3 = 1 ∧ ¬ om = ru 5) ∧ ¬ (ru 3 = 2 ∧ om = ru 5)) → wL_lawOf_425 post mc ms old (nI od) om c (nI d) (ru 0) (ru 1) (ru 2) (ru 4) (ru 5) (ru 7) cl (nI L) (nI R) kc ks bx hc rc fa a1 a2 a3 a4 a5 a6 a7 a8 a9 a10 a11 a12 a13 a14 a15 a16 a17 a18 a19 a20 a21 a22 a23 a24 a25 a26 := fun hm => tr_430 hd hod C (fun z => absurd z (by decide)) (fun _ => hm)
  have k0 : ¬ (¬ (ru 3 = 1 ∧ ¬ om = ru 5) ∧ ¬ (ru 3 = 2 ∧ om = ru 5)) → wL_lawOf_430 post mc ms old (nI od) om c (nI d) (ru 0) (ru 1) (ru 2) (ru 4) (ru 5) (ru 7) cl (nI L) (nI R) 0 kc ks bx hc rc fa a1 a2 a3 a4 a5 a6 a7 a8 a9 a10 a11 a12 a13 a14 a15 a16 a17 a18 a19 a20 a21 a22 a23 a24 a25 a26 := fun hm => tr_430 hd hod C (fun _ => hm) (fun z => absurd rfl z)
  refine ⟨fun e0 => k425 ⟨fun g => ?_, fun g => ?_⟩, fun n0 => ⟨fun e1 => br_c (fun m => br_t rfl (k425 ⟨fun g => g.2 m, fun g => ?_⟩)) (fun m => br_f (by decide) (k0 (fun g => g.1 ⟨e1, m⟩))), fun n1 => ?_⟩⟩
  · exact absurd (e0.symm.trans g.1) (by decide)
  · exact absurd (e0.symm.trans g.1) (by decide)
  · exact absurd (e1.symm.trans g.1) (by decide)
  · have e2 : ru 3 = 2 := by
      rcases hmt with h | h | h
      · exact absurd h n0
      · exact absurd h n1
      · exact h
    exact br_c (fun m => br_f (by decide) (k0 (fun g => g.2 ⟨e2, m⟩))) (fun m => br_t rfl (k425 ⟨fun g => n1 g.1, fun g => m g.2⟩))
/-! ===== aiming, the window ===== -/
theorem tr_307 {bx hc rc fa : Int32} {a1 a2 a3 a4 a5 a6 a7 a8 a9 a10 a11 a12 a13 a14 a15 a16 a17 a18 a19 a20 a21 a22 a23 a24 a25 a26 : Nat → Int32} {post : Int32 → St0 → Prop} {mc ms kc ks : Nat} {x1 x2 x10 x11 x12 x13 x14 x15 x16 : Int32} {d od u v : Nat} {ru : Nat → Int32} {c cl old om x0 : Int32} (hd : d < 256) (hod : od < 256) (hu : u < 8) (hv : v < 8) (hm : ru 2 = 0 ∨ ru 2 = 1 ∨ ru 2 = 2 ∨ ru 2 = 3 ∨ ru 2 = 4) (hmt : ru 3 = 0 ∨ ru 3 = 1 ∨ ru 3 = 2) (ho : old = x0 &&& 16777215)
    (e0 : ru 0 = x10) (e1 : ru 1 = x11) (e2 : ru 2 = x12) (e3 : ru 3 = x13) (e4 : ru 4 = x14) (e5 : ru 5 = x15) (e7 : ru 7 = x16)
    (hrc : rc = 0) (hhc : hc = 0) (h5 : ∀ k, k < 4 → a5 k = tr_cx k) (h6 : ∀ k, k < 4 → a6 k = tr_cy k) (h7 : ∀ k, k < 4 → a7 k = nI d) (h8 : ∀ k, k < 4 → a8 k = c) (hru : a11 = ru) (h4 : a4 (8 * v + u) = cl) (hcl : ∀ p, p < 256 → a1 p = old ∧ a2 p = nI od ∧ a3 p = om) (Kp : post 1 ()) :
    ∃ n, wL_lawOf_307 post mc ms x1 x2 old (nI od) om c (nI d) x10 x11 x12 x13 x14 x15 x16 cl (nI u) (nI v) kc ks n 0 bx hc rc fa a1 a2 a3 a4 a5 a6 a7 a8 a9 a10 a11 a12 a13 a14 a15 a16 a17 a18 a19 a20 a21 a22 a23 a24 a25 a26 := by
  subst e0 e1 e2 e3 e4 e5 e7
  obtain ⟨w, hw16, ew⟩ := pk_andE (x2 >>> ((24 : Int32) &&& 31)) (m := 15) 4 (by decide)
  obtain ⟨L, hL, eL⟩ := pk_andE (x1 >>> ((22 : Int32) &&& 31)) (m := 7) 3 (by decide)
  obtain ⟨e, he, ee⟩ := pk_andE (x1 >>> ((25 : Int32) &&& 31)) (m := 7) 3 (by decide)
  have eU : (16 * nI u) + ((x2 >>> ((24 : Int32) &&& 31)) &&& 15) = nI (16 * u + w) := by rw [ew, tr_ix16]
  have eV : (16 * nI v) + 7 = nI (16 * v + 7) := tr_ix16 v 7
  have eR : 15 - ((x1 >>> ((25 : Int32) &&& 31)) &&& 7) = nI (15 - e) := by
    rw [ee]
    exact pk_sub (a := 15) (by omega)
  have eB : (((4096 * nI L) + (256 * nI (15 - e))) + 32) + 12 = nI (4096 * L + 256 * (15 - e) + 44) := by
    have b1 : 4096 * nI L = nI (4096 * L) := pk_mul 4096 L
    have b2 : 256 * nI (15 - e) = nI (256 * (15 - e)) := pk_mul 256 (15 - e)
    have b3 : ∀ k : Nat, (nI k + 32) + 12 = nI (k + 44) := fun k => by
      have c1 : nI k + 32 = nI (k + 32) := nI_add k 32
      have c2 : nI (k + 32) + 12 = nI (k + 32 + 12) := nI_add (k + 32) 12
      rw [c1, c2]
    rw [b1, b2, nI_add, b3]
  refine pk_loop (fun n k (s : (Nat → Int32) × (Nat → Int32)) => wL_lawOf_307 post mc ms x1 x2 old (nI od) om c (nI d) (ru 0) (ru 1) (ru 2) (ru 3) (ru 4) (ru 5) (ru 7) cl (nI u) (nI v) kc ks n (nI k) bx hc rc fa a1 a2 a3 a4 a5 a6 a7 a8 s.1 s.2 a11 a12 a13 a14 a15 a16 a17 a18 a19 a20 a21 a22 a23 a24 a25 a26) (fun k s => (∀ j, j < k → s.1 j = nI (16 * u + w)) ∧ (∀ j, j < k → s.2 j = nI (16 * v + 7))) 4 0 (a9, a10) (by omega) ⟨fun j hj => absurd hj (by omega), fun j hj => absurd hj (by omega)⟩
    (fun n s h => pk_le 4 4 (fun _ => nm_r eL (nm_r eR (tr_window (b := 4096 * L + 256 * (15 - e) + 44) (by omega) eB ?_))) (fun z => absurd z (by omega)))
    (fun n k s hk h hw => pk_le 4 k (fun z => absurd z (by omega)) (fun _ => tr_aim (by omega) (by omega) (by omega) eU eV (nm_r (nI_1 k) (hw (_, _) ⟨tr_fill (f := fun _ => nI (16 * u + w)) rfl h.1 rfl, tr_fill (f := fun _ => nI (16 * v + 7)) rfl h.2 rfl⟩))))
  have h4' : a4 (8 * ((16 * v + 7) / 16) + (16 * u + w) / 16) = cl := by
    rw [show (16 * v + 7) / 16 = v by omega, show (16 * u + w) / 16 = u by omega]
    exact h4
  exact tr_marks hd hod hmt (fun x22 e22 => tr_482 hd hod (by omega) (by omega) hL (by omega) (by omega) hm ho hrc hhc rfl h5 h6 h7 h8 h.1 h.2 hru h4' hcl e22 Kp)
end
section
/-! ===== the rules, the corners, the law ===== -/
def tr_ru (a : Nat → Int32) (x0 x1 x2 x3 x4 x5 x7 : Int32) : Nat → Int32 := upd (upd (upd (upd (upd (upd (upd a 0 x0) 1 x1) 2 x2) 3 x3) 4 x4) 5 x5) 7 x7
theorem tr_ruE (a : Nat → Int32) (x0 x1 x2 x3 x4 x5 x7 : Int32) : tr_ru a x0 x1 x2 x3 x4 x5 x7 0 = x0 ∧ tr_ru a x0 x1 x2 x3 x4 x5 x7 1 = x1 ∧ tr_ru a x0 x1 x2 x3 x4 x5 x7 2 = x2 ∧ tr_ru a x0 x1 x2 x3 x4 x5 x7 3 = x3 ∧ tr_ru a x0 x1 x2 x3 x4 x5 x7 4 = x4 ∧ tr_ru a x0 x1 x2 x3 x4 x5 x7 5 = x5 ∧ tr_ru a x0 x1 x2 x3 x4 x5 x7 7 = x7 := by
  unfold tr_ru
  refine ⟨?_, ?_, ?_, ?_, ?_, ?_, ?_⟩
  · rw [pk_un (by decide), pk_un (by decide), pk_un (by decide), pk_un (by decide), pk_un (by decide), pk_un (by decide), pk_us]
  · rw [pk_un (by decide), pk_un (by decide), pk_un (by decide), pk_un (by decide), pk_un (by decide), pk_us]
  · rw [pk_un (by decide), pk_un (by decide), pk_un (by decide), pk_un (by decide), pk_us]
  · rw [pk_un (by decide), pk_un (by decide), pk_un (by decide), pk_us]
  · rw [pk_un (by decide), pk_un (by decide), pk_us]
  · rw [pk_un (by decide), pk_us]
  · rw [pk_us]
theorem tr_189 {bx hc rc fa : Int32} {a1 a2 a3 a4 a5 a6 a7 a8 a9 a10 a11 a12 a13 a14 a15 a16 a17 a18 a19 a20 a21 a22 a23 a24 a25 a26 : Nat → Int32} {post : Int32 → St0 → Prop} {mc ms kc ks : Nat} {x1 x2 x3 x10 x11 x12 x13 x14 x15 : Int32} {d od t0 t1 t2 t3 t4 t5 : Nat} {c old om x0 : Int32} (hd : d < 256) (hod : od < 256) (ho : old = x0 &&& 16777215)
    (b0 : t0 ≤ 3) (b1 : t1 ≤ 1) (b2 : t2 ≤ 4) (b3 : t3 ≤ 2) (b4 : t4 ≤ 3) (b5 : t5 ≤ 15) (e0 : x10 = nI t0) (e1 : x11 = nI t1) (e2 : x12 = nI t2) (e3 : x13 = nI t3) (e4 : x14 = nI t4) (e5 : x15 = nI t5)
    (hrc : rc = 0) (hhc : hc = 0) (h5 : ∀ k, k < 4 → a5 k = tr_cx k) (h6 : ∀ k, k < 4 → a6 k = tr_cy k) (h7 : ∀ k, k < 4 → a7 k = nI d) (h8 : ∀ k, k < 4 → a8 k = c) (hcl : ∀ p, p < 256 → a1 p = old ∧ a2 p = nI od ∧ a3 p = om) (Kp : post 1 ()) :
    wL_lawOf_189 post mc ms x1 x2 x3 old (nI od) om c (nI d) x10 x11 x12 x13 x14 x15 kc ks bx hc rc fa a1 a2 a3 a4 a5 a6 a7 a8 a9 a10 a11 a12 a13 a14 a15 a16 a17 a18 a19 a20 a21 a22 a23 a24 a25 a26 := by
  obtain ⟨t7, b7, e7⟩ := pk_andE (x3 >>> ((25 : Int32) &&& 31)) (m := 1) 1 (by decide)
  obtain ⟨co, bco, eco⟩ := pk_andE ((x2 * 31) + x3) (m := 16777215) 24 (by decide)
  obtain ⟨u, hu, eu⟩ := pk_andE (x1 >>> ((16 : Int32) &&& 31)) (m := 7) 3 (by decide)
  obtain ⟨v, hv, ev⟩ := pk_andE (x1 >>> ((19 : Int32) &&& 31)) (m := 7) 3 (by decide)
  obtain ⟨r0, r1, r2, r3, r4, r5, r7⟩ := tr_ruE a11 x10 x11 x12 x13 x14 x15 (nI t7)
  refine nm_r e7 ?_
  refine tr_rule 0 t0 (by omega) b0 e0 ?_
  refine tr_rule 1 t1 (by omega) b1 e1 ?_
  refine tr_rule 2 t2 (by omega) b2 e2 ?_
  refine tr_rule 3 t3 (by omega) b3 e3 ?_
  refine tr_rule 4 t4 (by omega) b4 e4 ?_
  refine tr_rule 5 t5 (by omega) b5 e5 ?_
  refine tr_rule 7 t7 (by omega) (show t7 ≤ 1 by omega) rfl ?_
  refine nm_r eco (nm_r eu (nm_r ev (tr_cell hrc hu hv bco rfl rfl rfl ?_)))
  refine tr_307 (ru := tr_ru a11 x10 x11 x12 x13 x14 x15 (nI t7)) hd hod hu hv ?_ ?_ ho r0 r1 r2 r3 r4 r5 r7 hrc hhc h5 h6 h7 h8 rfl pk_us hcl Kp
  · rw [r2, e2]
    rcases (by omega : t2 = 0 ∨ t2 = 1 ∨ t2 = 2 ∨ t2 = 3 ∨ t2 = 4) with h | h | h | h | h
    · rw [h]; exact Or.inl rfl
    · rw [h]; exact Or.inr (Or.inl rfl)
    · rw [h]; exact Or.inr (Or.inr (Or.inl rfl))
    · rw [h]; exact Or.inr (Or.inr (Or.inr (Or.inl rfl)))
    · rw [h]; exact Or.inr (Or.inr (Or.inr (Or.inr rfl)))
  · rw [r3, e3]
    rcases (by omega : t3 = 0 ∨ t3 = 1 ∨ t3 = 2) with h | h | h
    · rw [h]; exact Or.inl rfl
    · rw [h]; exact Or.inr (Or.inl rfl)
    · rw [h]; exact Or.inr (Or.inr rfl)
theorem tr_four {a : Nat → Int32} {w x y z : Int32} {f : Nat → Int32} (h0 : w = f 0) (h1 : x = f 1) (h2 : y = f 2) (h3 : z = f 3) : ∀ k, k < 4 → upd (upd (upd (upd a 0 w) 1 x) 2 y) 3 z k = f k :=
  tr_fill rfl (tr_fill rfl (tr_fill rfl (tr_fill rfl (fun j hj => absurd hj (by omega)) h0) h1) h2) h3
theorem tr_61 {bx hc rc fa : Int32} {a1 a2 a3 a4 a5 a6 a7 a8 a9 a10 a11 a12 a13 a14 a15 a16 a17 a18 a19 a20 a21 a22 a23 a24 a25 a26 : Nat → Int32} {post : Int32 → St0 → Prop} {mc ms kc ks : Nat} {x1 x2 x3 x5 x6 x7 x8 z0 x0 : Int32} {co5 od om c8 d : Nat} (ho : x5 = x0 &&& 16777215) (b5 : co5 < 16777216) (b6 : od < 256) (b7 : om < 16) (b8 : c8 < 16777216) (b9 : d < 256) (e5 : x5 = nI co5) (e6 : x6 = nI od) (e7 : x7 = nI om) (e8 : x8 = nI c8) (e9 : z0 = nI d)
    (hrc : rc = 0) (hhc : hc = 0) (Kp : post 1 ()) : wL_lawOf_61 post mc ms x1 x2 x3 x5 x6 x7 x8 z0 kc ks bx hc rc fa a1 a2 a3 a4 a5 a6 a7 a8 a9 a10 a11 a12 a13 a14 a15 a16 a17 a18 a19 a20 a21 a22 a23 a24 a25 a26 := by
  obtain ⟨t0, b0, f0⟩ := pk_andE x3 (m := 3) 2 (by decide)
  obtain ⟨t1, b1, f1⟩ := pk_andE (x3 >>> ((2 : Int32) &&& 31)) (m := 1) 1 (by decide)
  obtain ⟨k2, b2, f2⟩ := pk_andE (x3 >>> ((3 : Int32) &&& 31)) (m := 255) 8 (by decide)
  obtain ⟨k3, b3, f3⟩ := pk_andE (x3 >>> ((11 : Int32) &&& 31)) (m := 255) 8 (by decide)
  obtain ⟨t4, b4, f4⟩ := pk_andE (x3 >>> ((19 : Int32) &&& 31)) (m := 3) 2 (by decide)
  obtain ⟨t5, b5', f5⟩ := pk_andE (x3 >>> ((21 : Int32) &&& 31)) (m := 15) 4 (by decide)
  have g2 : ((x3 >>> ((3 : Int32) &&& 31)) &&& 255) - ((x3 >>> ((3 : Int32) &&& 31)) &&& 255) / 5 * 5 = nI (k2 % 5) := by
    rw [f2]
    exact pk_rem (d := 5) (by omega) (by omega) (by omega)
  have g3 : ((x3 >>> ((11 : Int32) &&& 31)) &&& 255) - ((x3 >>> ((11 : Int32) &&& 31)) &&& 255) / 3 * 3 = nI (k3 % 3) := by
    rw [f3]
    exact pk_rem (d := 3) (by omega) (by omega) (by omega)
  subst e6 e9
  refine tr_corner 0 0 d c8 (-64) (-64) (by omega) (by omega) b9 b8 (by decide) (by decide) rfl e8 ?_
  refine tr_corner 1 383 d c8 319 (-64) (by omega) (by omega) b9 b8 (by decide) (by decide) rfl e8 ?_
  refine tr_corner 2 147072 d c8 (-64) 319 (by omega) (by omega) b9 b8 (by decide) (by decide) rfl e8 ?_
  refine tr_corner 3 147455 d c8 319 319 (by omega) (by omega) b9 b8 (by decide) (by decide) rfl e8 ?_
  refine tr_clear hrc b5 b6 b7 e5 rfl e7 (fun a1' a2' a3' hcl => ?_)
  refine nm_r f0 (nm_r f1 ⟨by decide, nm_r g2 ⟨by decide, nm_r g3 (nm_r f4 ?_)⟩⟩)
  have c5 := tr_four (a := a5) (f := tr_cx) (w := -64) (x := 319) (y := -64) (z := 319) (by decide) (by decide) (by decide) (by decide)
  have c6 := tr_four (a := a6) (f := tr_cy) (w := -64) (x := -64) (y := 319) (z := 319) (by decide) (by decide) (by decide) (by decide)
  have c7 := tr_four (a := a7) (f := fun _ => nI d) (w := nI d) (x := nI d) (y := nI d) (z := nI d) rfl rfl rfl rfl
  have c8' := tr_four (a := a8) (f := fun _ => x8) (w := x8) (x := x8) (y := x8) (z := x8) rfl rfl rfl rfl
  refine br_c (fun _ => ?_) (fun _ => ?_)
  · exact tr_189 b9 b6 ho (t0 := t0) (t1 := t1) (t2 := k2 % 5) (t3 := k3 % 3) (t4 := t4) (t5 := om) (by omega) (by omega) (by omega) (by omega) (by omega) (by omega) rfl rfl rfl rfl rfl e7 hrc hhc c5 c6 c7 c8' hcl Kp
  · exact tr_189 b9 b6 ho (t0 := t0) (t1 := t1) (t2 := k2 % 5) (t3 := k3 % 3) (t4 := t4) (t5 := t5) (by omega) (by omega) (by omega) (by omega) (by omega) (by omega) rfl rfl rfl rfl rfl f5 hrc hhc c5 c6 c7 c8' hcl Kp
theorem tr_lawOf {post : Int32 → St0 → Prop} {p0 p1 p2 p3 : Int32} (Kp : post 1 ()) : wpL_lawOf post 686 10976 () p0 p1 p2 p3 := by
  obtain ⟨co5, b5, e5⟩ := pk_andE p0 (m := 16777215) 24 (by decide)
  obtain ⟨od, b6, e6⟩ := pk_andE p1 (m := 255) 8 (by decide)
  obtain ⟨om, b7, e7⟩ := pk_andE (p0 >>> ((24 : Int32) &&& 31)) (m := 15) 4 (by decide)
  obtain ⟨c8, b8, e8⟩ := pk_andE p2 (m := 16777215) 24 (by decide)
  obtain ⟨d, b9, e9⟩ := pk_andE (p1 >>> ((8 : Int32) &&& 31)) (m := 255) 8 (by decide)
  refine ⟨by omega, by omega, 26, 1230, by omega, by omega, tr_init (by omega) (by omega) (fun bx a1 a2 a3 a4 a5 a6 a7 a8 a9 a10 a11 a12 a13 a14 a15 a16 a17 a18 a19 a20 a21 a22 a23 a24 a25 a26 => ?_)⟩
  refine nm_e (nm_e (nm_e (nm_e (nm_e (br_c (fun _ => ?_) (fun _ => ?_))))))
  · exact tr_61 (x0 := p0) rfl b5 b6 b7 b8 b6 e5 e6 e7 e8 e6 rfl rfl Kp
  · exact tr_61 (x0 := p0) rfl b5 b6 b7 b8 b9 e5 e6 e7 e8 e9 rfl rfl Kp
theorem tr_cellAt {post : Int32 → Prop} {L : Nat} {xs : Nat → Int32} (k : Nat) (hk : k < 4) (hL : L ≤ 4) (K : ∀ r, post r) : wpL_cellAt post L xs () (nI k) :=
  pk_le L k (fun _ => K _) (fun z => ⟨pk_in k L z, K _⟩)
end
section
theorem i_vc (xs : Nat → Int32) (L : Nat) (hL : L ≤ 4) : wpL_law (fun r => r = 1) L xs :=
  tr_cellAt 0 (by omega) hL (fun r1 => tr_cellAt 1 (by omega) hL (fun r2 => tr_cellAt 2 (by omega) hL (fun r3 => tr_cellAt 3 (by omega) hL (fun r4 => ⟨686, 10976, by omega, by omega, tr_lawOf rfl⟩))))
end
