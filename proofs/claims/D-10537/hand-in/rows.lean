section
/-! numbers and pictures -/
def zq_in (x l : Int32) : Prop := ¬ x < 0 ∧ ¬ l ≤ x
theorem zq_10 : ¬ (1 : Int32) = 0 := by decide
theorem zq_inN {x l : Int32} {n : Nat} (hl : l = nI n) (hn : n < 2 ^ 31) (h : zq_in x l) : ∃ j : Nat, j < n ∧ x = nI j := by
  subst hl
  rcases pk_ix x hn with z | z | z
  · exact absurd z h.1
  · exact absurd z h.2
  · exact z
theorem zq_inOf {l : Int32} {n j : Nat} (hl : l = nI n) (hn : n < 2 ^ 31) (hj : j < n) : zq_in (nI j) l := by
  subst hl
  exact ⟨nI_pos (by omega), nI_ge hj hn⟩
theorem zq_ix {x y : Int32} (hx : zq_in x 16) (hy : zq_in y 16) : ∃ n : Nat, n < 256 ∧ 16 * y + x = nI n := by
  obtain ⟨j, hj, rfl⟩ := zq_inN (n := 16) rfl (by omega) hx
  obtain ⟨k, hk, rfl⟩ := zq_inN (n := 16) rfl (by omega) hy
  refine ⟨16 * k + j, by omega, ?_⟩
  show nI 16 * nI k + nI j = _
  rw [pk_mul, nI_add]
theorem zq_ix8 {x y : Int32} (hx : zq_in x 8) (hy : zq_in y 8) : ∃ n : Nat, n < 64 ∧ 8 * y + x = nI n := by
  obtain ⟨j, hj, rfl⟩ := zq_inN (n := 8) rfl (by omega) hx
  obtain ⟨k, hk, rfl⟩ := zq_inN (n := 8) rfl (by omega) hy
  refine ⟨8 * k + j, by omega, ?_⟩
  show nI 8 * nI k + nI j = _
  rw [pk_mul, nI_add]
def zq_most (x : Int32) : Int32 := if x = 0 then 3 else if x = 4 then 3 else if x = 2 then 4 else if x = 3 then 2 else if x = 5 then 15 else 1
def zq_fit (w v : Int32) : Prop := zq_in w 8 ∧ ¬ v < 0 ∧ v ≤ zq_most w
/-- the rules at the beginning, and for the triangle -/
def zq_rb : Nat → Int32
  | 0 => 2
  | 1 => 1
  | _ => 0
def zq_ru : Nat → Int32
  | 0 => 1
  | 1 => 1
  | _ => 0
def zq_R (a : Nat → Int32) : Prop := ∀ j, j < 8 → a j = zq_rb j
def zq_R1 (a : Nat → Int32) : Prop := ∀ j, j < 8 → a j = zq_ru j
def zq_U (c d m : Int32) (a1 a2 a3 : Nat → Int32) : Prop := (∀ j, j < 256 → a1 j = c) ∧ (∀ j, j < 256 → a2 j = d) ∧ (∀ j, j < 256 → a3 j = m)
/-- the triangle's corners -/
def zq_PX : Nat → Int32
  | 1 => 255
  | _ => 0
def zq_PY : Nat → Int32
  | 2 => 255
  | _ => 0
def zq_K (n : Nat) (D C : Int32) (a5 a6 a7 a8 : Nat → Int32) : Prop := (∀ j, j < n → a5 j = zq_PX j) ∧ (∀ j, j < n → a6 j = zq_PY j) ∧ (∀ j, j < n → a7 j = D) ∧ (∀ j, j < n → a8 j = C)
/-- the record of the triangle -/
def zq_rec (D C : Int32) (a12 a13 a14 a15 a18 a19 a20 : Nat → Int32) : Prop := zq_K 3 D C a12 a13 a14 a15 ∧ a18 0 = 3855 ∧ zq_R1 a19 ∧ a20 0 = 65025
/-- its edges -/
def zq_X : Nat → Int32
  | 0 => -4080
  | 1 => 4080
  | _ => 0
def zq_Y : Nat → Int32
  | 0 => -4080
  | 1 => 0
  | _ => 4080
def zq_Z : Nat → Int32
  | 0 => 60945
  | _ => 2040
def zq_E (a21 a22 a24 : Nat → Int32) : Prop := (∀ j, j < 3 → a21 j = zq_X j) ∧ (∀ j, j < 3 → a22 j = zq_Y j) ∧ (∀ j, j < 3 → a24 j = zq_Z j)
/-- its sides at a pixel -/
def zq_S (x y j : Nat) : Int32 := zq_Z j + zq_X j * nI x + zq_Y j * nI y
theorem zq_Ssum (x y : Nat) : zq_S x y 0 + zq_S x y 1 + zq_S x y 2 = 65025 := by
  show ((60945 : Int32) + (-4080) * nI x + (-4080) * nI y) + (2040 + 4080 * nI x + 0 * nI y) + (2040 + 0 * nI x + 4080 * nI y) = 65025
  grind
theorem zq_Son (x y j : Nat) : zq_S x y j + zq_X j = zq_S (x + 1) y j := by
  unfold zq_S
  rw [nI_succ]
  grind
theorem zq_Sneg : ∀ x, x < 16 → ∀ y, y < 16 → ¬ x + y ≤ 14 → zq_S x y 0 < 0 := by decide +kernel
theorem zq_Spos : ∀ x, x < 16 → ∀ y, y < 16 → x + y ≤ 14 → ∀ j, j < 3 → ¬ zq_S x y j < 0 ∧ ¬ zq_S x y j = 0 := by decide +kernel
/-- counts of covered pixels -/
def zq_rc (y x0 : Nat) : Nat → Nat
  | 0 => 0
  | i + 1 => zq_rc y x0 i + (if x0 + i + y ≤ 14 then 1 else 0)
def zq_tc (w x0 y0 : Nat) : Nat → Nat
  | 0 => 0
  | j + 1 => zq_tc w x0 y0 j + zq_rc (y0 + j) x0 w
def zq_hc : Nat → Nat
  | 0 => 0
  | t + 1 => zq_hc t + zq_tc 4 (4 * (t % 4)) (4 * (t / 4)) 4
theorem zq_tc_all : zq_tc 16 0 0 16 = 120 := by decide +kernel
theorem zq_hc_all : zq_hc 16 = 120 := by decide +kernel
/-- what drawing makes of an array -/
def zq_row (f : Nat → Int32) (v : Int32) (y x0 : Nat) : Nat → (Nat → Int32)
  | 0 => f
  | i + 1 => if x0 + i + y ≤ 14 then upd (zq_row f v y x0 i) (16 * y + (x0 + i)) v else zq_row f v y x0 i
def zq_til (f : Nat → Int32) (v : Int32) (x0 y0 : Nat) : Nat → (Nat → Int32)
  | 0 => f
  | j + 1 => zq_row (zq_til f v x0 y0 j) v (y0 + j) x0 4
def zq_all (f : Nat → Int32) (v : Int32) : Nat → (Nat → Int32)
  | 0 => f
  | t + 1 => zq_til (zq_all f v t) v (4 * (t % 4)) (4 * (t / 4)) 4
theorem zq_row_keep {f : Nat → Int32} {v : Int32} {p : Nat} (h : f p = v) (y x0 i : Nat) : zq_row f v y x0 i p = v := by
  induction i with
  | zero => exact h
  | succ i ih =>
    unfold zq_row
    split
    · by_cases e : p = 16 * y + (x0 + i)
      · rw [e, pk_us]
      · rw [pk_un e, ih]
    · exact ih
theorem zq_til_keep {f : Nat → Int32} {v : Int32} {p : Nat} (h : f p = v) (x0 y0 j : Nat) : zq_til f v x0 y0 j p = v := by
  induction j with
  | zero => exact h
  | succ j ih =>
    unfold zq_til
    exact zq_row_keep ih _ _ _
theorem zq_all_keep {f : Nat → Int32} {v : Int32} {p : Nat} (h : zq_all f v 1 p = v) (t : Nat) : zq_all f v (t + 1) p = v := by
  induction t with
  | zero => exact h
  | succ t ih =>
    unfold zq_all
    exact zq_til_keep ih _ _ _
theorem zq_row_255 (f : Nat → Int32) (v : Int32) (y x0 i : Nat) : zq_row f v y x0 i 255 = f 255 := by
  induction i with
  | zero => rfl
  | succ i ih =>
    unfold zq_row
    split
    · rw [pk_un (by omega), ih]
    · exact ih
theorem zq_til_255 (f : Nat → Int32) (v : Int32) (x0 y0 j : Nat) : zq_til f v x0 y0 j 255 = f 255 := by
  induction j with
  | zero => rfl
  | succ j ih =>
    unfold zq_til
    rw [zq_row_255, ih]
theorem zq_all_255 (f : Nat → Int32) (v : Int32) (t : Nat) : zq_all f v t 255 = f 255 := by
  induction t with
  | zero => rfl
  | succ t ih =>
    unfold zq_all
    rw [zq_til_255, ih]
theorem zq_all_0 (f : Nat → Int32) (v : Int32) : zq_all f v 16 0 = v := zq_all_keep (by rfl) 15
theorem zq_all_51 (f : Nat → Int32) (v : Int32) : zq_all f v 16 51 = v := zq_all_keep (by rfl) 15
/-- tiles that no side reaches -/
theorem zq_row_out (f : Nat → Int32) (v : Int32) {y x0 : Nat} (h : 15 ≤ x0 + y) (i : Nat) : zq_row f v y x0 i = f := by
  induction i with
  | zero => rfl
  | succ i ih =>
    unfold zq_row
    rw [if_neg (by omega), ih]
theorem zq_til_out (f : Nat → Int32) (v : Int32) {x0 y0 : Nat} (h : 15 ≤ x0 + y0) (j : Nat) : zq_til f v x0 y0 j = f := by
  induction j with
  | zero => rfl
  | succ j ih =>
    unfold zq_til
    rw [zq_row_out _ _ (by omega), ih]
theorem zq_rc_out {y x0 : Nat} (h : 15 ≤ x0 + y) (i : Nat) : zq_rc y x0 i = 0 := by
  induction i with
  | zero => rfl
  | succ i ih =>
    unfold zq_rc
    rw [if_neg (by omega), ih]
theorem zq_tc_out (w : Nat) {x0 y0 : Nat} (h : 15 ≤ x0 + y0) (j : Nat) : zq_tc w x0 y0 j = 0 := by
  induction j with
  | zero => rfl
  | succ j ih =>
    unfold zq_tc
    rw [zq_rc_out (by omega), ih]
/-- fills -/
theorem zq_fill {s : Nat → Int32} {i k : Nat} {c : Int32} (hk : k = i) (h : ∀ j, j < i → s j = c) : ∀ j, j < i + 1 → upd s k c j = c := by
  intro j hj
  rw [hk]
  by_cases e : j = i
  · rw [e, pk_us]
  · rw [pk_un e]
    exact h j (by omega)
theorem zq_fillF {f s : Nat → Int32} {i k : Nat} {x : Int32} (hk : k = i) (h : ∀ j, j < i → s j = f j) (hx : x = f i) : ∀ j, j < i + 1 → upd s k x j = f j := by
  intro j hj
  rw [hk]
  by_cases e : j = i
  · rw [e, pk_us, hx]
  · rw [pk_un e]
    exact h j (by omega)
theorem zq_upR {a : Nat → Int32} {k : Nat} {v : Int32} {g : Nat → Int32} (h : ∀ j, j < 8 → j ≠ k → a j = g j) (hv : v = g k) : ∀ j, j < 8 → upd a k v j = g j := by
  intro j hj
  by_cases e : j = k
  · rw [e, pk_us, hv]
  · rw [pk_un e]
    exact h j hj e
def zq_tri : Nat → Nat
  | 0 => 0
  | n + 1 => zq_tri n + (n + 1)
theorem zq_tri_256 : zq_tri 256 = 32896 := by decide +kernel
/-- colours -/
theorem zq_or (a b : Nat) : nI a ||| nI b = nI (a ||| b) := by
  apply Int32.toBitVec_inj.1
  show BitVec.ofNat 32 a ||| BitVec.ofNat 32 b = BitVec.ofNat 32 (a ||| b)
  apply BitVec.eq_of_getLsbD_eq
  intro i hi
  simp [hi]
theorem zq_or8 {a b : Nat} (ha : a < 65536) (hb : b < 256) : (nI a <<< ((8 : Int32) &&& 31)) ||| nI b = nI (a * 256 + b) := by
  rw [pk_shlN (n := a) ((8 : Int32) &&& 31) 8 (by decide) (by omega), zq_or]
  congr 1
  rw [Nat.mul_comm a, ← Nat.two_pow_add_eq_or_of_lt (i := 8) hb a]
theorem zq_part {c : Nat} (hc : c < 16777216) {s : Int32} {k : Nat} (hs : ((s &&& 31).toBitVec.smod 32).toNat = k) : (nI c >>> (s &&& 31)) &&& 255 = nI (c / 2 ^ k % 256) := by
  rw [pk_shrN (n := c) (by omega) (s &&& 31) k hs]
  have h : c / 2 ^ k ≤ c := Nat.div_le_self _ _
  exact pk_andN (n := c / 2 ^ k) (by omega) 8 (by decide)
theorem zq_255 : ∀ k, k < 256 → (nI k * 255) / 255 = nI k := by decide +kernel
theorem zq_area {s0 s1 s2 : Int32} (h : s0 + s1 + s2 = 65025) {v : Nat} (hv : v < 256) : (s0 * nI v + s1 * nI v + s2 * nI v) / 65025 = nI v := by
  rw [← Int32.add_mul, ← Int32.add_mul, h]
  show nI 65025 * nI v / nI 65025 = nI v
  rw [pk_mul, pk_div (by omega) (by omega) (by omega), Nat.mul_div_cancel_left v (by omega)]
theorem zq_fill2 {s : Nat → Int32} {i k : Nat} {x c : Int32} (hk : k = i) (h : ∀ j, j < i → s j = c) (hx : x = c) : ∀ j, j < i + 1 → upd s k x j = c := by
  subst hx
  exact zq_fill hk h
theorem zq_rc_t {y x0 i : Nat} (h : x0 + i + y ≤ 14) : zq_rc y x0 (i + 1) = zq_rc y x0 i + 1 := by
  show zq_rc y x0 i + (if x0 + i + y ≤ 14 then 1 else 0) = _
  rw [if_pos h]
theorem zq_rc_f {y x0 i : Nat} (h : ¬ x0 + i + y ≤ 14) : zq_rc y x0 (i + 1) = zq_rc y x0 i := by
  show zq_rc y x0 i + (if x0 + i + y ≤ 14 then 1 else 0) = _
  rw [if_neg h]
  rfl
theorem zq_row_t (f : Nat → Int32) (v : Int32) {y x0 i : Nat} (h : x0 + i + y ≤ 14) : zq_row f v y x0 (i + 1) = upd (zq_row f v y x0 i) (16 * y + (x0 + i)) v := by
  show (if x0 + i + y ≤ 14 then _ else _) = _
  rw [if_pos h]
theorem zq_row_f (f : Nat → Int32) (v : Int32) {y x0 i : Nat} (h : ¬ x0 + i + y ≤ 14) : zq_row f v y x0 (i + 1) = zq_row f v y x0 i := by
  show (if x0 + i + y ≤ 14 then _ else _) = _
  rw [if_neg h]
end
section
/-! methods on a renderer without records -/
variable {bo hi re fa : Int32} {a1 a2 a3 a4 a5 a6 a7 a8 a9 a10 a11 a12 a13 a14 a15 a16 a17 a18 a19 a20 a21 a22 a23 a24 a25 a26 : Nat → Int32}
theorem zq_c0 : (0 : Int32).toNatClampNeg = 0 := pk_cl 0
theorem zq_c1 : (1 : Int32).toNatClampNeg = 1 := pk_cl 1
theorem zq_c2 : (2 : Int32).toNatClampNeg = 2 := pk_cl 2
theorem zq_isIn {post : Int32 → Prop} {x l : Int32} (h1 : zq_in x l → post 1) (h0 : ¬ zq_in x l → post 0) : wpX_isIn post () x l :=
  br_c (fun z => h0 (fun t => t.1 z)) (fun z => br_c (fun w => h0 (fun t => t.2 w)) (fun w => h1 ⟨z, w⟩))
theorem zq_flush0 {post : St2 → Prop} (h : post (bo, hi, 0, fa, a1, a2, a3, a4, a5, a6, a7, a8, a9, a10, a11, a12, a13, a14, a15, a16, a17, a18, a19, a20, a21, a22, a23, a24, a25, a26)) : wpX_flush post (bo, hi, 0, fa, a1, a2, a3, a4, a5, a6, a7, a8, a9, a10, a11, a12, a13, a14, a15, a16, a17, a18, a19, a20, a21, a22, a23, a24, a25, a26) := br_t rfl h
theorem zq_isPixel {post : Int32 → Prop} {x y : Int32} (h1 : zq_in x 16 → zq_in y 16 → post 1) (h0 : ¬ (zq_in x 16 ∧ zq_in y 16) → post 0) : wpX_isPixel post () x y := by
  unfold wpX_isPixel
  exact zq_isIn (fun hx => br_f zq_10 (zq_isIn (fun hy => br_f zq_10 (h1 hx hy)) (fun hy => br_t rfl (h0 (fun t => hy t.2))))) (fun hx => br_t rfl (h0 (fun t => hx t.1)))
theorem zq_colour {post : Int32 → St2 → Prop} {x y c : Int32} (hu : ∀ j, j < 256 → a1 j = c) (h1 : zq_in x 16 → zq_in y 16 → post c (bo, hi, 0, fa, a1, a2, a3, a4, a5, a6, a7, a8, a9, a10, a11, a12, a13, a14, a15, a16, a17, a18, a19, a20, a21, a22, a23, a24, a25, a26)) (h0 : ¬ (zq_in x 16 ∧ zq_in y 16) → post (-1) (bo, hi, 0, fa, a1, a2, a3, a4, a5, a6, a7, a8, a9, a10, a11, a12, a13, a14, a15, a16, a17, a18, a19, a20, a21, a22, a23, a24, a25, a26)) : wpX_colour post (bo, hi, 0, fa, a1, a2, a3, a4, a5, a6, a7, a8, a9, a10, a11, a12, a13, a14, a15, a16, a17, a18, a19, a20, a21, a22, a23, a24, a25, a26) x y := by
  unfold wpX_colour
  refine zq_flush0 (zq_isPixel (fun hx hy => br_f zq_10 ?_) (fun h => br_t rfl (h0 h)))
  obtain ⟨n, hn, e⟩ := zq_ix hx hy
  refine ⟨pk_in n 256 hn e, ?_⟩
  rw [pk_cl n e, hu n hn]
  exact h1 hx hy
theorem zq_depth {post : Int32 → St2 → Prop} {x y c : Int32} (hu : ∀ j, j < 256 → a2 j = c) (h1 : zq_in x 16 → zq_in y 16 → post c (bo, hi, 0, fa, a1, a2, a3, a4, a5, a6, a7, a8, a9, a10, a11, a12, a13, a14, a15, a16, a17, a18, a19, a20, a21, a22, a23, a24, a25, a26)) (h0 : ¬ (zq_in x 16 ∧ zq_in y 16) → post (-1) (bo, hi, 0, fa, a1, a2, a3, a4, a5, a6, a7, a8, a9, a10, a11, a12, a13, a14, a15, a16, a17, a18, a19, a20, a21, a22, a23, a24, a25, a26)) : wpX_depth post (bo, hi, 0, fa, a1, a2, a3, a4, a5, a6, a7, a8, a9, a10, a11, a12, a13, a14, a15, a16, a17, a18, a19, a20, a21, a22, a23, a24, a25, a26) x y := by
  unfold wpX_depth
  refine zq_flush0 (zq_isPixel (fun hx hy => br_f zq_10 ?_) (fun h => br_t rfl (h0 h)))
  obtain ⟨n, hn, e⟩ := zq_ix hx hy
  refine ⟨pk_in n 256 hn e, ?_⟩
  rw [pk_cl n e, hu n hn]
  exact h1 hx hy
theorem zq_mark {post : Int32 → St2 → Prop} {x y c : Int32} (hu : ∀ j, j < 256 → a3 j = c) (h1 : zq_in x 16 → zq_in y 16 → post c (bo, hi, 0, fa, a1, a2, a3, a4, a5, a6, a7, a8, a9, a10, a11, a12, a13, a14, a15, a16, a17, a18, a19, a20, a21, a22, a23, a24, a25, a26)) (h0 : ¬ (zq_in x 16 ∧ zq_in y 16) → post (-1) (bo, hi, 0, fa, a1, a2, a3, a4, a5, a6, a7, a8, a9, a10, a11, a12, a13, a14, a15, a16, a17, a18, a19, a20, a21, a22, a23, a24, a25, a26)) : wpX_mark post (bo, hi, 0, fa, a1, a2, a3, a4, a5, a6, a7, a8, a9, a10, a11, a12, a13, a14, a15, a16, a17, a18, a19, a20, a21, a22, a23, a24, a25, a26) x y := by
  unfold wpX_mark
  refine zq_flush0 (zq_isPixel (fun hx hy => br_f zq_10 ?_) (fun h => br_t rfl (h0 h)))
  obtain ⟨n, hn, e⟩ := zq_ix hx hy
  refine ⟨pk_in n 256 hn e, ?_⟩
  rw [pk_cl n e, hu n hn]
  exact h1 hx hy
theorem zq_in15 : zq_in 15 16 := by unfold zq_in; decide
theorem zq_in0 : zq_in 0 16 := by unfold zq_in; decide
theorem zq_in3 : zq_in 3 16 := by unfold zq_in; decide
theorem zq_col15 {post : Int32 → St2 → Prop} (h : post (a1 255) (bo, hi, 0, fa, a1, a2, a3, a4, a5, a6, a7, a8, a9, a10, a11, a12, a13, a14, a15, a16, a17, a18, a19, a20, a21, a22, a23, a24, a25, a26)) : wpX_colour post (bo, hi, 0, fa, a1, a2, a3, a4, a5, a6, a7, a8, a9, a10, a11, a12, a13, a14, a15, a16, a17, a18, a19, a20, a21, a22, a23, a24, a25, a26) 15 15 := by
  unfold wpX_colour
  refine zq_flush0 (zq_isPixel (fun _ _ => br_f zq_10 ?_) (fun g => absurd ⟨zq_in15, zq_in15⟩ g))
  refine ⟨pk_in 255 256 (by omega), ?_⟩
  rw [show ((16 : Int32) * 15 + 15).toNatClampNeg = 255 from pk_cl 255]
  exact h
theorem zq_dep3 {post : Int32 → St2 → Prop} (h : post (a2 51) (bo, hi, 0, fa, a1, a2, a3, a4, a5, a6, a7, a8, a9, a10, a11, a12, a13, a14, a15, a16, a17, a18, a19, a20, a21, a22, a23, a24, a25, a26)) : wpX_depth post (bo, hi, 0, fa, a1, a2, a3, a4, a5, a6, a7, a8, a9, a10, a11, a12, a13, a14, a15, a16, a17, a18, a19, a20, a21, a22, a23, a24, a25, a26) 3 3 := by
  unfold wpX_depth
  refine zq_flush0 (zq_isPixel (fun _ _ => br_f zq_10 ?_) (fun g => absurd ⟨zq_in3, zq_in3⟩ g))
  refine ⟨pk_in 51 256 (by omega), ?_⟩
  rw [show ((16 : Int32) * 3 + 3).toNatClampNeg = 51 from pk_cl 51]
  exact h
theorem zq_hits {post : Int32 → St2 → Prop} (h : post hi (bo, hi, 0, fa, a1, a2, a3, a4, a5, a6, a7, a8, a9, a10, a11, a12, a13, a14, a15, a16, a17, a18, a19, a20, a21, a22, a23, a24, a25, a26)) : wpX_hits post (bo, hi, 0, fa, a1, a2, a3, a4, a5, a6, a7, a8, a9, a10, a11, a12, a13, a14, a15, a16, a17, a18, a19, a20, a21, a22, a23, a24, a25, a26) := by
  unfold wpX_hits
  exact zq_flush0 h
theorem zq_tri_on (i : Nat) (v : Int32) : nI (zq_tri i) * v + (nI i + 1) * v = nI (zq_tri (i + 1)) * v := by
  show _ = nI (zq_tri i + (i + 1)) * v
  rw [nI_1, ← Int32.add_mul, nI_add]
theorem zq_digest {post : Int32 → St2 → Prop} {c d m : Int32} (hu : zq_U c d m a1 a2 a3) (h : post (32896 * (c + 3 * d + 7 * m)) (bo, hi, 0, fa, a1, a2, a3, a4, a5, a6, a7, a8, a9, a10, a11, a12, a13, a14, a15, a16, a17, a18, a19, a20, a21, a22, a23, a24, a25, a26)) : wpX_digest post (bo, hi, 0, fa, a1, a2, a3, a4, a5, a6, a7, a8, a9, a10, a11, a12, a13, a14, a15, a16, a17, a18, a19, a20, a21, a22, a23, a24, a25, a26) := by
  unfold wpX_digest
  refine zq_flush0 ?_
  refine pk_loop (fun n i s => wX_digest_8 post bo hi 0 fa a1 a2 a3 a4 a5 a6 a7 a8 a9 a10 a11 a12 a13 a14 a15 a16 a17 a18 a19 a20 a21 a22 a23 a24 a25 a26 n s (nI i)) (fun i s => s = nI (zq_tri i) * (c + 3 * d + 7 * m)) 256 0 0 (by omega) ?_ ?_ ?_
  · show (0 : Int32) = nI 0 * _
    rw [nI_0, Int32.zero_mul]
  · intro n s e
    refine pk_le 256 256 (fun _ => ?_) (fun z => absurd z (by omega))
    rw [e, zq_tri_256]
    exact h
  · intro n i s hl e hw
    refine pk_le 256 i (fun z => absurd z (by omega)) (fun _ => ⟨pk_in i 256 hl, pk_in i 256 hl, pk_in i 256 hl, ?_⟩)
    rw [nI_clamp (show i < 2 ^ 31 by omega), hu.1 i hl, hu.2.1 i hl, hu.2.2 i hl]
    refine nm_r ?_ (nm_r (nI_1 i) (hw _ rfl))
    rw [e]
    exact zq_tri_on i _
theorem zq_mostOf {post : Int32 → Prop} {x : Int32} (h : post (zq_most x)) : wpX_mostOf post () x := by
  unfold zq_most at h
  refine br_c (fun e => ?_) (fun e0 => br_c (fun e => ?_) (fun e1 => br_c (fun e => ?_) (fun e2 => br_c (fun e => ?_) (fun e3 => br_c (fun e => ?_) (fun e4 => ?_)))))
  · rw [if_pos e] at h
    exact h
  · rw [if_neg e0, if_pos e] at h
    exact h
  · rw [if_neg e0, if_neg e1, if_pos e] at h
    exact h
  · rw [if_neg e0, if_neg e1, if_neg e2, if_pos e] at h
    exact h
  · rw [if_neg e0, if_neg e1, if_neg e2, if_neg e3, if_pos e] at h
    exact h
  · rw [if_neg e0, if_neg e1, if_neg e2, if_neg e3, if_neg e4] at h
    exact h
theorem zq_mostL {post : Int32 → Prop} {x : Int32} (h : post (zq_most x)) : wpL_most post () x := by
  unfold zq_most at h
  refine br_c (fun e => ?_) (fun e0 => br_c (fun e => ?_) (fun e1 => br_c (fun e => ?_) (fun e2 => br_c (fun e => ?_) (fun e3 => br_c (fun e => ?_) (fun e4 => ?_)))))
  · rw [if_pos e] at h
    exact h
  · rw [if_neg e0, if_pos e] at h
    exact h
  · rw [if_neg e0, if_neg e1, if_pos e] at h
    exact h
  · rw [if_neg e0, if_neg e1, if_neg e2, if_pos e] at h
    exact h
  · rw [if_neg e0, if_neg e1, if_neg e2, if_neg e3, if_pos e] at h
    exact h
  · rw [if_neg e0, if_neg e1, if_neg e2, if_neg e3, if_neg e4] at h
    exact h
theorem zq_rule {post : Int32 → St2 → Prop} {w v : Int32} (h1 : ∀ k, k < 8 → w = nI k → zq_fit w v → post (a11 k) (bo, hi, re, fa, a1, a2, a3, a4, a5, a6, a7, a8, a9, a10, (upd a11 k v), a12, a13, a14, a15, a16, a17, a18, a19, a20, a21, a22, a23, a24, a25, a26)) (h0 : ¬ zq_fit w v → post (-1) (bo, hi, re, fa, a1, a2, a3, a4, a5, a6, a7, a8, a9, a10, a11, a12, a13, a14, a15, a16, a17, a18, a19, a20, a21, a22, a23, a24, a25, a26)) : wpX_rule post (bo, hi, re, fa, a1, a2, a3, a4, a5, a6, a7, a8, a9, a10, a11, a12, a13, a14, a15, a16, a17, a18, a19, a20, a21, a22, a23, a24, a25, a26) w v := by
  unfold wpX_rule
  refine zq_isIn (fun hw => br_f zq_10 (br_c (fun hv => h0 (fun t => t.2.1 hv)) (fun hv => zq_mostOf (br_c (fun hm => ?_) (fun hm => h0 (fun t => hm t.2.2)))))) (fun hw => br_t rfl (h0 (fun t => hw t.1)))
  obtain ⟨k, hk, rfl⟩ := zq_inN (n := 8) rfl (by omega) hw
  refine ⟨pk_in k 8 hk, ?_⟩
  rw [nI_clamp (show k < 2 ^ 31 by omega)]
  exact nm_e ⟨pk_in k 8 hk, nm_e (h1 k hk rfl ⟨hw, hv, hm⟩)⟩
theorem zq_cell {post : Int32 → St2 → Prop} {x y c : Int32} (h1 : ∀ k, k < 64 → 8 * y + x = nI k → zq_in x 8 → zq_in y 8 → zq_in c 16777216 → post (a4 k) (bo, hi, 0, fa, a1, a2, a3, (upd a4 k c), a5, a6, a7, a8, a9, a10, a11, a12, a13, a14, a15, a16, a17, a18, a19, a20, a21, a22, a23, a24, a25, a26)) (h0 : ¬ (zq_in x 8 ∧ zq_in y 8 ∧ zq_in c 16777216) → post (-1) (bo, hi, 0, fa, a1, a2, a3, a4, a5, a6, a7, a8, a9, a10, a11, a12, a13, a14, a15, a16, a17, a18, a19, a20, a21, a22, a23, a24, a25, a26)) : wpX_cell post (bo, hi, 0, fa, a1, a2, a3, a4, a5, a6, a7, a8, a9, a10, a11, a12, a13, a14, a15, a16, a17, a18, a19, a20, a21, a22, a23, a24, a25, a26) x y c := by
  unfold wpX_cell
  refine zq_isIn (fun hx => br_f zq_10 (zq_isIn (fun hy => br_f zq_10 (zq_isIn (fun hc => br_f zq_10 (zq_flush0 ?_)) (fun g => br_t rfl (h0 (fun t => g t.2.2))))) (fun g => br_t rfl (h0 (fun t => g t.2.1))))) (fun g => br_t rfl (h0 (fun t => g t.1)))
  obtain ⟨k, hk, e⟩ := zq_ix8 hx hy
  refine ⟨pk_in k 64 hk e, ?_⟩
  rw [pk_cl k e]
  exact nm_e ⟨pk_in k 64 hk e, nm_e (h1 k hk e hx hy hc)⟩
theorem zq_grab35 {post : Int32 → St2 → Prop} {J : Int32 → (Nat → Int32) → (Nat → Int32) → (Nat → Int32) → (Nat → Int32) → (Nat → Int32) → (Nat → Int32) → (Nat → Int32) → (Nat → Int32) → (Nat → Int32) → (Nat → Int32) → (Nat → Int32) → (Nat → Int32) → (Nat → Int32) → (Nat → Int32) → (Nat → Int32) → (Nat → Int32) → (Nat → Int32) → (Nat → Int32) → (Nat → Int32) → (Nat → Int32) → (Nat → Int32) → (Nat → Int32) → (Nat → Int32) → (Nat → Int32) → (Nat → Int32) → (Nat → Int32) →  Prop} {x y v : Nat} (hx : x < 9) (hy : y < 9) (hv : v < 8) (h : ∀ b4, J (nI (v + 1)) a1 a2 a3 b4 a5 a6 a7 a8 a9 a10 a11 a12 a13 a14 a15 a16 a17 a18 a19 a20 a21 a22 a23 a24 a25 a26) : ∃ n, wX_grab_35 post J (nI x) (nI y) (nI v) bo hi re fa n 0 a1 a2 a3 a4 a5 a6 a7 a8 a9 a10 a11 a12 a13 a14 a15 a16 a17 a18 a19 a20 a21 a22 a23 a24 a25 a26 := by
  refine pk_loop (fun n i s => wX_grab_35 post J (nI x) (nI y) (nI v) bo hi re fa n (nI i) a1 a2 a3 s a5 a6 a7 a8 a9 a10 a11 a12 a13 a14 a15 a16 a17 a18 a19 a20 a21 a22 a23 a24 a25 a26) (fun _ _ => True) 8 0 a4 (by omega) trivial ?_ ?_
  · intro n s _
    exact pk_le 8 8 (fun _ => nm_r (nI_1 v) (h s)) (fun z => absurd z (by omega))
  · intro n i s hl _ hw
    refine pk_le 8 i (fun z => absurd z (by omega)) (fun _ => ⟨pk_in (16 * (y + v) + x + i) 256 (by omega) ?_, pk_in (8 * v + i) 64 (by omega) ?_, nm_e (nm_r (nI_1 i) (hw _ trivial))⟩)
    · show nI 16 * (nI y + nI v) + nI x + nI i = _
      rw [nI_add, pk_mul, nI_add, nI_add]
    · show nI 8 * nI v + nI i = _
      rw [pk_mul, nI_add]
theorem zq_grab {post : Int32 → St2 → Prop} {x y : Int32} (h1 : ∀ b4, zq_in x 9 → zq_in y 9 → post 0 (bo, hi, 0, fa, a1, a2, a3, b4, a5, a6, a7, a8, a9, a10, a11, a12, a13, a14, a15, a16, a17, a18, a19, a20, a21, a22, a23, a24, a25, a26)) (h0 : ¬ (zq_in x 9 ∧ zq_in y 9) → post (-1) (bo, hi, 0, fa, a1, a2, a3, a4, a5, a6, a7, a8, a9, a10, a11, a12, a13, a14, a15, a16, a17, a18, a19, a20, a21, a22, a23, a24, a25, a26)) : wpX_grab post (bo, hi, 0, fa, a1, a2, a3, a4, a5, a6, a7, a8, a9, a10, a11, a12, a13, a14, a15, a16, a17, a18, a19, a20, a21, a22, a23, a24, a25, a26) x y := by
  unfold wpX_grab
  refine zq_isIn (fun hx => br_f zq_10 (zq_isIn (fun hy => br_f zq_10 (zq_flush0 ?_)) (fun g => br_t rfl (h0 (fun t => g t.2))))) (fun g => br_t rfl (h0 (fun t => g t.1)))
  obtain ⟨j, hj, ej⟩ := zq_inN (n := 9) rfl (by omega) hx
  obtain ⟨k, hk, ek⟩ := zq_inN (n := 9) rfl (by omega) hy
  have H : ∀ b4, post 0 (bo, hi, 0, fa, a1, a2, a3, b4, a5, a6, a7, a8, a9, a10, a11, a12, a13, a14, a15, a16, a17, a18, a19, a20, a21, a22, a23, a24, a25, a26) := fun b4 => h1 b4 hx hy
  subst ej ek
  refine pk_loop (fun n i s => wX_grab_26 post (nI j) (nI k) bo hi 0 fa n (nI i) a1 a2 a3 s a5 a6 a7 a8 a9 a10 a11 a12 a13 a14 a15 a16 a17 a18 a19 a20 a21 a22 a23 a24 a25 a26) (fun _ _ => True) 8 0 a4 (by omega) trivial ?_ ?_
  · intro n s _
    exact pk_le 8 8 (fun _ => H s) (fun z => absurd z (by omega))
  · intro n i s hl _ hw
    exact pk_le 8 i (fun z => absurd z (by omega)) (fun _ => zq_grab35 hj hk hl (fun b4 => hw b4 trivial))
theorem zq_window {post : Int32 → St2 → Prop} {b : Int32} (h1 : zq_in b 65536 → post 0 (b, hi, re, fa, a1, a2, a3, a4, a5, a6, a7, a8, a9, a10, a11, a12, a13, a14, a15, a16, a17, a18, a19, a20, a21, a22, a23, a24, a25, a26)) (h0 : ¬ zq_in b 65536 → post (-1) (bo, hi, re, fa, a1, a2, a3, a4, a5, a6, a7, a8, a9, a10, a11, a12, a13, a14, a15, a16, a17, a18, a19, a20, a21, a22, a23, a24, a25, a26)) : wpX_window post (bo, hi, re, fa, a1, a2, a3, a4, a5, a6, a7, a8, a9, a10, a11, a12, a13, a14, a15, a16, a17, a18, a19, a20, a21, a22, a23, a24, a25, a26) b := by
  unfold wpX_window
  exact zq_isIn (fun h => br_f zq_10 (h1 h)) (fun h => br_t rfl (h0 h))
theorem zq_aim {post : Int32 → St2 → Prop} {x u v : Int32} (h1 : ∀ b9 b10, zq_in x 6 → zq_in u 128 → zq_in v 128 → post 0 (bo, hi, re, fa, a1, a2, a3, a4, a5, a6, a7, a8, b9, b10, a11, a12, a13, a14, a15, a16, a17, a18, a19, a20, a21, a22, a23, a24, a25, a26)) (h0 : ¬ (zq_in x 6 ∧ zq_in u 128 ∧ zq_in v 128) → post (-1) (bo, hi, re, fa, a1, a2, a3, a4, a5, a6, a7, a8, a9, a10, a11, a12, a13, a14, a15, a16, a17, a18, a19, a20, a21, a22, a23, a24, a25, a26)) : wpX_aim post (bo, hi, re, fa, a1, a2, a3, a4, a5, a6, a7, a8, a9, a10, a11, a12, a13, a14, a15, a16, a17, a18, a19, a20, a21, a22, a23, a24, a25, a26) x u v := by
  unfold wpX_aim
  refine zq_isIn (fun hx => br_f zq_10 (zq_isIn (fun hy => br_f zq_10 (zq_isIn (fun hc => br_f zq_10 ?_) (fun g => br_t rfl (h0 (fun t => g t.2.2))))) (fun g => br_t rfl (h0 (fun t => g t.2.1))))) (fun g => br_t rfl (h0 (fun t => g t.1)))
  obtain ⟨k, hk, e⟩ := zq_inN (n := 6) rfl (by omega) hx
  exact ⟨pk_in k 6 hk e, nm_e ⟨pk_in k 6 hk e, nm_e (h1 _ _ hx hy hc)⟩⟩
theorem zq_corner {post : Int32 → St2 → Prop} {x z d c : Int32} (h1 : ∀ k, k < 6 → x = nI k → zq_in z 147456 → zq_in d 256 → zq_in c 16777216 → post 0 (bo, hi, re, fa, a1, a2, a3, a4, (upd a5 k (z - z / 384 * 384 - 64)), (upd a6 k (z / 384 - 64)), (upd a7 k d), (upd a8 k c), a9, a10, a11, a12, a13, a14, a15, a16, a17, a18, a19, a20, a21, a22, a23, a24, a25, a26)) (h0 : ¬ (zq_in x 6 ∧ zq_in z 147456 ∧ zq_in d 256 ∧ zq_in c 16777216) → post (-1) (bo, hi, re, fa, a1, a2, a3, a4, a5, a6, a7, a8, a9, a10, a11, a12, a13, a14, a15, a16, a17, a18, a19, a20, a21, a22, a23, a24, a25, a26)) : wpX_corner post (bo, hi, re, fa, a1, a2, a3, a4, a5, a6, a7, a8, a9, a10, a11, a12, a13, a14, a15, a16, a17, a18, a19, a20, a21, a22, a23, a24, a25, a26) x z d c := by
  unfold wpX_corner
  refine zq_isIn (fun hx => br_f zq_10 (zq_isIn (fun hz => br_f zq_10 (zq_isIn (fun hd => br_f zq_10 (zq_isIn (fun hc => br_f zq_10 ?_) (fun g => br_t rfl (h0 (fun t => g t.2.2.2))))) (fun g => br_t rfl (h0 (fun t => g t.2.2.1))))) (fun g => br_t rfl (h0 (fun t => g t.2.1))))) (fun g => br_t rfl (h0 (fun t => g t.1)))
  obtain ⟨k, hk, e⟩ := zq_inN (n := 6) rfl (by omega) hx
  refine ⟨by decide, pk_in k 6 hk e, ?_⟩
  rw [pk_cl k e]
  exact nm_e ⟨by decide, pk_in k 6 hk e, nm_e ⟨pk_in k 6 hk e, nm_e ⟨pk_in k 6 hk e, nm_e (h1 k hk e hz hd hc)⟩⟩⟩
theorem zq_clear {post : Int32 → St2 → Prop} {c d m : Int32} (h1 : ∀ b1 b2 b3, zq_U c d m b1 b2 b3 → zq_in c 16777216 → zq_in d 256 → zq_in m 16 → post 0 (bo, hi, 0, fa, b1, b2, b3, a4, a5, a6, a7, a8, a9, a10, a11, a12, a13, a14, a15, a16, a17, a18, a19, a20, a21, a22, a23, a24, a25, a26)) (h0 : ¬ (zq_in c 16777216 ∧ zq_in d 256 ∧ zq_in m 16) → post (-1) (bo, hi, 0, fa, a1, a2, a3, a4, a5, a6, a7, a8, a9, a10, a11, a12, a13, a14, a15, a16, a17, a18, a19, a20, a21, a22, a23, a24, a25, a26)) : wpX_clear post (bo, hi, 0, fa, a1, a2, a3, a4, a5, a6, a7, a8, a9, a10, a11, a12, a13, a14, a15, a16, a17, a18, a19, a20, a21, a22, a23, a24, a25, a26) c d m := by
  unfold wpX_clear
  refine zq_isIn (fun hc => br_f zq_10 (zq_isIn (fun hd => br_f zq_10 (zq_isIn (fun hm => br_f zq_10 (zq_flush0 ?_)) (fun g => br_t rfl (h0 (fun t => g t.2.2))))) (fun g => br_t rfl (h0 (fun t => g t.2.1))))) (fun g => br_t rfl (h0 (fun t => g t.1)))
  refine pk_loop (σ := (Nat → Int32) × (Nat → Int32) × (Nat → Int32)) (fun n i s => wX_clear_37 post c d m bo hi 0 fa n (nI i) s.1 s.2.1 s.2.2 a4 a5 a6 a7 a8 a9 a10 a11 a12 a13 a14 a15 a16 a17 a18 a19 a20 a21 a22 a23 a24 a25 a26) (fun i s => (∀ j, j < i → s.1 j = c) ∧ (∀ j, j < i → s.2.1 j = d) ∧ (∀ j, j < i → s.2.2 j = m)) 256 0 (a1, a2, a3) (by omega) ⟨fun j hj => absurd hj (by omega), fun j hj => absurd hj (by omega), fun j hj => absurd hj (by omega)⟩ ?_ ?_
  · intro n s e
    exact pk_le 256 256 (fun _ => h1 _ _ _ e hc hd hm) (fun z => absurd z (by omega))
  · intro n i s hl e hw
    refine pk_le 256 i (fun z => absurd z (by omega)) (fun _ => ⟨pk_in i 256 hl, nm_e ⟨pk_in i 256 hl, nm_e ⟨pk_in i 256 hl, nm_e (nm_r (nI_1 i) (hw (_, _, _) ⟨?_, ?_, ?_⟩))⟩⟩⟩)
    · exact zq_fill (nI_clamp (by omega)) e.1
    · exact zq_fill (nI_clamp (by omega)) e.2.1
    · exact zq_fill (nI_clamp (by omega)) e.2.2
theorem zq_rb_up {s : Nat → Int32} (h : ∀ j, j < 8 → s j = 0) : zq_R (upd (upd s 0 2) 1 1) := by
  intro j hj
  by_cases e1 : j = 1
  · rw [e1]
    rfl
  · rw [pk_un e1]
    by_cases e0 : j = 0
    · rw [e0]
      rfl
    · rw [pk_un e0, h j hj]
      match j, e0, e1 with
      | 0, e0, _ => exact absurd rfl e0
      | 1, _, e1 => exact absurd rfl e1
      | j + 2, _, _ => rfl
theorem zq_setRules {post : St2 → Prop} (h : ∀ b11, zq_R b11 → post (3855, hi, re, fa, a1, a2, a3, a4, a5, a6, a7, a8, a9, a10, b11, a12, a13, a14, a15, a16, a17, a18, a19, a20, a21, a22, a23, a24, a25, a26)) : wpX_setRules post (bo, hi, re, fa, a1, a2, a3, a4, a5, a6, a7, a8, a9, a10, a11, a12, a13, a14, a15, a16, a17, a18, a19, a20, a21, a22, a23, a24, a25, a26) := by
  unfold wpX_setRules
  refine pk_loop (fun n i s => wX_setRules_9 post 3855 hi re fa n (nI i) a1 a2 a3 a4 a5 a6 a7 a8 a9 a10 s a12 a13 a14 a15 a16 a17 a18 a19 a20 a21 a22 a23 a24 a25 a26) (fun i s => ∀ j, j < i → s j = 0) 8 0 a11 (by omega) (fun j hj => absurd hj (by omega)) ?_ ?_
  · intro n s e
    exact pk_le 8 8 (fun _ => nm_e (nm_e (h _ (zq_rb_up e)))) (fun z => absurd z (by omega))
  · intro n i s hl e hw
    exact pk_le 8 i (fun z => absurd z (by omega)) (fun _ => ⟨pk_in i 8 hl, nm_e (nm_r (nI_1 i) (hw _ (zq_fill (nI_clamp (by omega)) e)))⟩)
theorem zq_init211 {post : St2 → Prop} {mc ms kc ks : Nat} (h : ∀ b2 b11, (∀ j, j < 256 → b2 j = 255) → zq_R b11 → post (3855, hi, re, fa, a1, b2, a3, a4, a5, a6, a7, a8, a9, a10, b11, a12, a13, a14, a15, a16, a17, a18, a19, a20, a21, a22, a23, a24, a25, a26)) : ∃ n, wX_init_211 post mc ms kc ks bo hi re fa n 0 a1 a2 a3 a4 a5 a6 a7 a8 a9 a10 a11 a12 a13 a14 a15 a16 a17 a18 a19 a20 a21 a22 a23 a24 a25 a26 := by
  refine pk_loop (fun n i s => wX_init_211 post mc ms kc ks bo hi re fa n (nI i) a1 s a3 a4 a5 a6 a7 a8 a9 a10 a11 a12 a13 a14 a15 a16 a17 a18 a19 a20 a21 a22 a23 a24 a25 a26) (fun i s => ∀ j, j < i → s j = 255) 256 0 a2 (by omega) (fun j hj => absurd hj (by omega)) ?_ ?_
  · intro n s e
    exact pk_le 256 256 (fun _ => zq_setRules (fun b11 hb => h s b11 e hb)) (fun z => absurd z (by omega))
  · intro n i s hl e hw
    exact pk_le 256 i (fun z => absurd z (by omega)) (fun _ => ⟨pk_in i 256 hl, nm_e (nm_r (nI_1 i) (hw _ (zq_fill (nI_clamp (by omega)) e)))⟩)
theorem zq_reset62 {post : St2 → Prop} (h : ∀ b4 b11, (∀ j, j < 64 → b4 j = 0) → zq_R b11 → post (3855, hi, re, fa, a1, a2, a3, b4, a5, a6, a7, a8, a9, a10, b11, a12, a13, a14, a15, a16, a17, a18, a19, a20, a21, a22, a23, a24, a25, a26)) : ∃ n, wX_reset_62 post bo hi re fa n 0 a1 a2 a3 a4 a5 a6 a7 a8 a9 a10 a11 a12 a13 a14 a15 a16 a17 a18 a19 a20 a21 a22 a23 a24 a25 a26 := by
  refine pk_loop (fun n i s => wX_reset_62 post bo hi re fa n (nI i) a1 a2 a3 s a5 a6 a7 a8 a9 a10 a11 a12 a13 a14 a15 a16 a17 a18 a19 a20 a21 a22 a23 a24 a25 a26) (fun i s => ∀ j, j < i → s j = 0) 64 0 a4 (by omega) (fun j hj => absurd hj (by omega)) ?_ ?_
  · intro n s e
    exact pk_le 64 64 (fun _ => zq_setRules (fun b11 hb => h s b11 e hb)) (fun z => absurd z (by omega))
  · intro n i s hl e hw
    exact pk_le 64 i (fun z => absurd z (by omega)) (fun _ => ⟨pk_in i 64 hl, nm_e (nm_r (nI_1 i) (hw _ (zq_fill (nI_clamp (by omega)) e)))⟩)
theorem zq_reset {post : St2 → Prop} (h : ∀ b4 b5 b6 b7 b8 b9 b10 b11, (∀ j, j < 64 → b4 j = 0) → zq_R b11 → post (3855, hi, 0, fa, a1, a2, a3, b4, b5, b6, b7, b8, b9, b10, b11, a12, a13, a14, a15, a16, a17, a18, a19, a20, a21, a22, a23, a24, a25, a26)) : wpX_reset post (bo, hi, 0, fa, a1, a2, a3, a4, a5, a6, a7, a8, a9, a10, a11, a12, a13, a14, a15, a16, a17, a18, a19, a20, a21, a22, a23, a24, a25, a26) := by
  unfold wpX_reset
  refine zq_flush0 ?_
  refine pk_loop (σ := (Nat → Int32) × (Nat → Int32) × (Nat → Int32) × (Nat → Int32) × (Nat → Int32) × (Nat → Int32)) (fun n i s => wX_reset_6 post bo hi 0 fa n (nI i) a1 a2 a3 a4 s.1 s.2.1 s.2.2.1 s.2.2.2.1 s.2.2.2.2.1 s.2.2.2.2.2 a11 a12 a13 a14 a15 a16 a17 a18 a19 a20 a21 a22 a23 a24 a25 a26) (fun _ _ => True) 6 0 (a5, a6, a7, a8, a9, a10) (by omega) trivial ?_ ?_
  · intro n s e
    exact pk_le 6 6 (fun _ => zq_reset62 (fun b4 b11 h4 h11 => h _ _ _ _ _ _ _ _ h4 h11)) (fun z => absurd z (by omega))
  · intro n i s hl e hw
    exact pk_le 6 i (fun z => absurd z (by omega)) (fun _ => ⟨pk_in i 6 hl, nm_e ⟨pk_in i 6 hl, nm_e ⟨pk_in i 6 hl, nm_e ⟨pk_in i 6 hl, nm_e ⟨pk_in i 6 hl, nm_e ⟨pk_in i 6 hl, nm_e (nm_r (nI_1 i) (hw (_, _, _, _, _, _) trivial))⟩⟩⟩⟩⟩⟩)
end
section
/-! choosing corners, writing a record, edges, covered -/
variable {bo hi re fa : Int32} {a1 a2 a3 a4 a5 a6 a7 a8 a9 a10 a11 a12 a13 a14 a15 a16 a17 a18 a19 a20 a21 a22 a23 a24 a25 a26 : Nat → Int32}
theorem zq_choose {post : Int32 → St2 → Prop} {p A : Int32} {n a b c : Nat} (hp : p = nI n) (hn : n < 216) (ha : n / 36 = a) (hb : n / 6 % 6 = b) (hc : n % 6 = c)
    (hA : (a5 b - a5 a) * (a6 c - a6 a) - (a6 b - a6 a) * (a5 c - a5 a) = A) (h6 : ¬ a11 6 = 1)
    (h1 : 0 ≤ A → ∀ b26 : Nat → Int32, b26 0 = nI a → b26 1 = nI b → b26 2 = nI c → post A (bo, hi, re, fa, a1, a2, a3, a4, a5, a6, a7, a8, a9, a10, a11, a12, a13, a14, a15, a16, a17, a18, a19, a20, a21, a22, a23, a24, a25, b26))
    (h2 : ¬ 0 ≤ A → ∀ b26 : Nat → Int32, b26 0 = nI a → b26 1 = nI c → b26 2 = nI b → post (-A) (bo, hi, re, fa, a1, a2, a3, a4, a5, a6, a7, a8, a9, a10, a11, a12, a13, a14, a15, a16, a17, a18, a19, a20, a21, a22, a23, a24, a25, b26)) : wpX_choose post (bo, hi, re, fa, a1, a2, a3, a4, a5, a6, a7, a8, a9, a10, a11, a12, a13, a14, a15, a16, a17, a18, a19, a20, a21, a22, a23, a24, a25, a26) p := by
  have e1 : p / 36 = nI a := by
    rw [hp, ← ha]
    exact pk_div (d := 36) (by omega) (by omega) (by omega)
  have e2 : p / 6 - p / 6 / 6 * 6 = nI b := by
    rw [hp, ← hb]
    show nI n / nI 6 - nI n / nI 6 / nI 6 * nI 6 = _
    rw [pk_div (by omega) (by omega) (by omega)]
    exact pk_rem (by omega) (by omega) (by omega)
  have e3 : p - p / 6 * 6 = nI c := by
    rw [hp, ← hc]
    exact pk_rem (d := 6) (by omega) (by omega) (by omega)
  have la : a < 6 := by omega
  have lb : b < 6 := by omega
  have lc : c < 6 := by omega
  unfold wpX_choose
  refine ⟨by decide, nm_r e1 ⟨by decide, by decide, nm_r e2 ⟨by decide, nm_r e3 ⟨pk_in a 6 la, pk_in a 6 la, pk_in b 6 lb, pk_in b 6 lb, pk_in c 6 lc, pk_in c 6 lc, ?_⟩⟩⟩⟩
  rw [nI_clamp (show a < 2 ^ 31 by omega), nI_clamp (show b < 2 ^ 31 by omega), nI_clamp (show c < 2 ^ 31 by omega)]
  unfold wpX_sideOf
  rw [hA]
  refine br_c (fun z => ?_) (fun z => br_f h6 ?_)
  · refine nm_e (br_t z ⟨pk_in 1 3 (by omega), nm_e (br_t z ⟨pk_in 2 3 (by omega), nm_e (br_t z (h1 z _ ?_ ?_ ?_))⟩)⟩)
    · simp [upd, zq_c1, zq_c2]
    · simp [upd, zq_c1, zq_c2]
    · simp [upd, zq_c1, zq_c2]
  · refine nm_e (br_f z ⟨pk_in 1 3 (by omega), nm_e (br_f z ⟨pk_in 2 3 (by omega), nm_e (br_f z (h2 z _ ?_ ?_ ?_))⟩)⟩)
    · simp [upd, zq_c1, zq_c2]
    · simp [upd, zq_c1, zq_c2]
    · simp [upd, zq_c1, zq_c2]
theorem zq_write142 {post : St2 → Prop} (h : ∀ b19, (∀ j, j < 8 → b19 j = a11 j) → post (bo, hi, re, fa, a1, a2, a3, a4, a5, a6, a7, a8, a9, a10, a11, a12, a13, a14, a15, a16, a17, a18, b19, a20, a21, a22, a23, a24, a25, a26)) : ∃ n, wX_write_142 post 0 bo hi re fa n 0 a1 a2 a3 a4 a5 a6 a7 a8 a9 a10 a11 a12 a13 a14 a15 a16 a17 a18 a19 a20 a21 a22 a23 a24 a25 a26 := by
  refine pk_loop (fun n i s => wX_write_142 post 0 bo hi re fa n (nI i) a1 a2 a3 a4 a5 a6 a7 a8 a9 a10 a11 a12 a13 a14 a15 a16 a17 a18 s a20 a21 a22 a23 a24 a25 a26) (fun i s => ∀ j, j < i → s j = a11 j) 8 0 a19 (by omega) (fun j hj => absurd hj (by omega)) ?_ ?_
  · intro n s e
    exact pk_le 8 8 (fun _ => h s e) (fun z => absurd z (by omega))
  · intro n i s hl e hw
    have ei : (8 : Int32) * 0 + nI i = nI i := by grind
    refine pk_le 8 i (fun z => absurd z (by omega)) (fun _ => ⟨pk_in i 8 hl, pk_in i 96 (by omega) ei, nm_e (nm_r (nI_1 i) (hw _ ?_))⟩)
    exact zq_fillF (pk_cl i ei) e (by rw [nI_clamp (show i < 2 ^ 31 by omega)])
theorem zq_write {post : St2 → Prop} {D C : Int32} (hk : zq_K 3 D C a5 a6 a7 a8) (hr : zq_R1 a11) (h26 : ∀ j, j < 3 → a26 j = nI j)
    (h : ∀ b12 b13 b14 b15 b16 b17 b18 b19 b20, zq_rec D C b12 b13 b14 b15 b18 b19 b20 → post (3855, hi, re, fa, a1, a2, a3, a4, a5, a6, a7, a8, a9, a10, a11, b12, b13, b14, b15, b16, b17, b18, b19, b20, a21, a22, a23, a24, a25, a26)) : wpX_write post (3855, hi, re, fa, a1, a2, a3, a4, a5, a6, a7, a8, a9, a10, a11, a12, a13, a14, a15, a16, a17, a18, a19, a20, a21, a22, a23, a24, a25, a26) 0 65025 := by
  unfold wpX_write
  refine pk_loop (σ := (Nat → Int32) × (Nat → Int32) × (Nat → Int32) × (Nat → Int32) × (Nat → Int32) × (Nat → Int32)) (fun n i s => wX_write_2 post 0 65025 3855 hi re fa n (nI i) a1 a2 a3 a4 a5 a6 a7 a8 a9 a10 a11 s.1 s.2.1 s.2.2.1 s.2.2.2.1 s.2.2.2.2.1 s.2.2.2.2.2 a18 a19 a20 a21 a22 a23 a24 a25 a26) (fun i s => zq_K i D C s.1 s.2.1 s.2.2.1 s.2.2.2.1) 3 0 (a12, a13, a14, a15, a16, a17) (by omega) ⟨fun j hj => absurd hj (by omega), fun j hj => absurd hj (by omega), fun j hj => absurd hj (by omega), fun j hj => absurd hj (by omega)⟩ ?_ ?_
  · intro n s e
    refine pk_le 3 3 (fun _ => ⟨pk_in 0 12 (by omega), nm_e ⟨pk_in 0 12 (by omega), nm_e (zq_write142 (fun b19 h19 => h _ _ _ _ _ _ _ _ _ ⟨e, ?_, ?_, ?_⟩))⟩⟩) (fun z => absurd z (by omega))
    · rw [zq_c0, pk_us]
    · intro j hj
      rw [h19 j hj, hr j hj]
    · rw [zq_c0, pk_us]
  · intro n i s hl e hw
    have ei : (3 : Int32) * 0 + nI i = nI i := by grind
    have e1 : a26 (nI i).toNatClampNeg = nI i := by rw [nI_clamp (show i < 2 ^ 31 by omega), h26 i hl]
    have hh := hw (upd s.1 i (a5 i), upd s.2.1 i (a6 i), upd s.2.2.1 i (a7 i), upd s.2.2.2.1 i (a8 i), upd s.2.2.2.2.1 i (a9 i), upd s.2.2.2.2.2 i (a10 i)) ⟨zq_fillF rfl e.1 (hk.1 i hl), zq_fillF rfl e.2.1 (hk.2.1 i hl), zq_fill2 rfl e.2.2.1 (hk.2.2.1 i hl), zq_fill2 rfl e.2.2.2 (hk.2.2.2 i hl)⟩
    refine pk_le 3 i (fun z => absurd z (by omega)) (fun _ => ⟨pk_in i 3 hl, nm_r e1 ?_⟩)
    rw [pk_cl i ei, nI_clamp (show i < 2 ^ 31 by omega)]
    exact ⟨pk_in i 6 (by omega), pk_in i 36 (by omega) ei, nm_e ⟨pk_in i 6 (by omega), pk_in i 36 (by omega) ei, nm_e ⟨pk_in i 6 (by omega), pk_in i 36 (by omega) ei, nm_e ⟨pk_in i 6 (by omega), pk_in i 36 (by omega) ei, nm_e ⟨pk_in i 6 (by omega), pk_in i 36 (by omega) ei, nm_e ⟨pk_in i 6 (by omega), pk_in i 36 (by omega) ei, nm_e (nm_r (nI_1 i) hh)⟩⟩⟩⟩⟩⟩
theorem zq_tX : ∀ i, i < 3 → (-16 : Int32) * (zq_PY ((i + 2) % 3) - zq_PY ((i + 1) % 3)) = zq_X i := by decide +kernel
theorem zq_tY : ∀ i, i < 3 → (16 : Int32) * (zq_PX ((i + 2) % 3) - zq_PX ((i + 1) % 3)) = zq_Y i := by decide +kernel
theorem zq_tZ : ∀ i, i < 3 → (zq_PX ((i + 2) % 3) - zq_PX ((i + 1) % 3)) * (8 - zq_PY ((i + 1) % 3)) - (zq_PY ((i + 2) % 3) - zq_PY ((i + 1) % 3)) * (8 - zq_PX ((i + 1) % 3)) = zq_Z i := by decide +kernel
theorem zq_te107 {post : St2 → Prop} {J : Int32 → (Nat → Int32) → (Nat → Int32) → (Nat → Int32) → (Nat → Int32) → (Nat → Int32) → (Nat → Int32) → (Nat → Int32) → (Nat → Int32) → (Nat → Int32) → (Nat → Int32) → (Nat → Int32) → (Nat → Int32) → (Nat → Int32) → (Nat → Int32) → (Nat → Int32) → (Nat → Int32) → (Nat → Int32) → (Nat → Int32) → (Nat → Int32) → (Nat → Int32) → (Nat → Int32) → (Nat → Int32) → (Nat → Int32) → (Nat → Int32) → (Nat → Int32) → (Nat → Int32) →  Prop} {x1 dx dy z : Int32} {i p : Nat} (hi3 : i < 3) (hp : p < 3) (hx : a12 p = zq_PX p) (hy : a13 p = zq_PY p) (hZ : dx * (8 - zq_PY p) - dy * (8 - zq_PX p) = zq_Z i)
    (h : ∀ b23, J (nI (i + 1)) a1 a2 a3 a4 a5 a6 a7 a8 a9 a10 a11 a12 a13 a14 a15 a16 a17 a18 a19 a20 a21 a22 b23 (upd a24 i (zq_Z i)) a25 a26) : wX_takeEdges_107 post J x1 (nI i) (nI p) dx dy z (nI i) bo hi re fa a1 a2 a3 a4 a5 a6 a7 a8 a9 a10 a11 a12 a13 a14 a15 a16 a17 a18 a19 a20 a21 a22 a23 a24 a25 a26 := by
  unfold wX_takeEdges_107
  refine ⟨pk_in i 3 hi3, nm_e ⟨pk_in p 36 (by omega), pk_in p 36 (by omega), pk_in i 3 hi3, nm_r ?_ (nm_r (nI_1 i) (h _))⟩⟩
  rw [nI_clamp (show i < 2 ^ 31 by omega), nI_clamp (show p < 2 ^ 31 by omega), hx, hy, hZ]
theorem zq_rem3 (i k : Nat) (h : i + k < 100) : (3 : Int32) * 0 + (nI (i + k) - nI (i + k) / 3 * 3) = nI ((i + k) % 3) := by
  show (3 : Int32) * 0 + (nI (i + k) - nI (i + k) / nI 3 * nI 3) = _
  rw [pk_rem (by omega) (by omega) (by omega)]
  grind
theorem zq_takeEdges {post : St2 → Prop} {D C : Int32} (hk : zq_K 3 D C a12 a13 a14 a15) (h : ∀ b21 b22 b23 b24, zq_E b21 b22 b24 → post (bo, hi, re, fa, a1, a2, a3, a4, a5, a6, a7, a8, a9, a10, a11, a12, a13, a14, a15, a16, a17, a18, a19, a20, b21, b22, b23, b24, a25, a26)) : wpX_takeEdges post (bo, hi, re, fa, a1, a2, a3, a4, a5, a6, a7, a8, a9, a10, a11, a12, a13, a14, a15, a16, a17, a18, a19, a20, a21, a22, a23, a24, a25, a26) 0 := by
  unfold wpX_takeEdges
  refine pk_loop (σ := (Nat → Int32) × (Nat → Int32) × (Nat → Int32) × (Nat → Int32)) (fun n i s => wX_takeEdges_2 post 0 bo hi re fa n (nI i) a1 a2 a3 a4 a5 a6 a7 a8 a9 a10 a11 a12 a13 a14 a15 a16 a17 a18 a19 a20 s.1 s.2.1 s.2.2.1 s.2.2.2 a25 a26) (fun i s => (∀ j, j < i → s.1 j = zq_X j) ∧ (∀ j, j < i → s.2.1 j = zq_Y j) ∧ (∀ j, j < i → s.2.2.2 j = zq_Z j)) 3 0 (a21, a22, a23, a24) (by omega) ⟨fun j hj => absurd hj (by omega), fun j hj => absurd hj (by omega), fun j hj => absurd hj (by omega)⟩ ?_ ?_
  · intro n s e
    exact pk_le 3 3 (fun _ => h _ _ _ _ e) (fun z => absurd z (by omega))
  · intro n i s hl e hw
    have p3 : (i + 1) % 3 < 3 := Nat.mod_lt _ (by omega)
    have q3 : (i + 2) % 3 < 3 := Nat.mod_lt _ (by omega)
    have ep : (3 : Int32) * 0 + ((nI i + 1) - (nI i + 1) / 3 * 3) = nI ((i + 1) % 3) := by
      rw [nI_1]
      exact zq_rem3 i 1 (by omega)
    have eq : (3 : Int32) * 0 + ((nI i + 2) - (nI i + 2) / 3 * 3) = nI ((i + 2) % 3) := by
      rw [show nI i + 2 = nI (i + 2) from nI_add i 2]
      exact zq_rem3 i 2 (by omega)
    have cp : (nI ((i + 1) % 3)).toNatClampNeg = (i + 1) % 3 := nI_clamp (by omega)
    have cq : (nI ((i + 2) % 3)).toNatClampNeg = (i + 2) % 3 := nI_clamp (by omega)
    have ci : (nI i).toNatClampNeg = i := nI_clamp (by omega)
    have hh : ∀ b23, wX_takeEdges_2 post 0 bo hi re fa n (nI (i + 1)) a1 a2 a3 a4 a5 a6 a7 a8 a9 a10 a11 a12 a13 a14 a15 a16 a17 a18 a19 a20 (upd s.1 i (zq_X i)) (upd s.2.1 i (zq_Y i)) b23 (upd s.2.2.2 i (zq_Z i)) a25 a26 := fun b23 => hw (upd s.1 i (zq_X i), upd s.2.1 i (zq_Y i), b23, upd s.2.2.2 i (zq_Z i)) ⟨zq_fillF rfl e.1 rfl, zq_fillF rfl e.2.1 rfl, zq_fillF rfl e.2.2 rfl⟩
    refine pk_le 3 i (fun z => absurd z (by omega)) (fun _ => ⟨by decide, nm_r ep ⟨by decide, nm_r eq ⟨pk_in ((i + 2) % 3) 36 (by omega), pk_in ((i + 1) % 3) 36 (by omega), ?_⟩⟩⟩)
    rw [cp, cq, ci, hk.1 _ p3, hk.1 _ q3, hk.2.1 _ p3, hk.2.1 _ q3]
    refine nm_e ⟨pk_in ((i + 2) % 3) 36 (by omega), pk_in ((i + 1) % 3) 36 (by omega), nm_e ⟨pk_in i 3 hl, nm_r (e' := upd s.1 i (zq_X i)) (by rw [zq_tX i hl]) ⟨pk_in i 3 hl, nm_r (e' := upd s.2.1 i (zq_Y i)) (by rw [zq_tY i hl]) ?_⟩⟩⟩
    have go : ∀ z : Int32, wX_takeEdges_107 post (wX_takeEdges_2 post 0 bo hi re fa n) 0 (nI i) (nI ((i + 1) % 3)) (zq_PX ((i + 2) % 3) - zq_PX ((i + 1) % 3)) (zq_PY ((i + 2) % 3) - zq_PY ((i + 1) % 3)) z (nI i) bo hi re fa a1 a2 a3 a4 a5 a6 a7 a8 a9 a10 a11 a12 a13 a14 a15 a16 a17 a18 a19 a20 (upd s.1 i (zq_X i)) (upd s.2.1 i (zq_Y i)) s.2.2.1 s.2.2.2 a25 a26 := fun z => zq_te107 hl p3 (hk.1 _ p3) (hk.2.1 _ p3) (zq_tZ i hl) hh
    exact br_c (fun _ => go 1) (fun _ => br_c (fun _ => br_c (fun _ => go 0) (fun _ => go 1)) (fun _ => go 0))
theorem zq_goTo {post : St2 → Prop} {X Y : Int32} {x y : Nat} (hX : X = nI x) (hY : Y = nI y) (hE : zq_E a21 a22 a24) (h : ∀ b25, (∀ j, j < 3 → b25 j = zq_S x y j) → post (bo, hi, re, fa, a1, a2, a3, a4, a5, a6, a7, a8, a9, a10, a11, a12, a13, a14, a15, a16, a17, a18, a19, a20, a21, a22, a23, a24, b25, a26)) : wpX_goTo post (bo, hi, re, fa, a1, a2, a3, a4, a5, a6, a7, a8, a9, a10, a11, a12, a13, a14, a15, a16, a17, a18, a19, a20, a21, a22, a23, a24, a25, a26) X Y := by
  unfold wpX_goTo
  subst hX hY
  refine pk_loop (fun n i s => wX_goTo_2 post (nI x) (nI y) bo hi re fa n (nI i) a1 a2 a3 a4 a5 a6 a7 a8 a9 a10 a11 a12 a13 a14 a15 a16 a17 a18 a19 a20 a21 a22 a23 a24 s a26) (fun i s => ∀ j, j < i → s j = zq_S x y j) 3 0 a25 (by omega) (fun j hj => absurd hj (by omega)) ?_ ?_
  · intro n s e
    exact pk_le 3 3 (fun _ => h s e) (fun z => absurd z (by omega))
  · intro n i s hl e hw
    refine pk_le 3 i (fun z => absurd z (by omega)) (fun _ => ⟨pk_in i 3 hl, pk_in i 3 hl, pk_in i 3 hl, pk_in i 3 hl, nm_e (nm_r (nI_1 i) (hw _ (zq_fillF (nI_clamp (by omega)) e ?_)))⟩)
    rw [nI_clamp (show i < 2 ^ 31 by omega), hE.1 i hl, hE.2.1 i hl, hE.2.2 i hl]
    rfl
theorem zq_isCovered {post : Int32 → Prop} {x y : Nat} (hx : x < 16) (hy : y < 16) (hS : ∀ j, j < 3 → a25 j = zq_S x y j) (h1 : x + y ≤ 14 → post 1) (h0 : ¬ x + y ≤ 14 → post 0) : wpX_isCovered post (bo, hi, re, fa, a1, a2, a3, a4, a5, a6, a7, a8, a9, a10, a11, a12, a13, a14, a15, a16, a17, a18, a19, a20, a21, a22, a23, a24, a25, a26) := by
  unfold wpX_isCovered
  by_cases e : x + y ≤ 14
  · refine pk_loop (σ := Unit) (fun n i _ => wX_isCovered_2 post bo hi re fa a1 a2 a3 a4 a5 a6 a7 a8 a9 a10 a11 a12 a13 a14 a15 a16 a17 a18 a19 a20 a21 a22 a23 a24 a25 a26 n (nI i)) (fun _ _ => True) 3 0 () (by omega) trivial ?_ ?_
    · intro n s _
      exact pk_le 3 3 (fun _ => h1 e) (fun z => absurd z (by omega))
    · intro n i s hl _ hw
      refine pk_le 3 i (fun z => absurd z (by omega)) (fun _ => ⟨pk_in i 3 hl, ?_⟩)
      rw [nI_clamp (show i < 2 ^ 31 by omega), hS i hl]
      exact br_f (zq_Spos x hx y hy e i hl).1 ⟨pk_in i 3 hl, br_f (zq_Spos x hx y hy e i hl).2 (nm_r (nI_1 i) (hw () trivial))⟩
  · refine ⟨1, pk_le 3 0 (fun z => absurd z (by omega)) (fun _ => ⟨pk_in 0 3 (by omega), br_t ?_ (h0 e)⟩)⟩
    rw [zq_c0, hS 0 (by omega)]
    exact zq_Sneg x hx y hy e
theorem zq_goOn {post : St2 → Prop} {x y : Nat} (hE : zq_E a21 a22 a24) (hS : ∀ j, j < 3 → a25 j = zq_S x y j) (h : ∀ b25, (∀ j, j < 3 → b25 j = zq_S (x + 1) y j) → post (bo, hi, re, fa, a1, a2, a3, a4, a5, a6, a7, a8, a9, a10, a11, a12, a13, a14, a15, a16, a17, a18, a19, a20, a21, a22, a23, a24, b25, a26)) : wpX_goOn post (bo, hi, re, fa, a1, a2, a3, a4, a5, a6, a7, a8, a9, a10, a11, a12, a13, a14, a15, a16, a17, a18, a19, a20, a21, a22, a23, a24, a25, a26) := by
  unfold wpX_goOn
  refine nm_e (nm_e (nm_e (h _ ?_)))
  intro j hj
  have hc : j = 0 ∨ j = 1 ∨ j = 2 := by omega
  rcases hc with rfl | rfl | rfl
  · show a25 0 + a21 0 = _
    rw [hS 0 (by omega), hE.1 0 (by omega), zq_Son]
  · show a25 1 + a21 1 = _
    rw [hS 1 (by omega), hE.1 1 (by omega), zq_Son]
  · show a25 2 + a21 2 = _
    rw [hS 2 (by omega), hE.1 2 (by omega), zq_Son]
theorem zq_c61 {post : Int32 → St2 → Prop} {J : Int32 → Int32 → Int32 → Int32 → Int32 → Int32 → (Nat → Int32) → (Nat → Int32) → (Nat → Int32) → (Nat → Int32) → (Nat → Int32) → (Nat → Int32) → (Nat → Int32) → (Nat → Int32) → (Nat → Int32) → (Nat → Int32) → (Nat → Int32) → (Nat → Int32) → (Nat → Int32) → (Nat → Int32) → (Nat → Int32) → (Nat → Int32) → (Nat → Int32) → (Nat → Int32) → (Nat → Int32) → (Nat → Int32) → (Nat → Int32) → (Nat → Int32) → (Nat → Int32) → (Nat → Int32) → (Nat → Int32) → (Nat → Int32) →  Prop} {y N : Nat} (hy : y < 16) (hE : zq_E a21 a22 a24) (hS : ∀ j, j < 3 → a25 j = zq_S 0 y j)
    (h : ∀ b25, J (nI (N + zq_rc y 0 16)) (nI (y + 1)) bo hi re fa a1 a2 a3 a4 a5 a6 a7 a8 a9 a10 a11 a12 a13 a14 a15 a16 a17 a18 a19 a20 a21 a22 a23 a24 b25 a26) : ∃ n, wX_covered_61 post J (nI y) n (nI N) 0 bo hi re fa a1 a2 a3 a4 a5 a6 a7 a8 a9 a10 a11 a12 a13 a14 a15 a16 a17 a18 a19 a20 a21 a22 a23 a24 a25 a26 := by
  refine pk_loop (σ := Int32 × (Nat → Int32)) (fun n i s => wX_covered_61 post J (nI y) n s.1 (nI i) bo hi re fa a1 a2 a3 a4 a5 a6 a7 a8 a9 a10 a11 a12 a13 a14 a15 a16 a17 a18 a19 a20 a21 a22 a23 a24 s.2 a26) (fun i s => s.1 = nI (N + zq_rc y 0 i) ∧ ∀ j, j < 3 → s.2 j = zq_S i y j) 16 0 (nI N, a25) (by omega) ⟨rfl, hS⟩ ?_ ?_
  · intro n s e
    refine pk_le 16 16 (fun _ => nm_r (nI_1 y) ?_) (fun z => absurd z (by omega))
    rw [e.1]
    exact h s.2
  · intro n i s hl e hw
    refine pk_le 16 i (fun z => absurd z (by omega)) (fun _ => zq_isCovered (x := i) hl hy e.2 (fun g => br_f zq_10 ?_) (fun g => br_t rfl ?_))
    · refine nm_r (e' := nI (N + zq_rc y 0 (i + 1))) ?_ (zq_goOn hE e.2 (fun b25 hb => nm_r (nI_1 i) (hw (_, b25) ⟨rfl, hb⟩)))
      rw [e.1, nI_1, zq_rc_t (show 0 + i + y ≤ 14 by omega)]
      exact congrArg nI (by omega)
    · refine nm_r (e' := nI (N + zq_rc y 0 (i + 1))) ?_ (zq_goOn hE e.2 (fun b25 hb => nm_r (nI_1 i) (hw (_, b25) ⟨rfl, hb⟩)))
      rw [e.1, Int32.add_zero, zq_rc_f (show ¬ 0 + i + y ≤ 14 by omega)]
theorem zq_c44 {post : Int32 → St2 → Prop} (hE : zq_E a21 a22 a24) (h : ∀ b25, post (nI 120) (bo, hi, re, fa, a1, a2, a3, a4, a5, a6, a7, a8, a9, a10, a11, a12, a13, a14, a15, a16, a17, a18, a19, a20, a21, a22, a23, a24, b25, a26)) : ∃ n, wX_covered_44 post n 0 0 bo hi re fa a1 a2 a3 a4 a5 a6 a7 a8 a9 a10 a11 a12 a13 a14 a15 a16 a17 a18 a19 a20 a21 a22 a23 a24 a25 a26 := by
  refine pk_loop (σ := Int32 × (Nat → Int32)) (fun n i s => wX_covered_44 post n s.1 (nI i) bo hi re fa a1 a2 a3 a4 a5 a6 a7 a8 a9 a10 a11 a12 a13 a14 a15 a16 a17 a18 a19 a20 a21 a22 a23 a24 s.2 a26) (fun i s => s.1 = nI (zq_tc 16 0 0 i)) 16 0 (0, a25) (by omega) rfl ?_ ?_
  · intro n s e
    refine pk_le 16 16 (fun _ => ?_) (fun z => absurd z (by omega))
    rw [e, zq_tc_all]
    exact h s.2
  · intro n i s hl e hw
    refine pk_le 16 i (fun z => absurd z (by omega)) (fun _ => zq_goTo (x := 0) (y := i) rfl rfl hE (fun b25 hb => ?_))
    rw [e]
    refine zq_c61 hl hE hb (fun c25 => hw (_, c25) ?_)
    show nI _ = nI (zq_tc 16 0 0 i + zq_rc (0 + i) 0 16)
    rw [Nat.zero_add]
theorem zq_covT {post : Int32 → St2 → Prop} {p : Int32} {D C : Int32} (hp : zq_in p 216) (hk : zq_K 3 D C a5 a6 a7 a8) (hr : zq_R1 a11)
    (hch : ∀ {ψ : Int32 → St2 → Prop}, (∀ b26, (∀ j, j < 3 → b26 j = nI j) → ψ 65025 (3855, hi, 0, fa, a1, a2, a3, a4, a5, a6, a7, a8, a9, a10, a11, a12, a13, a14, a15, a16, a17, a18, a19, a20, a21, a22, a23, a24, a25, b26)) → wpX_choose ψ (3855, hi, 0, fa, a1, a2, a3, a4, a5, a6, a7, a8, a9, a10, a11, a12, a13, a14, a15, a16, a17, a18, a19, a20, a21, a22, a23, a24, a25, a26) p)
    (h : ∀ b12 b13 b14 b15 b16 b17 b18 b19 b20 b21 b22 b23 b24 b25 b26, post (nI 120) (3855, hi, 0, fa, a1, a2, a3, a4, a5, a6, a7, a8, a9, a10, a11, b12, b13, b14, b15, b16, b17, b18, b19, b20, b21, b22, b23, b24, b25, b26)) : wpX_covered post (3855, hi, 0, fa, a1, a2, a3, a4, a5, a6, a7, a8, a9, a10, a11, a12, a13, a14, a15, a16, a17, a18, a19, a20, a21, a22, a23, a24, a25, a26) p := by
  unfold wpX_covered
  exact zq_isIn (fun _ => br_f zq_10 (hch (fun b26 h26 => br_f (by decide) (zq_flush0 (zq_write hk hr h26 (fun b12 b13 b14 b15 b16 b17 b18 b19 b20 hrec => zq_takeEdges hrec.1 (fun b21 b22 b23 b24 hE => zq_c44 hE (fun b25 => h _ _ _ _ _ _ _ _ _ _ _ _ _ _ _))))))) ) (fun g => absurd hp g)
theorem zq_three {f : Nat → Int32} (h0 : f 0 = nI 0) (h1 : f 1 = nI 1) (h2 : f 2 = nI 2) : ∀ j, j < 3 → f j = nI j := by
  intro j hj
  have hc : j = 0 ∨ j = 1 ∨ j = 2 := by omega
  rcases hc with rfl | rfl | rfl
  · exact h0
  · exact h1
  · exact h2
theorem zq_ch8 {post : Int32 → St2 → Prop} {D C : Int32} (hk : zq_K 3 D C a5 a6 a7 a8) (hr : zq_R1 a11) (h : ∀ b26, (∀ j, j < 3 → b26 j = nI j) → post 65025 (bo, hi, re, fa, a1, a2, a3, a4, a5, a6, a7, a8, a9, a10, a11, a12, a13, a14, a15, a16, a17, a18, a19, a20, a21, a22, a23, a24, a25, b26)) : wpX_choose post (bo, hi, re, fa, a1, a2, a3, a4, a5, a6, a7, a8, a9, a10, a11, a12, a13, a14, a15, a16, a17, a18, a19, a20, a21, a22, a23, a24, a25, a26) 8 := by
  refine zq_choose (n := 8) (a := 0) (b := 1) (c := 2) (A := 65025) rfl (by omega) rfl rfl rfl ?_ ?_ (fun _ b26 g0 g1 g2 => h b26 (zq_three g0 g1 g2)) (fun z => absurd (by decide) z)
  · rw [hk.1 0 (by omega), hk.1 1 (by omega), hk.1 2 (by omega), hk.2.1 0 (by omega), hk.2.1 1 (by omega), hk.2.1 2 (by omega)]
    decide
  · rw [hr 6 (by omega)]
    decide
theorem zq_ch13 {post : Int32 → St2 → Prop} {D C : Int32} (hk : zq_K 3 D C a5 a6 a7 a8) (hr : zq_R1 a11) (h : ∀ b26, (∀ j, j < 3 → b26 j = nI j) → post 65025 (bo, hi, re, fa, a1, a2, a3, a4, a5, a6, a7, a8, a9, a10, a11, a12, a13, a14, a15, a16, a17, a18, a19, a20, a21, a22, a23, a24, a25, b26)) : wpX_choose post (bo, hi, re, fa, a1, a2, a3, a4, a5, a6, a7, a8, a9, a10, a11, a12, a13, a14, a15, a16, a17, a18, a19, a20, a21, a22, a23, a24, a25, a26) 13 := by
  refine zq_choose (n := 13) (a := 0) (b := 2) (c := 1) (A := -65025) rfl (by omega) rfl rfl rfl ?_ ?_ (fun z => absurd z (by decide)) (fun _ b26 g0 g1 g2 => h b26 (zq_three g0 g1 g2))
  · rw [hk.1 0 (by omega), hk.1 1 (by omega), hk.1 2 (by omega), hk.2.1 0 (by omega), hk.2.1 1 (by omega), hk.2.1 2 (by omega)]
    decide
  · rw [hr 6 (by omega)]
    decide
theorem zq_in216 {n : Nat} (h : n < 216) : zq_in (nI n) 216 := zq_inOf (n := 216) rfl (by omega) h
theorem zq_cov8 {post : Int32 → St2 → Prop} {D C : Int32} (hk : zq_K 3 D C a5 a6 a7 a8) (hr : zq_R1 a11)
    (h : ∀ b12 b13 b14 b15 b16 b17 b18 b19 b20 b21 b22 b23 b24 b25 b26, post (nI 120) (3855, hi, 0, fa, a1, a2, a3, a4, a5, a6, a7, a8, a9, a10, a11, b12, b13, b14, b15, b16, b17, b18, b19, b20, b21, b22, b23, b24, b25, b26)) : wpX_covered post (3855, hi, 0, fa, a1, a2, a3, a4, a5, a6, a7, a8, a9, a10, a11, a12, a13, a14, a15, a16, a17, a18, a19, a20, a21, a22, a23, a24, a25, a26) 8 :=
  zq_covT (zq_in216 (n := 8) (by omega)) hk hr (fun g => zq_ch8 hk hr g) h
theorem zq_cov13 {post : Int32 → St2 → Prop} {D C : Int32} (hk : zq_K 3 D C a5 a6 a7 a8) (hr : zq_R1 a11)
    (h : ∀ b12 b13 b14 b15 b16 b17 b18 b19 b20 b21 b22 b23 b24 b25 b26, post (nI 120) (3855, hi, 0, fa, a1, a2, a3, a4, a5, a6, a7, a8, a9, a10, a11, b12, b13, b14, b15, b16, b17, b18, b19, b20, b21, b22, b23, b24, b25, b26)) : wpX_covered post (3855, hi, 0, fa, a1, a2, a3, a4, a5, a6, a7, a8, a9, a10, a11, a12, a13, a14, a15, a16, a17, a18, a19, a20, a21, a22, a23, a24, a25, a26) 13 :=
  zq_covT (zq_in216 (n := 13) (by omega)) hk hr (fun g => zq_ch13 hk hr g) h
theorem zq_cov7 {post : Int32 → St2 → Prop} {D C : Int32} (hk : zq_K 3 D C a5 a6 a7 a8) (hr : zq_R1 a11) (h : ∀ b26, post 0 (bo, hi, re, fa, a1, a2, a3, a4, a5, a6, a7, a8, a9, a10, a11, a12, a13, a14, a15, a16, a17, a18, a19, a20, a21, a22, a23, a24, a25, b26)) : wpX_covered post (bo, hi, re, fa, a1, a2, a3, a4, a5, a6, a7, a8, a9, a10, a11, a12, a13, a14, a15, a16, a17, a18, a19, a20, a21, a22, a23, a24, a25, a26) 7 := by
  unfold wpX_covered
  refine zq_isIn (fun _ => br_f zq_10 (zq_choose (n := 7) (a := 0) (b := 1) (c := 1) (A := 0) rfl (by omega) rfl rfl rfl ?_ ?_ (fun _ b26 _ _ _ => br_t rfl (h b26)) (fun z => absurd (by decide) z))) (fun g => absurd (zq_in216 (n := 7) (by omega)) g)
  · rw [hk.1 0 (by omega), hk.1 1 (by omega), hk.2.1 0 (by omega), hk.2.1 1 (by omega)]
    decide
  · rw [hr 6 (by omega)]
    decide
theorem zq_ch0 {post : Int32 → St2 → Prop} {x : Int32} (hx : zq_in x 216) (h5 : ∀ j, j < 6 → a5 j = 0) (h6 : ∀ j, j < 6 → a6 j = 0) (hr : zq_R a11) (h : ∀ b26, post 0 (bo, hi, re, fa, a1, a2, a3, a4, a5, a6, a7, a8, a9, a10, a11, a12, a13, a14, a15, a16, a17, a18, a19, a20, a21, a22, a23, a24, a25, b26)) : wpX_choose post (bo, hi, re, fa, a1, a2, a3, a4, a5, a6, a7, a8, a9, a10, a11, a12, a13, a14, a15, a16, a17, a18, a19, a20, a21, a22, a23, a24, a25, a26) x := by
  obtain ⟨n, hn, e⟩ := zq_inN (n := 216) rfl (by omega) hx
  refine zq_choose (n := n) (A := 0) e hn rfl rfl rfl ?_ ?_ (fun _ b26 _ _ _ => h b26) (fun z => absurd (by decide) z)
  · rw [h5 _ (by omega), h5 _ (by omega), h5 _ (by omega), h6 _ (by omega), h6 _ (by omega), h6 _ (by omega)]
    decide
  · rw [hr 6 (by omega)]
    decide
theorem zq_cov0 {post : Int32 → St2 → Prop} {x : Int32} (h5 : ∀ j, j < 6 → a5 j = 0) (h6 : ∀ j, j < 6 → a6 j = 0) (hr : zq_R a11) (h1 : ∀ b26, zq_in x 216 → post 0 (bo, hi, re, fa, a1, a2, a3, a4, a5, a6, a7, a8, a9, a10, a11, a12, a13, a14, a15, a16, a17, a18, a19, a20, a21, a22, a23, a24, a25, b26)) (h0 : ¬ zq_in x 216 → post (-1) (bo, hi, re, fa, a1, a2, a3, a4, a5, a6, a7, a8, a9, a10, a11, a12, a13, a14, a15, a16, a17, a18, a19, a20, a21, a22, a23, a24, a25, a26)) : wpX_covered post (bo, hi, re, fa, a1, a2, a3, a4, a5, a6, a7, a8, a9, a10, a11, a12, a13, a14, a15, a16, a17, a18, a19, a20, a21, a22, a23, a24, a25, a26) x := by
  unfold wpX_covered
  exact zq_isIn (fun hx => br_f zq_10 (zq_ch0 hx h5 h6 hr (fun b26 => br_t rfl (h1 b26 hx)))) (fun g => br_t rfl (h0 g))
theorem zq_draw0 {post : Int32 → St2 → Prop} {x : Int32} (h5 : ∀ j, j < 6 → a5 j = 0) (h6 : ∀ j, j < 6 → a6 j = 0) (hr : zq_R a11) (h1 : ∀ b26, zq_in x 216 → post 0 (bo, hi, re, fa, a1, a2, a3, a4, a5, a6, a7, a8, a9, a10, a11, a12, a13, a14, a15, a16, a17, a18, a19, a20, a21, a22, a23, a24, a25, b26)) (h0 : ¬ zq_in x 216 → post (-1) (bo, hi, re, fa, a1, a2, a3, a4, a5, a6, a7, a8, a9, a10, a11, a12, a13, a14, a15, a16, a17, a18, a19, a20, a21, a22, a23, a24, a25, a26)) : wpX_draw post (bo, hi, re, fa, a1, a2, a3, a4, a5, a6, a7, a8, a9, a10, a11, a12, a13, a14, a15, a16, a17, a18, a19, a20, a21, a22, a23, a24, a25, a26) x := by
  unfold wpX_draw
  exact zq_isIn (fun hx => br_f zq_10 (zq_ch0 hx h5 h6 hr (fun b26 => br_t rfl (h1 b26 hx)))) (fun g => br_t rfl (h0 g))
theorem zq_covB {post : Int32 → St2 → Prop} {x : Int32} (hx : ¬ zq_in x 216) (h : post (-1) (bo, hi, re, fa, a1, a2, a3, a4, a5, a6, a7, a8, a9, a10, a11, a12, a13, a14, a15, a16, a17, a18, a19, a20, a21, a22, a23, a24, a25, a26)) : wpX_covered post (bo, hi, re, fa, a1, a2, a3, a4, a5, a6, a7, a8, a9, a10, a11, a12, a13, a14, a15, a16, a17, a18, a19, a20, a21, a22, a23, a24, a25, a26) x := by
  unfold wpX_covered
  exact zq_isIn (fun g => absurd g hx) (fun _ => br_t rfl h)
theorem zq_drawB {post : Int32 → St2 → Prop} {x : Int32} (hx : ¬ zq_in x 216) (h : post (-1) (bo, hi, re, fa, a1, a2, a3, a4, a5, a6, a7, a8, a9, a10, a11, a12, a13, a14, a15, a16, a17, a18, a19, a20, a21, a22, a23, a24, a25, a26)) : wpX_draw post (bo, hi, re, fa, a1, a2, a3, a4, a5, a6, a7, a8, a9, a10, a11, a12, a13, a14, a15, a16, a17, a18, a19, a20, a21, a22, a23, a24, a25, a26) x := by
  unfold wpX_draw
  exact zq_isIn (fun g => absurd g hx) (fun _ => br_t rfl h)
theorem zq_draw8 {post : Int32 → St2 → Prop} {D C : Int32} (hk : zq_K 3 D C a5 a6 a7 a8) (hr : zq_R1 a11)
    (h : ∀ b12 b13 b14 b15 b16 b17 b18 b19 b20 b26, zq_rec D C b12 b13 b14 b15 b18 b19 b20 → post 0 (3855, hi, 1, fa, a1, a2, a3, a4, a5, a6, a7, a8, a9, a10, a11, b12, b13, b14, b15, b16, b17, b18, b19, b20, a21, a22, a23, a24, a25, b26)) : wpX_draw post (3855, hi, 0, fa, a1, a2, a3, a4, a5, a6, a7, a8, a9, a10, a11, a12, a13, a14, a15, a16, a17, a18, a19, a20, a21, a22, a23, a24, a25, a26) 8 := by
  unfold wpX_draw
  refine zq_isIn (fun _ => br_f zq_10 (zq_ch8 hk hr (fun b26 h26 => br_f (by decide) (br_f (by decide) ?_)))) (fun g => absurd (zq_in216 (n := 8) (by omega)) g)
  unfold wX_draw_37
  exact zq_write hk hr h26 (fun b12 b13 b14 b15 b16 b17 b18 b19 b20 hrec => nm_r (show (0 : Int32) + 1 = 1 from rfl) (h _ _ _ _ _ _ _ _ _ _ hrec))
end
section
/-! drawing the one record -/
variable {bo hi re fa : Int32} {a1 a2 a3 a4 a5 a6 a7 a8 a9 a10 a11 a12 a13 a14 a15 a16 a17 a18 a19 a20 a21 a22 a23 a24 a25 a26 : Nat → Int32}
theorem zq_i0 : (3 : Int32) * 0 = nI 0 := by decide
theorem zq_i1 : (3 : Int32) * 0 + 1 = nI 1 := by decide
theorem zq_i2 : (3 : Int32) * 0 + 2 = nI 2 := by decide
theorem zq_k0 : ((3 : Int32) * 0).toNatClampNeg = 0 := pk_cl 0 zq_i0
theorem zq_k1 : ((3 : Int32) * 0 + 1).toNatClampNeg = 1 := pk_cl 1 zq_i1
theorem zq_k2 : ((3 : Int32) * 0 + 2).toNatClampNeg = 2 := pk_cl 2 zq_i2
theorem zq_j0 : (8 : Int32) * 0 + 0 = nI 0 := by decide
theorem zq_j1 : (8 : Int32) * 0 + 1 = nI 1 := by decide
theorem zq_j2 : (8 : Int32) * 0 + 2 = nI 2 := by decide
theorem zq_j3 : (8 : Int32) * 0 + 3 = nI 3 := by decide
theorem zq_j4 : (8 : Int32) * 0 + 4 = nI 4 := by decide
theorem zq_j5 : (8 : Int32) * 0 + 5 = nI 5 := by decide
theorem zq_j7 : (8 : Int32) * 0 + 7 = nI 7 := by decide
theorem zq_l0 : ((8 : Int32) * 0 + 0).toNatClampNeg = 0 := pk_cl 0 zq_j0
theorem zq_l1 : ((8 : Int32) * 0 + 1).toNatClampNeg = 1 := pk_cl 1 zq_j1
theorem zq_l2 : ((8 : Int32) * 0 + 2).toNatClampNeg = 2 := pk_cl 2 zq_j2
theorem zq_l3 : ((8 : Int32) * 0 + 3).toNatClampNeg = 3 := pk_cl 3 zq_j3
theorem zq_l4 : ((8 : Int32) * 0 + 4).toNatClampNeg = 4 := pk_cl 4 zq_j4
theorem zq_l5 : ((8 : Int32) * 0 + 5).toNatClampNeg = 5 := pk_cl 5 zq_j5
theorem zq_l7 : ((8 : Int32) * 0 + 7).toNatClampNeg = 7 := pk_cl 7 zq_j7
theorem zq_depthOf {post : Int32 → Prop} {C : Int32} {d : Nat} (hd : d < 256) (hr : zq_rec (nI d) C a12 a13 a14 a15 a18 a19 a20) (hs : a25 0 + a25 1 + a25 2 = 65025) (h : post (nI d)) : wpX_depthOf post (bo, hi, re, fa, a1, a2, a3, a4, a5, a6, a7, a8, a9, a10, a11, a12, a13, a14, a15, a16, a17, a18, a19, a20, a21, a22, a23, a24, a25, a26) 0 := by
  unfold wpX_depthOf
  have h20 := hr.2.2.2
  have h14 := hr.1.2.2.1
  refine ⟨pk_in 0 36 (by omega) zq_i0, pk_in 1 36 (by omega) zq_i1, pk_in 2 36 (by omega) zq_i2, fun x ex => ⟨pk_in 0 12 (by omega), ?_⟩⟩
  rw [zq_k0, zq_k1, zq_k2, h14 0 (by omega), h14 1 (by omega), h14 2 (by omega)] at ex
  rw [zq_c0, h20]
  refine br_f (by decide) ⟨pk_in 0 12 (by omega), by decide, ?_⟩
  rw [ex, zq_area hs hd]
  exact h
theorem zq_p38 {post : Int32 → Prop} {p d z : Int32} (hr : zq_R1 a19) (h : post 1) : wX_passes_38 post 0 p d 0 z bo hi re fa a1 a2 a3 a4 a5 a6 a7 a8 a9 a10 a11 a12 a13 a14 a15 a16 a17 a18 a19 a20 a21 a22 a23 a24 a25 a26 := by
  unfold wX_passes_38
  refine br_f (by decide) ?_
  unfold wX_passes_51
  refine br_f (by decide) ?_
  unfold wX_passes_64
  refine ⟨pk_in 0 96 (by omega) zq_j0, nm_r (e' := 1) ?_ (br_t rfl h)⟩
  rw [zq_l0, hr 0 (by omega)]
  rfl
theorem zq_passes {post : Int32 → Prop} {P d : Int32} {p : Nat} (hp : p < 256) (eP : P = nI p) (hr : zq_R1 a19) (h : post 1) : wpX_passes post (bo, hi, re, fa, a1, a2, a3, a4, a5, a6, a7, a8, a9, a10, a11, a12, a13, a14, a15, a16, a17, a18, a19, a20, a21, a22, a23, a24, a25, a26) 0 P d := by
  unfold wpX_passes
  refine ⟨pk_in 3 96 (by omega) zq_j3, nm_r (e' := 0) ?_ ⟨pk_in p 256 hp eP, pk_in 5 96 (by omega) zq_j5, br_c (fun _ => zq_p38 hr h) (fun _ => zq_p38 hr h)⟩⟩
  rw [zq_l3, hr 3 (by omega)]
  rfl
theorem zq_newMark {post : Int32 → Prop} {m : Int32} (hr : zq_R1 a19) (h : post m) : wpX_newMark post (bo, hi, re, fa, a1, a2, a3, a4, a5, a6, a7, a8, a9, a10, a11, a12, a13, a14, a15, a16, a17, a18, a19, a20, a21, a22, a23, a24, a25, a26) 0 m := by
  unfold wpX_newMark
  refine ⟨pk_in 4 96 (by omega) zq_j4, nm_r (e' := 0) ?_ ⟨pk_in 5 96 (by omega) zq_j5, nm_e (br_t rfl h)⟩⟩
  rw [zq_l4, hr 4 (by omega)]
  rfl
def zq_ps (a : Nat → Int32) (v : Int32) : Nat → Int32
  | 0 => 0
  | i + 1 => zq_ps a v i + a i * v
theorem zq_partOf {post : Int32 → Prop} {D s : Int32} {c k : Nat} (hc : c < 16777216) (hr : zq_rec D (nI c) a12 a13 a14 a15 a18 a19 a20) (hs : a25 0 + a25 1 + a25 2 = 65025) (hk : ((s &&& 31).toBitVec.smod 32).toNat = k) (h : post (nI (c / 2 ^ k % 256))) : wpX_partOf post (bo, hi, re, fa, a1, a2, a3, a4, a5, a6, a7, a8, a9, a10, a11, a12, a13, a14, a15, a16, a17, a18, a19, a20, a21, a22, a23, a24, a25, a26) 0 s := by
  unfold wpX_partOf
  have h20 := hr.2.2.2
  have h15 := hr.1.2.2.2
  refine pk_loop (fun n i t => wX_partOf_5 post 0 s bo hi re fa a1 a2 a3 a4 a5 a6 a7 a8 a9 a10 a11 a12 a13 a14 a15 a16 a17 a18 a19 a20 a21 a22 a23 a24 a25 a26 n t (nI i)) (fun i t => t = zq_ps a25 (nI (c / 2 ^ k % 256)) i) 3 0 0 (by omega) rfl ?_ ?_
  · intro n t e
    refine pk_le 3 3 (fun _ => ⟨pk_in 0 12 (by omega), ?_⟩) (fun z => absurd z (by omega))
    rw [zq_c0, h20]
    refine br_f (by decide) ⟨pk_in 0 12 (by omega), by decide, ?_⟩
    rw [e]
    show post ((0 + a25 0 * _ + a25 1 * _ + a25 2 * _) / 65025)
    rw [Int32.zero_add, zq_area hs (Nat.mod_lt _ (by omega))]
    exact h
  · intro n i t hl e hw
    have ei : (3 : Int32) * 0 + nI i = nI i := by grind
    refine pk_le 3 i (fun z => absurd z (by omega)) (fun _ => ⟨pk_in i 3 hl, pk_in i 36 (by omega) ei, ?_⟩)
    rw [pk_cl i ei, nI_clamp (show i < 2 ^ 31 by omega), h15 i hl, zq_part hc hk]
    refine nm_r ?_ (nm_r (nI_1 i) (hw _ rfl))
    rw [e]
    rfl
theorem zq_t126 {post : St2 → Prop} {D s s' P : Int32} {n a c k p : Nat} (hp : p < 256) (eP : P = nI p) (hc : c < 16777216) (hr : zq_rec D (nI c) a12 a13 a14 a15 a18 a19 a20) (hs : a25 0 + a25 1 + a25 2 = 65025) (hk : ((s &&& 31).toBitVec.smod 32).toNat = k) (h0 : ¬ s < 0) (hb : ((16777215 : Int32) >>> (s &&& 31)) &&& 255 = 255) (ha : a < 65536) (es : s + (-8) = s')
    (h : wX_touch_126 post 0 P 0 16777215 bo hi re fa a1 a2 a3 a4 a5 a6 a7 a8 a9 a10 a11 a12 a13 a14 a15 a16 a17 a18 a19 a20 a21 a22 a23 a24 a25 a26 n (nI (a * 256 + c / 2 ^ k % 256)) s') : wX_touch_126 post 0 P 0 16777215 bo hi re fa a1 a2 a3 a4 a5 a6 a7 a8 a9 a10 a11 a12 a13 a14 a15 a16 a17 a18 a19 a20 a21 a22 a23 a24 a25 a26 (n + 1) (nI a) s := by
  have hm : c / 2 ^ k % 256 < 256 := Nat.mod_lt _ (by omega)
  refine br_f h0 (zq_partOf hc hr hs hk ⟨by decide, nm_r (e' := nI (c / 2 ^ k % 256)) ?_ ⟨pk_in p 256 hp eP, nm_e (br_t rfl (nm_r (zq_or8 ha hm) (nm_r es h)))⟩⟩)
  rw [hb]
  exact zq_255 _ hm
theorem zq_t66 {post : St2 → Prop} {D P : Int32} {c p : Nat} (hp : p < 256) (eP : P = nI p) (hc : c < 16777216) (hr : zq_rec D (nI c) a12 a13 a14 a15 a18 a19 a20) (hs : a25 0 + a25 1 + a25 2 = 65025) (h : post (bo, hi, re, fa, (upd a1 p (nI c)), a2, a3, a4, a5, a6, a7, a8, a9, a10, a11, a12, a13, a14, a15, a16, a17, a18, a19, a20, a21, a22, a23, a24, a25, a26)) : wX_touch_66 post 0 P bo hi re fa a1 a2 a3 a4 a5 a6 a7 a8 a9 a10 a11 a12 a13 a14 a15 a16 a17 a18 a19 a20 a21 a22 a23 a24 a25 a26 := by
  unfold wX_touch_66
  have h19 := hr.2.2.1
  refine ⟨pk_in 2 96 (by omega) zq_j2, nm_r (e' := 0) ?_ (br_f (by decide) ⟨pk_in 7 96 (by omega) zq_j7, br_f ?_ ⟨4, ?_⟩⟩)⟩
  · rw [zq_l2, h19 2 (by omega)]
    rfl
  · rw [zq_l7, h19 7 (by omega)]
    decide
  · refine zq_t126 (a := 0) (k := 16) (s' := 8) hp eP hc hr hs (by decide) (by decide) (by decide) (by omega) (by decide) ?_
    refine zq_t126 (k := 8) (s' := 0) hp eP hc hr hs (by decide) (by decide) (by decide) (by omega) (by decide) ?_
    refine zq_t126 (k := 0) (s' := -8) hp eP hc hr hs (by decide) (by decide) (by decide) (by omega) (by decide) ?_
    refine br_t (by decide) ⟨pk_in p 256 hp eP, nm_r ?_ h⟩
    rw [pk_cl p eP]
    congr 2
    omega
theorem zq_touch {post : St2 → Prop} {P : Int32} {c d p N : Nat} (hp : p < 256) (eP : P = nI p) (hd : d < 256) (hc : c < 16777216) (hr : zq_rec (nI d) (nI c) a12 a13 a14 a15 a18 a19 a20) (hs : a25 0 + a25 1 + a25 2 = 65025)
    (h : ∀ b3, post (bo, (nI (N + 1)), re, fa, (upd a1 p (nI c)), (upd a2 p (nI d)), b3, a4, a5, a6, a7, a8, a9, a10, a11, a12, a13, a14, a15, a16, a17, a18, a19, a20, a21, a22, a23, a24, a25, a26)) : wpX_touch post (bo, (nI N), re, fa, a1, a2, a3, a4, a5, a6, a7, a8, a9, a10, a11, a12, a13, a14, a15, a16, a17, a18, a19, a20, a21, a22, a23, a24, a25, a26) 0 P := by
  unfold wpX_touch
  have h19 := hr.2.2.1
  refine zq_depthOf hd hr hs (zq_passes hp eP h19 (br_f zq_10 (nm_r (nI_1 N) ⟨pk_in p 256 hp eP, zq_newMark h19 ⟨pk_in p 256 hp eP, nm_e ⟨pk_in 1 96 (by omega) zq_j1, br_t ?_ ⟨pk_in p 256 hp eP, nm_r (e' := upd a2 p (nI d)) ?_ (zq_t66 hp eP hc hr hs (h _))⟩⟩⟩⟩)))
  · rw [zq_l1, h19 1 (by omega)]
    rfl
  · rw [pk_cl p eP]
theorem zq_far {post : St2 → Prop} {l t : Nat} (hl : l ≤ 12) (ht : t ≤ 12) (h : ∀ f, post (bo, hi, re, f, a1, a2, a3, a4, a5, a6, a7, a8, a9, a10, a11, a12, a13, a14, a15, a16, a17, a18, a19, a20, a21, a22, a23, a24, a25, a26)) : wpX_findFarthest post (bo, hi, re, fa, a1, a2, a3, a4, a5, a6, a7, a8, a9, a10, a11, a12, a13, a14, a15, a16, a17, a18, a19, a20, a21, a22, a23, a24, a25, a26) (nI l) (nI t) := by
  unfold wpX_findFarthest
  refine pk_loop (fun n i s => wX_findFarthest_7 post (nI l) (nI t) bo hi re a1 a2 a3 a4 a5 a6 a7 a8 a9 a10 a11 a12 a13 a14 a15 a16 a17 a18 a19 a20 a21 a22 a23 a24 a25 a26 n (nI i) s) (fun _ _ => True) 16 0 0 (by omega) trivial ?_ ?_
  · intro n s _
    exact pk_le 16 16 (fun _ => h s) (fun z => absurd z (by omega))
  · intro n i s hi' _ hw
    have e : (16 : Int32) * (nI t + (nI i >>> ((2 : Int32) &&& 31))) + nI l + (nI i &&& 3) = nI (16 * (t + i / 4) + l + i % 4) := by
      rw [pk_shrN (n := i) (by omega) ((2 : Int32) &&& 31) 2 (by decide), pk_andN (n := i) (by omega) 2 (by decide)]
      show nI 16 * (nI t + nI (i / 2 ^ 2)) + nI l + nI (i % 2 ^ 2) = _
      rw [nI_add, pk_mul, nI_add, nI_add]
    exact pk_le 16 i (fun z => absurd z (by omega)) (fun _ => ⟨pk_in _ 256 (by omega) e, nm_e (br_c (fun _ => nm_r (nI_1 i) (hw _ trivial)) (fun _ => nm_r (nI_1 i) (hw _ trivial)))⟩)
theorem zq_behind {post : Int32 → Prop} (hr : zq_R1 a19) (h : post 0) : wpX_isBehindAll post (bo, hi, re, fa, a1, a2, a3, a4, a5, a6, a7, a8, a9, a10, a11, a12, a13, a14, a15, a16, a17, a18, a19, a20, a21, a22, a23, a24, a25, a26) 0 := by
  unfold wpX_isBehindAll
  refine ⟨pk_in 0 96 (by omega) zq_j0, nm_r (e' := 1) ?_ (br_f (by decide) (br_f (by decide) h))⟩
  rw [zq_l0, hr 0 (by omega)]
  rfl
def zq_up (v : Int32) : Int32 := if v ≤ 0 then 0 else v * 3
def zq_M (i l t : Nat) : Int32 := zq_S l t i + zq_up (zq_X i) + zq_up (zq_Y i)
theorem zq_Mneg : ∀ i, i < 4 → ∀ j, j < 4 → 4 ≤ i + j → ¬ 0 ≤ zq_M 0 (4 * i) (4 * j) := by decide +kernel
theorem zq_Mpos : ∀ i, i < 4 → ∀ j, j < 4 → ¬ 4 ≤ i + j → ∀ k, k < 3 → 0 ≤ zq_M k (4 * i) (4 * j) := by decide +kernel
theorem zq_o56 {post : Int32 → Prop} {J : Int32 → Prop} {x1 x2 z0 z1 : Int32} {i : Nat} (hi3 : i < 3) (hE : zq_E a21 a22 a24) (h : (0 ≤ z1 + z0 + zq_up (zq_Y i) → J (nI (i + 1))) ∧ (¬ 0 ≤ z1 + z0 + zq_up (zq_Y i) → post 1)) : wX_isOutside_56 post J x1 x2 (nI i) z0 z1 bo hi re fa a1 a2 a3 a4 a5 a6 a7 a8 a9 a10 a11 a12 a13 a14 a15 a16 a17 a18 a19 a20 a21 a22 a23 a24 a25 a26 := by
  unfold wX_isOutside_56
  refine nm_e ⟨pk_in i 3 hi3, ?_⟩
  rw [nI_clamp (show i < 2 ^ 31 by omega), hE.2.1 i hi3]
  unfold zq_up at h
  refine br_c (fun z => ?_) (fun z => ⟨pk_in i 3 hi3, ?_⟩)
  · rw [if_pos z] at h
    unfold wX_isOutside_82
    exact nm_e (br_c (fun g => nm_r (nI_1 i) (h.1 g)) (fun g => h.2 g))
  · rw [if_neg z] at h
    unfold wX_isOutside_82
    exact nm_e (br_c (fun g => nm_r (nI_1 i) (h.1 g)) (fun g => h.2 g))
theorem zq_o2 {post : Int32 → Prop} {n i l t : Nat} (hi3 : i < 3) (hE : zq_E a21 a22 a24) (h : (0 ≤ zq_M i l t → wX_isOutside_2 post (nI l) (nI t) bo hi re fa a1 a2 a3 a4 a5 a6 a7 a8 a9 a10 a11 a12 a13 a14 a15 a16 a17 a18 a19 a20 a21 a22 a23 a24 a25 a26 n (nI (i + 1))) ∧ (¬ 0 ≤ zq_M i l t → post 1)) : wX_isOutside_2 post (nI l) (nI t) bo hi re fa a1 a2 a3 a4 a5 a6 a7 a8 a9 a10 a11 a12 a13 a14 a15 a16 a17 a18 a19 a20 a21 a22 a23 a24 a25 a26 (n + 1) (nI i) := by
  have e : a24 (nI i).toNatClampNeg + a21 (nI i).toNatClampNeg * nI l + a22 (nI i).toNatClampNeg * nI t = zq_S l t i := by
    rw [nI_clamp (show i < 2 ^ 31 by omega), hE.1 i hi3, hE.2.1 i hi3, hE.2.2 i hi3]
    rfl
  refine pk_le 3 i (fun z => absurd z (by omega)) (fun _ => ⟨pk_in i 3 hi3, pk_in i 3 hi3, pk_in i 3 hi3, nm_r e ⟨pk_in i 3 hi3, ?_⟩⟩)
  rw [nI_clamp (show i < 2 ^ 31 by omega), hE.1 i hi3]
  have hM : zq_M i l t = zq_S l t i + zq_up (zq_X i) + zq_up (zq_Y i) := rfl
  rw [hM] at h
  refine br_c (fun z => zq_o56 hi3 hE ?_) (fun z => ⟨pk_in i 3 hi3, zq_o56 hi3 hE ?_⟩)
  · rw [show zq_up (zq_X i) = 0 from if_pos z] at h
    exact h
  · rw [show zq_up (zq_X i) = zq_X i * 3 from if_neg z] at h
    exact h
theorem zq_outside {post : Int32 → Prop} {i j : Nat} (hi4 : i < 4) (hj4 : j < 4) (hE : zq_E a21 a22 a24) (h1 : 4 ≤ i + j → post 1) (h0 : ¬ 4 ≤ i + j → post 0) : wpX_isOutside post (bo, hi, re, fa, a1, a2, a3, a4, a5, a6, a7, a8, a9, a10, a11, a12, a13, a14, a15, a16, a17, a18, a19, a20, a21, a22, a23, a24, a25, a26) (nI (4 * i)) (nI (4 * j)) := by
  unfold wpX_isOutside
  by_cases g : 4 ≤ i + j
  · exact ⟨1, zq_o2 (i := 0) (by omega) hE (br_f (zq_Mneg i hi4 j hj4 g) (h1 g))⟩
  · refine ⟨4, zq_o2 (i := 0) (by omega) hE (br_t (zq_Mpos i hi4 j hj4 g 0 (by omega)) (zq_o2 (i := 1) (by omega) hE (br_t (zq_Mpos i hi4 j hj4 g 1 (by omega)) (zq_o2 (i := 2) (by omega) hE (br_t (zq_Mpos i hi4 j hj4 g 2 (by omega)) ?_)))))⟩
    exact pk_le 3 3 (fun _ => h0 g) (fun z => absurd z (by omega))
theorem zq_d175 {post : St2 → Prop} {J : Int32 → Int32 → Int32 → Int32 → Int32 → (Nat → Int32) → (Nat → Int32) → (Nat → Int32) → (Nat → Int32) → (Nat → Int32) → (Nat → Int32) → (Nat → Int32) → (Nat → Int32) → (Nat → Int32) → (Nat → Int32) → (Nat → Int32) → (Nat → Int32) → (Nat → Int32) → (Nat → Int32) → (Nat → Int32) → (Nat → Int32) → (Nat → Int32) → (Nat → Int32) → (Nat → Int32) → (Nat → Int32) → (Nat → Int32) → (Nat → Int32) → (Nat → Int32) → (Nat → Int32) → (Nat → Int32) → (Nat → Int32) →  Prop} {x2 x3 x5 x8 : Int32} {l y c d N : Nat} (hl : l ≤ 12) (hy : y < 16) (hd : d < 256) (hc : c < 16777216) (hr : zq_rec (nI d) (nI c) a12 a13 a14 a15 a18 a19 a20) (hE : zq_E a21 a22 a24) (hS : ∀ j, j < 3 → a25 j = zq_S l y j)
    (h : ∀ b3 b25, J (nI (y + 1)) bo (nI (N + zq_rc y l 4)) re fa (zq_row a1 (nI c) y l 4) (zq_row a2 (nI d) y l 4) b3 a4 a5 a6 a7 a8 a9 a10 a11 a12 a13 a14 a15 a16 a17 a18 a19 a20 a21 a22 a23 a24 b25 a26) :
    ∃ n, wX_drawIn_175 post J 0 x2 x3 x5 (nI (l + 3)) x8 (nI y) n (nI l) bo (nI N) re fa a1 a2 a3 a4 a5 a6 a7 a8 a9 a10 a11 a12 a13 a14 a15 a16 a17 a18 a19 a20 a21 a22 a23 a24 a25 a26 := by
  refine pk_loop (σ := Int32 × (Nat → Int32) × (Nat → Int32) × (Nat → Int32) × (Nat → Int32)) (fun n i s => wX_drawIn_175 post J 0 x2 x3 x5 (nI (l + 3)) x8 (nI y) n (nI (l + i)) bo s.1 re fa s.2.1 s.2.2.1 s.2.2.2.1 a4 a5 a6 a7 a8 a9 a10 a11 a12 a13 a14 a15 a16 a17 a18 a19 a20 a21 a22 a23 a24 s.2.2.2.2 a26) (fun i s => s.1 = nI (N + zq_rc y l i) ∧ s.2.1 = zq_row a1 (nI c) y l i ∧ s.2.2.1 = zq_row a2 (nI d) y l i ∧ ∀ j, j < 3 → s.2.2.2.2 j = zq_S (l + i) y j) 4 0 (nI N, a1, a2, a3, a25) (by omega) ⟨rfl, rfl, rfl, hS⟩ ?_ ?_
  · intro n s e
    refine pk_lt (l + 3) (l + 4) (fun _ => nm_r (nI_1 y) ?_) (fun z => absurd z (by omega))
    rw [e.1, e.2.1, e.2.2.1]
    exact h _ _
  · intro n i s hi4 e hw
    obtain ⟨s1, s2, s3, s4, s5⟩ := s
    obtain ⟨e1, e2, e3, e4⟩ := e
    have e4' : ∀ j, j < 3 → s5 j = zq_S (l + i) y j := e4
    have hs : s5 0 + s5 1 + s5 2 = 65025 := by rw [e4' 0 (by omega), e4' 1 (by omega), e4' 2 (by omega), zq_Ssum]
    have e1' : s1 = nI (N + zq_rc y l i) := e1
    subst e1'
    refine pk_lt (l + 3) (l + i) (fun z => absurd z (by omega)) (fun _ => zq_isCovered (x := l + i) (y := y) (by omega) hy e4 (fun g => br_f zq_10 (zq_touch (p := 16 * y + (l + i)) (by omega) ?_ hd hc hr hs (fun b3 => ?_))) (fun g => br_t rfl ?_))
    · show nI 16 * nI y + nI (l + i) = _
      rw [pk_mul, nI_add]
    · refine zq_goOn (x := l + i) (y := y) hE e4 (fun b25 hb => nm_r (nI_1 (l + i)) (hw (_, _, _, _, b25) ⟨?_, ?_, ?_, hb⟩))
      · exact congrArg nI (by rw [zq_rc_t g]; omega)
      · rw [zq_row_t _ _ g]
        exact congrArg (fun f => upd f (16 * y + (l + i)) (nI c)) e2
      · rw [zq_row_t _ _ g]
        exact congrArg (fun f => upd f (16 * y + (l + i)) (nI d)) e3
    · refine zq_goOn (x := l + i) (y := y) hE e4 (fun b25 hb => nm_r (nI_1 (l + i)) (hw (_, _, _, _, b25) ⟨?_, ?_, ?_, hb⟩))
      · exact congrArg nI (by rw [zq_rc_f g])
      · rw [zq_row_f _ _ g]
        exact e2
      · rw [zq_row_f _ _ g]
        exact e3
theorem zq_d156 {post : St2 → Prop} {l t c d N : Nat} (hl : l ≤ 12) (ht : t ≤ 12) (hd : d < 256) (hc : c < 16777216) (hr : zq_rec (nI d) (nI c) a12 a13 a14 a15 a18 a19 a20) (hE : zq_E a21 a22 a24)
    (h : ∀ f b3 b25, post (bo, (nI (N + zq_tc 4 l t 4)), re, f, (zq_til a1 (nI c) l t 4), (zq_til a2 (nI d) l t 4), b3, a4, a5, a6, a7, a8, a9, a10, a11, a12, a13, a14, a15, a16, a17, a18, a19, a20, a21, a22, a23, a24, b25, a26)) :
    ∃ n, wX_drawIn_156 post 0 (nI l) (nI t) (nI l) (nI (l + 3)) (nI (t + 3)) n (nI t) bo (nI N) re fa a1 a2 a3 a4 a5 a6 a7 a8 a9 a10 a11 a12 a13 a14 a15 a16 a17 a18 a19 a20 a21 a22 a23 a24 a25 a26 := by
  refine pk_loop (σ := Int32 × (Nat → Int32) × (Nat → Int32) × (Nat → Int32) × (Nat → Int32)) (fun n i s => wX_drawIn_156 post 0 (nI l) (nI t) (nI l) (nI (l + 3)) (nI (t + 3)) n (nI (t + i)) bo s.1 re fa s.2.1 s.2.2.1 s.2.2.2.1 a4 a5 a6 a7 a8 a9 a10 a11 a12 a13 a14 a15 a16 a17 a18 a19 a20 a21 a22 a23 a24 s.2.2.2.2 a26) (fun i s => s.1 = nI (N + zq_tc 4 l t i) ∧ s.2.1 = zq_til a1 (nI c) l t i ∧ s.2.2.1 = zq_til a2 (nI d) l t i) 4 0 (nI N, a1, a2, a3, a25) (by omega) ⟨rfl, rfl, rfl⟩ ?_ ?_
  · intro n s e
    have h1 : a19 ((8 : Int32) * 0 + 1).toNatClampNeg = 1 := by
      rw [zq_l1, hr.2.2.1 1 (by omega)]
      rfl
    refine pk_lt (t + 3) (t + 4) (fun _ => ⟨pk_in 1 96 (by omega) zq_j1, br_t h1 (zq_far hl ht (fun f => ?_))⟩) (fun z => absurd z (by omega))
    rw [e.1, e.2.1, e.2.2]
    exact h _ _ _
  · intro n i s hi4 e hw
    obtain ⟨s1, s2, s3, s4, s5⟩ := s
    obtain ⟨e1, e2, e3⟩ := e
    have e1' : s1 = nI (N + zq_tc 4 l t i) := e1
    have e2' : s2 = zq_til a1 (nI c) l t i := e2
    have e3' : s3 = zq_til a2 (nI d) l t i := e3
    subst e1' e2' e3'
    exact pk_lt (t + 3) (t + i) (fun z => absurd z (by omega)) (fun _ => zq_goTo (x := l) (y := t + i) rfl rfl hE (fun b25 hb => zq_d175 hl (by omega) hd hc hr hE hb (fun b3 c25 => hw (_, _, _, b3, c25) ⟨congrArg nI (Nat.add_assoc _ _ _), rfl, rfl⟩)))
theorem zq_plus3 (l : Nat) : nI l + 4 - 1 = nI (l + 3) := by
  rw [← nI_add]
  show nI l + 4 - 1 = nI l + 3
  grind
theorem zq_drawIn {post : St2 → Prop} {i j c d N : Nat} (hi4 : i < 4) (hj4 : j < 4) (hd : d < 256) (hc : c < 16777216) (hr : zq_rec (nI d) (nI c) a12 a13 a14 a15 a18 a19 a20)
    (h : ∀ f b3 b21 b22 b23 b24 b25, post (bo, (nI (N + zq_tc 4 (4 * i) (4 * j) 4)), re, f, (zq_til a1 (nI c) (4 * i) (4 * j) 4), (zq_til a2 (nI d) (4 * i) (4 * j) 4), b3, a4, a5, a6, a7, a8, a9, a10, a11, a12, a13, a14, a15, a16, a17, a18, a19, a20, b21, b22, b23, b24, b25, a26)) :
    wpX_drawIn post (bo, (nI N), re, fa, a1, a2, a3, a4, a5, a6, a7, a8, a9, a10, a11, a12, a13, a14, a15, a16, a17, a18, a19, a20, a21, a22, a23, a24, a25, a26) 0 (nI (4 * i)) (nI (4 * j)) := by
  unfold wpX_drawIn
  have h18 : a18 (0 : Int32).toNatClampNeg = 3855 := by
    rw [zq_c0]
    exact hr.2.1
  refine ⟨pk_in 0 12 (by omega), nm_r h18 (pk_le 0 (4 * i) (fun _ => ?_) (fun z => absurd z (by omega)) (by decide))⟩
  unfold wX_drawIn_26
  rw [zq_plus3]
  refine pk_le (4 * i + 3) 15 (fun _ => ?_) (fun z => absurd z (by omega)) rfl (by decide)
  unfold wX_drawIn_60
  refine pk_le 0 (4 * j) (fun _ => ?_) (fun z => absurd z (by omega)) (by decide)
  unfold wX_drawIn_84
  rw [zq_plus3]
  refine pk_le (4 * j + 3) 15 (fun _ => ?_) (fun z => absurd z (by omega)) rfl (by decide)
  unfold wX_drawIn_112
  refine pk_lt (4 * i + 3) (4 * i) (fun z => absurd z (by omega)) (fun _ => pk_lt (4 * j + 3) (4 * j) (fun z => absurd z (by omega)) (fun _ => zq_behind hr.2.2.1 (br_t rfl (zq_takeEdges hr.1 (fun b21 b22 b23 b24 hE => zq_outside hi4 hj4 hE (fun g => br_f zq_10 ?_) (fun g => br_t rfl ?_))))))
  · have ho : 15 ≤ 4 * i + 4 * j := by omega
    have hh := h fa a3 b21 b22 b23 b24 a25
    rw [zq_tc_out 4 ho, zq_til_out _ _ ho, zq_til_out _ _ ho] at hh
    exact hh
  · exact zq_d156 (by omega) (by omega) hd hc hr hE (fun f b3 b25 => h _ _ _ _ _ _ _)
theorem zq_flush1 {post : St2 → Prop} {c d N : Nat} (hd : d < 256) (hc : c < 16777216) (hr : zq_rec (nI d) (nI c) a12 a13 a14 a15 a18 a19 a20)
    (h : ∀ f b3 b21 b22 b23 b24 b25, post (bo, (nI (N + 120)), 0, f, (zq_all a1 (nI c) 16), (zq_all a2 (nI d) 16), b3, a4, a5, a6, a7, a8, a9, a10, a11, a12, a13, a14, a15, a16, a17, a18, a19, a20, b21, b22, b23, b24, b25, a26)) :
    wpX_flush post (bo, (nI N), 1, fa, a1, a2, a3, a4, a5, a6, a7, a8, a9, a10, a11, a12, a13, a14, a15, a16, a17, a18, a19, a20, a21, a22, a23, a24, a25, a26) := by
  unfold wpX_flush
  refine br_f (by decide) ?_
  refine pk_loop (σ := Int32 × Int32 × (Nat → Int32) × (Nat → Int32) × (Nat → Int32) × (Nat → Int32) × (Nat → Int32) × (Nat → Int32) × (Nat → Int32) × (Nat → Int32)) (fun n i s => wX_flush_10 post n (nI i) bo s.1 1 s.2.1 s.2.2.1 s.2.2.2.1 s.2.2.2.2.1 a4 a5 a6 a7 a8 a9 a10 a11 a12 a13 a14 a15 a16 a17 a18 a19 a20 s.2.2.2.2.2.1 s.2.2.2.2.2.2.1 s.2.2.2.2.2.2.2.1 s.2.2.2.2.2.2.2.2.1 s.2.2.2.2.2.2.2.2.2 a26) (fun i s => s.1 = nI (N + zq_hc i) ∧ s.2.2.1 = zq_all a1 (nI c) i ∧ s.2.2.2.1 = zq_all a2 (nI d) i) 16 0 (nI N, fa, a1, a2, a3, a21, a22, a23, a24, a25) (by omega) ⟨rfl, rfl, rfl⟩ ?_ ?_
  · intro n s e
    refine pk_le 16 16 (fun _ => ?_) (fun z => absurd z (by omega))
    rw [e.1, e.2.1, e.2.2, zq_hc_all]
    exact h _ _ _ _ _ _ _
  · intro n i s hl e hw
    obtain ⟨s1, s2, s3, s4, s5, s6, s7, s8, s9, s10⟩ := s
    obtain ⟨e1, e2, e3⟩ := e
    have e1' : s1 = nI (N + zq_hc i) := e1
    have e2' : s3 = zq_all a1 (nI c) i := e2
    have e3' : s4 = zq_all a2 (nI d) i := e3
    subst e1' e2' e3'
    have el : (4 : Int32) * (nI i &&& 3) = nI (4 * (i % 4)) := by
      rw [pk_andN (n := i) (by omega) 2 (by decide)]
      exact pk_mul 4 (i % 4)
    have et : (4 : Int32) * (nI i >>> ((2 : Int32) &&& 31)) = nI (4 * (i / 4)) := by
      rw [pk_shrN (n := i) (by omega) ((2 : Int32) &&& 31) 2 (by decide)]
      exact pk_mul 4 (i / 4)
    refine pk_le 16 i (fun z => absurd z (by omega)) (fun _ => nm_r el (nm_r et (zq_far (by omega) (by omega) (fun f => ⟨2, ?_⟩))))
    refine pk_le 1 0 (fun z => absurd z (by omega)) (fun _ => zq_drawIn (i := i % 4) (j := i / 4) (by omega) (by omega) hd hc hr (fun f' b3 b21 b22 b23 b24 b25 => nm_r (show (0 : Int32) + 1 = 1 from rfl) ?_))
    refine pk_le 1 1 (fun _ => nm_r (nI_1 i) (hw (_, _, _, _, _, _, _, _, _, _) ⟨congrArg nI (Nat.add_assoc _ _ _), rfl, rfl⟩)) (fun z => absurd z (by omega))
theorem zq_col1 {post : Int32 → St2 → Prop} {c d N : Nat} (hd : d < 256) (hc : c < 16777216) (hr : zq_rec (nI d) (nI c) a12 a13 a14 a15 a18 a19 a20)
    (h : ∀ f b3 b21 b22 b23 b24 b25, post (nI c) (bo, (nI (N + 120)), 0, f, (zq_all a1 (nI c) 16), (zq_all a2 (nI d) 16), b3, a4, a5, a6, a7, a8, a9, a10, a11, a12, a13, a14, a15, a16, a17, a18, a19, a20, b21, b22, b23, b24, b25, a26)) :
    wpX_colour post (bo, (nI N), 1, fa, a1, a2, a3, a4, a5, a6, a7, a8, a9, a10, a11, a12, a13, a14, a15, a16, a17, a18, a19, a20, a21, a22, a23, a24, a25, a26) 0 0 := by
  unfold wpX_colour
  refine zq_flush1 hd hc hr (fun f b3 b21 b22 b23 b24 b25 => zq_isPixel (fun _ _ => br_f zq_10 ?_) (fun g => absurd ⟨zq_in0, zq_in0⟩ g))
  refine ⟨pk_in 0 256 (by omega), ?_⟩
  rw [show ((16 : Int32) * 0 + 0).toNatClampNeg = 0 from pk_cl 0, zq_all_0]
  exact h _ _ _ _ _ _ _
end
section
/-! the law's rows, from its end: the triangle -/
variable {bo hi re fa : Int32} {a1 a2 a3 a4 a5 a6 a7 a8 a9 a10 a11 a12 a13 a14 a15 a16 a17 a18 a19 a20 a21 a22 a23 a24 a25 a26 : Nat → Int32}
variable {post : Int32 → St0 → Prop} {mc ms kc ks c d : Nat}
variable {x0 x1 x2 x3 x5 x6 x7 x8 x9 x10 x11 x12 x13 x14 x15 x16 x17 x18 x19 x20 x21 z0 z1 z2 z3 cc dd mm : Int32}
theorem zq_not {a : Int32} {P : Prop} (h : a = 0 ↔ ¬ P) (e : ¬ a = 0) : P := Classical.not_not.1 (fun t => e (h.2 t))
/-- the triangle's depth and colour -/
def zq_V (x7 x8 x10 x11 : Int32) (d c : Nat) : Prop := d < 256 ∧ c < 16777216 ∧ ((x11 = 0 → 7 = nI d) ∧ (¬ x11 = 0 → x8 = nI d)) ∧ ((x10 = 0 → 9 = nI c) ∧ (¬ x10 = 0 → x7 = nI c))
/-- the picture after clear -/
def zq_W (x7 x8 x19 x20 cc dd mm : Int32) : Prop := (x20 = 0 → cc = 0 ∧ dd = 255 ∧ mm = 0) ∧ (¬ x20 = 0 → cc = x7 ∧ dd = x8 ∧ mm = x19)
theorem zq_1202 (hp : post 1 ()) (hz : z1 = z0) (hk : zq_K 3 (nI d) (nI c) a5 a6 a7 a8) (hr : zq_R1 a11) : wL_lawOf_1202 post mc ms z0 z1 kc ks 3855 (nI 120) 0 fa a1 a2 a3 a4 a5 a6 a7 a8 a9 a10 a11 a12 a13 a14 a15 a16 a17 a18 a19 a20 a21 a22 a23 a24 a25 a26 := by
  unfold wL_lawOf_1202
  refine br_t hz (zq_hits (zq_cov8 hk hr (fun b12 b13 b14 b15 b16 b17 b18 b19 b20 b21 b22 b23 b24 b25 b26 => br_t rfl (zq_cov7 hk hr (fun c26 => br_t rfl (zq_covB ?_ (br_t rfl (zq_drawB ?_ (br_t rfl (zq_window (fun g => absurd g ?_) (fun _ => br_t rfl hp)))))))))))
  · exact fun g => g.2 (by decide)
  · exact fun g => g.1 (by decide)
  · exact fun g => g.2 (by decide)
theorem zq_1179 (hp : post 1 ()) (hz : z1 = z0) (h1 : (x20 = 0 → a1 255 = 0) ∧ (¬ x20 = 0 → a1 255 = x7)) (hk : zq_K 3 (nI d) (nI c) a5 a6 a7 a8) (hr : zq_R1 a11) : wL_lawOf_1179 post mc ms x7 x20 z0 z1 kc ks 3855 (nI 120) 0 fa a1 a2 a3 a4 a5 a6 a7 a8 a9 a10 a11 a12 a13 a14 a15 a16 a17 a18 a19 a20 a21 a22 a23 a24 a25 a26 := by
  unfold wL_lawOf_1179
  exact br_t hz (zq_col15 (br_c (fun e => zq_1202 hp (h1.1 e) hk hr) (fun e => zq_1202 hp (h1.2 e) hk hr)))
theorem zq_1157 (hp : post 1 ()) (hz : z1 = z0) (hv : zq_V x7 x8 x10 x11 d c) (h2 : a2 51 = nI d) (h1 : (x20 = 0 → a1 255 = 0) ∧ (¬ x20 = 0 → a1 255 = x7)) (hk : zq_K 3 (nI d) (nI c) a5 a6 a7 a8) (hr : zq_R1 a11) : wL_lawOf_1157 post mc ms x7 x8 x11 x20 z0 z1 kc ks 3855 (nI 120) 0 fa a1 a2 a3 a4 a5 a6 a7 a8 a9 a10 a11 a12 a13 a14 a15 a16 a17 a18 a19 a20 a21 a22 a23 a24 a25 a26 := by
  unfold wL_lawOf_1157
  refine br_t hz (zq_dep3 ?_)
  rw [h2]
  exact br_c (fun e => zq_1179 hp (hv.2.2.1.1 e).symm h1 hk hr) (fun e => zq_1179 hp (hv.2.2.1.2 e).symm h1 hk hr)
theorem zq_K_up {n k : Nat} {D C X Y : Int32} {b5 b6 b7 b8 : Nat → Int32} (h : zq_K n D C b5 b6 b7 b8) (hkn : k = n) (hX : X = zq_PX n) (hY : Y = zq_PY n) : zq_K (n + 1) D C (upd b5 k X) (upd b6 k Y) (upd b7 k D) (upd b8 k C) :=
  ⟨zq_fillF hkn h.1 hX, zq_fillF hkn h.2.1 hY, zq_fill hkn h.2.2.1, zq_fill hkn h.2.2.2⟩
theorem zq_inNI {l n j : Nat} (hl : nI l = nI n) (hn : n < 2 ^ 31) (hj : j < n) : zq_in (nI j) (nI l) := by
  rw [hl]
  exact ⟨nI_pos (by omega), nI_ge hj hn⟩
theorem zq_cornerN {ψ : Int32 → St2 → Prop} {Q Z D C : Int32} {k n : Nat} (hq : Q = nI k) (hk : k < 6) (hZ : Z = nI n) (hn : n < 147456) (hD : D = nI d) (hd : d < 256) (hC : C = nI c) (hc : c < 16777216)
    (h : ψ 0 (bo, hi, re, fa, a1, a2, a3, a4, (upd a5 k (Z - Z / 384 * 384 - 64)), (upd a6 k (Z / 384 - 64)), (upd a7 k (nI d)), (upd a8 k (nI c)), a9, a10, a11, a12, a13, a14, a15, a16, a17, a18, a19, a20, a21, a22, a23, a24, a25, a26)) : wpX_corner ψ (bo, hi, re, fa, a1, a2, a3, a4, a5, a6, a7, a8, a9, a10, a11, a12, a13, a14, a15, a16, a17, a18, a19, a20, a21, a22, a23, a24, a25, a26) Q Z D C := by
  subst hD hC
  refine zq_corner (fun k' hk' e _ _ _ => ?_) (fun g => absurd ⟨?_, ?_, ?_, ?_⟩ g)
  · have ek : k' = k := by
      rw [hq] at e
      have e2 := congrArg Int32.toNatClampNeg e
      rw [nI_clamp (by omega), nI_clamp (by omega)] at e2
      exact e2.symm
    subst ek
    exact h
  · rw [hq]
    exact zq_inOf (n := 6) rfl (by omega) hk
  · rw [hZ]
    exact zq_inOf (n := 147456) rfl (by omega) hn
  · exact zq_inOf (n := 256) rfl (by omega) hd
  · exact zq_inOf (n := 16777216) rfl (by omega) hc
theorem zq_ruleN {ψ : Int32 → St2 → Prop} {Q v : Int32} {k : Nat} (hq : Q = nI k) (hk : k < 8) (h0 : ¬ v < 0) (h1 : v ≤ zq_most Q) (h : ψ (a11 k) (bo, hi, re, fa, a1, a2, a3, a4, a5, a6, a7, a8, a9, a10, (upd a11 k v), a12, a13, a14, a15, a16, a17, a18, a19, a20, a21, a22, a23, a24, a25, a26)) : wpX_rule ψ (bo, hi, re, fa, a1, a2, a3, a4, a5, a6, a7, a8, a9, a10, a11, a12, a13, a14, a15, a16, a17, a18, a19, a20, a21, a22, a23, a24, a25, a26) Q v := by
  refine zq_rule (fun k' hk' e _ => ?_) (fun g => absurd ⟨?_, h0, h1⟩ g)
  · have ek : k' = k := by
      rw [hq] at e
      have e2 := congrArg Int32.toNatClampNeg e
      rw [nI_clamp (by omega), nI_clamp (by omega)] at e2
      exact e2.symm
    subst ek
    exact h
  · rw [hq]
    exact zq_inOf (n := 8) rfl (by omega) hk
theorem zq_R_ru {b : Nat → Int32} (h : zq_R b) : zq_R1 (upd b 0 1) := by
  refine zq_upR (fun j hj hne => ?_) rfl
  rw [h j hj]
  match j, hne with
  | 0, hne => exact absurd rfl hne
  | 1, _ => rfl
  | j + 2, _ => rfl
theorem zq_1099 (hp : post 1 ()) (hv : zq_V x7 x8 x10 x11 d c) (h0 : z0 = nI c) (h1 : z1 = nI d) (h2 : z2 = 122560) (h3 : z3 = 2) (hq : (x20 = 0 → a1 255 = 0) ∧ (¬ x20 = 0 → a1 255 = x7)) (hk : zq_K 2 (nI d) (nI c) a5 a6 a7 a8) (hr : zq_R a11) : wL_lawOf_1099 post mc ms x7 x8 x10 x11 x20 z0 z1 z2 z3 kc ks 3855 0 0 fa a1 a2 a3 a4 a5 a6 a7 a8 a9 a10 a11 a12 a13 a14 a15 a16 a17 a18 a19 a20 a21 a22 a23 a24 a25 a26 := by
  unfold wL_lawOf_1099
  refine zq_cornerN (k := 2) (n := 122560) h3 (by omega) h2 (by omega) h1 hv.1 h0 hv.2.1 (zq_ruleN (k := 0) rfl (by omega) (by decide) (by decide) ?_)
  have hk3 : zq_K 3 (nI d) (nI c) (upd a5 2 (z2 - z2 / 384 * 384 - 64)) (upd a6 2 (z2 / 384 - 64)) (upd a7 2 (nI d)) (upd a8 2 (nI c)) := zq_K_up hk rfl (by rw [h2]; decide) (by rw [h2]; decide)
  have hr1 : zq_R1 (upd a11 0 1) := zq_R_ru hr
  refine zq_cov8 hk3 hr1 (fun _ _ _ _ _ _ _ _ _ _ _ _ _ _ _ => zq_cov13 hk3 hr1 (fun _ _ _ _ _ _ _ _ _ _ _ _ _ _ _ => br_t rfl (zq_draw8 hk3 hr1 (fun _ _ _ _ _ _ _ _ _ _ hrec => br_t rfl (zq_col1 (N := 0) hv.1 hv.2.1 hrec (fun _ _ _ _ _ _ _ => br_c (fun e => zq_1157 hp (hv.2.2.2.1 e).symm hv (zq_all_51 _ _) ?_ hk3 hr1) (fun e => zq_1157 hp (hv.2.2.2.2 e).symm hv (zq_all_51 _ _) ?_ hk3 hr1)))))))
  · rw [zq_all_255]
    exact hq
  · rw [zq_all_255]
    exact hq
theorem zq_1087 (hp : post 1 ()) (hv : zq_V x7 x8 x10 x11 d c) (h1 : z0 = nI d) (h2 : z1 = 122560) (h3 : z2 = 2) (hq : (x20 = 0 → a1 255 = 0) ∧ (¬ x20 = 0 → a1 255 = x7)) (hk : zq_K 2 (nI d) (nI c) a5 a6 a7 a8) (hr : zq_R a11) : wL_lawOf_1087 post mc ms x7 x8 x10 x11 x20 z0 z1 z2 kc ks 3855 0 0 fa a1 a2 a3 a4 a5 a6 a7 a8 a9 a10 a11 a12 a13 a14 a15 a16 a17 a18 a19 a20 a21 a22 a23 a24 a25 a26 := by
  unfold wL_lawOf_1087
  exact br_c (fun e => zq_1099 hp hv (hv.2.2.2.1 e) h1 h2 h3 hq hk hr) (fun e => zq_1099 hp hv (hv.2.2.2.2 e) h1 h2 h3 hq hk hr)
theorem zq_1066 (hp : post 1 ()) (hv : zq_V x7 x8 x10 x11 d c) (h0 : z0 = nI c) (h1 : z1 = nI d) (h2 : z2 = 24895) (h3 : z3 = 1) (hq : (x20 = 0 → a1 255 = 0) ∧ (¬ x20 = 0 → a1 255 = x7)) (hk : zq_K 1 (nI d) (nI c) a5 a6 a7 a8) (hr : zq_R a11) : wL_lawOf_1066 post mc ms x7 x8 x10 x11 x20 z0 z1 z2 z3 kc ks 3855 0 0 fa a1 a2 a3 a4 a5 a6 a7 a8 a9 a10 a11 a12 a13 a14 a15 a16 a17 a18 a19 a20 a21 a22 a23 a24 a25 a26 := by
  unfold wL_lawOf_1066
  have hk3 : zq_K 2 (nI d) (nI c) (upd a5 1 (z2 - z2 / 384 * 384 - 64)) (upd a6 1 (z2 / 384 - 64)) (upd a7 1 (nI d)) (upd a8 1 (nI c)) := zq_K_up hk rfl (by rw [h2]; decide) (by rw [h2]; decide)
  exact zq_cornerN (k := 1) (n := 24895) h3 (by omega) h2 (by omega) h1 hv.1 h0 hv.2.1 (br_c (fun e => zq_1087 hp hv (hv.2.2.1.1 e) rfl rfl hq hk3 hr) (fun e => zq_1087 hp hv (hv.2.2.1.2 e) rfl rfl hq hk3 hr))
theorem zq_1054 (hp : post 1 ()) (hv : zq_V x7 x8 x10 x11 d c) (h1 : z0 = nI d) (h2 : z1 = 24895) (h3 : z2 = 1) (hq : (x20 = 0 → a1 255 = 0) ∧ (¬ x20 = 0 → a1 255 = x7)) (hk : zq_K 1 (nI d) (nI c) a5 a6 a7 a8) (hr : zq_R a11) : wL_lawOf_1054 post mc ms x7 x8 x10 x11 x20 z0 z1 z2 kc ks 3855 0 0 fa a1 a2 a3 a4 a5 a6 a7 a8 a9 a10 a11 a12 a13 a14 a15 a16 a17 a18 a19 a20 a21 a22 a23 a24 a25 a26 := by
  unfold wL_lawOf_1054
  exact br_c (fun e => zq_1066 hp hv (hv.2.2.2.1 e) h1 h2 h3 hq hk hr) (fun e => zq_1066 hp hv (hv.2.2.2.2 e) h1 h2 h3 hq hk hr)
theorem zq_1032 (hp : post 1 ()) (hv : zq_V x7 x8 x10 x11 d c) (h0 : z0 = nI c) (h1 : z1 = nI d) (h2 : z2 = 24640) (h3 : z3 = 0) (hq : (x20 = 0 → a1 255 = 0) ∧ (¬ x20 = 0 → a1 255 = x7)) (hr : zq_R a11) : wL_lawOf_1032 post mc ms x7 x8 x10 x11 x20 z0 z1 z2 z3 kc ks 3855 0 0 fa a1 a2 a3 a4 a5 a6 a7 a8 a9 a10 a11 a12 a13 a14 a15 a16 a17 a18 a19 a20 a21 a22 a23 a24 a25 a26 := by
  unfold wL_lawOf_1032
  have hk0 : zq_K 0 (nI d) (nI c) a5 a6 a7 a8 := ⟨fun j hj => absurd hj (by omega), fun j hj => absurd hj (by omega), fun j hj => absurd hj (by omega), fun j hj => absurd hj (by omega)⟩
  have hk3 : zq_K 1 (nI d) (nI c) (upd a5 0 (z2 - z2 / 384 * 384 - 64)) (upd a6 0 (z2 / 384 - 64)) (upd a7 0 (nI d)) (upd a8 0 (nI c)) := zq_K_up hk0 rfl (by rw [h2]; decide) (by rw [h2]; decide)
  exact zq_cornerN (k := 0) (n := 24640) h3 (by omega) h2 (by omega) h1 hv.1 h0 hv.2.1 (br_c (fun e => zq_1054 hp hv (hv.2.2.1.1 e) rfl rfl hq hk3 hr) (fun e => zq_1054 hp hv (hv.2.2.1.2 e) rfl rfl hq hk3 hr))
theorem zq_1020 (hp : post 1 ()) (hv : zq_V x7 x8 x10 x11 d c) (h1 : z0 = nI d) (h2 : z1 = 24640) (h3 : z2 = 0) (hq : (x20 = 0 → a1 255 = 0) ∧ (¬ x20 = 0 → a1 255 = x7)) (hr : zq_R a11) : wL_lawOf_1020 post mc ms x7 x8 x10 x11 x20 z0 z1 z2 kc ks 3855 0 0 fa a1 a2 a3 a4 a5 a6 a7 a8 a9 a10 a11 a12 a13 a14 a15 a16 a17 a18 a19 a20 a21 a22 a23 a24 a25 a26 := by
  unfold wL_lawOf_1020
  exact br_c (fun e => zq_1032 hp hv (hv.2.2.2.1 e) h1 h2 h3 hq hr) (fun e => zq_1032 hp hv (hv.2.2.2.2 e) h1 h2 h3 hq hr)
theorem zq_R_same {b : Nat → Int32} {k : Nat} {v : Int32} (h : zq_R b) (hv : v = zq_rb k) : zq_R (upd b k v) := zq_upR (fun j hj _ => h j hj) hv
theorem zq_944 (hp : post 1 ()) (hz : z1 = z0) (hv : zq_V x7 x8 x10 x11 d c) (hw : zq_W x7 x8 x19 x20 cc dd mm) (hu : zq_U cc dd mm a1 a2 a3) (h21 : x21 = cc + 3 * dd + 7 * mm) : wL_lawOf_944 post mc ms x7 x8 x10 x11 x20 x21 z0 z1 kc ks bo 0 0 fa a1 a2 a3 a4 a5 a6 a7 a8 a9 a10 a11 a12 a13 a14 a15 a16 a17 a18 a19 a20 a21 a22 a23 a24 a25 a26 := by
  unfold wL_lawOf_944
  refine br_t hz (zq_reset (fun b4 b5 b6 b7 b8 b9 b10 b11 h4 hr => zq_digest hu (br_t (by rw [h21]) (zq_cell (fun k hk _ _ _ _ => br_t (h4 k hk) (zq_ruleN (k := 0) rfl (by omega) (by decide) (by decide) (br_t (hr 0 (by omega)) (zq_ruleN (k := 1) rfl (by omega) (by decide) (by decide) (br_t ?_ ?_))))) (fun g => absurd ⟨?_, ?_, ?_⟩ g)))))
  · rw [pk_un (by decide), hr 1 (by omega)]
    rfl
  · have hq : (x20 = 0 → a1 255 = 0) ∧ (¬ x20 = 0 → a1 255 = x7) := by
      rw [hu.1 255 (by omega)]
      exact ⟨fun e => (hw.1 e).1, fun e => (hw.2 e).1⟩
    have hr2 := zq_R_same (k := 1) (zq_R_same (k := 0) (v := 2) hr rfl) (show (1 : Int32) = zq_rb 1 from rfl)
    exact br_c (fun e => zq_1020 hp hv (hv.2.2.1.1 e) rfl rfl hq hr2) (fun e => zq_1020 hp hv (hv.2.2.1.2 e) rfl rfl hq hr2)
  · exact ⟨by decide, by decide⟩
  · exact ⟨by decide, by decide⟩
  · exact ⟨by decide, by decide⟩
theorem zq_922 (hp : post 1 ()) (hz : z1 = z0) (hv : zq_V x7 x8 x10 x11 d c) (hw : zq_W x7 x8 x19 x20 cc dd mm) (hu : zq_U cc dd mm a1 a2 a3) (h21 : x21 = cc + 3 * dd + 7 * mm) : wL_lawOf_922 post mc ms x7 x8 x10 x11 x19 x20 x21 z0 z1 kc ks bo 0 0 fa a1 a2 a3 a4 a5 a6 a7 a8 a9 a10 a11 a12 a13 a14 a15 a16 a17 a18 a19 a20 a21 a22 a23 a24 a25 a26 := by
  unfold wL_lawOf_922
  exact br_t hz (zq_mark hu.2.2 (fun _ _ => br_c (fun e => zq_944 hp (hw.1 e).2.2 hv hw hu h21) (fun e => zq_944 hp (hw.2 e).2.2 hv hw hu h21)) (fun g => absurd ⟨zq_in0, zq_in15⟩ g))
theorem zq_897 (hp : post 1 ()) (hz : z1 = z0) (hv : zq_V x7 x8 x10 x11 d c) (hw : zq_W x7 x8 x19 x20 cc dd mm) (hu : zq_U cc dd mm a1 a2 a3) (h21 : x21 = cc + 3 * dd + 7 * mm) : wL_lawOf_897 post mc ms x7 x8 x10 x11 x19 x20 x21 z0 z1 kc ks bo 0 0 fa a1 a2 a3 a4 a5 a6 a7 a8 a9 a10 a11 a12 a13 a14 a15 a16 a17 a18 a19 a20 a21 a22 a23 a24 a25 a26 := by
  unfold wL_lawOf_897
  exact br_t hz (zq_depth hu.2.1 (fun _ _ => br_c (fun e => zq_922 hp (hw.1 e).2.1 hv hw hu h21) (fun e => zq_922 hp (hw.2 e).2.1 hv hw hu h21)) (fun g => absurd ⟨zq_in15, zq_in15⟩ g))
/-- what the flags say -/
def zq_H (x5 x6 x7 x8 x9 x10 x11 : Int32) : Prop := (x9 = 0 ↔ ¬ (zq_in x5 16 ∧ zq_in x6 16)) ∧ (x10 = 0 ↔ ¬ zq_in x7 16777216) ∧ (x11 = 0 ↔ ¬ zq_in x8 256)
theorem zq_HV (h : zq_H x5 x6 x7 x8 x9 x10 x11) : ∃ d c, zq_V x7 x8 x10 x11 d c := by
  obtain ⟨_, h10, h11⟩ := h
  have hD : ∃ d, d < 256 ∧ (x11 = 0 → 7 = nI d) ∧ (¬ x11 = 0 → x8 = nI d) := by
    by_cases e : x11 = 0
    · exact ⟨7, by omega, fun _ => rfl, fun g => absurd e g⟩
    · obtain ⟨j, hj, ej⟩ := zq_inN (n := 256) rfl (by omega) (zq_not h11 e)
      exact ⟨j, hj, fun g => absurd g e, fun _ => ej⟩
  have hC : ∃ c, c < 16777216 ∧ (x10 = 0 → 9 = nI c) ∧ (¬ x10 = 0 → x7 = nI c) := by
    by_cases e : x10 = 0
    · exact ⟨9, by omega, fun _ => rfl, fun g => absurd e g⟩
    · obtain ⟨j, hj, ej⟩ := zq_inN (n := 16777216) rfl (by omega) (zq_not h10 e)
      exact ⟨j, hj, fun g => absurd g e, fun _ => ej⟩
  obtain ⟨d, h1, h2⟩ := hD
  obtain ⟨c, h3, h4⟩ := hC
  exact ⟨d, c, h1, h3, h2, h4⟩
theorem zq_853 (hp : post 1 ()) (hh : zq_H x5 x6 x7 x8 x9 x10 x11) (hw : zq_W x7 x8 x19 x20 cc dd mm) (hu : zq_U cc dd mm a1 a2 a3) (h21 : z0 = cc + 3 * dd + 7 * mm) : wL_lawOf_853 post mc ms x5 x6 x7 x8 x9 x10 x11 x19 x20 z0 kc ks bo 0 0 fa a1 a2 a3 a4 a5 a6 a7 a8 a9 a10 a11 a12 a13 a14 a15 a16 a17 a18 a19 a20 a21 a22 a23 a24 a25 a26 := by
  unfold wL_lawOf_853
  obtain ⟨d, c, hv⟩ := zq_HV hh
  exact zq_digest hu (br_t (by rw [h21]) (zq_colour hu.1 (fun gx gy => br_f (fun e => hh.1.1 e ⟨gx, gy⟩) (br_c (fun e => zq_897 hp (hw.1 e).1 hv hw hu h21) (fun e => zq_897 hp (hw.2 e).1 hv hw hu h21))) (fun g => br_t (hh.1.2 g) (zq_897 hp rfl hv hw hu h21))))
theorem zq_824 (hp : post 1 ()) (hz : z1 = z0) (hh : zq_H x5 x6 x7 x8 x9 x10 x11) (hw : zq_W x7 x8 x19 x20 cc dd mm) (hu : zq_U cc dd mm a1 a2 a3) : wL_lawOf_824 post mc ms x5 x6 x7 x8 x9 x10 x11 x19 x20 z0 z1 kc ks bo 0 0 fa a1 a2 a3 a4 a5 a6 a7 a8 a9 a10 a11 a12 a13 a14 a15 a16 a17 a18 a19 a20 a21 a22 a23 a24 a25 a26 := by
  unfold wL_lawOf_824
  refine br_t hz (br_c (fun e => zq_853 hp hh hw hu ?_) (fun e => zq_853 hp hh hw hu ?_))
  · rw [(hw.1 e).1, (hw.1 e).2.1, (hw.1 e).2.2]
    decide
  · rw [(hw.2 e).1, (hw.2 e).2.1, (hw.2 e).2.2]
theorem zq_801 (hp : post 1 ()) (hh : zq_H x5 x6 x7 x8 x9 x10 x11) (hf : z0 = 0 ↔ ¬ (zq_in x7 16777216 ∧ zq_in x8 256 ∧ zq_in x19 16)) (hu : zq_U 0 255 0 a1 a2 a3) : wL_lawOf_801 post mc ms x5 x6 x7 x8 x9 x10 x11 x19 z0 kc ks bo 0 0 fa a1 a2 a3 a4 a5 a6 a7 a8 a9 a10 a11 a12 a13 a14 a15 a16 a17 a18 a19 a20 a21 a22 a23 a24 a25 a26 := by
  unfold wL_lawOf_801
  exact zq_clear (fun b1 b2 b3 hb g1 g2 g3 => br_f (fun e => hf.1 e ⟨g1, g2, g3⟩) (zq_824 hp rfl hh ⟨fun e => absurd ⟨g1, g2, g3⟩ (hf.1 e), fun _ => ⟨rfl, rfl, rfl⟩⟩ hb)) (fun g => br_t (hf.2 g) (zq_824 hp rfl hh ⟨fun _ => ⟨rfl, rfl, rfl⟩, fun e => absurd (hf.2 g) e⟩ hu))
theorem zq_772 (hp : post 1 ()) (hh : zq_H x5 x6 x7 x8 x9 x10 x11) (hu : zq_U 0 255 0 a1 a2 a3) : wL_lawOf_772 post mc ms x5 x6 x7 x8 x9 x10 x11 z0 kc ks bo 0 0 fa a1 a2 a3 a4 a5 a6 a7 a8 a9 a10 a11 a12 a13 a14 a15 a16 a17 a18 a19 a20 a21 a22 a23 a24 a25 a26 := by
  unfold wL_lawOf_772
  have no : ¬ (zq_in x7 16777216 ∧ zq_in x8 256 ∧ zq_in z0 16) → wL_lawOf_800 post mc ms x5 x6 x7 x8 x9 x10 x11 z0 kc ks bo 0 0 fa a1 a2 a3 a4 a5 a6 a7 a8 a9 a10 a11 a12 a13 a14 a15 a16 a17 a18 a19 a20 a21 a22 a23 a24 a25 a26 := fun g => zq_801 hp hh (iff_of_true rfl g) hu
  exact br_c (fun e => no (fun t => hh.2.1.1 e t.1)) (fun e10 => br_c (fun e => no (fun t => hh.2.2.1 e t.2.1)) (fun e11 => br_c (fun e => no (fun t => t.2.2.1 e)) (fun ea => br_c (fun e => no (fun t => t.2.2.2 e)) (fun eb => zq_801 hp hh (iff_of_false zq_10 (fun g => g ⟨zq_not hh.2.1 e10, zq_not hh.2.2 e11, ea, eb⟩)) hu))))
end
section
/-! the law's rows, from the beginning to clear -/
variable {bo hi re fa : Int32} {a1 a2 a3 a4 a5 a6 a7 a8 a9 a10 a11 a12 a13 a14 a15 a16 a17 a18 a19 a20 a21 a22 a23 a24 a25 a26 : Nat → Int32}
variable {post : Int32 → St0 → Prop} {mc ms kc ks : Nat}
variable {x0 x1 x2 x3 x5 x6 x7 x8 x9 x10 x11 x12 x13 x14 x15 x16 x17 x18 z0 z1 : Int32}
theorem zq_751 (hp : post 1 ()) (hz : z1 = z0) (hh : zq_H x5 x6 x7 x8 x9 x10 x11) (hu : zq_U 0 255 0 a1 a2 a3) : wL_lawOf_751 post mc ms x1 x5 x6 x7 x8 x9 x10 x11 z0 z1 kc ks bo 0 0 fa a1 a2 a3 a4 a5 a6 a7 a8 a9 a10 a11 a12 a13 a14 a15 a16 a17 a18 a19 a20 a21 a22 a23 a24 a25 a26 := by
  unfold wL_lawOf_751
  exact br_t hz (br_c (fun _ => zq_772 hp hh hu) (fun _ => zq_772 hp hh hu))
theorem zq_706 (hp : post 1 ()) (hz : z1 = z0) (hh : zq_H x5 x6 x7 x8 x9 x10 x11) (h18 : x18 = 0 ↔ ¬ zq_in x5 6) (hu : zq_U 0 255 0 a1 a2 a3) : wL_lawOf_706 post mc ms x1 x2 x5 x6 x7 x8 x9 x10 x11 x18 z0 z1 kc ks bo 0 0 fa a1 a2 a3 a4 a5 a6 a7 a8 a9 a10 a11 a12 a13 a14 a15 a16 a17 a18 a19 a20 a21 a22 a23 a24 a25 a26 := by
  unfold wL_lawOf_706
  refine br_t hz (zq_corner (fun k hk e g1 g2 g3 => br_f (fun t => h18.1 t ?_) (br_f g1.1 (br_f g1.2 (br_f (fun t => hh.2.2.1 t g2) (br_f (fun t => hh.2.1.1 t g3) (zq_751 hp rfl hh hu)))))) (fun g => ?_))
  · rw [e]
    exact zq_inOf (n := 6) rfl (by omega) hk
  · have ok : wL_lawOf_750 post mc ms x1 x5 x6 x7 x8 x9 x10 x11 (-1) kc ks bo 0 0 fa a1 a2 a3 a4 a5 a6 a7 a8 a9 a10 a11 a12 a13 a14 a15 a16 a17 a18 a19 a20 a21 a22 a23 a24 a25 a26 := zq_751 hp rfl hh hu
    exact br_c (fun _ => ok) (fun e1 => br_c (fun _ => ok) (fun e2 => br_c (fun _ => ok) (fun e3 => br_c (fun _ => ok) (fun e4 => br_c (fun _ => ok) (fun e5 => absurd ⟨zq_not h18 e1, ⟨e2, e3⟩, zq_not hh.2.2 e4, zq_not hh.2.1 e5⟩ g)))))
theorem zq_657 (hp : post 1 ()) (hh : zq_H x5 x6 x7 x8 x9 x10 x11) (h18 : z0 = 0 ↔ ¬ zq_in x5 6) (hu : zq_U 0 255 0 a1 a2 a3) : wL_lawOf_657 post mc ms x1 x2 x5 x6 x7 x8 x9 x10 x11 z0 kc ks bo 0 0 fa a1 a2 a3 a4 a5 a6 a7 a8 a9 a10 a11 a12 a13 a14 a15 a16 a17 a18 a19 a20 a21 a22 a23 a24 a25 a26 := by
  unfold wL_lawOf_657
  refine zq_aim (fun b9 b10 g1 g2 g3 => br_f (fun t => h18.1 t g1) (br_f g2.1 (br_f g2.2 (br_f g3.1 (br_f g3.2 (zq_706 hp rfl hh h18 hu)))))) (fun g => ?_)
  have ok : wL_lawOf_705 post mc ms x1 x2 x5 x6 x7 x8 x9 x10 x11 z0 (-1) kc ks bo 0 0 fa a1 a2 a3 a4 a5 a6 a7 a8 a9 a10 a11 a12 a13 a14 a15 a16 a17 a18 a19 a20 a21 a22 a23 a24 a25 a26 := zq_706 hp rfl hh h18 hu
  exact br_c (fun _ => ok) (fun e1 => br_c (fun _ => ok) (fun e2 => br_c (fun _ => ok) (fun e3 => br_c (fun _ => ok) (fun e4 => br_c (fun _ => ok) (fun e5 => absurd ⟨zq_not h18 e1, ⟨e2, e3⟩, ⟨e4, e5⟩⟩ g)))))
theorem zq_635 (hp : post 1 ()) (hz : z1 = z0) (hh : zq_H x5 x6 x7 x8 x9 x10 x11) (hu : zq_U 0 255 0 a1 a2 a3) : wL_lawOf_635 post mc ms x1 x2 x5 x6 x7 x8 x9 x10 x11 z0 z1 kc ks bo 0 0 fa a1 a2 a3 a4 a5 a6 a7 a8 a9 a10 a11 a12 a13 a14 a15 a16 a17 a18 a19 a20 a21 a22 a23 a24 a25 a26 := by
  unfold wL_lawOf_635
  have no : ¬ zq_in x5 6 → wL_lawOf_656 post mc ms x1 x2 x5 x6 x7 x8 x9 x10 x11 kc ks bo 0 0 fa a1 a2 a3 a4 a5 a6 a7 a8 a9 a10 a11 a12 a13 a14 a15 a16 a17 a18 a19 a20 a21 a22 a23 a24 a25 a26 := fun g => zq_657 hp hh (iff_of_true rfl g) hu
  exact br_t hz (br_c (fun e => no (fun t => t.1 e)) (fun ea => br_c (fun e => no (fun t => t.2 e)) (fun eb => zq_657 hp hh (iff_of_false zq_10 (fun g => g ⟨ea, eb⟩)) hu)))
theorem zq_611 (hp : post 1 ()) (hz : z1 = z0) (hh : zq_H x5 x6 x7 x8 x9 x10 x11) (hu : zq_U 0 255 0 a1 a2 a3) : wL_lawOf_611 post mc ms x1 x2 x5 x6 x7 x8 x9 x10 x11 z0 z1 kc ks bo 0 0 fa a1 a2 a3 a4 a5 a6 a7 a8 a9 a10 a11 a12 a13 a14 a15 a16 a17 a18 a19 a20 a21 a22 a23 a24 a25 a26 := by
  unfold wL_lawOf_611
  refine br_t hz (zq_window (fun g => br_f g.1 (br_f g.2 (zq_635 hp rfl hh hu))) (fun g => ?_))
  have ok : wL_lawOf_634 post mc ms x1 x2 x5 x6 x7 x8 x9 x10 x11 (-1) kc ks bo 0 0 fa a1 a2 a3 a4 a5 a6 a7 a8 a9 a10 a11 a12 a13 a14 a15 a16 a17 a18 a19 a20 a21 a22 a23 a24 a25 a26 := zq_635 hp rfl hh hu
  exact br_c (fun _ => ok) (fun e1 => br_c (fun _ => ok) (fun e2 => absurd ⟨e1, e2⟩ g))
theorem zq_570 (hp : post 1 ()) (hz : z1 = z0) (hh : zq_H x5 x6 x7 x8 x9 x10 x11) (hu : zq_U 0 255 0 a1 a2 a3) : wL_lawOf_570 post mc ms x1 x2 x5 x6 x7 x8 x9 x10 x11 z0 z1 kc ks bo 0 0 fa a1 a2 a3 a4 a5 a6 a7 a8 a9 a10 a11 a12 a13 a14 a15 a16 a17 a18 a19 a20 a21 a22 a23 a24 a25 a26 := by
  unfold wL_lawOf_570
  refine br_t hz (zq_grab (fun b4 g1 g2 => br_f g1.1 (br_f g1.2 (br_f g2.1 (br_f g2.2 (zq_611 hp rfl hh hu))))) (fun g => ?_))
  have ok : wL_lawOf_610 post mc ms x1 x2 x5 x6 x7 x8 x9 x10 x11 (-1) kc ks bo 0 0 fa a1 a2 a3 a4 a5 a6 a7 a8 a9 a10 a11 a12 a13 a14 a15 a16 a17 a18 a19 a20 a21 a22 a23 a24 a25 a26 := zq_611 hp rfl hh hu
  exact br_c (fun _ => ok) (fun e1 => br_c (fun _ => ok) (fun e2 => br_c (fun _ => ok) (fun e3 => br_c (fun _ => ok) (fun e4 => absurd ⟨⟨e1, e2⟩, ⟨e3, e4⟩⟩ g))))
theorem zq_518 (hp : post 1 ()) (hz : z1 = z0) (hh : zq_H x5 x6 x7 x8 x9 x10 x11) (h4 : ∀ k, k < 64 → 8 * x6 + x5 = nI k → (x17 = 0 → a4 k = 0) ∧ (¬ x17 = 0 → a4 k = x7)) (hu : zq_U 0 255 0 a1 a2 a3) : wL_lawOf_518 post mc ms x1 x2 x5 x6 x7 x8 x9 x10 x11 x17 z0 z1 kc ks bo 0 0 fa a1 a2 a3 a4 a5 a6 a7 a8 a9 a10 a11 a12 a13 a14 a15 a16 a17 a18 a19 a20 a21 a22 a23 a24 a25 a26 := by
  unfold wL_lawOf_518
  refine br_t hz (zq_cell (fun k hk e g1 g2 _ => br_f g1.1 (br_f g1.2 (br_f g2.1 (br_f g2.2 (br_c (fun t => zq_570 hp ((h4 k hk e).1 t) hh hu) (fun t => zq_570 hp ((h4 k hk e).2 t) hh hu)))))) (fun g => ?_))
  have ok : wL_lawOf_569 post mc ms x1 x2 x5 x6 x7 x8 x9 x10 x11 (-1) kc ks bo 0 0 fa a1 a2 a3 a4 a5 a6 a7 a8 a9 a10 a11 a12 a13 a14 a15 a16 a17 a18 a19 a20 a21 a22 a23 a24 a25 a26 := zq_570 hp rfl hh hu
  exact br_c (fun _ => ok) (fun e1 => br_c (fun _ => ok) (fun e2 => br_c (fun _ => ok) (fun e3 => br_c (fun _ => ok) (fun e4 => absurd ⟨⟨e1, e2⟩, ⟨e3, e4⟩, (by decide), (by decide)⟩ g))))
theorem zq_495 (hp : post 1 ()) (hh : zq_H x5 x6 x7 x8 x9 x10 x11) (hf : z0 = 0 ↔ ¬ (zq_in x5 8 ∧ zq_in x6 8 ∧ zq_in x7 16777216)) (h4 : ∀ j, j < 64 → a4 j = 0) (hu : zq_U 0 255 0 a1 a2 a3) : wL_lawOf_495 post mc ms x1 x2 x5 x6 x7 x8 x9 x10 x11 z0 kc ks bo 0 0 fa a1 a2 a3 a4 a5 a6 a7 a8 a9 a10 a11 a12 a13 a14 a15 a16 a17 a18 a19 a20 a21 a22 a23 a24 a25 a26 := by
  unfold wL_lawOf_495
  refine zq_cell (fun k hk e g1 g2 g3 => br_f (fun t => hf.1 t ⟨g1, g2, g3⟩) (zq_518 hp (h4 k hk) hh (fun k' hk' e' => ⟨fun t => absurd ⟨g1, g2, g3⟩ (hf.1 t), fun _ => ?_⟩) hu)) (fun g => br_t (hf.2 g) (zq_518 hp rfl hh (fun k hk e => ⟨fun _ => h4 k hk, fun t => absurd (hf.2 g) t⟩) hu))
  have ek : k' = k := by
    rw [e] at e'
    have e2 := congrArg Int32.toNatClampNeg e'
    rw [nI_clamp (by omega), nI_clamp (by omega)] at e2
    exact e2.symm
  rw [ek, pk_us]
theorem zq_456 (hp : post 1 ()) (hz : z1 = z0) (hh : zq_H x5 x6 x7 x8 x9 x10 x11) (h4 : ∀ j, j < 64 → a4 j = 0) (hu : zq_U 0 255 0 a1 a2 a3) : wL_lawOf_456 post mc ms x1 x2 x5 x6 x7 x8 x9 x10 x11 z0 z1 kc ks bo 0 0 fa a1 a2 a3 a4 a5 a6 a7 a8 a9 a10 a11 a12 a13 a14 a15 a16 a17 a18 a19 a20 a21 a22 a23 a24 a25 a26 := by
  unfold wL_lawOf_456
  have no : ¬ (zq_in x5 8 ∧ zq_in x6 8 ∧ zq_in x7 16777216) → wL_lawOf_494 post mc ms x1 x2 x5 x6 x7 x8 x9 x10 x11 kc ks bo 0 0 fa a1 a2 a3 a4 a5 a6 a7 a8 a9 a10 a11 a12 a13 a14 a15 a16 a17 a18 a19 a20 a21 a22 a23 a24 a25 a26 := fun g => zq_495 hp hh (iff_of_true rfl g) h4 hu
  exact br_t hz (br_c (fun e => no (fun t => t.1.1 e)) (fun e1 => br_c (fun e => no (fun t => t.1.2 e)) (fun e2 => br_c (fun e => no (fun t => t.2.1.1 e)) (fun e3 => br_c (fun e => no (fun t => t.2.1.2 e)) (fun e4 => br_c (fun e => no (fun t => hh.2.1.1 e t.2.2)) (fun e5 => zq_495 hp hh (iff_of_false zq_10 (fun g => g ⟨⟨e1, e2⟩, ⟨e3, e4⟩, zq_not hh.2.1 e5⟩)) h4 hu))))))
theorem zq_416 (hp : post 1 ()) (hz : z1 = z0) (hh : zq_H x5 x6 x7 x8 x9 x10 x11) (h16 : ¬ x16 < 0 ∧ x16 ≤ zq_most x13) (h11 : ∀ k, k < 8 → x13 = nI k → (x15 = 0 → a11 k = x16) ∧ (¬ x15 = 0 → a11 k = x14)) (h4 : ∀ j, j < 64 → a4 j = 0) (hu : zq_U 0 255 0 a1 a2 a3) : wL_lawOf_416 post mc ms x1 x2 x5 x6 x7 x8 x9 x10 x11 x13 x14 x15 x16 z0 z1 kc ks bo 0 0 fa a1 a2 a3 a4 a5 a6 a7 a8 a9 a10 a11 a12 a13 a14 a15 a16 a17 a18 a19 a20 a21 a22 a23 a24 a25 a26 := by
  unfold wL_lawOf_416
  refine br_t hz (zq_rule (fun k hk e g => br_f g.1.1 (br_f g.1.2 (br_c (fun t => zq_456 hp ((h11 k hk e).1 t) hh h4 hu) (fun t => zq_456 hp ((h11 k hk e).2 t) hh h4 hu)))) (fun g => ?_))
  have ok : wL_lawOf_455 post mc ms x1 x2 x5 x6 x7 x8 x9 x10 x11 (-1) kc ks bo 0 0 fa a1 a2 a3 a4 a5 a6 a7 a8 a9 a10 a11 a12 a13 a14 a15 a16 a17 a18 a19 a20 a21 a22 a23 a24 a25 a26 := zq_456 hp rfl hh h4 hu
  exact br_c (fun _ => ok) (fun e1 => br_c (fun _ => ok) (fun e2 => absurd ⟨⟨e1, e2⟩, h16⟩ g))
theorem zq_394 (hp : post 1 ()) (hh : zq_H x5 x6 x7 x8 x9 x10 x11) (h15 : x15 = 0 ↔ ¬ zq_fit x13 x14) (h16 : ¬ z0 < 0 ∧ z0 ≤ zq_most x13) (h13 : ∀ k, k < 8 → x13 = nI k → zq_rb k = z0) (hr : zq_R a11) (h4 : ∀ j, j < 64 → a4 j = 0) (hu : zq_U 0 255 0 a1 a2 a3) : wL_lawOf_394 post mc ms x1 x2 x5 x6 x7 x8 x9 x10 x11 x13 x14 x15 z0 kc ks bo 0 0 fa a1 a2 a3 a4 a5 a6 a7 a8 a9 a10 a11 a12 a13 a14 a15 a16 a17 a18 a19 a20 a21 a22 a23 a24 a25 a26 := by
  unfold wL_lawOf_394
  refine zq_rule (fun k hk e g => br_f (fun t => h15.1 t g) (zq_416 hp (by rw [hr k hk, h13 k hk e]) hh h16 (fun k' hk' e' => ⟨fun t => absurd g (h15.1 t), fun _ => ?_⟩) h4 hu)) (fun g => br_t (h15.2 g) (zq_416 hp rfl hh h16 (fun k hk e => ⟨fun _ => by rw [hr k hk, h13 k hk e], fun t => absurd (h15.2 g) t⟩) h4 hu))
  have ek : k' = k := by
    rw [e] at e'
    have e2 := congrArg Int32.toNatClampNeg e'
    rw [nI_clamp (by omega), nI_clamp (by omega)] at e2
    exact e2.symm
  rw [ek, pk_us]
theorem zq_372 (hp : post 1 ()) (hh : zq_H x5 x6 x7 x8 x9 x10 x11) (h15 : z0 = 0 ↔ ¬ zq_fit x13 x14) (hr : zq_R a11) (h4 : ∀ j, j < 64 → a4 j = 0) (hu : zq_U 0 255 0 a1 a2 a3) : wL_lawOf_372 post mc ms x1 x2 x5 x6 x7 x8 x9 x10 x11 x13 x14 z0 kc ks bo 0 0 fa a1 a2 a3 a4 a5 a6 a7 a8 a9 a10 a11 a12 a13 a14 a15 a16 a17 a18 a19 a20 a21 a22 a23 a24 a25 a26 := by
  unfold wL_lawOf_372
  refine br_c (fun e => zq_394 hp hh h15 ?_ (fun k hk g => ?_) hr h4 hu) (fun e0 => br_c (fun e => zq_394 hp hh h15 ?_ (fun k hk g => ?_) hr h4 hu) (fun e1 => zq_394 hp hh h15 ?_ (fun k hk g => ?_) hr h4 hu))
  · rw [e]
    decide
  · rw [e] at g
    have e2 := congrArg Int32.toNatClampNeg g
    rw [zq_c0, nI_clamp (by omega)] at e2
    rw [← e2]
    rfl
  · rw [e]
    decide
  · rw [e] at g
    have e2 := congrArg Int32.toNatClampNeg g
    rw [zq_c1, nI_clamp (by omega)] at e2
    rw [← e2]
    rfl
  · refine ⟨by decide, ?_⟩
    unfold zq_most
    split
    · decide
    · split
      · decide
      · split
        · decide
        · split
          · decide
          · split
            · decide
            · decide
  · match k, g with
    | 0, g => exact absurd g e0
    | 1, g => exact absurd g e1
    | k + 2, _ => rfl
theorem zq_338 (hp : post 1 ()) (hh : zq_H x5 x6 x7 x8 x9 x10 x11) (hr : zq_R a11) (h4 : ∀ j, j < 64 → a4 j = 0) (hu : zq_U 0 255 0 a1 a2 a3) : wL_lawOf_338 post mc ms x1 x2 x5 x6 x7 x8 x9 x10 x11 x13 z0 kc ks bo 0 0 fa a1 a2 a3 a4 a5 a6 a7 a8 a9 a10 a11 a12 a13 a14 a15 a16 a17 a18 a19 a20 a21 a22 a23 a24 a25 a26 := by
  unfold wL_lawOf_338
  have no : ¬ zq_fit x13 z0 → wL_lawOf_371 post mc ms x1 x2 x5 x6 x7 x8 x9 x10 x11 x13 z0 kc ks bo 0 0 fa a1 a2 a3 a4 a5 a6 a7 a8 a9 a10 a11 a12 a13 a14 a15 a16 a17 a18 a19 a20 a21 a22 a23 a24 a25 a26 := fun g => zq_372 hp hh (iff_of_true rfl g) hr h4 hu
  exact br_c (fun e => no (fun t => t.1.1 e)) (fun e1 => br_c (fun e => no (fun t => t.1.2 e)) (fun e2 => br_c (fun e => no (fun t => t.2.1 e)) (fun e3 => zq_mostL (br_c (fun e => no (fun t => Int32.not_lt.2 t.2.2 e)) (fun e4 => zq_372 hp hh (iff_of_false zq_10 (fun g => g ⟨⟨e1, e2⟩, e3, Int32.not_lt.1 e4⟩)) hr h4 hu)))))
theorem zq_320 (hp : post 1 ()) (hh : zq_H x5 x6 x7 x8 x9 x10 x11) (hr : zq_R a11) (h4 : ∀ j, j < 64 → a4 j = 0) (hu : zq_U 0 255 0 a1 a2 a3) : wL_lawOf_320 post mc ms x0 x1 x2 x3 x5 x6 x7 x8 x9 x10 x11 z0 kc ks bo 0 0 fa a1 a2 a3 a4 a5 a6 a7 a8 a9 a10 a11 a12 a13 a14 a15 a16 a17 a18 a19 a20 a21 a22 a23 a24 a25 a26 := by
  unfold wL_lawOf_320
  exact br_c (fun _ => zq_338 hp hh hr h4 hu) (fun _ => zq_338 hp hh hr h4 hu)
theorem zq_291 (hp : post 1 ()) (hz : z1 = z0) (hh : zq_H x5 x6 x7 x8 x9 x10 x11) (hr : zq_R a11) (h4 : ∀ j, j < 64 → a4 j = 0) (hu : zq_U 0 255 0 a1 a2 a3) : wL_lawOf_291 post mc ms x0 x1 x2 x3 x5 x6 x7 x8 x9 x10 x11 z0 z1 kc ks bo 0 0 fa a1 a2 a3 a4 a5 a6 a7 a8 a9 a10 a11 a12 a13 a14 a15 a16 a17 a18 a19 a20 a21 a22 a23 a24 a25 a26 := by
  unfold wL_lawOf_291
  exact br_t hz (zq_hits (br_t rfl (br_c (fun _ => zq_320 hp hh hr h4 hu) (fun _ => zq_320 hp hh hr h4 hu))))
theorem zq_272 (hp : post 1 ()) (hz : z1 = z0) (hh : zq_H x5 x6 x7 x8 x9 x10 x11) (h12 : x12 = 0 ↔ ¬ zq_in x0 216) (h5 : ∀ j, j < 6 → a5 j = 0) (h6 : ∀ j, j < 6 → a6 j = 0) (hr : zq_R a11) (h4 : ∀ j, j < 64 → a4 j = 0) (hu : zq_U 0 255 0 a1 a2 a3) : wL_lawOf_272 post mc ms x0 x1 x2 x3 x5 x6 x7 x8 x9 x10 x11 x12 z0 z1 kc ks bo 0 0 fa a1 a2 a3 a4 a5 a6 a7 a8 a9 a10 a11 a12 a13 a14 a15 a16 a17 a18 a19 a20 a21 a22 a23 a24 a25 a26 := by
  unfold wL_lawOf_272
  exact br_t hz (zq_cov0 h5 h6 hr (fun b26 g => br_f (fun t => h12.1 t g) (zq_291 hp rfl hh hr h4 hu)) (fun g => br_t (h12.2 g) (zq_291 hp rfl hh hr h4 hu)))
theorem zq_254 (hp : post 1 ()) (hh : zq_H x5 x6 x7 x8 x9 x10 x11) (h12 : z0 = 0 ↔ ¬ zq_in x0 216) (h5 : ∀ j, j < 6 → a5 j = 0) (h6 : ∀ j, j < 6 → a6 j = 0) (hr : zq_R a11) (h4 : ∀ j, j < 64 → a4 j = 0) (hu : zq_U 0 255 0 a1 a2 a3) : wL_lawOf_254 post mc ms x0 x1 x2 x3 x5 x6 x7 x8 x9 x10 x11 z0 kc ks bo 0 0 fa a1 a2 a3 a4 a5 a6 a7 a8 a9 a10 a11 a12 a13 a14 a15 a16 a17 a18 a19 a20 a21 a22 a23 a24 a25 a26 := by
  unfold wL_lawOf_254
  exact zq_draw0 h5 h6 hr (fun b26 g => br_f (fun t => h12.1 t g) (zq_272 hp rfl hh h12 h5 h6 hr h4 hu)) (fun g => br_t (h12.2 g) (zq_272 hp rfl hh h12 h5 h6 hr h4 hu))
theorem zq_215 (hp : post 1 ()) (hz : z1 = z0) (hh : zq_H x5 x6 x7 x8 x9 x10 x11) (h5 : ∀ j, j < 6 → a5 j = 0) (h6 : ∀ j, j < 6 → a6 j = 0) (hr : zq_R a11) (h4 : ∀ j, j < 64 → a4 j = 0) (hu : zq_U 0 255 0 a1 a2 a3) : wL_lawOf_215 post mc ms x0 x1 x2 x3 x5 x6 x7 x8 x9 x10 x11 z0 z1 kc ks bo 0 0 fa a1 a2 a3 a4 a5 a6 a7 a8 a9 a10 a11 a12 a13 a14 a15 a16 a17 a18 a19 a20 a21 a22 a23 a24 a25 a26 := by
  unfold wL_lawOf_215
  have no : ¬ zq_in x0 216 → wL_lawOf_253 post mc ms x0 x1 x2 x3 x5 x6 x7 x8 x9 x10 x11 kc ks bo 0 0 fa a1 a2 a3 a4 a5 a6 a7 a8 a9 a10 a11 a12 a13 a14 a15 a16 a17 a18 a19 a20 a21 a22 a23 a24 a25 a26 := fun g => zq_254 hp hh (iff_of_true rfl g) h5 h6 hr h4 hu
  exact br_t hz (zq_hits (br_t rfl (zq_digest hu (br_t (by decide) (br_c (fun e => no (fun t => t.1 e)) (fun e1 => br_c (fun e => no (fun t => t.2 e)) (fun e2 => zq_254 hp hh (iff_of_false zq_10 (fun g => g ⟨e1, e2⟩)) h5 h6 hr h4 hu)))))))
theorem zq_193 (hp : post 1 ()) (hz : z1 = z0) (hh : zq_H x5 x6 x7 x8 x9 x10 x11) (h5 : ∀ j, j < 6 → a5 j = 0) (h6 : ∀ j, j < 6 → a6 j = 0) (hr : zq_R a11) (h4 : ∀ j, j < 64 → a4 j = 0) (hu : zq_U 0 255 0 a1 a2 a3) : wL_lawOf_193 post mc ms x0 x1 x2 x3 x5 x6 x7 x8 x9 x10 x11 z0 z1 kc ks bo 0 0 fa a1 a2 a3 a4 a5 a6 a7 a8 a9 a10 a11 a12 a13 a14 a15 a16 a17 a18 a19 a20 a21 a22 a23 a24 a25 a26 := by
  unfold wL_lawOf_193
  exact br_t hz (zq_mark hu.2.2 (fun g1 g2 => br_f (fun t => hh.1.1 t ⟨g1, g2⟩) (zq_215 hp rfl hh h5 h6 hr h4 hu)) (fun g => br_t (hh.1.2 g) (zq_215 hp rfl hh h5 h6 hr h4 hu)))
theorem zq_169 (hp : post 1 ()) (hz : z1 = z0) (hh : zq_H x5 x6 x7 x8 x9 x10 x11) (h5 : ∀ j, j < 6 → a5 j = 0) (h6 : ∀ j, j < 6 → a6 j = 0) (hr : zq_R a11) (h4 : ∀ j, j < 64 → a4 j = 0) (hu : zq_U 0 255 0 a1 a2 a3) : wL_lawOf_169 post mc ms x0 x1 x2 x3 x5 x6 x7 x8 x9 x10 x11 z0 z1 kc ks bo 0 0 fa a1 a2 a3 a4 a5 a6 a7 a8 a9 a10 a11 a12 a13 a14 a15 a16 a17 a18 a19 a20 a21 a22 a23 a24 a25 a26 := by
  unfold wL_lawOf_169
  exact br_t hz (zq_depth hu.2.1 (fun g1 g2 => br_f (fun t => hh.1.1 t ⟨g1, g2⟩) (zq_193 hp rfl hh h5 h6 hr h4 hu)) (fun g => br_t (hh.1.2 g) (zq_193 hp rfl hh h5 h6 hr h4 hu)))
theorem zq_148 (hp : post 1 ()) (hh : zq_H x5 x6 x7 x8 x9 x10 z0) (h5 : ∀ j, j < 6 → a5 j = 0) (h6 : ∀ j, j < 6 → a6 j = 0) (hr : zq_R a11) (h4 : ∀ j, j < 64 → a4 j = 0) (hu : zq_U 0 255 0 a1 a2 a3) : wL_lawOf_148 post mc ms x0 x1 x2 x3 x5 x6 x7 x8 x9 x10 z0 kc ks bo 0 0 fa a1 a2 a3 a4 a5 a6 a7 a8 a9 a10 a11 a12 a13 a14 a15 a16 a17 a18 a19 a20 a21 a22 a23 a24 a25 a26 := by
  unfold wL_lawOf_148
  exact zq_colour hu.1 (fun g1 g2 => br_f (fun t => hh.1.1 t ⟨g1, g2⟩) (zq_169 hp rfl hh h5 h6 hr h4 hu)) (fun g => br_t (hh.1.2 g) (zq_169 hp rfl hh h5 h6 hr h4 hu))
theorem zq_128 (hp : post 1 ()) (h9 : x9 = 0 ↔ ¬ (zq_in x5 16 ∧ zq_in x6 16)) (h10 : z0 = 0 ↔ ¬ zq_in x7 16777216) (h5 : ∀ j, j < 6 → a5 j = 0) (h6 : ∀ j, j < 6 → a6 j = 0) (hr : zq_R a11) (h4 : ∀ j, j < 64 → a4 j = 0) (hu : zq_U 0 255 0 a1 a2 a3) : wL_lawOf_128 post mc ms x0 x1 x2 x3 x5 x6 x7 x8 x9 z0 kc ks bo 0 0 fa a1 a2 a3 a4 a5 a6 a7 a8 a9 a10 a11 a12 a13 a14 a15 a16 a17 a18 a19 a20 a21 a22 a23 a24 a25 a26 := by
  unfold wL_lawOf_128
  have no : ¬ zq_in x8 256 → wL_lawOf_147 post mc ms x0 x1 x2 x3 x5 x6 x7 x8 x9 z0 kc ks bo 0 0 fa a1 a2 a3 a4 a5 a6 a7 a8 a9 a10 a11 a12 a13 a14 a15 a16 a17 a18 a19 a20 a21 a22 a23 a24 a25 a26 := fun g => zq_148 hp ⟨h9, h10, iff_of_true rfl g⟩ h5 h6 hr h4 hu
  exact br_c (fun e => no (fun t => t.1 e)) (fun e1 => br_c (fun e => no (fun t => t.2 e)) (fun e2 => zq_148 hp ⟨h9, h10, iff_of_false zq_10 (fun g => g ⟨e1, e2⟩)⟩ h5 h6 hr h4 hu))
theorem zq_109 (hp : post 1 ()) (h9 : z0 = 0 ↔ ¬ (zq_in x5 16 ∧ zq_in x6 16)) (h5 : ∀ j, j < 6 → a5 j = 0) (h6 : ∀ j, j < 6 → a6 j = 0) (hr : zq_R a11) (h4 : ∀ j, j < 64 → a4 j = 0) (hu : zq_U 0 255 0 a1 a2 a3) : wL_lawOf_109 post mc ms x0 x1 x2 x3 x5 x6 x7 x8 z0 kc ks bo 0 0 fa a1 a2 a3 a4 a5 a6 a7 a8 a9 a10 a11 a12 a13 a14 a15 a16 a17 a18 a19 a20 a21 a22 a23 a24 a25 a26 := by
  unfold wL_lawOf_109
  have no : ¬ zq_in x7 16777216 → wL_lawOf_127 post mc ms x0 x1 x2 x3 x5 x6 x7 x8 z0 kc ks bo 0 0 fa a1 a2 a3 a4 a5 a6 a7 a8 a9 a10 a11 a12 a13 a14 a15 a16 a17 a18 a19 a20 a21 a22 a23 a24 a25 a26 := fun g => zq_128 hp h9 (iff_of_true rfl g) h5 h6 hr h4 hu
  exact br_c (fun e => no (fun t => t.1 e)) (fun e1 => br_c (fun e => no (fun t => t.2 e)) (fun e2 => zq_128 hp h9 (iff_of_false zq_10 (fun g => g ⟨e1, e2⟩)) h5 h6 hr h4 hu))
theorem zq_78 (hp : post 1 ()) (h5 : ∀ j, j < 6 → a5 j = 0) (h6 : ∀ j, j < 6 → a6 j = 0) (hr : zq_R a11) (h4 : ∀ j, j < 64 → a4 j = 0) (hu : zq_U 0 255 0 a1 a2 a3) : wL_lawOf_78 post mc ms x0 x1 x2 x3 x5 x6 x7 z0 kc ks bo 0 0 fa a1 a2 a3 a4 a5 a6 a7 a8 a9 a10 a11 a12 a13 a14 a15 a16 a17 a18 a19 a20 a21 a22 a23 a24 a25 a26 := by
  unfold wL_lawOf_78
  have no : ¬ (zq_in x5 16 ∧ zq_in x6 16) → wL_lawOf_108 post mc ms x0 x1 x2 x3 x5 x6 x7 z0 kc ks bo 0 0 fa a1 a2 a3 a4 a5 a6 a7 a8 a9 a10 a11 a12 a13 a14 a15 a16 a17 a18 a19 a20 a21 a22 a23 a24 a25 a26 := fun g => zq_109 hp (iff_of_true rfl g) h5 h6 hr h4 hu
  exact br_c (fun e => no (fun t => t.1.1 e)) (fun e1 => br_c (fun e => no (fun t => t.1.2 e)) (fun e2 => br_c (fun e => no (fun t => t.2.1 e)) (fun e3 => br_c (fun e => no (fun t => t.2.2 e)) (fun e4 => zq_109 hp (iff_of_false zq_10 (fun g => g ⟨⟨e1, e2⟩, ⟨e3, e4⟩⟩)) h5 h6 hr h4 hu))))
theorem zq_25 (hp : post 1 ()) (h5 : ∀ j, j < 6 → a5 j = 0) (h6 : ∀ j, j < 6 → a6 j = 0) (hr : zq_R a11) (h4 : ∀ j, j < 64 → a4 j = 0) (hu : zq_U 0 255 0 a1 a2 a3) : wL_lawOf_25 post mc ms x0 x1 x2 x3 z0 kc ks bo 0 0 fa a1 a2 a3 a4 a5 a6 a7 a8 a9 a10 a11 a12 a13 a14 a15 a16 a17 a18 a19 a20 a21 a22 a23 a24 a25 a26 := by
  have r59 : ∀ x5 x6 z0, wL_lawOf_59 post mc ms x0 x1 x2 x3 x5 x6 z0 kc ks bo 0 0 fa a1 a2 a3 a4 a5 a6 a7 a8 a9 a10 a11 a12 a13 a14 a15 a16 a17 a18 a19 a20 a21 a22 a23 a24 a25 a26 := fun x5 x6 z0 => br_c (fun _ => zq_78 hp h5 h6 hr h4 hu) (fun _ => zq_78 hp h5 h6 hr h4 hu)
  have r43 : ∀ x5 z0, wL_lawOf_43 post mc ms x0 x1 x2 x3 x5 z0 kc ks bo 0 0 fa a1 a2 a3 a4 a5 a6 a7 a8 a9 a10 a11 a12 a13 a14 a15 a16 a17 a18 a19 a20 a21 a22 a23 a24 a25 a26 := fun x5 z0 => br_c (fun _ => r59 _ _ _) (fun _ => r59 _ _ _)
  exact br_c (fun _ => r43 _ _) (fun _ => r43 _ _)
end
section
/-! the top -/
theorem zq_lawOf {post : Int32 → St0 → Prop} {p0 p1 p2 p3 : Int32} (hp : post 1 ()) : wpL_lawOf post 27 1260 () p0 p1 p2 p3 := by
  unfold wpL_lawOf
  refine ⟨by omega, by omega, 26, 1230, by omega, by omega, ?_⟩
  unfold wpX_init
  refine ⟨by omega, by omega, by omega, by omega, by omega, by omega, by omega, by omega, by omega, by omega, by omega, by omega, by omega, by omega, by omega, by omega, by omega, by omega, by omega, by omega, by omega, by omega, by omega, by omega, by omega, by omega, by omega, by omega, by omega, by omega, by omega, by omega, by omega, by omega, by omega, by omega, by omega, by omega, by omega, by omega, by omega, by omega, by omega, by omega, by omega, by omega, by omega, by omega, by omega, by omega, by omega, by omega, ?_⟩
  refine zq_init211 (fun b2 b11 h2 hr => ?_)
  have hu : zq_U 0 255 0 (fun _ => 0) b2 (fun _ => 0) := ⟨fun _ _ => rfl, h2, fun _ _ => rfl⟩
  exact br_c (fun _ => zq_25 hp (fun _ _ => rfl) (fun _ _ => rfl) hr (fun _ _ => rfl) hu) (fun _ => zq_25 hp (fun _ _ => rfl) (fun _ _ => rfl) hr (fun _ _ => rfl) hu)
theorem zq_cellAt {post : Int32 → Prop} {L k : Nat} {xs : Nat → Int32} {K : Int32} (hL : L ≤ 4) (hk : k < 4) (hK : K = nI k) (h : ∀ r, post r) : wpL_cellAt post L xs () K := by
  unfold wpL_cellAt
  exact pk_le L k (fun _ => h _) (fun z => ⟨pk_in k L z hK, h _⟩) rfl hK
theorem i_vc (xs : Nat → Int32) (L : Nat) (hL : L ≤ 4) : wpL_law (fun r => r = 1) L xs := by
  unfold wpL_law
  exact zq_cellAt (k := 0) hL (by omega) rfl (fun r1 => zq_cellAt (k := 1) hL (by omega) rfl (fun r2 => zq_cellAt (k := 2) hL (by omega) rfl (fun r3 => zq_cellAt (k := 3) hL (by omega) rfl (fun r4 => ⟨27, 1260, by omega, by omega, zq_lawOf rfl⟩))))
end
