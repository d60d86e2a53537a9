section
/-- the set of the atom's two variables, as the walk makes it -/
def tj_th (u v : Nat) : Int32 := ((0 : Int32) ||| ((1 : Int32) <<< (nI u &&& 31))) ||| ((1 : Int32) <<< (nI v &&& 31))
/-- a word with bit n alone -/
def tj_w (n : Nat) : Int64 := (0 : Int64) ||| ((1 : Int64) <<< ((nI n &&& 63).toInt64 &&& 63))
def tj_bit (w : Int64) (j : Nat) : Int64 := ((w.toUInt64 >>> ((nI j &&& 63).toInt64.toUInt64 &&& Int64.toUInt64 63)).toInt64) &&& 1
theorem tj_wbit : ∀ n, n < 25 → ∀ j, j < 64 → (tj_bit (tj_w n) j = 0 ↔ ¬ j = n) := by decide +kernel
theorem tj_zbit : ∀ j, j < 64 → tj_bit 0 j = 0 := by decide +kernel
theorem tj_bmod (w : Int64) {j : Nat} (h : j < 2 ^ 31) : tj_bit w j = tj_bit w (j % 64) := by
  have e1 : (nI j &&& 63 : Int32) = nI (j % 64) := pk_andN (by omega) 6 (by decide)
  have e2 : (nI (j % 64) &&& 63 : Int32) = nI (j % 64) := by
    have z : (nI (j % 64) &&& 63 : Int32) = nI (j % 64 % 64) := pk_andN (by omega) 6 (by decide)
    rw [Nat.mod_mod] at z
    exact z
  unfold tj_bit
  rw [e1, e2]
theorem tj_zb {j : Nat} (h : j < 2 ^ 31) : tj_bit 0 j = 0 := by
  rw [tj_bmod 0 h]
  exact tj_zbit _ (by omega)
/-- one bit alone is counted once -/
theorem tj_one : ∀ n, n < 25 → ¬ tj_w n = 0 ∧ tj_w n &&& (tj_w n - 1) = 0 := by decide +kernel
theorem tj_i8 : ∀ n, n < 128 → (nI n).toInt8.toInt32 = nI n := by decide +kernel
theorem tj_nar {n : Nat} (h : n < 128) : vp_nar .byte (nI n) = nI n := by rw [vp_nar_byte, tj_i8 n h]
theorem tj_i81 {n : Nat} (h : n < 127) : (nI n + 1).toInt8.toInt32 = nI (n + 1) := by rw [nI_1, tj_i8 _ (by omega)]
theorem tj_i3 (q c : Nat) : (3 * nI (4 * q) : Int32) + nI c = nI (12 * q + c) := by
  rw [show (3 : Int32) = nI 3 from rfl, pk_mul, nI_add, show 3 * (4 * q) = 12 * q by omega]
theorem tj_i4 (q c : Nat) : (4 * nI q : Int32) + nI c = nI (4 * q + c) := by
  rw [show (4 : Int32) = nI 4 from rfl, pk_mul, nI_add]
theorem tj_i40 (q : Nat) : (4 * nI q : Int32) + 0 = nI (4 * q) := tj_i4 q 0
theorem tj_z4 (k : Nat) : (4 * 0 : Int32) + nI k = nI k := by
  rw [show (4 * 0 : Int32) = nI 0 from rfl, nI_add, Nat.zero_add]
theorem tj_z3 (k : Nat) : (3 * 0 : Int32) + nI k = nI k := by
  rw [show (3 * 0 : Int32) = nI 0 from rfl, nI_add, Nat.zero_add]
theorem tj_z3m (k : Nat) : ((3 * 0 : Int32) + nI (k + 1)) - 1 = nI k := by
  rw [tj_z3, nI_pred]
theorem tj_z16 (k : Nat) : (16 * 0 : Int32) + nI k = nI k := by
  rw [show (16 * 0 : Int32) = nI 0 from rfl, nI_add, Nat.zero_add]
theorem tj_z48 (d : Nat) : ((48 * 0 : Int32) + (16 * nI d)) + 0 = nI (16 * d) := by
  rw [show (48 * 0 : Int32) = nI 0 from rfl, show (0 : Int32) = nI 0 from rfl, show (16 : Int32) = nI 16 from rfl, pk_mul, nI_add, nI_add, Nat.zero_add, Nat.add_zero]
theorem tj_ir (a r j : Nat) (hj : j < 2 ^ 31) : (nI a + (2 * nI r)) + (nI j >>> ((6 : Int32) &&& 31)) = nI (a + 2 * r + j / 64) := by
  rw [show (2 : Int32) = nI 2 from rfl, pk_mul, nI_add, pk_shrN hj _ 6 (by decide), nI_add]
theorem tj_s6 {j : Nat} (hj : j < 2 ^ 31) : nI j >>> ((6 : Int32) &&& 31) = nI (j / 64) := pk_shrN hj _ 6 (by decide)
theorem tj_div {n : Nat} (h : n < 2 ^ 31) : nI n / 5 = nI (n / 5) := pk_div (d := 5) h (by omega) (by omega)
theorem tj_rem {n : Nat} (h : n < 2 ^ 31) : nI n - nI n / 5 * 5 = nI (n % 5) := pk_rem (d := 5) h (by omega) (by omega)
theorem tj_in {x : Int32} (n N : Nat) (hx : x = nI n) (h : n < N) (hN : N < 2 ^ 31 := by omega) : vp_in x N := pk_in n N h hx hN
theorem tj_cl {x : Int32} (n : Nat) (hx : x = nI n) (h : n < 2 ^ 31 := by omega) : x.toNatClampNeg = n := pk_cl n hx h
theorem tj_rd {a : Nat → Int32} {i y : Int32} (k : Nat) (hi : i = nI k) (hk : k < 2 ^ 31) (h : a k = y) : a i.toNatClampNeg = y := by
  rw [tj_cl k hi hk]
  exact h
theorem tj_us {f : Nat → Int32} {k j : Nat} {x : Int32} (h : j = k) : upd f k x j = x := by rw [h, pk_us]
theorem tj_neI {a b : Nat} (h : a ≠ b) (ha : a < 2 ^ 31) (hb : b < 2 ^ 31) : ¬ nI a = nI b := fun e => h ((nI_eq ha hb).mp e)
/-- bits of small sets -/
theorem tj_sb : ∀ s, s < 32 → ∀ i, i < 5 → (((nI s >>> (nI i &&& 31)) &&& 1) = 0 ↔ s.testBit i = false) := by decide +kernel
theorem tj_th0 : ∀ u, u < 5 → ∀ v, v < 5 → (0 : Int32) ||| tj_th u v = tj_th u v := by decide +kernel
theorem tj_thb : ∀ u, u < 5 → ∀ v, v < 5 → ∀ o, o < 5 → (o = u ∨ o = v) → ¬ ((tj_th u v >>> (nI o &&& 31)) &&& 1) = 0 := by decide +kernel
theorem tj_oneb : ∀ o, o < 5 → ∀ i, i < 5 → (((((1 : Int32) <<< (nI o &&& 31)) >>> (nI i &&& 31)) &&& 1) = 0 ↔ ¬ i = o) := by decide +kernel
def tj_P1 (u v s i : Nat) : Bool := (decide (i = u) || decide (i = v)) && s.testBit i
def tj_P2 (u v s i : Nat) : Bool := (decide (i = u) || decide (i = v)) && !s.testBit i
theorem tj_c1 : ∀ u, u < 5 → ∀ v, v < 5 → ∀ s, s < 32 → ∀ i, i < 5 → (((tj_th u v &&& nI s) &&& ((1 : Int32) <<< (nI i &&& 31))) = 0 ↔ tj_P1 u v s i = false) := by decide +kernel
theorem tj_c2 : ∀ u, u < 5 → ∀ v, v < 5 → ∀ s, s < 32 → ∀ i, i < 5 → (((tj_th u v &&& (nI s ^^^ (-1))) &&& ((1 : Int32) <<< (nI i &&& 31))) = 0 ↔ tj_P2 u v s i = false) := by decide +kernel
/-- the variables in their order: how many, the first, the second -/
def tj_rs (p : Bool) (i : Nat) (t : Nat × Nat × Nat) : Nat × Nat × Nat := if p then (t.1 + 1, if t.1 = 0 then i else t.2.1, if t.1 = 0 then t.2.2 else i) else t
def tj_run (P : Nat → Bool) (t : Nat × Nat × Nat) : Nat → Nat × Nat × Nat
  | 0 => t
  | i + 1 => tj_rs (P i) i (tj_run P t i)
def tj_r1 (u v s : Nat) : Nat → Nat × Nat × Nat := tj_run (tj_P1 u v s) (0, 0, 0)
def tj_r2 (u v s : Nat) : Nat → Nat × Nat × Nat := tj_run (tj_P2 u v s) (tj_r1 u v s 5)
theorem tj_k1 : ∀ u, u < 5 → ∀ v, v < 5 → ∀ s, s < 32 → ∀ i, i < 5 → tj_P1 u v s i = true → (tj_r1 u v s i).1 ≤ 1 := by decide +kernel
theorem tj_k2 : ∀ u, u < 5 → ∀ v, v < 5 → ∀ s, s < 32 → ∀ i, i < 5 → tj_P2 u v s i = true → (tj_r2 u v s i).1 ≤ 1 := by decide +kernel
def tj_m (u v s : Nat) : Nat := (tj_r2 u v s 5).1
def tj_o (u v s d : Nat) : Nat := if d = 0 then (tj_r2 u v s 5).2.1 else (tj_r2 u v s 5).2.2
theorem tj_ko1 : ∀ u, u < 5 → ∀ v, v < 5 → ∀ s, s < 32 → (1 ≤ tj_m u v s ∧ tj_m u v s ≤ 2 ∧ (tj_r1 u v s 5).1 ≤ tj_m u v s) := by decide +kernel
theorem tj_ko2 : ∀ u, u < 5 → ∀ v, v < 5 → ∀ s, s < 32 → ∀ d, d < tj_m u v s → tj_o u v s d = u ∨ tj_o u v s d = v := by decide +kernel
theorem tj_ko3 : ∀ u, u < 5 → ∀ v, v < 5 → ∀ s, s < 32 → tj_o u v s 0 = u ∨ (1 < tj_m u v s ∧ tj_o u v s 1 = u) := by decide +kernel
theorem tj_ko4 : ∀ u, u < 5 → ∀ v, v < 5 → ∀ s, s < 32 → tj_o u v s 0 = v ∨ (1 < tj_m u v s ∧ tj_o u v s 1 = v) := by decide +kernel
theorem tj_ko (u : Nat) (hu : u < 5) (v : Nat) (hv : v < 5) (s : Nat) (hs : s < 32) : (1 ≤ tj_m u v s ∧ tj_m u v s ≤ 2 ∧ (tj_r1 u v s 5).1 ≤ tj_m u v s) ∧ (∀ d, d < tj_m u v s → tj_o u v s d = u ∨ tj_o u v s d = v) ∧ (∃ d, d < tj_m u v s ∧ tj_o u v s d = u) ∧ (∃ d, d < tj_m u v s ∧ tj_o u v s d = v) := by
  have h1 := tj_ko1 u hu v hv s hs
  refine ⟨h1, tj_ko2 u hu v hv s hs, ?_, ?_⟩
  · rcases tj_ko3 u hu v hv s hs with h | h
    · exact ⟨0, by omega, h⟩
    · exact ⟨1, h⟩
  · rcases tj_ko4 u hu v hv s hs with h | h
    · exact ⟨0, by omega, h⟩
    · exact ⟨1, h⟩
/-- a state of the order -/
abbrev tj_oi (t : Nat × Nat × Nat) (c : Int32) (a : Nat → Int32) : Prop := c = nI t.1 ∧ (1 ≤ t.1 → a 0 = nI t.2.1) ∧ (2 ≤ t.1 → a 1 = nI t.2.2)
theorem tj_oi_t {t : Nat × Nat × Nat} {c : Int32} {a : Nat → Int32} {i : Nat} (h : tj_oi t c a) (ht : t.1 ≤ 1) (hi : i < 5) : tj_oi (tj_rs true i t) (c + 1) (upd a c.toNatClampNeg (nI i).toInt8.toInt32) := by
  obtain ⟨t0, t1, t2⟩ := t
  obtain ⟨h0, h1, h2⟩ := h
  dsimp only at h0 h1 h2 ht
  subst h0
  rw [nI_clamp (by omega), tj_i8 i (by omega)]
  have hc : t0 = 0 ∨ t0 = 1 := by omega
  rcases hc with rfl | rfl
  · exact ⟨nI_1 0, fun _ => pk_us, fun z => absurd (show (2 : Nat) ≤ 1 from z) (by omega)⟩
  · exact ⟨nI_1 1, fun _ => by rw [pk_un (by decide)]; exact h1 (by omega), fun _ => pk_us⟩
/-- the answer that digits make -/
def tj_an (s : Nat) (dg : Nat → Nat) : Nat → Nat
  | 0 => 0
  | i + 1 => if s.testBit i = true then 5 * tj_an s dg i + dg i else tj_an s dg i
theorem tj_an_lt (s : Nat) (dg : Nat → Nat) (h : ∀ j, j < 5 → dg j < 5) : ∀ i, i ≤ 5 → tj_an s dg i < 5 ^ i := by
  intro i
  induction i with
  | zero => intro _; exact Nat.one_pos
  | succ i ih =>
    intro hi
    have h1 := ih (by omega)
    have h2 := h i (by omega)
    have e : 5 ^ (i + 1) = 5 * 5 ^ i := by rw [Nat.pow_succ, Nat.mul_comm]
    show (if s.testBit i = true then 5 * tj_an s dg i + dg i else tj_an s dg i) < 5 ^ (i + 1)
    by_cases hb : s.testBit i = true
    · rw [if_pos hb]; omega
    · rw [if_neg hb]; omega
theorem tj_an_eq (s : Nat) (dg dg' : Nat → Nat) : ∀ i, (∀ j, j < i → s.testBit j = true → dg j = dg' j) → tj_an s dg i = tj_an s dg' i := by
  intro i
  induction i with
  | zero => intro _; rfl
  | succ i ih =>
    intro h
    have h1 := ih (fun j hj => h j (by omega))
    show (if s.testBit i = true then 5 * tj_an s dg i + dg i else tj_an s dg i) = (if s.testBit i = true then 5 * tj_an s dg' i + dg' i else tj_an s dg' i)
    by_cases hb : s.testBit i = true
    · rw [if_pos hb, if_pos hb, h1, h i (by omega) hb]
    · rw [if_neg hb, if_neg hb, h1]
/-- all asked variables are among the atom's -/
def tj_wh (u v s : Nat) : Prop := ∀ i, i < 5 → s.testBit i = true → i = u ∨ i = v
def tj_val (u x y z : Nat) : Nat := if z = u then x else y
def tj_due (u v s x y : Nat) : Nat := tj_an s (tj_val u x y) 5
theorem tj_an_due {u v s x y : Nat} {dg : Nat → Nat} (hw : tj_wh u v s) (hu : dg u = tj_val u x y u) (hv : dg v = tj_val u x y v) : tj_an s dg 5 = tj_due u v s x y := by
  refine tj_an_eq s dg _ 5 (fun j hj hb => ?_)
  rcases hw j hj hb with rfl | rfl
  · exact hu
  · exact hv
/-- what the law expects -/
def tj_exp (u v s x y : Nat) : Nat := if u ≠ v ∧ s.testBit u = true ∧ s.testBit v = true then 5 * (if v < u then y else x) + (if v < u then x else y) else if s.testBit u = true then x else if s.testBit v = true then y else 0
def tj_wb (u v s : Nat) : Bool := (!s.testBit 0 || 0 == u || 0 == v) && (!s.testBit 1 || 1 == u || 1 == v) && (!s.testBit 2 || 2 == u || 2 == v) && (!s.testBit 3 || 3 == u || 3 == v) && (!s.testBit 4 || 4 == u || 4 == v)
theorem tj_wb1 {u v s i : Nat} : (!s.testBit i || i == u || i == v) = true ↔ (s.testBit i = true → i = u ∨ i = v) := by
  cases s.testBit i <;> simp
theorem tj_wb_iff {u v s : Nat} : tj_wb u v s = true ↔ tj_wh u v s := by
  unfold tj_wb
  rw [Bool.and_eq_true, Bool.and_eq_true, Bool.and_eq_true, Bool.and_eq_true, tj_wb1, tj_wb1, tj_wb1, tj_wb1, tj_wb1]
  constructor
  · rintro ⟨⟨⟨⟨h0, h1⟩, h2⟩, h3⟩, h4⟩ i hi
    have h : i = 0 ∨ i = 1 ∨ i = 2 ∨ i = 3 ∨ i = 4 := by omega
    rcases h with rfl | rfl | rfl | rfl | rfl <;> assumption
  · intro h
    exact ⟨⟨⟨⟨h 0 (by omega), h 1 (by omega)⟩, h 2 (by omega)⟩, h 3 (by omega)⟩, h 4 (by omega)⟩
def tj_ek (u v s x y : Nat) : Bool := !(tj_wb u v s) || !(u != v || x == y) || tj_an s (tj_val u x y) 5 == tj_exp u v s x y
theorem tj_ek_t : ∀ u, u < 5 → ∀ v, v < 5 → ∀ s, s < 32 → ∀ x, x < 5 → ∀ y, y < 5 → tj_ek u v s x y = true := by decide +kernel
theorem tj_exp_due (u : Nat) (hu : u < 5) (v : Nat) (hv : v < 5) (s : Nat) (hs : s < 32) (hw : tj_wh u v s) (x : Nat) (hx : x < 5) (y : Nat) (hy : y < 5) (hf : u ≠ v ∨ x = y) : tj_an s (tj_val u x y) 5 = tj_exp u v s x y := by
  have h := tj_ek_t u hu v hv s hs x hx y hy
  have f : (u != v || x == y) = true := by
    rcases hf with e | e
    · simp [e]
    · simp [e]
  unfold tj_ek at h
  rw [tj_wb_iff.mpr hw, f] at h
  exact eq_of_beq h
theorem tj_exp_lt : ∀ u, u < 5 → ∀ v, v < 5 → ∀ s, s < 32 → ∀ x, x < 5 → ∀ y, y < 5 → tj_exp u v s x y < 25 := by
  intro u _ v _ s _ x hx y hy
  unfold tj_exp
  repeat' split
  all_goals omega
end
section
theorem tj_cols {post : Int32 → Prop} {lv qu ai so fo af bd tc oc ac : Int32} {a1 a10 a11 a12 : Nat → Int64} {a2 a3 a4 a5 a6 a7 a8 a9 a13 a14 a15 a16 a17 a18 a19 a20 a21 a22 a23 a24 a25 : Nat → Int32} {p : Int32} {r : Nat} (hr : r < 2) (hp : p = nI r) (H : post 2) : wpX_columnsOf post (lv, qu, ai, so, fo, af, bd, tc, oc, ac, a1, a2, a3, a4, a5, a6, a7, a8, a9, a10, a11, a12, a13, a14, a15, a16, a17, a18, a19, a20, a21, a22, a23, a24, a25) p := by
  subst hp
  exact br_f (tj_neI (a := r) (b := 2) (by omega) (by omega) (by omega)) H
theorem tj_col {post : Int32 → Prop} {lv qu ai so fo af bd tc oc ac : Int32} {a1 a10 a11 a12 : Nat → Int64} {a2 a3 a4 a5 a6 a7 a8 a9 a13 a14 a15 a16 a17 a18 a19 a20 a21 a22 a23 a24 a25 : Nat → Int32} {p c : Int32} {r n : Nat} (hr : r < 2) (hp : p = nI r) (hn : n < 25) (h : (c = 0 ∧ post (nI (n / 5))) ∨ (c = 1 ∧ post (nI (n % 5)))) : wpX_columnOf post (lv, qu, ai, so, fo, af, bd, tc, oc, ac, a1, a2, a3, a4, a5, a6, a7, a8, a9, a10, a11, a12, a13, a14, a15, a16, a17, a18, a19, a20, a21, a22, a23, a24, a25) p (nI n) c := by
  unfold wpX_columnOf
  refine tj_cols hr hp ?_
  rcases h with ⟨hc, H⟩ | ⟨hc, H⟩
  · subst hc
    refine nm_e (Exists.intro 3 ?_)
    refine br_f (by decide) (And.intro (by decide) (nm_r (tj_div (by omega)) (nm_e ?_)))
    refine br_t (by decide) (And.intro (by decide) ?_)
    rw [tj_rem (by omega), show n / 5 % 5 = n / 5 by omega]
    exact H
  · subst hc
    refine nm_e (Exists.intro 3 ?_)
    refine br_t (by decide) (And.intro (by decide) ?_)
    rw [tj_rem (by omega)]
    exact H
theorem tj_fits {post : Int32 → Prop} {lv qu ai so fo af bd tc oc ac : Int32} {a1 a10 a11 a12 : Nat → Int64} {a2 a3 a4 a5 a6 a7 a8 a9 a13 a14 a15 a16 a17 a18 a19 a20 a21 a22 a23 a24 a25 : Nat → Int32} {p0 p : Int32} {q r n u v : Nat} (hq : q < 2) (hr : r < 2) (hp : p = nI r) (hn : n < 25) (hu : u < 5) (hv : v < 5) (hat : p0 = nI (4 * q)) (h0 : a5 (12 * q) = nI u) (h1 : a5 (12 * q + 1) = nI v) (H1 : (u ≠ v ∨ n / 5 = n % 5) → post 1) (H0 : ¬ (u ≠ v ∨ n / 5 = n % 5) → post 0) : wpX_fitsAtom post (lv, qu, ai, so, fo, af, bd, tc, oc, ac, a1, a2, a3, a4, a5, a6, a7, a8, a9, a10, a11, a12, a13, a14, a15, a16, a17, a18, a19, a20, a21, a22, a23, a24, a25) p0 p (nI n) := by
  subst hat
  have e0 : a5 ((3 * nI (4 * q)) + 0).toNatClampNeg = nI u := tj_rd (12 * q) (tj_i3 q 0) (by omega) h0
  have e1 : a5 ((3 * nI (4 * q)) + 1).toNatClampNeg = nI v := tj_rd (12 * q + 1) (tj_i3 q 1) (by omega) h1
  have fin : (u ≠ v ∨ n / 5 = n % 5) → wX_fitsAtom_3 post (nI (4 * q)) p (nI n) lv qu ai so fo af bd tc oc ac a1 a2 a3 a4 a5 a6 a7 a8 a9 a10 a11 a12 a13 a14 a15 a16 a17 a18 a19 a20 a21 a22 a23 a24 a25 2 (1 + 1) := by
    intro z
    unfold wX_fitsAtom_3
    exact tj_cols hr hp (br_t (by decide) (H1 z))
  refine Exists.intro 3 ?_
  unfold wX_fitsAtom_3
  refine tj_cols hr hp (br_f (by decide) (Exists.intro 3 ?_))
  refine br_f (by decide) (And.intro (tj_in (12 * q + 1) 24 (tj_i3 q 1) (by omega)) (And.intro (tj_in (12 * q) 24 (tj_i3 q 0) (by omega)) ?_))
  refine br_c (fun e => ?_) (fun e => ?_)
  · rw [e0, e1] at e
    have e' := (nI_eq (by omega) (by omega)).mp e
    refine tj_col hr hp hn (Or.inr ⟨rfl, ?_⟩)
    refine tj_col hr hp hn (Or.inl ⟨rfl, ?_⟩)
    refine br_c (fun g => ?_) (fun g => ?_)
    · have g' := (nI_eq (by omega) (by omega)).mp g
      exact nm_e (br_t (by decide) (nm_e (fin (Or.inr g'.symm))))
    · refine H0 (fun z => ?_)
      rcases z with z | z
      · exact z e'.symm
      · exact g (by rw [z])
  · have e' : u ≠ v := fun z => e (by rw [e0, e1, z])
    exact nm_e (br_t (by decide) (nm_e (fin (Or.inl e'))))
theorem tj_has {post : Int32 → Prop} {lv qu ai so fo af bd tc oc ac : Int32} {a1 a10 a11 a12 : Nat → Int64} {a2 a3 a4 a5 a6 a7 a8 a9 a13 a14 a15 a16 a17 a18 a19 a20 a21 a22 a23 a24 a25 : Nat → Int32} {p0 p1 p2 : Int32} (k j : Nat) (hk : k < 12) (hi : (p0 + (2 * p1)) + (p2 >>> ((6 : Int32) &&& 31)) = nI k) (hp2 : p2 = nI j) (H0 : tj_bit (a1 k) j = 0 → post 0) (H1 : ¬ tj_bit (a1 k) j = 0 → post 1) : wpX_hasRow post (lv, qu, ai, so, fo, af, bd, tc, oc, ac, a1, a2, a3, a4, a5, a6, a7, a8, a9, a10, a11, a12, a13, a14, a15, a16, a17, a18, a19, a20, a21, a22, a23, a24, a25) p0 p1 p2 := by
  subst hp2
  refine And.intro (tj_in k 12 hi hk) ?_
  rw [tj_cl k hi]
  exact br_c H0 H1
theorem tj_set {post : St2 → Prop} {lv qu ai so fo af bd tc oc ac : Int32} {a1 a10 a11 a12 : Nat → Int64} {a2 a3 a4 a5 a6 a7 a8 a9 a13 a14 a15 a16 a17 a18 a19 a20 a21 a22 a23 a24 a25 : Nat → Int32} {p0 p1 p2 : Int32} (k j : Nat) (hk : k < 12) (hi : (p0 + (2 * p1)) + (p2 >>> ((6 : Int32) &&& 31)) = nI k) (hp2 : p2 = nI j) (H : post (lv, qu, ai, so, fo, af, bd, tc, oc, ac, (vp_updL a1 k (a1 k ||| ((1 : Int64) <<< ((nI j &&& 63).toInt64 &&& 63)))), a2, a3, a4, a5, a6, a7, a8, a9, a10, a11, a12, a13, a14, a15, a16, a17, a18, a19, a20, a21, a22, a23, a24, a25)) : wpX_setRow post (lv, qu, ai, so, fo, af, bd, tc, oc, ac, a1, a2, a3, a4, a5, a6, a7, a8, a9, a10, a11, a12, a13, a14, a15, a16, a17, a18, a19, a20, a21, a22, a23, a24, a25) p0 p1 p2 := by
  subst hp2
  refine And.intro (tj_in k 12 hi hk) (And.intro (tj_in k 12 hi hk) ?_)
  rw [tj_cl k hi]
  exact nm_e H
theorem tj_isq {post : Int32 → Prop} {lv qu ai so fo af bd tc oc ac : Int32} {a1 a10 a11 a12 : Nat → Int64} {a2 a3 a4 a5 a6 a7 a8 a9 a13 a14 a15 a16 a17 a18 a19 a20 a21 a22 a23 a24 a25 : Nat → Int32} {p : Int32} {q : Nat} (hq : q < 2) (hp : p = nI q) (H : post 1) : wpX_isQuestion post (lv, qu, ai, so, fo, af, bd, tc, oc, ac, a1, a2, a3, a4, a5, a6, a7, a8, a9, a10, a11, a12, a13, a14, a15, a16, a17, a18, a19, a20, a21, a22, a23, a24, a25) p := by
  have h : q = 0 ∨ q = 1 := by omega
  rcases h with rfl | rfl
  · exact br_t hp H
  · subst hp
    exact br_f (by decide) (br_t (by decide) H)
theorem tj_isq0 {post : Int32 → Prop} {lv qu ai so fo af bd tc oc ac : Int32} {a1 a10 a11 a12 : Nat → Int64} {a2 a3 a4 a5 a6 a7 a8 a9 a13 a14 a15 a16 a17 a18 a19 a20 a21 a22 a23 a24 a25 : Nat → Int32} {p : Int32} (hp : ¬ (p = 0 ∨ p = 1)) (H : post 0) : wpX_isQuestion post (lv, qu, ai, so, fo, af, bd, tc, oc, ac, a1, a2, a3, a4, a5, a6, a7, a8, a9, a10, a11, a12, a13, a14, a15, a16, a17, a18, a19, a20, a21, a22, a23, a24, a25) p :=
  br_f (fun z => hp (Or.inl z)) (br_f (fun z => hp (Or.inr z)) H)
theorem tj_all1 {post : Int32 → Prop} {lv qu ai so fo af bd tc oc ac : Int32} {a1 a10 a11 a12 : Nat → Int64} {a2 a3 a4 a5 a6 a7 a8 a9 a13 a14 a15 a16 a17 a18 a19 a20 a21 a22 a23 a24 a25 : Nat → Int32} {p : Int32} {q : Nat} (hq : q < 2) (hp : p = nI q) (h3 : a3 q = 1) (H : post 1) : wpX_allAtoms post (lv, qu, ai, so, fo, af, bd, tc, oc, ac, a1, a2, a3, a4, a5, a6, a7, a8, a9, a10, a11, a12, a13, a14, a15, a16, a17, a18, a19, a20, a21, a22, a23, a24, a25) p := by
  subst hp
  refine And.intro (tj_in q 2 rfl hq) ?_
  rw [nI_clamp (by omega), h3]
  exact H
theorem tj_all0 {post : Int32 → Prop} {lv qu ai so fo af bd tc oc ac : Int32} {a1 a10 a11 a12 : Nat → Int64} {a2 a3 a4 a5 a6 a7 a8 a9 a13 a14 a15 a16 a17 a18 a19 a20 a21 a22 a23 a24 a25 : Nat → Int32} {p : Int32} {q : Nat} (hq : q < 2) (hp : p = nI q) (h3 : a3 q = 0) (H : post 0) : wpX_allAtoms post (lv, qu, ai, so, fo, af, bd, tc, oc, ac, a1, a2, a3, a4, a5, a6, a7, a8, a9, a10, a11, a12, a13, a14, a15, a16, a17, a18, a19, a20, a21, a22, a23, a24, a25) p := by
  subst hp
  refine And.intro (tj_in q 2 rfl hq) ?_
  rw [nI_clamp (by omega), h3]
  exact H
theorem tj_voa {post : Int32 → Prop} {lv qu ai so fo af bd tc oc ac : Int32} {a1 a10 a11 a12 : Nat → Int64} {a2 a3 a4 a5 a6 a7 a8 a9 a13 a14 a15 a16 a17 a18 a19 a20 a21 a22 a23 a24 a25 : Nat → Int32} {p : Int32} {q u v : Nat} (hq : q < 2) (hu : u < 5) (hv : v < 5) (hp : p = nI (4 * q)) (h0 : a5 (12 * q) = nI u) (h1 : a5 (12 * q + 1) = nI v) (h2 : a5 (12 * q + 2) = -1) (H : post (tj_th u v)) : wpX_variablesOfAtom post (lv, qu, ai, so, fo, af, bd, tc, oc, ac, a1, a2, a3, a4, a5, a6, a7, a8, a9, a10, a11, a12, a13, a14, a15, a16, a17, a18, a19, a20, a21, a22, a23, a24, a25) p := by
  subst hp
  have e0 : a5 ((3 * nI (4 * q)) + 0).toNatClampNeg = nI u := tj_rd (12 * q) (tj_i3 q 0) (by omega) h0
  have e1 : a5 ((3 * nI (4 * q)) + (0 + 1)).toNatClampNeg = nI v := tj_rd (12 * q + 1) (tj_i3 q 1) (by omega) h1
  have e2 : a5 ((3 * nI (4 * q)) + (0 + 1 + 1)).toNatClampNeg = -1 := tj_rd (12 * q + 2) (tj_i3 q 2) (by omega) h2
  refine Exists.intro 4 ?_
  refine br_f (by decide) (And.intro (tj_in (12 * q) 24 (tj_i3 q 0) (by omega)) (br_f (by rw [e0]; exact nI_pos (by omega)) (And.intro (tj_in (12 * q) 24 (tj_i3 q 0) (by omega)) (nm_r (by rw [e0]) (nm_e ?_)))))
  refine br_f (by decide) (And.intro (tj_in (12 * q + 1) 24 (tj_i3 q 1) (by omega)) (br_f (by rw [e1]; exact nI_pos (by omega)) (And.intro (tj_in (12 * q + 1) 24 (tj_i3 q 1) (by omega)) (nm_r (by rw [e1]) (nm_e ?_)))))
  refine br_f (by decide) (And.intro (tj_in (12 * q + 2) 24 (tj_i3 q 2) (by omega)) (br_t (by rw [e2]; decide) (nm_e ?_)))
  exact br_t (by decide) H
theorem tj_vof1 {post : Int32 → Prop} {lv qu ai so fo af bd tc oc ac : Int32} {a1 a10 a11 a12 : Nat → Int64} {a2 a3 a4 a5 a6 a7 a8 a9 a13 a14 a15 a16 a17 a18 a19 a20 a21 a22 a23 a24 a25 : Nat → Int32} {p : Int32} {q u v : Nat} (hq : q < 2) (hu : u < 5) (hv : v < 5) (hp : p = nI q) (h0 : a5 (12 * q) = nI u) (h1 : a5 (12 * q + 1) = nI v) (h2 : a5 (12 * q + 2) = -1) (H : post (tj_th u v)) : wpX_variablesOf post (lv, qu, ai, so, fo, af, bd, tc, oc, ac, a1, a2, a3, a4, a5, a6, a7, a8, a9, a10, a11, a12, a13, a14, a15, a16, a17, a18, a19, a20, a21, a22, a23, a24, a25) p 1 := by
  subst hp
  refine Exists.intro 5 ?_
  refine br_f (by decide) (br_f (by decide) ?_)
  refine tj_voa hq hu hv (tj_i40 q) h0 h1 h2 ?_
  refine nm_r (tj_th0 u hu v hv) (nm_e ?_)
  refine br_f (by decide) (br_t (by decide) (nm_e ?_))
  refine br_f (by decide) (br_t (by decide) (nm_e ?_))
  refine br_f (by decide) (br_t (by decide) (nm_e ?_))
  exact br_t (by decide) H
theorem tj_vof0 {post : Int32 → Prop} {lv qu ai so fo af bd tc oc ac : Int32} {a1 a10 a11 a12 : Nat → Int64} {a2 a3 a4 a5 a6 a7 a8 a9 a13 a14 a15 a16 a17 a18 a19 a20 a21 a22 a23 a24 a25 : Nat → Int32} {p : Int32} (H : post 0) : wpX_variablesOf post (lv, qu, ai, so, fo, af, bd, tc, oc, ac, a1, a2, a3, a4, a5, a6, a7, a8, a9, a10, a11, a12, a13, a14, a15, a16, a17, a18, a19, a20, a21, a22, a23, a24, a25) p 0 := by
  refine Exists.intro 5 ?_
  refine br_f (by decide) (br_t (by decide) (nm_e ?_))
  refine br_f (by decide) (br_t (by decide) (nm_e ?_))
  refine br_f (by decide) (br_t (by decide) (nm_e ?_))
  refine br_f (by decide) (br_t (by decide) (nm_e ?_))
  exact br_t (by decide) H
theorem tj_whole0 {post : Int32 → Prop} {lv qu ai so fo af bd tc oc ac : Int32} {a1 a10 a11 a12 : Nat → Int64} {a2 a3 a4 a5 a6 a7 a8 a9 a13 a14 a15 a16 a17 a18 a19 a20 a21 a22 a23 a24 a25 : Nat → Int32} {p : Int32} {q : Nat} (hq : q < 2) (hp : p = nI q) (h3 : a3 q = 0) (H : post 0) : wpX_whole post (lv, qu, ai, so, fo, af, bd, tc, oc, ac, a1, a2, a3, a4, a5, a6, a7, a8, a9, a10, a11, a12, a13, a14, a15, a16, a17, a18, a19, a20, a21, a22, a23, a24, a25) p := by
  unfold wpX_whole
  refine tj_isq hq hp (br_f (by decide) ?_)
  refine tj_all0 hq hp h3 ?_
  unfold wpX_isWhole
  refine tj_vof0 ?_
  exact br_t rfl ⟨by decide, H⟩
theorem tj_thb2 : ∀ u, u < 5 → ∀ v, v < 5 → ∀ s, s < 32 → ((nI s &&& (tj_th u v ^^^ (-1))) = 0 ↔ tj_wb u v s = true) := by decide +kernel
theorem tj_thw (u : Nat) (hu : u < 5) (v : Nat) (hv : v < 5) (s : Nat) (hs : s < 32) : (nI s &&& (tj_th u v ^^^ (-1))) = 0 ↔ tj_wh u v s := (tj_thb2 u hu v hv s hs).trans tj_wb_iff
theorem tj_whole1 {post : Int32 → Prop} {lv qu ai so fo af bd tc oc ac : Int32} {a1 a10 a11 a12 : Nat → Int64} {a2 a3 a4 a5 a6 a7 a8 a9 a13 a14 a15 a16 a17 a18 a19 a20 a21 a22 a23 a24 a25 : Nat → Int32} {p : Int32} {q u v s : Nat} (hq : q < 2) (hu : u < 5) (hv : v < 5) (hs : s < 32) (hp : p = nI q) (h3 : a3 q = 1) (h0 : a5 (12 * q) = nI u) (h1 : a5 (12 * q + 1) = nI v) (h2 : a5 (12 * q + 2) = -1) (h6 : a6 q = nI s) (H1 : tj_wh u v s → post 1) (H0 : ¬ tj_wh u v s → post 0) : wpX_whole post (lv, qu, ai, so, fo, af, bd, tc, oc, ac, a1, a2, a3, a4, a5, a6, a7, a8, a9, a10, a11, a12, a13, a14, a15, a16, a17, a18, a19, a20, a21, a22, a23, a24, a25) p := by
  unfold wpX_whole
  refine tj_isq hq hp (br_f (by decide) ?_)
  refine tj_all1 hq hp h3 ?_
  unfold wpX_isWhole
  refine tj_vof1 hq hu hv hp h0 h1 h2 ?_
  refine br_f (by decide) (And.intro (tj_in q 2 hp hq) ?_)
  rw [tj_cl q hp, h6]
  exact br_c (fun e => ⟨by decide, H1 ((tj_thw u hu v hv s hs).mp e)⟩) (fun e => ⟨by decide, H0 (fun z => e ((tj_thw u hu v hv s hs).mpr z))⟩)
theorem tj_ask1 {post : Int32 → St2 → Prop} {lv qu ai so fo af bd tc oc ac : Int32} {a1 a10 a11 a12 : Nat → Int64} {a2 a3 a4 a5 a6 a7 a8 a9 a13 a14 a15 a16 a17 a18 a19 a20 a21 a22 a23 a24 a25 : Nat → Int32} {p x : Int32} {q s : Nat} (hq : q < 2) (hs : s < 32) (hp : p = nI q) (hx : x = nI s) (H : post 1 (lv, qu, ai, so, fo, af, bd, tc, oc, ac, a1, a2, a3, a4, a5, (upd a6 q (nI s)), a7, a8, a9, a10, a11, a12, a13, a14, a15, a16, a17, a18, a19, a20, a21, a22, a23, a24, a25)) : wpX_ask post (lv, qu, ai, so, fo, af, bd, tc, oc, ac, a1, a2, a3, a4, a5, a6, a7, a8, a9, a10, a11, a12, a13, a14, a15, a16, a17, a18, a19, a20, a21, a22, a23, a24, a25) p x := by
  unfold wpX_ask
  subst hp
  subst hx
  refine tj_isq hq rfl (br_f (by decide) ?_)
  refine br_f (nI_pos (by omega)) (br_t (nI_le (b := 31) (by omega) (by omega)) (And.intro (tj_in q 2 rfl hq) (nm_r ?_ H)))
  rw [nI_clamp (by omega), tj_i8 s (by omega)]
theorem tj_ask0 {post : Int32 → St2 → Prop} {lv qu ai so fo af bd tc oc ac : Int32} {a1 a10 a11 a12 : Nat → Int64} {a2 a3 a4 a5 a6 a7 a8 a9 a13 a14 a15 a16 a17 a18 a19 a20 a21 a22 a23 a24 a25 : Nat → Int32} {p x : Int32} {q : Nat} (hq : q < 2) (hp : p = nI q) (hx : x < 0 ∨ ¬ x ≤ 31) (H : post 0 (lv, qu, ai, so, fo, af, bd, tc, oc, ac, a1, a2, a3, a4, a5, a6, a7, a8, a9, a10, a11, a12, a13, a14, a15, a16, a17, a18, a19, a20, a21, a22, a23, a24, a25)) : wpX_ask post (lv, qu, ai, so, fo, af, bd, tc, oc, ac, a1, a2, a3, a4, a5, a6, a7, a8, a9, a10, a11, a12, a13, a14, a15, a16, a17, a18, a19, a20, a21, a22, a23, a24, a25) p x := by
  unfold wpX_ask
  refine tj_isq hq hp (br_f (by decide) ?_)
  exact br_c (fun _ => H) (fun z => br_f (hx.resolve_left z) H)
theorem tj_askN {post : Int32 → St2 → Prop} {lv qu ai so fo af bd tc oc ac : Int32} {a1 a10 a11 a12 : Nat → Int64} {a2 a3 a4 a5 a6 a7 a8 a9 a13 a14 a15 a16 a17 a18 a19 a20 a21 a22 a23 a24 a25 : Nat → Int32} {p x : Int32} (hp : ¬ (p = 0 ∨ p = 1)) (H : post 0 (lv, qu, ai, so, fo, af, bd, tc, oc, ac, a1, a2, a3, a4, a5, a6, a7, a8, a9, a10, a11, a12, a13, a14, a15, a16, a17, a18, a19, a20, a21, a22, a23, a24, a25)) : wpX_ask post (lv, qu, ai, so, fo, af, bd, tc, oc, ac, a1, a2, a3, a4, a5, a6, a7, a8, a9, a10, a11, a12, a13, a14, a15, a16, a17, a18, a19, a20, a21, a22, a23, a24, a25) p x := by
  unfold wpX_ask
  exact tj_isq0 hp (br_t rfl H)
end
section
/-- the list of the atom's rows: c of them (none or one, row n), all alive -/
abbrev tj_L (c n : Nat) (a7 a8 a9 : Nat → Int32) : Prop := a7 0 = nI c ∧ a9 0 = nI c ∧ (c = 1 → a8 0 = nI n)
theorem tj_u3 {b : Nat → Int32} {k1 k2 k3 : Nat} {x y z : Int32} (h1 : (0 : Nat) ≠ k1) (h2 : (0 : Nat) ≠ k2) (h3 : (0 : Nat) ≠ k3) : upd (upd (upd b k1 x) k2 y) k3 z 0 = b 0 := by rw [pk_un h3, pk_un h2, pk_un h1]
theorem tj_cl0 : (0 : Int32).toNatClampNeg = 0 := rfl
theorem tj_start68 {post : St2 → Prop} {J18 : Int32 → (Nat → Int64) → (Nat → Int32) → (Nat → Int32) → (Nat → Int32) → (Nat → Int32) → (Nat → Int32) → (Nat → Int32) → (Nat → Int32) → (Nat → Int32) → (Nat → Int64) → (Nat → Int64) → (Nat → Int64) → (Nat → Int32) → (Nat → Int32) → (Nat → Int32) → (Nat → Int32) → (Nat → Int32) → (Nat → Int32) → (Nat → Int32) → (Nat → Int32) → (Nat → Int32) → (Nat → Int32) → (Nat → Int32) → (Nat → Int32) → (Nat → Int32) → Prop} {lv qu ai so fo af bd tc oc ac : Int32} {a1 a10 a11 a12 : Nat → Int64} {a2 a3 a4 a5 a6 a7 a8 a9 a13 a14 a15 a16 a17 a18 a19 a20 a21 a22 a23 a24 a25 : Nat → Int32} {q r n u v c : Nat} {pt : Prop} (hq : q < 2) (hr : r < 2) (hn : n < 25) (hu : u < 5) (hv : v < 5) (h0 : a5 (12 * q) = nI u) (h1 : a5 (12 * q + 1) = nI v)
    (hb : ∀ j, j < 25 → (tj_bit (a1 (2 * r)) j = 0 ↔ ¬ (pt ∧ j = n))) (hc : (c = 1 ∧ pt ∧ (u ≠ v ∨ n / 5 = n % 5)) ∨ (c = 0 ∧ ¬ (pt ∧ (u ≠ v ∨ n / 5 = n % 5)))) (h7 : a7 0 = 0) (h9 : a9 0 = 0)
    (H : ∀ b7 b8 b9 : Nat → Int32, tj_L c n b7 b8 b9 → J18 (0 + 1) a1 a2 a3 a4 a5 a6 b7 b8 b9 a10 a11 a12 a13 a14 a15 a16 a17 a18 a19 a20 a21 a22 a23 a24 a25) : ∃ k, wX_start_68 post J18 (nI q) 1 0 0 (nI r) lv qu ai so fo af bd tc oc ac k 0 a1 a2 a3 a4 a5 a6 a7 a8 a9 a10 a11 a12 a13 a14 a15 a16 a17 a18 a19 a20 a21 a22 a23 a24 a25 := by
  refine pk_loop (fun k i (s : (Nat → Int32) × (Nat → Int32) × (Nat → Int32)) => wX_start_68 post J18 (nI q) 1 0 0 (nI r) lv qu ai so fo af bd tc oc ac k (nI i) a1 a2 a3 a4 a5 a6 s.1 s.2.1 s.2.2 a10 a11 a12 a13 a14 a15 a16 a17 a18 a19 a20 a21 a22 a23 a24 a25)
    (fun i s => (n < i ∧ c = 1 → s.1 0 = 1 ∧ s.2.1 0 = nI n ∧ s.2.2 0 = 1) ∧ (¬ (n < i ∧ c = 1) → s.1 0 = 0 ∧ s.2.2 0 = 0)) 25 0 (a7, a8, a9) (by omega) ⟨fun z => absurd z.1 (by omega), fun _ => ⟨h7, h9⟩⟩ ?_ ?_
  · intro k s h
    refine br_f (tj_neI (a := r) (b := 2) (by omega) (by omega) (by omega)) (br_t (nI_le (Nat.le_refl 25) (by omega)) (nm_e (H s.1 s.2.1 s.2.2 ?_)))
    rcases hc with ⟨hc, _⟩ | ⟨hc, _⟩
    · subst hc
      have g := h.1 ⟨hn, rfl⟩
      exact ⟨g.1, g.2.2, fun _ => g.2.1⟩
    · subst hc
      have g := h.2 (fun z => absurd z.2 (by omega))
      exact ⟨g.1, g.2, fun z => absurd z (by omega)⟩
  · intro k i s hi h hw
    refine br_f (tj_neI (a := r) (b := 2) (by omega) (by omega) (by omega)) (br_f (nI_ge (b := 25) hi (by omega)) ?_)
    have hI : ((0 : Int32) + (2 * nI r)) + (nI i >>> ((6 : Int32) &&& 31)) = nI (2 * r) := by
      have z := tj_ir 0 r i (by omega)
      rw [show 0 + 2 * r + i / 64 = 2 * r by omega] at z
      exact z
    refine tj_has (2 * r) i (by omega) hI rfl (fun e => ?_) (fun e => ?_)
    · have hne := (hb i hi).mp e
      refine br_t rfl (nm_r (nI_1 i) (hw s ?_))
      have hk : (n < i + 1 ∧ c = 1) → n < i := by
        intro z
        by_cases g : i = n
        · rcases hc with ⟨_, hp, _⟩ | ⟨hc, _⟩
          · exact absurd ⟨hp, g⟩ hne
          · exact absurd z.2 (by omega)
        · omega
      exact ⟨fun z => h.1 ⟨hk z, z.2⟩, fun z => h.2 (fun y => z ⟨by omega, y.2⟩)⟩
    · have hpt : pt ∧ i = n := Classical.byContradiction (fun z => e ((hb i hi).mpr z))
      obtain ⟨hp, rfl⟩ := hpt
      have g := h.2 (fun z => absurd z.1 (by omega))
      have e7 : s.1 (0 : Int32).toNatClampNeg = 0 := g.1
      have e9 : s.2.2 (0 : Int32).toNatClampNeg = 0 := g.2
      refine br_f (by decide) (tj_fits hq hr rfl hi hu hv (tj_i40 q) h0 h1 (fun z => ?_) (fun z => ?_))
      · have hc1 : c = 1 := by
          rcases hc with ⟨hc, _⟩ | ⟨_, hc⟩
          · exact hc
          · exact absurd ⟨hp, z⟩ hc
        refine br_f (by decide) (And.intro (tj_in 0 4 rfl (by omega)) (And.intro (tj_in 0 64 (by rw [e7]; rfl) (by omega)) ?_))
        refine nm_r (show upd s.2.1 ((16 * 0) + (s.1 (0 : Int32).toNatClampNeg)).toNatClampNeg (nI i).toInt8.toInt32 = upd s.2.1 0 (nI i) by rw [e7, tj_i8 i (by omega)]; rfl) ?_
        refine And.intro (tj_in 0 4 rfl (by omega)) (And.intro (tj_in 0 4 rfl (by omega)) (And.intro (tj_in 0 4 rfl (by omega)) ?_))
        refine nm_r (show upd s.2.2 (0 : Int32).toNatClampNeg ((s.2.2 (0 : Int32).toNatClampNeg) ||| ((1 : Int32) <<< ((s.1 (0 : Int32).toNatClampNeg) &&& 31))) = upd s.2.2 0 1 by rw [e7, e9]; rfl) ?_
        refine And.intro (tj_in 0 4 rfl (by omega)) (And.intro (tj_in 0 4 rfl (by omega)) ?_)
        refine nm_r (show upd s.1 (0 : Int32).toNatClampNeg (((s.1 (0 : Int32).toNatClampNeg) + 1).toInt8.toInt32) = upd s.1 0 1 by rw [e7]; rfl) ?_
        refine nm_r (nI_1 i) (hw (upd s.1 0 1, upd s.2.1 0 (nI i), upd s.2.2 0 1) ?_)
        exact ⟨fun _ => show upd s.1 0 1 0 = 1 ∧ upd s.2.1 0 (nI i) 0 = nI i ∧ upd s.2.2 0 1 0 = 1 from ⟨pk_us, pk_us, pk_us⟩, fun y => absurd ⟨by omega, hc1⟩ y⟩
      · have hc0 : ¬ c = 1 := by
          rcases hc with ⟨_, _, hc⟩ | ⟨hc, _⟩
          · exact absurd hc z
          · omega
        refine br_t rfl (nm_r (nI_1 i) (hw s ?_))
        exact ⟨fun y => absurd y.2 hc0, fun _ => g⟩
theorem tj_start {post : St2 → Prop} {lv qu ai so fo af bd tc oc ac : Int32} {a1 a10 a11 a12 : Nat → Int64} {a2 a3 a4 a5 a6 a7 a8 a9 a13 a14 a15 a16 a17 a18 a19 a20 a21 a22 a23 a24 a25 : Nat → Int32} {q r n u v c : Nat} {pt : Prop} (hq : q < 2) (hr : r < 2) (hn : n < 25) (hu : u < 5) (hv : v < 5) (h4 : a4 (4 * q) = nI r) (h0 : a5 (12 * q) = nI u) (h1 : a5 (12 * q + 1) = nI v)
    (hb : ∀ j, j < 25 → (tj_bit (a1 (2 * r)) j = 0 ↔ ¬ (pt ∧ j = n))) (hc : (c = 1 ∧ pt ∧ (u ≠ v ∨ n / 5 = n % 5)) ∨ (c = 0 ∧ ¬ (pt ∧ (u ≠ v ∨ n / 5 = n % 5))))
    (H : ∀ b7 b8 b9 : Nat → Int32, tj_L c n b7 b8 b9 → post (lv, (nI q), 1, 0, fo, af, bd, tc, oc, ac, a1, a2, a3, a4, a5, a6, b7, b8, b9, a10, a11, a12, a13, a14, a15, a16, a17, a18, a19, a20, a21, a22, a23, a24, a25)) : wpX_start post (lv, qu, ai, so, fo, af, bd, tc, oc, ac, a1, a2, a3, a4, a5, a6, a7, a8, a9, a10, a11, a12, a13, a14, a15, a16, a17, a18, a19, a20, a21, a22, a23, a24, a25) (nI q) 1 0 := by
  refine Exists.intro 6 (br_f (by decide) (And.intro (tj_in 0 4 rfl (by omega)) (nm_e (And.intro (tj_in 0 4 rfl (by omega)) (nm_e (br_f (by decide) (And.intro (tj_in (4 * q) 8 (tj_i40 q) (by omega)) (nm_r (show a4 ((4 * nI q) + 0).toNatClampNeg = nI r from tj_rd (4 * q) (tj_i40 q) (by omega) h4) ?_))))))))
  refine tj_start68 hq hr hn hu hv h0 h1 hb hc (tj_us rfl) (tj_us rfl) (fun b7 b8 b9 h => ?_)
  refine br_f (by decide) (And.intro (tj_in 1 4 rfl (by omega)) (nm_e (And.intro (tj_in 1 4 rfl (by omega)) (nm_e (br_t (by decide) (nm_e ?_))))))
  refine br_f (by decide) (And.intro (tj_in 2 4 rfl (by omega)) (nm_e (And.intro (tj_in 2 4 rfl (by omega)) (nm_e (br_t (by decide) (nm_e ?_))))))
  refine br_f (by decide) (And.intro (tj_in 3 4 rfl (by omega)) (nm_e (And.intro (tj_in 3 4 rfl (by omega)) (nm_e (br_t (by decide) (nm_e ?_))))))
  refine br_t (by decide) (H _ b8 _ ?_)
  exact ⟨(tj_u3 (by decide) (by decide) (by decide)).trans h.1, (tj_u3 (by decide) (by decide) (by decide)).trans h.2.1, h.2.2⟩
theorem tj_fillL {s : Nat → Int64} {i k : Nat} (hk : k = i) (h : ∀ j, j < i → s j = 0) : ∀ j, j < i + 1 → vp_updL s k 0 j = 0 := by
  intro j hj
  rw [hk]
  by_cases e : j = i
  · rw [e, pk_uLs]
  · rw [pk_uLn e]
    exact h j (by omega)
theorem tj_empty {post : St2 → Prop} {lv qu ai so fo af bd tc oc ac : Int32} {a1 a10 a11 a12 : Nat → Int64} {a2 a3 a4 a5 a6 a7 a8 a9 a13 a14 a15 a16 a17 a18 a19 a20 a21 a22 a23 a24 a25 : Nat → Int32} (H : ∀ b : Nat → Int64, (∀ j, j < 49 → b j = 0) → post (lv, qu, ai, so, fo, af, bd, tc, oc, ac, a1, a2, a3, a4, a5, a6, a7, a8, a9, b, a11, a12, a13, a14, a15, a16, a17, a18, a19, a20, a21, a22, a23, a24, a25)) : wpX_empty post (lv, qu, ai, so, fo, af, bd, tc, oc, ac, a1, a2, a3, a4, a5, a6, a7, a8, a9, a10, a11, a12, a13, a14, a15, a16, a17, a18, a19, a20, a21, a22, a23, a24, a25) :=
  pk_loop (fun k i s => wX_empty_2 post lv qu ai so fo af bd tc oc ac k (nI i) a1 a2 a3 a4 a5 a6 a7 a8 a9 s a11 a12 a13 a14 a15 a16 a17 a18 a19 a20 a21 a22 a23 a24 a25) (fun i s => ∀ j, j < i → s j = 0) 49 0 a10 (by omega) (fun j hj => absurd hj (by omega))
    (fun k s h => pk_le 49 49 (fun _ => H s h) (fun z => absurd z (by omega)))
    (fun k i s hi h hw => pk_le 49 i (fun z => absurd z (by omega)) (fun _ => And.intro (tj_in i 49 rfl hi) (nm_e (nm_r (nI_1 i) (hw _ (tj_fillL (nI_clamp (by omega)) h))))))
end
section
abbrev tj_dg (a : Nat → Int32) : Prop := ∀ j, j < 5 → ∃ d, d < 5 ∧ a j = nI d
theorem tj_dg_u {a : Nat → Int32} {k d : Nat} (h : tj_dg a) (hd : d < 5) : tj_dg (upd a k (nI d)) := by
  intro j hj
  by_cases e : j = k
  · exact ⟨d, hd, by rw [e, pk_us]⟩
  · obtain ⟨x, hx, ex⟩ := h j hj
    exact ⟨x, hx, by rw [pk_un e]; exact ex⟩
theorem tj_val_lt {u x y z : Nat} (hx : x < 5) (hy : y < 5) : tj_val u x y z < 5 := by
  unfold tj_val
  split <;> assumption
theorem tj_z5 (k : Nat) : (5 * 0 : Int32) + nI k = nI k := by
  rw [show (5 * 0 : Int32) = nI 0 from rfl, nI_add, Nat.zero_add]
theorem tj_key {post : Int32 → Prop} {lv qu ai so fo af bd tc oc ac : Int32} {a1 a10 a11 a12 : Nat → Int64} {a2 a3 a4 a5 a6 a7 a8 a9 a13 a14 a15 a16 a17 a18 a19 a20 a21 a22 a23 a24 a25 : Nat → Int32} {p0 p2 : Int32} {q r n u v o : Nat} (hq : q < 2) (hr : r < 2) (hn : n < 25) (hu : u < 5) (hv : v < 5) (hat : p0 = nI (4 * q)) (h4 : a4 (4 * q) = nI r) (h0 : a5 (12 * q) = nI u) (h1 : a5 (12 * q + 1) = nI v) (ho : o = u ∨ o = v) (hp2 : p2 = (1 : Int32) <<< (nI o &&& 31)) (H : post (nI (tj_val u (n / 5) (n % 5) o))) : wpX_keyOfRow post (lv, qu, ai, so, fo, af, bd, tc, oc, ac, a1, a2, a3, a4, a5, a6, a7, a8, a9, a10, a11, a12, a13, a14, a15, a16, a17, a18, a19, a20, a21, a22, a23, a24, a25) p0 (nI n) p2 := by
  subst hat
  subst hp2
  have ho5 : o < 5 := by rcases ho with rfl | rfl <;> assumption
  have e0 : a5 ((3 * nI (4 * q)) + 0).toNatClampNeg = nI u := tj_rd (12 * q) (tj_i3 q 0) (by omega) h0
  have e1 : a5 ((3 * nI (4 * q)) + (0 + 1)).toNatClampNeg = nI v := tj_rd (12 * q + 1) (tj_i3 q 1) (by omega) h1
  have e4 : a4 (nI (4 * q)).toNatClampNeg = nI r := by rw [nI_clamp (by omega)]; exact h4
  refine pk_loop (fun k i (s : Int32) => wX_keyOfRow_6 post (nI (4 * q)) (nI n) ((1 : Int32) <<< (nI o &&& 31)) lv qu ai so fo af bd tc oc ac a1 a2 a3 a4 a5 a6 a7 a8 a9 a10 a11 a12 a13 a14 a15 a16 a17 a18 a19 a20 a21 a22 a23 a24 a25 k s (nI i)) (fun i s => (i ≤ o → s = 0) ∧ (o < i → s = nI (tj_val u (n / 5) (n % 5) o))) 5 0 0 (by omega) ⟨fun _ => rfl, fun z => absurd z (by omega)⟩ ?_ ?_
  · intro k s h
    have e := h.2 ho5
    subst e
    exact pk_le 5 5 (fun _ => H) (fun z => absurd z (by omega))
  · intro k i s hi h hw
    refine pk_le 5 i (fun z => absurd z (by omega)) (fun _ => ?_)
    by_cases e : i = o
    · have hs0 := h.1 (by omega)
      subst hs0
      refine br_f (fun z => (tj_oneb o ho5 i hi).mp z e) (Exists.intro 2 (And.intro (tj_in (12 * q) 24 (tj_i3 q 0) (by omega)) ?_))
      by_cases g : u = o
      · refine br_t (by rw [e0, g, e]) (And.intro (tj_in (4 * q) 8 rfl (by omega)) ?_)
        refine tj_col hr e4 hn (Or.inl ⟨rfl, ?_⟩)
        refine nm_r (tj_z5 _) (nm_r (nI_1 i) (hw (nI (n / 5)) ⟨fun z => absurd z (by omega), fun _ => ?_⟩))
        unfold tj_val
        rw [if_pos g.symm]
      · refine br_f (by rw [e0, e]; exact tj_neI g (by omega) (by omega)) (nm_e (And.intro (tj_in (12 * q + 1) 24 (tj_i3 q 1) (by omega)) ?_))
        have hov : v = o := by
          rcases ho with z | z
          · exact absurd z.symm g
          · exact z.symm
        refine br_t (by rw [e1, hov, e]) (And.intro (tj_in (4 * q) 8 rfl (by omega)) ?_)
        refine tj_col hr e4 hn (Or.inr ⟨rfl, ?_⟩)
        refine nm_r (tj_z5 _) (nm_r (nI_1 i) (hw (nI (n % 5)) ⟨fun z => absurd z (by omega), fun _ => ?_⟩))
        unfold tj_val
        rw [if_neg (fun z => g z.symm)]
    · refine br_t ((tj_oneb o ho5 i hi).mpr e) (nm_r (nI_1 i) (hw s ?_))
      exact ⟨fun z => h.1 (by omega), fun z => h.2 (by omega)⟩
theorem tj_ord {post : St2 → Prop} {lv so fo af bd tc oc ac : Int32} {a1 a10 a11 a12 : Nat → Int64} {a2 a3 a4 a5 a6 a7 a8 a9 a13 a14 a15 a16 a17 a18 a19 a20 a21 a22 a23 a24 a25 : Nat → Int32} {q u v s : Nat} (hq : q < 2) (hu : u < 5) (hv : v < 5) (hs : s < 32) (h0 : a5 (12 * q) = nI u) (h1 : a5 (12 * q + 1) = nI v) (h2 : a5 (12 * q + 2) = -1) (h6 : a6 q = nI s)
    (H : ∀ b : Nat → Int32, (∀ d, d < tj_m u v s → b d = nI (tj_o u v s d)) → post (lv, (nI q), 1, so, fo, af, bd, tc, (nI (tj_m u v s)), (nI (tj_r1 u v s 5).1), a1, a2, a3, a4, a5, a6, a7, a8, a9, a10, a11, a12, a13, a14, a15, a16, a17, b, a19, a20, a21, a22, a23, a24, a25)) : wpX_orderVariables post (lv, (nI q), 1, so, fo, af, bd, tc, oc, ac, a1, a2, a3, a4, a5, a6, a7, a8, a9, a10, a11, a12, a13, a14, a15, a16, a17, a18, a19, a20, a21, a22, a23, a24, a25) := by
  have e6 : a6 (nI q).toNatClampNeg = nI s := by rw [nI_clamp (by omega)]; exact h6
  unfold wpX_orderVariables
  refine tj_vof1 hq hu hv rfl h0 h1 h2 ?_
  refine pk_loop (fun k i (t : Int32 × (Nat → Int32)) => wX_orderVariables_20 post (tj_th u v) k (nI i) lv (nI q) 1 so fo af bd tc t.1 ac a1 a2 a3 a4 a5 a6 a7 a8 a9 a10 a11 a12 a13 a14 a15 a16 a17 t.2 a19 a20 a21 a22 a23 a24 a25) (fun i t => tj_oi (tj_r1 u v s i) t.1 t.2) 5 0 (0, a18) (by omega) ⟨rfl, fun z => absurd (show (1 : Nat) ≤ 0 from z) (by omega), fun z => absurd (show (2 : Nat) ≤ 0 from z) (by omega)⟩ ?_ ?_
  · intro k t ht
    refine pk_le 5 5 (fun _ => ?_) (fun z => absurd z (by omega))
    refine pk_loop (fun k i (t' : Int32 × (Nat → Int32)) => wX_orderVariables_64 post (tj_th u v) k (nI i) lv (nI q) 1 so fo af bd tc t'.1 t.1 a1 a2 a3 a4 a5 a6 a7 a8 a9 a10 a11 a12 a13 a14 a15 a16 a17 t'.2 a19 a20 a21 a22 a23 a24 a25) (fun i t' => tj_oi (tj_r2 u v s i) t'.1 t'.2) 5 0 (t.1, t.2) (by omega) ht ?_ ?_
    · intro k t' ht'
      refine pk_le 5 5 (fun _ => ?_) (fun z => absurd z (by omega))
      obtain ⟨c', b'⟩ := t'
      obtain ⟨c, b⟩ := t
      obtain ⟨g0, g1, g2⟩ := ht'
      have f0 := ht.1
      dsimp only at g0 g1 g2 f0
      subst g0
      subst f0
      refine H b' (fun d hd => ?_)
      have hm := (tj_ko u hu v hv s hs).1.2.1
      unfold tj_m at hd hm
      unfold tj_o
      by_cases e : d = 0
      · rw [if_pos e, e]
        exact g1 (by omega)
      · rw [if_neg e, show d = 1 by omega]
        exact g2 (by omega)
    · intro k i t' hi ht' hw
      refine pk_le 5 i (fun z => absurd z (by omega)) (fun _ => And.intro (tj_in q 2 rfl hq) ?_)
      rw [e6]
      cases hb : tj_P2 u v s i with
      | false =>
        refine br_t ((tj_c2 u hu v hv s hs i hi).mpr hb) (nm_r (nI_1 i) (hw t' ?_))
        show tj_oi (tj_rs (tj_P2 u v s i) i (tj_r2 u v s i)) t'.1 t'.2
        rw [hb]
        exact ht'
      | true =>
        have hk := tj_k2 u hu v hv s hs i hi hb
        refine br_f (fun z => absurd ((tj_c2 u hu v hv s hs i hi).mp z) (by rw [hb]; decide)) ?_
        refine And.intro (tj_in _ 5 ht'.1 (by omega)) (nm_e (nm_e ?_))
        refine nm_r (nI_1 i) (hw (t'.1 + 1, upd t'.2 t'.1.toNatClampNeg (nI i).toInt8.toInt32) ?_)
        show tj_oi (tj_rs (tj_P2 u v s i) i (tj_r2 u v s i)) (t'.1 + 1) (upd t'.2 t'.1.toNatClampNeg (nI i).toInt8.toInt32)
        rw [hb]
        exact tj_oi_t ht' hk hi
  · intro k i t hi ht hw
    refine pk_le 5 i (fun z => absurd z (by omega)) (fun _ => And.intro (tj_in q 2 rfl hq) ?_)
    rw [e6]
    cases hb : tj_P1 u v s i with
    | false =>
      refine br_t ((tj_c1 u hu v hv s hs i hi).mpr hb) (nm_r (nI_1 i) (hw t ?_))
      show tj_oi (tj_rs (tj_P1 u v s i) i (tj_r1 u v s i)) t.1 t.2
      rw [hb]
      exact ht
    | true =>
      have hk := tj_k1 u hu v hv s hs i hi hb
      refine br_f (fun z => absurd ((tj_c1 u hu v hv s hs i hi).mp z) (by rw [hb]; decide)) ?_
      refine And.intro (tj_in _ 5 ht.1 (by omega)) (nm_e (nm_e ?_))
      refine nm_r (nI_1 i) (hw (t.1 + 1, upd t.2 t.1.toNatClampNeg (nI i).toInt8.toInt32) ?_)
      show tj_oi (tj_rs (tj_P1 u v s i) i (tj_r1 u v s i)) (t.1 + 1) (upd t.2 t.1.toNatClampNeg (nI i).toInt8.toInt32)
      rw [hb]
      exact tj_oi_t ht hk hi
theorem tj_sort {post : St2 → Prop} {lv qu ai so fo af bd tc oc ac : Int32} {a1 a10 a11 a12 : Nat → Int64} {a2 a3 a4 a5 a6 a7 a8 a9 a13 a14 a15 a16 a17 a18 a19 a20 a21 a22 a23 a24 a25 : Nat → Int32} {q r n u v m : Nat} {o : Nat → Nat} (hq : q < 2) (hr : r < 2) (hn : n < 25) (hu : u < 5) (hv : v < 5) (hm : m ≤ 2) (h4 : a4 (4 * q) = nI r) (h0 : a5 (12 * q) = nI u) (h1 : a5 (12 * q + 1) = nI v) (h19 : a19 0 = nI m) (h20 : ∀ d, d < m → a20 d = nI (o d)) (ho : ∀ d, d < m → o d = u ∨ o d = v) (hdg : tj_dg a15)
    (H : ∀ b15 b21 : Nat → Int32, tj_dg b15 → (∀ d, d < m → b21 (16 * d) = nI (tj_val u (n / 5) (n % 5) (o d))) → post (lv, qu, ai, so, fo, af, bd, tc, oc, ac, a1, a2, a3, a4, a5, a6, a7, a8, a9, a10, a11, a12, a13, a14, b15, a16, a17, a18, a19, a20, b21, a22, a23, a24, a25)) : wpX_sortIn post (lv, qu, ai, so, fo, af, bd, tc, oc, ac, a1, a2, a3, a4, a5, a6, a7, a8, a9, a10, a11, a12, a13, a14, a15, a16, a17, a18, a19, a20, a21, a22, a23, a24, a25) 0 (nI (4 * q)) (nI n) 0 := by
  have e19 : a19 (0 : Int32).toNatClampNeg = nI m := h19
  have hvl : ∀ z, tj_val u (n / 5) (n % 5) z < 5 := fun z => tj_val_lt (by omega) (by omega)
  refine pk_loop (fun k i s => wX_sortIn_3 post 0 (nI (4 * q)) (nI n) 0 lv qu ai so fo af bd tc oc ac k (nI i) a1 a2 a3 a4 a5 a6 a7 a8 a9 a10 a11 a12 a13 a14 s a16 a17 a18 a19 a20 a21 a22 a23 a24 a25) (fun i s => tj_dg s ∧ ∀ d, d < i → s d = nI (tj_val u (n / 5) (n % 5) (o d))) m 0 a15 (by omega) ⟨hdg, fun d hd => absurd hd (by omega)⟩ ?_ ?_
  · intro k s h
    refine And.intro (tj_in 0 4 rfl (by omega)) (br_t (by rw [e19]; exact nI_le (Nat.le_refl m) (by omega)) ?_)
    refine Exists.intro 1 (br_t (by decide) ?_)
    refine pk_loop (fun k i s' => wX_sortIn_139 post 0 0 lv qu ai so fo af bd tc oc ac k (nI i) a1 a2 a3 a4 a5 a6 a7 a8 a9 a10 a11 a12 a13 a14 s a16 a17 a18 a19 a20 s' a22 a23 a24 a25) (fun i s' => ∀ d, d < i → s' (16 * d) = nI (tj_val u (n / 5) (n % 5) (o d))) m 0 a21 (by omega) (fun d hd => absurd hd (by omega)) ?_ ?_
    · intro k s' h'
      exact And.intro (tj_in 0 4 rfl (by omega)) (br_t (by rw [e19]; exact nI_le (Nat.le_refl m) (by omega)) (H s s' h.1 h'))
    · intro k i s' hi h' hw
      refine And.intro (tj_in 0 4 rfl (by omega)) (br_f (by rw [e19]; exact nI_ge hi (by omega)) (And.intro (tj_in i 5 rfl (by omega)) (And.intro (tj_in (16 * i) 192 (tj_z48 i) (by omega)) ?_)))
      refine nm_r (show upd s' (((48 * 0) + (16 * nI i)) + 0 : Int32).toNatClampNeg (vp_nar .byte (s (nI i).toNatClampNeg)) = upd s' (16 * i) (nI (tj_val u (n / 5) (n % 5) (o i))) by rw [tj_cl (16 * i) (tj_z48 i), nI_clamp (by omega), h.2 i hi, tj_nar (by have := hvl (o i); omega)]) ?_
      refine nm_r (nI_1 i) (hw _ (fun d hd => ?_))
      by_cases e : d = i
      · rw [e, pk_us]
      · rw [pk_un (by omega)]
        exact h' d (by omega)
  · intro k i s hi h hw
    refine And.intro (tj_in 0 4 rfl (by omega)) (br_f (by rw [e19]; exact nI_ge hi (by omega)) (And.intro (tj_in i 12 (tj_z3 i) (by omega)) ?_))
    refine tj_key (o := o i) hq hr hn hu hv rfl h4 h0 h1 (ho i hi) (by rw [tj_cl i (tj_z3 i), h20 i hi]) ?_
    refine And.intro (tj_in i 5 rfl (by omega)) ?_
    refine nm_r (show upd s (nI i).toNatClampNeg (nI (tj_val u (n / 5) (n % 5) (o i))).toInt8.toInt32 = upd s i (nI (tj_val u (n / 5) (n % 5) (o i))) by rw [nI_clamp (by omega), tj_i8 _ (by have := hvl (o i); omega)]) ?_
    refine nm_r (nI_1 i) (hw _ ⟨tj_dg_u h.1 (hvl _), fun d hd => ?_⟩)
    by_cases e : d = i
    · rw [e, pk_us]
    · rw [pk_un e]
      exact h.2 d (by omega)
/-- the trie of the atom: m variables, c rows, nothing chosen yet -/
abbrev tj_TR (m c : Nat) (o w : Nat → Nat) (a19 a20 a21 a22 a23 a24 : Nat → Int32) : Prop := a19 0 = nI m ∧ (∀ d, d < m → a20 d = nI (o d)) ∧ (c = 1 → ∀ d, d < m → a21 (16 * d) = nI (w (o d))) ∧ a22 0 = 0 ∧ a23 0 = nI c ∧ a24 0 = 0
theorem tj_build {post : St2 → Prop} {lv ai so fo af bd tc ac : Int32} {a1 a10 a11 a12 : Nat → Int64} {a2 a3 a4 a5 a6 a7 a8 a9 a13 a14 a15 a16 a17 a18 a19 a20 a21 a22 a23 a24 a25 : Nat → Int32} {q r n u v m c : Nat} {o : Nat → Nat} (hq : q < 2) (hr : r < 2) (hn : n < 25) (hu : u < 5) (hv : v < 5) (hm : m ≤ 2) (hc : c < 2) (h4 : a4 (4 * q) = nI r) (h0 : a5 (12 * q) = nI u) (h1 : a5 (12 * q + 1) = nI v) (h2 : a5 (12 * q + 2) = -1) (h18 : ∀ d, d < m → a18 d = nI (o d)) (ho : ∀ d, d < m → o d = u ∨ o d = v) (hdg : tj_dg a15) (hL : tj_L c n a7 a8 a9)
    (H : ∀ b15 b19 b20 b21 b22 b23 b24 : Nat → Int32, tj_dg b15 → tj_TR m c o (tj_val u (n / 5) (n % 5)) b19 b20 b21 b22 b23 b24 → post (lv, (nI q), ai, so, fo, af, bd, tc, (nI m), ac, a1, a2, a3, a4, a5, a6, a7, a8, a9, a10, a11, a12, a13, a14, b15, a16, a17, a18, b19, b20, b21, b22, b23, b24, a25)) : wpX_buildTrie post (lv, (nI q), ai, so, fo, af, bd, tc, (nI m), ac, a1, a2, a3, a4, a5, a6, a7, a8, a9, a10, a11, a12, a13, a14, a15, a16, a17, a18, a19, a20, a21, a22, a23, a24, a25) 0 := by
  have e7 : a7 (0 : Int32).toNatClampNeg = nI c := hL.1
  have e9 : a9 (0 : Int32).toNatClampNeg = nI c := hL.2.1
  have hol : ∀ d, d < m → o d < 5 := fun d hd => by rcases ho d hd with z | z <;> omega
  refine nm_r (tj_i40 q) (tj_voa hq hu hv rfl h0 h1 h2 (And.intro (tj_in 0 4 rfl (by omega)) (nm_e ?_)))
  refine pk_loop (fun k i (t : (Nat → Int32) × (Nat → Int32)) => wX_buildTrie_25 post 0 (nI (4 * q)) (tj_th u v) lv (nI q) ai so fo af bd tc (nI m) ac k (nI i) a1 a2 a3 a4 a5 a6 a7 a8 a9 a10 a11 a12 a13 a14 a15 a16 a17 a18 t.1 t.2 a21 a22 a23 a24 a25) (fun i t => t.1 0 = nI i ∧ ∀ d, d < i → t.2 d = nI (o d)) m 0 (upd a19 (0 : Int32).toNatClampNeg 0, a20) (by omega) ⟨show upd a19 (0 : Int32).toNatClampNeg 0 0 = nI 0 from tj_us rfl, fun d hd => absurd hd (by omega)⟩ ?_ ?_
  · intro k t ht
    refine br_t (nI_le (Nat.le_refl m) (by omega)) ?_
    have hcc : c = 0 ∨ c = 1 := by omega
    rcases hcc with rfl | rfl
    · refine Exists.intro 1 (And.intro (tj_in 0 4 rfl (by omega)) (br_t (by rw [e7]; decide) ?_))
      refine And.intro (tj_in 0 4 rfl (by omega)) (nm_e (And.intro (tj_in 0 16 rfl (by omega)) (nm_e (And.intro (tj_in 0 16 rfl (by omega)) (nm_e ?_)))))
      exact H a15 t.1 t.2 a21 _ _ _ hdg ⟨ht.1, ht.2, fun z => absurd z (by omega), tj_us rfl, tj_us rfl, tj_us rfl⟩
    · have e8 : a8 ((16 * 0) + 0 : Int32).toNatClampNeg = nI n := hL.2.2 rfl
      refine Exists.intro 2 (And.intro (tj_in 0 4 rfl (by omega)) (br_f (by rw [e7]; decide) (And.intro (tj_in 0 4 rfl (by omega)) (br_f (by rw [e9]; decide) (And.intro (tj_in 0 64 rfl (by omega)) ?_)))))
      rw [e8]
      refine tj_sort hq hr hn hu hv hm h4 h0 h1 ht.1 ht.2 ho hdg (fun b15 b21 hd' h21 => ?_)
      refine nm_e (nm_e (And.intro (tj_in 0 4 rfl (by omega)) (br_t (by rw [e7]; decide) ?_)))
      refine And.intro (tj_in 0 4 rfl (by omega)) (nm_e (And.intro (tj_in 0 16 rfl (by omega)) (nm_e (And.intro (tj_in 0 16 rfl (by omega)) (nm_e ?_)))))
      exact H b15 t.1 t.2 b21 _ _ _ hd' ⟨ht.1, ht.2, fun _ => h21, tj_us rfl, tj_us rfl, tj_us rfl⟩
  · intro k i t hi ht hw
    have et : t.1 (0 : Int32).toNatClampNeg = nI i := ht.1
    have e18 : a18 (nI i).toNatClampNeg = nI (o i) := by rw [nI_clamp (by omega)]; exact h18 i hi
    refine br_f (nI_ge hi (by omega)) (And.intro (tj_in i 5 rfl (by omega)) ?_)
    refine br_f (by rw [e18]; exact tj_thb u hu v hv (o i) (hol i hi) (ho i hi)) ?_
    refine And.intro (tj_in 0 4 rfl (by omega)) (And.intro (tj_in i 5 rfl (by omega)) (And.intro (tj_in i 12 (by rw [et]; exact tj_z3 i) (by omega)) ?_))
    refine nm_r (show upd t.2 ((3 * 0 : Int32) + (t.1 (0 : Int32).toNatClampNeg)).toNatClampNeg (vp_nar .byte (a18 (nI i).toNatClampNeg)) = upd t.2 i (nI (o i)) by rw [et, e18, tj_cl i (tj_z3 i), tj_nar (by have := hol i hi; omega)]) ?_
    refine And.intro (tj_in 0 4 rfl (by omega)) (And.intro (tj_in 0 4 rfl (by omega)) ?_)
    refine nm_r (show upd t.1 (0 : Int32).toNatClampNeg (((t.1 (0 : Int32).toNatClampNeg) + 1).toInt8.toInt32) = upd t.1 0 (nI (i + 1)) by rw [et, tj_i81 (by omega)]; rfl) ?_
    refine nm_r (nI_1 i) (hw (upd t.1 0 (nI (i + 1)), upd t.2 i (nI (o i))) ⟨show upd t.1 0 (nI (i + 1)) 0 = nI (i + 1) from pk_us, fun d hd => ?_⟩)
    show upd t.2 i (nI (o i)) d = nI (o d)
    by_cases e : d = i
    · rw [e, pk_us]
    · rw [pk_un e]
      exact ht.2 d (by omega)
end
section
theorem tj_wf0 {post : Int32 → Prop} {lv qu so fo af bd tc oc ac : Int32} {a1 a10 a11 a12 : Nat → Int64} {a2 a3 a4 a5 a6 a7 a8 a9 a13 a14 a15 a16 a17 a18 a19 a20 a21 a22 a23 a24 a25 : Nat → Int32} {p0 p1 : Int32} (h : (((1 : Int32) >>> (p0 &&& 31)) &&& 1) = 0) (H : post 0) : wpX_waitsFor post (lv, qu, 1, so, fo, af, bd, tc, oc, ac, a1, a2, a3, a4, a5, a6, a7, a8, a9, a10, a11, a12, a13, a14, a15, a16, a17, a18, a19, a20, a21, a22, a23, a24, a25) p0 p1 := br_t h H
theorem tj_wf1 {post : Int32 → Prop} {lv qu so fo af bd tc oc ac : Int32} {a1 a10 a11 a12 : Nat → Int64} {a2 a3 a4 a5 a6 a7 a8 a9 a13 a14 a15 a16 a17 a18 a19 a20 a21 a22 a23 a24 a25 : Nat → Int32} {p1 : Int32} {d m : Nat} (hd : d < m) (hm : m ≤ 2) (h24 : a24 0 = nI d) (h19 : a19 0 = nI m) (h20 : a20 d = p1) (H : post 1) : wpX_waitsFor post (lv, qu, 1, so, fo, af, bd, tc, oc, ac, a1, a2, a3, a4, a5, a6, a7, a8, a9, a10, a11, a12, a13, a14, a15, a16, a17, a18, a19, a20, a21, a22, a23, a24, a25) 0 p1 := by
  have e24 : a24 (0 : Int32).toNatClampNeg = nI d := h24
  have e19 : a19 (0 : Int32).toNatClampNeg = nI m := h19
  refine br_f (by decide) (And.intro (tj_in 0 4 rfl (by omega)) (And.intro (tj_in 0 4 rfl (by omega)) ?_))
  rw [e24, e19, tj_cl d (tj_z3 d)]
  exact br_t (nI_lt hd (by omega)) (And.intro (tj_in 0 4 rfl (by omega)) (And.intro (tj_in d 12 (tj_z3 d) (by omega)) (br_t h20 H)))
theorem tj_at {post : Int32 → Prop} {lv qu ai so fo af bd tc oc ac : Int32} {a1 a10 a11 a12 : Nat → Int64} {a2 a3 a4 a5 a6 a7 a8 a9 a13 a14 a15 a16 a17 a18 a19 a20 a21 a22 a23 a24 a25 : Nat → Int32} {p0 p1 p2 y : Int32} (k : Nat) (hi : ((48 * p0) + (16 * p1)) + p2 = nI k) (hk : k < 192) (h : a21 k = y) (H : post y) : wpX_trieAt post (lv, qu, ai, so, fo, af, bd, tc, oc, ac, a1, a2, a3, a4, a5, a6, a7, a8, a9, a10, a11, a12, a13, a14, a15, a16, a17, a18, a19, a20, a21, a22, a23, a24, a25) p0 p1 p2 := by
  refine And.intro (tj_in k 192 hi hk) ?_
  rw [tj_cl k hi, h]
  exact H
theorem tj_seek0 {post : Int32 → Prop} {lv qu ai so fo af bd tc oc ac : Int32} {a1 a10 a11 a12 : Nat → Int64} {a2 a3 a4 a5 a6 a7 a8 a9 a13 a14 a15 a16 a17 a18 a19 a20 a21 a22 a23 a24 a25 : Nat → Int32} {x : Int32} {d : Nat} (hd : d < 4) (h24 : a24 0 = nI d) (h22 : a22 d = 0) (h23 : a23 d = 0) (H : post 0) : wpX_seek post (lv, qu, ai, so, fo, af, bd, tc, oc, ac, a1, a2, a3, a4, a5, a6, a7, a8, a9, a10, a11, a12, a13, a14, a15, a16, a17, a18, a19, a20, a21, a22, a23, a24, a25) 0 x := by
  refine And.intro (tj_in 0 4 rfl (by omega)) (nm_r (show a24 (0 : Int32).toNatClampNeg = nI d from h24) ?_)
  refine And.intro (tj_in d 16 (tj_z4 d) (by omega)) (nm_r (show a22 ((4 * 0) + nI d : Int32).toNatClampNeg = 0 from tj_rd d (tj_z4 d) (by omega) h22) ?_)
  refine And.intro (tj_in d 16 (tj_z4 d) (by omega)) (nm_r (show a23 ((4 * 0) + nI d : Int32).toNatClampNeg = 0 from tj_rd d (tj_z4 d) (by omega) h23) ?_)
  exact Exists.intro 1 (br_t (by decide) H)
theorem tj_seek1 {post : Int32 → Prop} {lv qu ai so fo af bd tc oc ac : Int32} {a1 a10 a11 a12 : Nat → Int64} {a2 a3 a4 a5 a6 a7 a8 a9 a13 a14 a15 a16 a17 a18 a19 a20 a21 a22 a23 a24 a25 : Nat → Int32} {x : Int32} {d w : Nat} (hd : d < 4) (h24 : a24 0 = nI d) (h22 : a22 d = 0) (h23 : a23 d = 1) (h21 : a21 (16 * d) = nI w) (H0 : x ≤ nI w → post 0) (H1 : ¬ x ≤ nI w → post 1) : wpX_seek post (lv, qu, ai, so, fo, af, bd, tc, oc, ac, a1, a2, a3, a4, a5, a6, a7, a8, a9, a10, a11, a12, a13, a14, a15, a16, a17, a18, a19, a20, a21, a22, a23, a24, a25) 0 x := by
  refine And.intro (tj_in 0 4 rfl (by omega)) (nm_r (show a24 (0 : Int32).toNatClampNeg = nI d from h24) ?_)
  refine And.intro (tj_in d 16 (tj_z4 d) (by omega)) (nm_r (show a22 ((4 * 0) + nI d : Int32).toNatClampNeg = 0 from tj_rd d (tj_z4 d) (by omega) h22) ?_)
  refine And.intro (tj_in d 16 (tj_z4 d) (by omega)) (nm_r (show a23 ((4 * 0) + nI d : Int32).toNatClampNeg = 1 from tj_rd d (tj_z4 d) (by omega) h23) ?_)
  refine Exists.intro 3 (br_f (by decide) (And.intro (by decide) (nm_r (show ((0 : Int32) + 1) / 2 = 0 by decide) ?_)))
  refine tj_at (16 * d) (tj_z48 d) (by omega) h21 ?_
  refine br_c (fun z => ?_) (fun z => ?_)
  · exact br_t (by decide) (H0 z)
  · exact nm_e (br_t (by decide) (H1 z))
/-- d variables have their values (the only row's) -/
abbrev tj_K (d : Nat) (a22 a23 a24 : Nat → Int32) : Prop := a24 0 = nI d ∧ ∀ e, e ≤ d → a22 e = 0 ∧ a23 e = 1
abbrev tj_R (m : Nat) (o w : Nat → Nat) (a19 a20 a21 : Nat → Int32) : Prop := a19 0 = nI m ∧ (∀ d, d < m → a20 d = nI (o d)) ∧ ∀ d, d < m → a21 (16 * d) = nI (w (o d))
theorem tj_cv16 {post : Int32 → Prop} {J : Int32 → Int32 → Prop} {lv qu so fo af bd tc oc ac : Int32} {a1 a10 a11 a12 : Nat → Int64} {a2 a3 a4 a5 a6 a7 a8 a9 a13 a14 a15 a16 a17 a18 a19 a20 a21 a22 a23 a24 a25 : Nat → Int32} {d m f : Nat} {o w : Nat → Nat} (hd : d < m) (hm : m ≤ 2) (hf : f < 100) (hw : ∀ z, w z < 5) (hR : tj_R m o w a19 a20 a21) (hK : tj_K d a22 a23 a24)
    (Hm : w (o d) < f → post (-1)) (Hs : f = w (o d) → J (nI (w (o d))) 1) (Hl : f < w (o d) → J (nI (w (o d))) 0) : ∃ k, wX_commonValue_16 post J (nI (o d)) lv qu 1 so fo af bd tc oc ac a1 a2 a3 a4 a5 a6 a7 a8 a9 a10 a11 a12 a13 a14 a15 a16 a17 a18 a19 a20 a21 a22 a23 a24 a25 k (nI f) 1 0 := by
  have hw' := hw (o d)
  have e24 : a24 (0 : Int32).toNatClampNeg = nI d := hK.1
  have k22 := (hK.2 d (Nat.le_refl d)).1
  have k23 := (hK.2 d (Nat.le_refl d)).2
  have e23 : a23 ((4 * 0) + nI d : Int32).toNatClampNeg = 1 := tj_rd d (tj_z4 d) (by omega) k23
  refine Exists.intro 5 (br_f (by decide) ?_)
  refine tj_wf1 hd hm hK.1 hR.1 (hR.2.1 d hd) (br_f (by decide) ?_)
  refine tj_seek1 (by omega) hK.1 k22 k23 (hR.2.2 d hd) (fun z => ?_) (fun z => ?_)
  · have zz := (nI_leI (by omega) (by omega)).mp z
    rw [e24]
    refine And.intro (tj_in 0 4 rfl (by omega)) (And.intro (tj_in d 16 (tj_z4 d) (by omega)) (br_t (by rw [e23]; decide) (And.intro (tj_in 0 4 rfl (by omega)) ?_)))
    refine tj_at (16 * d) (tj_z48 d) (by omega) (hR.2.2 d hd) ?_
    refine br_c (fun g => ?_) (fun g => ?_)
    · have gg := (nI_leI (by omega) (by omega)).mp g
      refine nm_e (br_f (by decide) (tj_wf0 (by decide) (br_t rfl (nm_e ?_))))
      refine br_f (by decide) (tj_wf0 (by decide) (br_t rfl (nm_e ?_)))
      refine br_f (by decide) (tj_wf0 (by decide) (br_t rfl (nm_e ?_)))
      exact br_t (by decide) (Hs (by omega))
    · have gg : f < w (o d) := by
        rcases Nat.lt_or_ge f (w (o d)) with y | y
        · exact y
        · exact absurd (nI_le y (by omega)) g
      refine nm_e (br_f (by decide) (tj_wf0 (by decide) (br_t rfl (nm_e ?_))))
      refine br_f (by decide) (tj_wf0 (by decide) (br_t rfl (nm_e ?_)))
      refine br_f (by decide) (tj_wf0 (by decide) (br_t rfl (nm_e ?_)))
      exact br_t (by decide) (Hl gg)
  · have zz : w (o d) < f := by
      rcases Nat.lt_or_ge (w (o d)) f with y | y
      · exact y
      · exact absurd (nI_le y (by omega)) z
    rw [e24]
    exact And.intro (tj_in 0 4 rfl (by omega)) (And.intro (tj_in d 16 (tj_z4 d) (by omega)) (br_f (by rw [e23]; decide) (Hm zz)))
theorem tj_cv {post : Int32 → Prop} {lv qu so fo af bd tc oc ac : Int32} {a1 a10 a11 a12 : Nat → Int64} {a2 a3 a4 a5 a6 a7 a8 a9 a13 a14 a15 a16 a17 a18 a19 a20 a21 a22 a23 a24 a25 : Nat → Int32} {d m f : Nat} {o w : Nat → Nat} (hd : d < m) (hm : m ≤ 2) (hf : f < 100) (hw : ∀ z, w z < 5) (hR : tj_R m o w a19 a20 a21) (hK : tj_K d a22 a23 a24)
    (Hm : w (o d) < f → post (-1)) (Hh : f ≤ w (o d) → post (nI (w (o d)))) : wpX_commonValue post (lv, qu, 1, so, fo, af, bd, tc, oc, ac, a1, a2, a3, a4, a5, a6, a7, a8, a9, a10, a11, a12, a13, a14, a15, a16, a17, a18, a19, a20, a21, a22, a23, a24, a25) (nI (o d)) (nI f) := by
  have hw' := hw (o d)
  refine Exists.intro 3 (br_t rfl ?_)
  refine tj_cv16 hd hm hf hw hR hK Hm (fun z => ?_) (fun z => ?_)
  · exact br_f (by decide) (Hh (by omega))
  · refine br_t rfl (tj_cv16 hd hm (by omega) hw hR hK (fun y => absurd y (by omega)) (fun _ => ?_) (fun y => absurd y (by omega)))
    exact br_f (by decide) (Hh (by omega))
theorem tj_cv0 {post : Int32 → Prop} {lv qu so fo af bd tc oc ac : Int32} {a1 a10 a11 a12 : Nat → Int64} {a2 a3 a4 a5 a6 a7 a8 a9 a13 a14 a15 a16 a17 a18 a19 a20 a21 a22 a23 a24 a25 : Nat → Int32} {m : Nat} {o : Nat → Nat} (hd : 0 < m) (hm : m ≤ 2) (h19 : a19 0 = nI m) (h20 : ∀ d, d < m → a20 d = nI (o d)) (h22 : a22 0 = 0) (h23 : a23 0 = 0) (h24 : a24 0 = 0) (H : post (-1)) : wpX_commonValue post (lv, qu, 1, so, fo, af, bd, tc, oc, ac, a1, a2, a3, a4, a5, a6, a7, a8, a9, a10, a11, a12, a13, a14, a15, a16, a17, a18, a19, a20, a21, a22, a23, a24, a25) (nI (o 0)) 0 := by
  have e24 : a24 (0 : Int32).toNatClampNeg = 0 := h24
  have e23 : a23 ((4 * 0) + 0 : Int32).toNatClampNeg = 0 := h23
  refine Exists.intro 2 (br_t rfl (Exists.intro 2 (br_f (by decide) ?_)))
  refine tj_wf1 hd hm h24 h19 (h20 0 hd) (br_f (by decide) ?_)
  refine tj_seek0 (d := 0) (by omega) h24 h22 h23 ?_
  rw [e24]
  exact And.intro (tj_in 0 4 rfl (by omega)) (And.intro (tj_in 0 16 rfl (by omega)) (br_f (by rw [e23]; decide) H))
theorem tj_down {post : Int32 → St2 → Prop} {lv qu so fo af bd tc oc ac : Int32} {a1 a10 a11 a12 : Nat → Int64} {a2 a3 a4 a5 a6 a7 a8 a9 a13 a14 a15 a16 a17 a18 a19 a20 a21 a22 a23 a24 a25 : Nat → Int32} {d m : Nat} {o w : Nat → Nat} (hd : d < m) (hm : m ≤ 2) (hw : ∀ z, w z < 5) (hR : tj_R m o w a19 a20 a21) (hK : tj_K d a22 a23 a24)
    (H : ∀ (y : Int32) (b22 b23 b24 : Nat → Int32), tj_K (d + 1) b22 b23 b24 → post y (lv, qu, 1, so, fo, af, bd, tc, oc, ac, a1, a2, a3, a4, a5, a6, a7, a8, a9, a10, a11, a12, a13, a14, a15, a16, a17, a18, a19, a20, a21, b22, b23, b24, a25)) : wpX_goDown post (lv, qu, 1, so, fo, af, bd, tc, oc, ac, a1, a2, a3, a4, a5, a6, a7, a8, a9, a10, a11, a12, a13, a14, a15, a16, a17, a18, a19, a20, a21, a22, a23, a24, a25) (nI (o d)) (nI (w (o d))) := by
  have hw' := hw (o d)
  have e24 : a24 (0 : Int32).toNatClampNeg = nI d := hK.1
  have k22 := (hK.2 d (Nat.le_refl d)).1
  have k23 := (hK.2 d (Nat.le_refl d)).2
  refine Exists.intro 5 (br_f (by decide) ?_)
  refine tj_wf1 hd hm hK.1 hR.1 (hR.2.1 d hd) (br_f (by decide) ?_)
  refine tj_seek1 (by omega) hK.1 k22 k23 (hR.2.2 d hd) (fun _ => ?_) (fun z => absurd (nI_le (Nat.le_refl _) (by omega)) z)
  refine tj_seek1 (by omega) hK.1 k22 k23 (hR.2.2 d hd) (fun z => absurd z (by rw [nI_1]; exact nI_ge (by omega) (by omega))) (fun _ => ?_)
  refine And.intro (tj_in 0 4 rfl (by omega)) (And.intro (tj_in 0 4 rfl (by omega)) ?_)
  refine nm_r (show upd a24 (0 : Int32).toNatClampNeg (((a24 (0 : Int32).toNatClampNeg) + 1).toInt8.toInt32) = upd a24 0 (nI (d + 1)) by rw [e24, tj_i81 (by omega)]; rfl) ?_
  have eu : upd a24 0 (nI (d + 1)) (0 : Int32).toNatClampNeg = nI (d + 1) := pk_us
  rw [eu]
  refine And.intro (tj_in 0 4 rfl (by omega)) (And.intro (tj_in (d + 1) 16 (tj_z4 (d + 1)) (by omega)) ?_)
  refine nm_r (show upd a22 ((4 * 0) + nI (d + 1) : Int32).toNatClampNeg (0 : Int32).toInt8.toInt32 = upd a22 (d + 1) 0 by rw [tj_cl (d + 1) (tj_z4 (d + 1))]; rfl) ?_
  refine And.intro (tj_in 0 4 rfl (by omega)) (And.intro (tj_in (d + 1) 16 (tj_z4 (d + 1)) (by omega)) ?_)
  refine nm_r (show upd a23 ((4 * 0) + nI (d + 1) : Int32).toNatClampNeg (1 : Int32).toInt8.toInt32 = upd a23 (d + 1) 1 by rw [tj_cl (d + 1) (tj_z4 (d + 1))]; rfl) ?_
  refine nm_e (nm_e (br_f (by decide) (tj_wf0 (by decide) (br_t rfl (nm_e ?_)))))
  refine br_f (by decide) (tj_wf0 (by decide) (br_t rfl (nm_e ?_)))
  refine br_f (by decide) (tj_wf0 (by decide) (br_t rfl (nm_e ?_)))
  refine br_t (by decide) (H _ _ _ _ ⟨pk_us, fun e he => ?_⟩)
  by_cases g : e = d + 1
  · rw [g]
    exact ⟨pk_us, pk_us⟩
  · rw [pk_un g, pk_un g]
    exact hK.2 e (by omega)
theorem tj_up {post : St2 → Prop} {lv qu so fo af bd tc oc ac : Int32} {a1 a10 a11 a12 : Nat → Int64} {a2 a3 a4 a5 a6 a7 a8 a9 a13 a14 a15 a16 a17 a18 a19 a20 a21 a22 a23 a24 a25 : Nat → Int32} {d m : Nat} {o w : Nat → Nat} (hd : d < m) (hm : m ≤ 2) (hR : tj_R m o w a19 a20 a21) (hK : tj_K (d + 1) a22 a23 a24)
    (H : ∀ b24 : Nat → Int32, tj_K d a22 a23 b24 → post (lv, qu, 1, so, fo, af, bd, tc, oc, ac, a1, a2, a3, a4, a5, a6, a7, a8, a9, a10, a11, a12, a13, a14, a15, a16, a17, a18, a19, a20, a21, a22, a23, b24, a25)) : wpX_goUp post (lv, qu, 1, so, fo, af, bd, tc, oc, ac, a1, a2, a3, a4, a5, a6, a7, a8, a9, a10, a11, a12, a13, a14, a15, a16, a17, a18, a19, a20, a21, a22, a23, a24, a25) (nI (o d)) := by
  have e24 : a24 (0 : Int32).toNatClampNeg = nI (d + 1) := hK.1
  refine Exists.intro 5 (br_f (by decide) (br_f (by decide) (And.intro (tj_in 0 4 rfl (by omega)) ?_)))
  rw [e24]
  refine br_f (nI_ne0 (by omega) (by omega)) (And.intro (tj_in 0 4 rfl (by omega)) (And.intro (tj_in d 12 (tj_z3m d) (by omega)) ?_))
  rw [tj_cl d (tj_z3m d)]
  refine br_t (hR.2.1 d hd) (And.intro (tj_in 0 4 rfl (by omega)) (And.intro (tj_in 0 4 rfl (by omega)) ?_))
  refine nm_r (show upd a24 (0 : Int32).toNatClampNeg ((nI (d + 1) - 1).toInt8.toInt32) = upd a24 0 (nI d) by rw [nI_pred, tj_i8 d (by omega)]; rfl) ?_
  refine nm_e (br_f (by decide) (br_t (by decide) (nm_e ?_)))
  refine br_f (by decide) (br_t (by decide) (nm_e ?_))
  refine br_f (by decide) (br_t (by decide) (nm_e ?_))
  exact br_t (by decide) (H _ ⟨pk_us, fun e he => hK.2 e (by omega)⟩)
/-- the answers with one more bit -/
def tj_put (a : Nat → Int64) (n : Nat) : Nat → Int64 := vp_updL a (n / 64) (a (n / 64) ||| ((1 : Int64) <<< ((nI n &&& 63).toInt64 &&& 63)))
theorem tj_offer {post : St2 → Prop} {lv ai so fo af bd tc oc ac : Int32} {a1 a10 a11 a12 : Nat → Int64} {a2 a3 a4 a5 a6 a7 a8 a9 a13 a14 a15 a16 a17 a18 a19 a20 a21 a22 a23 a24 a25 : Nat → Int32} {q s : Nat} {dg : Nat → Nat} (hq : q < 2) (hs : s < 32) (h6 : a6 q = nI s) (hd : ∀ j, j < 5 → dg j < 5 ∧ a15 j = nI (dg j)) (H : post (lv, (nI q), ai, so, fo, 1, bd, tc, oc, ac, a1, a2, a3, a4, a5, a6, a7, a8, a9, (tj_put a10 (tj_an s dg 5)), a11, a12, a13, a14, a15, a16, a17, a18, a19, a20, a21, a22, a23, a24, a25)) : wpX_offerAnswer post (lv, (nI q), ai, so, fo, af, bd, tc, oc, ac, a1, a2, a3, a4, a5, a6, a7, a8, a9, a10, a11, a12, a13, a14, a15, a16, a17, a18, a19, a20, a21, a22, a23, a24, a25) := by
  have e6 : a6 (nI q).toNatClampNeg = nI s := by rw [nI_clamp (by omega)]; exact h6
  have hlt := tj_an_lt s dg (fun j hj => (hd j hj).1)
  refine pk_loop (σ := Unit) (fun k i _ => wX_offerAnswer_4 post lv (nI q) ai so fo af bd tc oc ac a1 a2 a3 a4 a5 a6 a7 a8 a9 a10 a11 a12 a13 a14 a15 a16 a17 a18 a19 a20 a21 a22 a23 a24 a25 k (nI (tj_an s dg i)) (nI i)) (fun _ _ => True) 5 0 () (by omega) trivial ?_ ?_
  · intro k _ _
    have h5 : tj_an s dg 5 < 3125 := hlt 5 (by omega)
    refine pk_le 5 5 (fun _ => ?_) (fun z => absurd z (by omega))
    have hi : nI (tj_an s dg 5) >>> ((6 : Int32) &&& 31) = nI (tj_an s dg 5 / 64) := tj_s6 (by omega)
    refine And.intro (tj_in _ 49 hi (by omega)) (And.intro (tj_in _ 49 hi (by omega)) ?_)
    rw [tj_cl _ hi (by omega)]
    exact nm_e H
  · intro k i _ hi _ hw
    refine pk_le 5 i (fun z => absurd z (by omega)) (fun _ => And.intro (tj_in q 2 rfl hq) ?_)
    rw [e6]
    have hst : tj_an s dg (i + 1) = if s.testBit i = true then 5 * tj_an s dg i + dg i else tj_an s dg i := rfl
    have hW : wX_offerAnswer_4 post lv (nI q) ai so fo af bd tc oc ac a1 a2 a3 a4 a5 a6 a7 a8 a9 a10 a11 a12 a13 a14 a15 a16 a17 a18 a19 a20 a21 a22 a23 a24 a25 k (nI (tj_an s dg (i + 1))) (nI (i + 1)) := hw () trivial
    cases hb : s.testBit i with
    | false =>
      rw [hst, hb, if_neg (by decide)] at hW
      exact br_t ((tj_sb s hs i hi).mpr hb) (nm_r (nI_1 i) hW)
    | true =>
      rw [hst, hb, if_pos rfl] at hW
      refine br_f (fun z => absurd ((tj_sb s hs i hi).mp z) (by rw [hb]; decide)) (And.intro (tj_in i 5 rfl hi) ?_)
      refine nm_r (show (5 * nI (tj_an s dg i)) + (a15 (nI i).toNatClampNeg) = nI (5 * tj_an s dg i + dg i) by rw [nI_clamp (by omega), (hd i hi).2, show (5 : Int32) = nI 5 from rfl, pk_mul, nI_add]) (nm_r (nI_1 i) hW)
theorem tj_take {post : St2 → Prop} {lv ai so fo af bd tc ac : Int32} {a1 a10 a11 a12 : Nat → Int64} {a2 a3 a4 a5 a6 a7 a8 a9 a13 a14 a15 a16 a17 a18 a19 a20 a21 a22 a23 a24 a25 : Nat → Int32} {q s m : Nat} {o w : Nat → Nat} (hq : q < 2) (hs : s < 32) (hm : m ≤ 2) (h6 : a6 q = nI s) (hw : ∀ z, w z < 5) (ho : ∀ d, d < m → o d < 5) (h18 : ∀ d, d < m → a18 d = nI (o d)) (h25 : ∀ d, d < m → a25 d = nI (w (o d))) (hdg : tj_dg a15)
    (H : ∀ (b15 : Nat → Int32) (dg : Nat → Nat), tj_dg b15 → (∀ d, d < m → dg (o d) = w (o d)) → post (lv, (nI q), ai, so, fo, 1, bd, tc, (nI m), ac, a1, a2, a3, a4, a5, a6, a7, a8, a9, (tj_put a10 (tj_an s dg 5)), a11, a12, a13, a14, b15, a16, a17, a18, a19, a20, a21, a22, a23, a24, a25)) : wpX_takeAnswer post (lv, (nI q), ai, so, fo, af, bd, tc, (nI m), ac, a1, a2, a3, a4, a5, a6, a7, a8, a9, a10, a11, a12, a13, a14, a15, a16, a17, a18, a19, a20, a21, a22, a23, a24, a25) := by
  refine pk_loop (fun k i t => wX_takeAnswer_2 post lv (nI q) ai so fo af bd tc (nI m) ac k (nI i) a1 a2 a3 a4 a5 a6 a7 a8 a9 a10 a11 a12 a13 a14 t a16 a17 a18 a19 a20 a21 a22 a23 a24 a25) (fun i t => ∃ dg : Nat → Nat, (∀ j, j < 5 → dg j < 5 ∧ t j = nI (dg j)) ∧ ∀ d, d < i → dg (o d) = w (o d)) m 0 a15 (by omega) ?_ ?_ ?_
  · refine ⟨fun j => (a15 j).toNatClampNeg, fun j hj => ?_, fun d hd => absurd hd (by omega)⟩
    obtain ⟨x, hx, ex⟩ := hdg j hj
    show (a15 j).toNatClampNeg < 5 ∧ a15 j = nI (a15 j).toNatClampNeg
    rw [ex, nI_clamp (by omega)]
    exact ⟨hx, rfl⟩
  · intro k t ht
    obtain ⟨dg, h1, h2⟩ := ht
    refine br_t (nI_le (Nat.le_refl m) (by omega)) ?_
    exact tj_offer hq hs h6 h1 (H t dg (fun j hj => ⟨dg j, h1 j hj⟩) h2)
  · intro k i t hi ht hW
    obtain ⟨dg, h1, h2⟩ := ht
    have e18 : a18 (nI i).toNatClampNeg = nI (o i) := by rw [nI_clamp (by omega)]; exact h18 i hi
    have hoi := ho i hi
    have hwi := hw (o i)
    refine br_f (nI_ge hi (by omega)) (And.intro (tj_in i 5 rfl (by omega)) (And.intro (tj_in i 6 rfl (by omega)) ?_))
    rw [e18]
    refine And.intro (tj_in (o i) 5 rfl hoi) ?_
    refine nm_r (show upd t (nI (o i)).toNatClampNeg (vp_nar .byte (a25 (nI i).toNatClampNeg)) = upd t (o i) (nI (w (o i))) by rw [nI_clamp (by omega), nI_clamp (by omega), h25 i hi, tj_nar (by omega)]) ?_
    refine nm_r (nI_1 i) (hW _ ⟨fun j => if j = o i then w (o i) else dg j, fun j hj => ?_, fun d hd => ?_⟩)
    · by_cases g : j = o i
      · show (if j = o i then w (o i) else dg j) < 5 ∧ upd t (o i) (nI (w (o i))) j = nI (if j = o i then w (o i) else dg j)
        rw [if_pos g, g, pk_us]
        exact ⟨hwi, rfl⟩
      · show (if j = o i then w (o i) else dg j) < 5 ∧ upd t (o i) (nI (w (o i))) j = nI (if j = o i then w (o i) else dg j)
        rw [if_neg g, pk_un g]
        exact h1 j hj
    · show (if o d = o i then w (o i) else dg (o d)) = w (o d)
      by_cases g : o d = o i
      · rw [if_pos g, g]
      · rw [if_neg g]
        by_cases y : d = i
        · exact absurd (by rw [y]) g
        · exact h2 d (by omega)
end
section
theorem tj_un0 {post : St2 → Prop} {lv qu so fo af bd tc oc ac : Int32} {a1 a10 a11 a12 : Nat → Int64} {a2 a3 a4 a5 a6 a7 a8 a9 a13 a14 a15 a16 a17 a18 a19 a20 a21 a22 a23 a24 a25 : Nat → Int32} {n m : Nat} {o w : Nat → Nat} (h0 : 0 < m) (hm : m ≤ 2) (hw : ∀ z, w z < 5) (hR : tj_R m o w a19 a20 a21) (hK : tj_K 0 a22 a23 a24) (h18 : a18 0 = nI (o 0)) (H : post (lv, qu, 1, so, fo, af, bd, tc, oc, ac, a1, a2, a3, a4, a5, a6, a7, a8, a9, a10, a11, a12, a13, a14, a15, a16, a17, a18, a19, a20, a21, a22, a23, a24, a25)) : wX_leapfrog_37 post (n + 1) 0 (nI (w (o 0) + 1)) lv qu 1 so fo af bd tc oc ac a1 a2 a3 a4 a5 a6 a7 a8 a9 a10 a11 a12 a13 a14 a15 a16 a17 a18 a19 a20 a21 a22 a23 a24 a25 := by
  have hw' := hw (o 0)
  refine br_f (by decide) (And.intro (tj_in 0 5 rfl (by omega)) (nm_r (show a18 (0 : Int32).toNatClampNeg = nI (o 0) from h18) ?_))
  refine tj_cv (d := 0) (f := w (o 0) + 1) h0 hm (by omega) hw hR hK (fun _ => ?_) (fun z => absurd z (by omega))
  exact br_f (by decide) (nm_e (br_f (by decide) H))
theorem tj_un1 {post : St2 → Prop} {lv qu so fo af bd tc oc ac : Int32} {a1 a10 a11 a12 : Nat → Int64} {a2 a3 a4 a5 a6 a7 a8 a9 a13 a14 a15 a16 a17 a18 a19 a20 a21 a22 a23 a24 a25 : Nat → Int32} {n m : Nat} {o w : Nat → Nat} (h1 : 1 < m) (hm : m ≤ 2) (hw : ∀ z, w z < 5) (hR : tj_R m o w a19 a20 a21) (hK : tj_K 1 a22 a23 a24) (h18 : ∀ d, d < m → a18 d = nI (o d)) (h25 : a25 0 = nI (w (o 0))) (H : ∀ b24 : Nat → Int32, post (lv, qu, 1, so, fo, af, bd, tc, oc, ac, a1, a2, a3, a4, a5, a6, a7, a8, a9, a10, a11, a12, a13, a14, a15, a16, a17, a18, a19, a20, a21, a22, a23, b24, a25)) : wX_leapfrog_37 post (n + 2) 1 (nI (w (o 1) + 1)) lv qu 1 so fo af bd tc oc ac a1 a2 a3 a4 a5 a6 a7 a8 a9 a10 a11 a12 a13 a14 a15 a16 a17 a18 a19 a20 a21 a22 a23 a24 a25 := by
  have hw' := hw (o 1)
  refine br_f (by decide) (And.intro (tj_in 1 5 rfl (by omega)) (nm_r (show a18 (1 : Int32).toNatClampNeg = nI (o 1) from h18 1 h1) ?_))
  refine tj_cv (d := 1) (f := w (o 1) + 1) h1 hm (by omega) hw hR hK (fun _ => ?_) (fun z => absurd z (by omega))
  refine br_f (by decide) (nm_r (show (1 : Int32) + (-1) = 0 by decide) (br_t (by decide) (And.intro (tj_in 0 5 rfl (by omega)) ?_)))
  rw [show a18 (0 : Int32).toNatClampNeg = nI (o 0) from h18 0 (by omega)]
  refine tj_up (d := 0) (by omega) hm hR hK (fun b24 hK0 => ?_)
  refine And.intro (tj_in 0 6 rfl (by omega)) (nm_r (show (a25 (0 : Int32).toNatClampNeg) + 1 = nI (w (o 0) + 1) by rw [show a25 (0 : Int32).toNatClampNeg = nI (w (o 0)) from h25, nI_1]) ?_)
  exact tj_un0 (by omega) hm hw hR hK0 (h18 0 (by omega)) (H b24)
theorem tj_143 {post : St2 → Prop} {J : Int32 → Int32 → Int32 → Int32 → Int32 → Int32 → Int32 → Int32 → Int32 → Int32 → Int32 → Int32 → (Nat → Int64) → (Nat → Int32) → (Nat → Int32) → (Nat → Int32) → (Nat → Int32) → (Nat → Int32) → (Nat → Int32) → (Nat → Int32) → (Nat → Int32) → (Nat → Int64) → (Nat → Int64) → (Nat → Int64) → (Nat → Int32) → (Nat → Int32) → (Nat → Int32) → (Nat → Int32) → (Nat → Int32) → (Nat → Int32) → (Nat → Int32) → (Nat → Int32) → (Nat → Int32) → (Nat → Int32) → (Nat → Int32) → (Nat → Int32) → (Nat → Int32) → Prop} {lv qu so fo af bd tc oc : Int32} {a1 a10 a11 a12 : Nat → Int64} {a2 a3 a4 a5 a6 a7 a8 a9 a13 a14 a15 a16 a17 a18 a19 a20 a21 a22 a23 a25 : Nat → Int32} {k m : Nat} {o w : Nat → Nat} (hm : m ≤ 2) (hkm : k < m) (hw : ∀ z, w z < 5) (hR : tj_R m o w a19 a20 a21) (h18 : ∀ d, d < m → a18 d = nI (o d)) (h25 : ∀ d, d < m → a25 d = nI (w (o d)))
    (HJ : ∀ b24 : Nat → Int32, tj_K k a22 a23 b24 → J (nI k) (nI (w (o k) + 1)) lv qu 1 so fo af bd tc oc (nI (k + 1)) a1 a2 a3 a4 a5 a6 a7 a8 a9 a10 a11 a12 a13 a14 a15 a16 a17 a18 a19 a20 a21 a22 a23 b24 a25) : ∀ (e : Nat) (a24 : Nat → Int32), k + e ≤ m → tj_K (k + e) a22 a23 a24 → wX_leapfrog_143 post J (e + 1) (nI (k + e)) lv qu 1 so fo af bd tc oc (nI (k + 1)) a1 a2 a3 a4 a5 a6 a7 a8 a9 a10 a11 a12 a13 a14 a15 a16 a17 a18 a19 a20 a21 a22 a23 a24 a25 := by
  intro e
  induction e with
  | zero =>
    intro a24 he hK
    refine br_t (by rw [nI_pred]; exact nI_le (Nat.le_refl k) (by omega)) (And.intro (tj_in k 6 rfl (by omega)) (nm_r (show (a25 (nI (k + 0)).toNatClampNeg) + 1 = nI (w (o k) + 1) by rw [nI_clamp (by omega), Nat.add_zero, h25 k hkm, nI_1]) ?_))
    exact HJ a24 hK
  | succ e ih =>
    intro a24 he hK
    refine br_f (by rw [nI_pred]; exact nI_ge (by omega) (by omega)) (nm_r (pk_m1 (k + e)) (And.intro (tj_in (k + e) 5 rfl (by omega)) ?_))
    rw [show a18 (nI (k + e)).toNatClampNeg = nI (o (k + e)) by rw [nI_clamp (by omega)]; exact h18 (k + e) (by omega)]
    refine tj_up (d := k + e) (by omega) hm hR hK (fun b24 hK' => ?_)
    exact ih b24 (by omega) hK'
theorem tj_last {post : St2 → Prop} {lv so fo af bd tc : Int32} {a1 a10 a11 a12 : Nat → Int64} {a2 a3 a4 a5 a6 a7 a8 a9 a13 a14 a15 a16 a17 a18 a19 a20 a21 a22 a23 a24 a25 : Nat → Int32} {f d m k q s : Nat} {o w : Nat → Nat} (hd : d + 1 = m) (hm : m ≤ 2) (hkm : k ≤ m) (hq : q < 2) (hs : s < 32) (h6 : a6 q = nI s) (hw : ∀ z, w z < 5) (ho : ∀ d, d < m → o d < 5) (hR : tj_R m o w a19 a20 a21) (hK : tj_K d a22 a23 a24) (h18 : ∀ d, d < m → a18 d = nI (o d)) (h25 : ∀ e, e < d → a25 e = nI (w (o e))) (hdg : tj_dg a15)
    (H : ∀ (b15 b22 b23 b24 b25 : Nat → Int32) (dg : Nat → Nat), tj_dg b15 → (∀ e, e < m → dg (o e) = w (o e)) → post (lv, (nI q), 1, so, fo, 1, bd, tc, (nI m), (nI k), a1, a2, a3, a4, a5, a6, a7, a8, a9, (tj_put a10 (tj_an s dg 5)), a11, a12, a13, a14, b15, a16, a17, a18, a19, a20, a21, b22, b23, b24, b25)) : wX_leapfrog_37 post (f + 3) (nI d) 0 lv (nI q) 1 so fo af bd tc (nI m) (nI k) a1 a2 a3 a4 a5 a6 a7 a8 a9 a10 a11 a12 a13 a14 a15 a16 a17 a18 a19 a20 a21 a22 a23 a24 a25 := by
  have hw' := hw (o d)
  refine br_f (nI_pos (by omega)) (And.intro (tj_in d 5 rfl (by omega)) (nm_r (show a18 (nI d).toNatClampNeg = nI (o d) by rw [nI_clamp (by omega)]; exact h18 d (by omega)) ?_))
  refine tj_cv (d := d) (f := 0) (by omega) hm (by omega) hw hR hK (fun z => absurd z (by omega)) (fun _ => ?_)
  refine br_t (nI_pos' (by omega)) (tj_down (by omega) hm hw hR hK (fun y b22 b23 b24 hK' => ?_))
  refine And.intro (tj_in d 6 rfl (by omega)) (nm_r (show upd a25 (nI d).toNatClampNeg (nI (w (o d))).toInt8.toInt32 = upd a25 d (nI (w (o d))) by rw [nI_clamp (by omega), tj_i8 _ (by omega)]) ?_)
  have g25 : ∀ e, e < m → upd a25 d (nI (w (o d))) e = nI (w (o e)) := by
    intro e he
    by_cases g : e = d
    · rw [g, pk_us]
    · rw [pk_un g]
      exact h25 e (by omega)
  refine nm_r (nI_1 d) (br_t (nI_le (by omega) (by omega)) ?_)
  refine tj_take hq hs hm h6 hw ho h18 g25 hdg (fun b15 dg hd' hdo => ?_)
  refine br_c (fun _ => ?_) (fun _ => H b15 b22 b23 b24 _ dg hd' hdo)
  refine br_c (fun _ => H b15 b22 b23 b24 _ dg hd' hdo) (fun hk0 => ?_)
  cases k with
  | zero => exact absurd rfl hk0
  | succ k =>
    have hK2 : tj_K (k + (m - k)) b22 b23 b24 := by
      rw [show k + (m - k) = d + 1 by omega]
      exact hK'
    refine Exists.intro (m - k + 1) ?_
    rw [show d + 1 = k + (m - k) by omega]
    refine tj_143 hm (by omega) hw hR h18 g25 (fun c24 hKk => ?_) (m - k) b24 (by omega) hK2
    have hk01 : k = 0 ∨ k = 1 := by omega
    rcases hk01 with rfl | rfl
    · exact tj_un0 (by omega) hm hw hR hKk (h18 0 (by omega)) (H b15 b22 b23 c24 _ dg hd' hdo)
    · exact tj_un1 (by omega) hm hw hR hKk h18 (g25 0 (by omega)) (fun e24 => H b15 b22 b23 e24 _ dg hd' hdo)
theorem tj_lf37 {post : St2 → Prop} {lv so fo af bd tc : Int32} {a1 a10 a11 a12 : Nat → Int64} {a2 a3 a4 a5 a6 a7 a8 a9 a13 a14 a15 a16 a17 a18 a19 a20 a21 a22 a23 a24 a25 : Nat → Int32} {m k q s : Nat} {o w : Nat → Nat} (h0 : 0 < m) (hm : m ≤ 2) (hkm : k ≤ m) (hq : q < 2) (hs : s < 32) (h6 : a6 q = nI s) (hw : ∀ z, w z < 5) (ho : ∀ d, d < m → o d < 5) (hT : tj_TR m 1 o w a19 a20 a21 a22 a23 a24) (h18 : ∀ d, d < m → a18 d = nI (o d)) (hdg : tj_dg a15)
    (H : ∀ (b15 b22 b23 b24 b25 : Nat → Int32) (dg : Nat → Nat), tj_dg b15 → (∀ e, e < m → dg (o e) = w (o e)) → post (lv, (nI q), 1, so, fo, 1, bd, tc, (nI m), (nI k), a1, a2, a3, a4, a5, a6, a7, a8, a9, (tj_put a10 (tj_an s dg 5)), a11, a12, a13, a14, b15, a16, a17, a18, a19, a20, a21, b22, b23, b24, b25)) : ∃ n, wX_leapfrog_37 post n 0 0 lv (nI q) 1 so fo af bd tc (nI m) (nI k) a1 a2 a3 a4 a5 a6 a7 a8 a9 a10 a11 a12 a13 a14 a15 a16 a17 a18 a19 a20 a21 a22 a23 a24 a25 := by
  have hR : tj_R m o w a19 a20 a21 := ⟨hT.1, hT.2.1, hT.2.2.1 rfl⟩
  have hK : tj_K 0 a22 a23 a24 := ⟨hT.2.2.2.2.2, fun e he => by rw [show e = 0 by omega]; exact ⟨hT.2.2.2.1, hT.2.2.2.2.1⟩⟩
  have hw' := hw (o 0)
  have h12 : m = 1 ∨ m = 2 := by omega
  rcases h12 with h | h
  · exact Exists.intro 4 (tj_last (f := 1) (d := 0) (by omega) hm hkm hq hs h6 hw ho hR hK h18 (fun e he => absurd he (by omega)) hdg H)
  · refine Exists.intro 5 ?_
    refine br_f (by decide) (And.intro (tj_in 0 5 rfl (by omega)) (nm_r (show a18 (0 : Int32).toNatClampNeg = nI (o 0) from h18 0 (by omega)) ?_))
    refine tj_cv (d := 0) (f := 0) (by omega) hm (by omega) hw hR hK (fun z => absurd z (by omega)) (fun _ => ?_)
    refine br_t (nI_pos' (by omega)) (tj_down (by omega) hm hw hR hK (fun y b22 b23 b24 hK' => ?_))
    refine And.intro (tj_in 0 6 rfl (by omega)) (nm_r (show upd a25 (0 : Int32).toNatClampNeg (nI (w (o 0))).toInt8.toInt32 = upd a25 0 (nI (w (o 0))) by rw [tj_i8 _ (by omega)]; rfl) ?_)
    refine nm_e (br_f (nI_ge (a := 1) (by omega) (by omega)) ?_)
    exact tj_last (f := 1) (d := 1) (by omega) hm hkm hq hs h6 hw ho hR hK' h18 (fun e he => by rw [show e = 0 by omega, pk_us]) hdg (fun b15 c22 c23 c24 c25 dg => H b15 c22 c23 c24 c25 dg)
theorem tj_lf37z {post : St2 → Prop} {lv qu so fo af bd tc oc ac : Int32} {a1 a10 a11 a12 : Nat → Int64} {a2 a3 a4 a5 a6 a7 a8 a9 a13 a14 a15 a16 a17 a18 a19 a20 a21 a22 a23 a24 a25 : Nat → Int32} {m c : Nat} {o w : Nat → Nat} (h0 : 0 < m) (hm : m ≤ 2) (hc : c = 0) (hT : tj_TR m c o w a19 a20 a21 a22 a23 a24) (h18 : ∀ d, d < m → a18 d = nI (o d)) (H : post (lv, qu, 1, so, fo, af, bd, tc, oc, ac, a1, a2, a3, a4, a5, a6, a7, a8, a9, a10, a11, a12, a13, a14, a15, a16, a17, a18, a19, a20, a21, a22, a23, a24, a25)) : ∃ n, wX_leapfrog_37 post n 0 0 lv qu 1 so fo af bd tc oc ac a1 a2 a3 a4 a5 a6 a7 a8 a9 a10 a11 a12 a13 a14 a15 a16 a17 a18 a19 a20 a21 a22 a23 a24 a25 := by
  subst hc
  refine Exists.intro 1 ?_
  refine br_f (by decide) (And.intro (tj_in 0 5 rfl (by omega)) (nm_r (show a18 (0 : Int32).toNatClampNeg = nI (o 0) from h18 0 (by omega)) ?_))
  refine tj_cv0 h0 hm hT.1 hT.2.1 hT.2.2.2.1 hT.2.2.2.2.1 hT.2.2.2.2.2 ?_
  exact br_f (by decide) (nm_e (br_f (by decide) H))
/-- the question's atom and what is asked -/
abbrev tj_P (q r u v s : Nat) (a3 a4 a5 a6 : Nat → Int32) : Prop := (q < 2 ∧ r < 2 ∧ u < 5 ∧ v < 5 ∧ s < 32) ∧ a3 q = 1 ∧ a4 (4 * q) = nI r ∧ a5 (12 * q) = nI u ∧ a5 (12 * q + 1) = nI v ∧ a5 (12 * q + 2) = -1 ∧ a6 q = nI s
theorem tj_leap {post : St2 → Prop} {lv so fo af bd tc oc ac : Int32} {a1 a10 a11 a12 : Nat → Int64} {a2 a3 a4 a5 a6 a7 a8 a9 a13 a14 a15 a16 a17 a18 a19 a20 a21 a22 a23 a24 a25 : Nat → Int32} {q r n u v s c : Nat} (hP : tj_P q r u v s a3 a4 a5 a6) (hn : n < 25) (hc : c < 2) (hL : tj_L c n a7 a8 a9) (hdg : tj_dg a15)
    (H0 : c = 0 → ∀ (oc ac : Int32) (a15 a18 a19 a20 a21 a22 a23 a24 a25 : Nat → Int32), tj_dg a15 → post (lv, (nI q), 1, so, fo, af, bd, tc, oc, ac, a1, a2, a3, a4, a5, a6, a7, a8, a9, a10, a11, a12, a13, a14, a15, a16, a17, a18, a19, a20, a21, a22, a23, a24, a25))
    (H1 : c = 1 → ∀ (oc ac : Int32) (a15 a18 a19 a20 a21 a22 a23 a24 a25 : Nat → Int32) (dg : Nat → Nat), tj_dg a15 → dg u = tj_val u (n / 5) (n % 5) u → dg v = tj_val u (n / 5) (n % 5) v → post (lv, (nI q), 1, so, fo, 1, bd, tc, oc, ac, a1, a2, a3, a4, a5, a6, a7, a8, a9, (tj_put a10 (tj_an s dg 5)), a11, a12, a13, a14, a15, a16, a17, a18, a19, a20, a21, a22, a23, a24, a25)) : wpX_leapfrog post (lv, (nI q), 1, so, fo, af, bd, tc, oc, ac, a1, a2, a3, a4, a5, a6, a7, a8, a9, a10, a11, a12, a13, a14, a15, a16, a17, a18, a19, a20, a21, a22, a23, a24, a25) := by
  obtain ⟨⟨hq, hr, hu, hv, hs⟩, h3, h4, h50, h51, h52, h6⟩ := hP
  obtain ⟨⟨hm1, hm2, hkm⟩, ho, ⟨du, hdu, edu⟩, ⟨dv, hdv, edv⟩⟩ := tj_ko u hu v hv s hs
  have hol : ∀ d, d < tj_m u v s → tj_o u v s d < 5 := fun d hd => by rcases ho d hd with z | z <;> omega
  have hvl : ∀ z, tj_val u (n / 5) (n % 5) z < 5 := fun z => tj_val_lt (by omega) (by omega)
  unfold wpX_leapfrog
  refine tj_ord hq hu hv hs h50 h51 h52 h6 (fun b18 h18 => ?_)
  refine Exists.intro 5 (br_f (by decide) (br_f (by decide) ?_))
  refine tj_build hq hr hn hu hv hm2 hc h4 h50 h51 h52 h18 ho hdg hL (fun b15 b19 b20 b21 b22 b23 b24 hd' hT => ?_)
  refine nm_e (br_f (by decide) (br_t (by decide) (nm_e ?_)))
  refine br_f (by decide) (br_t (by decide) (nm_e ?_))
  refine br_f (by decide) (br_t (by decide) (nm_e ?_))
  refine br_t (by decide) ?_
  have hcc : c = 0 ∨ c = 1 := by omega
  rcases hcc with h | h
  · exact tj_lf37z hm1 hm2 h hT h18 (H0 h _ _ b15 b18 b19 b20 b21 b22 b23 b24 a25 hd')
  · subst h
    refine tj_lf37 hm1 hm2 hkm hq hs h6 hvl hol hT h18 hd' (fun c15 c22 c23 c24 c25 dg hd2 hdo => ?_)
    refine H1 rfl _ _ c15 b18 b19 b20 b21 c22 c23 c24 c25 dg hd2 ?_ ?_
    · have z := hdo du hdu
      rw [edu] at z
      exact z
    · have z := hdo dv hdv
      rw [edv] at z
      exact z
/-- what a search leaves: whether there was a choice, and (all asked variables being the atom's) the answers -/
abbrev tj_A (c u v s x y : Nat) (af : Int32) (a10 : Nat → Int64) : Prop := (c = 0 → af = 0 ∧ ∀ j, j < 49 → a10 j = 0) ∧ (c = 1 → af = 1 ∧ (tj_wh u v s → a10 0 = tj_w (tj_exp u v s x y) ∧ ∀ j, 0 < j → j < 49 → a10 j = 0))
theorem tj_search {post : St2 → Prop} {so fo af bd tc oc ac : Int32} {a1 a10 a11 a12 : Nat → Int64} {a2 a3 a4 a5 a6 a7 a8 a9 a13 a14 a15 a16 a17 a18 a19 a20 a21 a22 a23 a24 a25 : Nat → Int32} {q r n u v s c : Nat} (hP : tj_P q r u v s a3 a4 a5 a6) (hn : n < 25) (hc : c < 2) (hfit : c = 1 → (u ≠ v ∨ n / 5 = n % 5)) (hL : tj_L c n a7 a8 a9) (hdg : tj_dg a15)
    (H : ∀ (af oc ac : Int32) (a10 : Nat → Int64) (a15 a18 a19 a20 a21 a22 a23 a24 a25 : Nat → Int32), tj_dg a15 → tj_A c u v s (n / 5) (n % 5) af a10 → post (2, (nI q), 1, so, fo, af, bd, tc, oc, ac, a1, a2, a3, a4, a5, a6, a7, a8, a9, a10, a11, a12, a13, a14, a15, a16, a17, a18, a19, a20, a21, a22, a23, a24, a25)) : wpX_searchByWay post (2, (nI q), 1, so, fo, af, bd, tc, oc, ac, a1, a2, a3, a4, a5, a6, a7, a8, a9, a10, a11, a12, a13, a14, a15, a16, a17, a18, a19, a20, a21, a22, a23, a24, a25) := by
  unfold wpX_searchByWay
  refine tj_empty (fun b hb => br_t rfl ?_)
  refine tj_leap hP hn hc hL hdg (fun h => ?_) (fun h => ?_)
  · intro oc ac a15 a18 a19 a20 a21 a22 a23 a24 a25 hd
    exact H _ _ _ _ a15 a18 a19 a20 a21 a22 a23 a24 a25 hd ⟨fun _ => ⟨rfl, hb⟩, fun z => absurd z (by omega)⟩
  · intro oc ac a15 a18 a19 a20 a21 a22 a23 a24 a25 dg hd eu ev
    refine H _ _ _ _ a15 a18 a19 a20 a21 a22 a23 a24 a25 hd ⟨fun z => absurd z (by omega), fun _ => ⟨rfl, fun hwh => ?_⟩⟩
    obtain ⟨⟨hq, hr, hu, hv, hs⟩, _⟩ := hP
    have e1 : tj_an s dg 5 = tj_exp u v s (n / 5) (n % 5) := (tj_an_due hwh eu ev).trans (tj_exp_due u hu v hv s hs hwh (n / 5) (by omega) (n % 5) (by omega) (hfit h))
    have e2 := tj_exp_lt u hu v hv s hs (n / 5) (by omega) (n % 5) (by omega)
    rw [e1]
    unfold tj_put
    rw [show tj_exp u v s (n / 5) (n % 5) / 64 = 0 by omega]
    refine ⟨?_, fun j hj hj9 => ?_⟩
    · rw [pk_uLs, hb 0 (by omega)]
      rfl
    · rw [pk_uLn (by omega)]
      exact hb j hj9
end
section
/-- whether the list holds the row: pt, the row is there -/
abbrev tj_C (u v n c : Nat) (pt : Prop) : Prop := (c = 1 ∧ pt ∧ (u ≠ v ∨ n / 5 = n % 5)) ∨ (c = 0 ∧ ¬ (pt ∧ (u ≠ v ∨ n / 5 = n % 5)))
theorem tj_C_lt {u v n c : Nat} {pt : Prop} (h : tj_C u v n c pt) : c < 2 := by
  rcases h with ⟨h, _⟩ | ⟨h, _⟩ <;> omega
theorem tj_C_fit {u v n c : Nat} {pt : Prop} (h : tj_C u v n c pt) : c = 1 → (u ≠ v ∨ n / 5 = n % 5) := by
  rcases h with ⟨_, _, h⟩ | ⟨h, _⟩
  · exact fun _ => h
  · intro z
    omega
/-- the rows' words: row n of relation r if pt, no other -/
abbrev tj_W (r n : Nat) (pt : Prop) (a1 : Nat → Int64) : Prop := (∀ k, k < 6 → k ≠ 2 * r → a1 k = 0) ∧ (pt → a1 (2 * r) = tj_w n) ∧ (¬ pt → a1 (2 * r) = 0)
theorem tj_W_bit {r n : Nat} {pt : Prop} {a1 : Nat → Int64} (hn : n < 25) (h : tj_W r n pt a1) : ∀ j, j < 25 → (tj_bit (a1 (2 * r)) j = 0 ↔ ¬ (pt ∧ j = n)) := by
  intro j hj
  by_cases hp : pt
  · rw [h.2.1 hp]
    exact ⟨fun z y => (tj_wbit n hn j (by omega)).mp z y.2, fun z => (tj_wbit n hn j (by omega)).mpr (fun y => z ⟨hp, y⟩)⟩
  · rw [h.2.2 hp]
    exact ⟨fun _ y => hp y.1, fun _ => tj_zb (by omega)⟩
theorem tj_own {post : St2 → Prop} {qu ai so fo af bd tc oc ac : Int32} {a1 a10 a11 a12 : Nat → Int64} {a2 a3 a4 a5 a6 a7 a8 a9 a13 a14 a15 a16 a17 a18 a19 a20 a21 a22 a23 a24 a25 : Nat → Int32} {q r n u v s c : Nat} {pt : Prop} (hP : tj_P q r u v s a3 a4 a5 a6) (hn : n < 25) (hW : tj_W r n pt a1) (hC : tj_C u v n c pt) (hdg : tj_dg a15)
    (H : ∀ (qu ai so fo af oc ac : Int32) (a10 : Nat → Int64) (a7 a8 a9 a15 a18 a19 a20 a21 a22 a23 a24 a25 : Nat → Int32), tj_dg a15 → tj_A c u v s (n / 5) (n % 5) af a10 → post (2, qu, ai, so, fo, af, bd, tc, oc, ac, a1, a2, a3, a4, a5, a6, a7, a8, a9, a10, a11, a12, a13, a14, a15, a16, a17, a18, a19, a20, a21, a22, a23, a24, a25)) : wpX_answerOwn post (2, qu, ai, so, fo, af, bd, tc, oc, ac, a1, a2, a3, a4, a5, a6, a7, a8, a9, a10, a11, a12, a13, a14, a15, a16, a17, a18, a19, a20, a21, a22, a23, a24, a25) (nI q) := by
  have hP' := hP
  obtain ⟨⟨hq, hr, hu, hv, hs⟩, h3, h4, h50, h51, h52, h6⟩ := hP
  unfold wpX_answerOwn
  refine tj_all1 hq rfl h3 ?_
  unfold wpX_workOut
  refine tj_start hq hr hn hu hv h4 h50 h51 (tj_W_bit hn hW) hC (fun b7 b8 b9 hL => ?_)
  refine And.intro (by decide) (And.intro (by decide) ?_)
  refine tj_search hP' hn (tj_C_lt hC) (tj_C_fit hC) hL hdg ?_
  intro af oc ac a10 a15 a18 a19 a20 a21 a22 a23 a24 a25 hd hA
  exact H _ _ _ _ _ _ _ _ _ _ _ _ _ _ _ _ _ _ _ _ hd hA
theorem tj_ones {post : Int32 → Prop} {lv qu ai so fo af bd tc oc ac : Int32} {a1 a10 a11 a12 : Nat → Int64} {a2 a3 a4 a5 a6 a7 a8 a9 a13 a14 a15 a16 a17 a18 a19 a20 a21 a22 a23 a24 a25 : Nat → Int32} {e d : Nat} (hd : d < 25) (he : (e = 0 ∧ a10 0 = 0) ∨ (e = 1 ∧ a10 0 = tj_w d)) (hz : ∀ j, 0 < j → j < 49 → a10 j = 0) (H : post (nI e)) : wpX_onesIn post (lv, qu, ai, so, fo, af, bd, tc, oc, ac, a1, a2, a3, a4, a5, a6, a7, a8, a9, a10, a11, a12, a13, a14, a15, a16, a17, a18, a19, a20, a21, a22, a23, a24, a25) := by
  refine pk_loop (fun k i (t : Int32) => wX_onesIn_4 post lv qu ai so fo af bd tc oc ac a1 a2 a3 a4 a5 a6 a7 a8 a9 a10 a11 a12 a13 a14 a15 a16 a17 a18 a19 a20 a21 a22 a23 a24 a25 k t (nI i)) (fun i t => (i = 0 → t = 0) ∧ (0 < i → t = nI e)) 49 0 0 (by omega) ⟨fun _ => rfl, fun z => absurd z (by omega)⟩ ?_ ?_
  · intro k t h
    have g := h.2 (by omega)
    subst g
    exact pk_le 49 49 (fun _ => H) (fun z => absurd z (by omega))
  · intro k i t hi h hw
    refine pk_le 49 i (fun z => absurd z (by omega)) (fun _ => And.intro (tj_in i 49 rfl hi) ?_)
    by_cases g : i = 0
    · have ht := h.1 g
      subst g
      subst ht
      rcases he with ⟨he, h0⟩ | ⟨he, h0⟩
      · refine nm_r (show a10 (nI 0).toNatClampNeg = 0 from h0) (Exists.intro 1 (br_t rfl (nm_r (nI_1 0) (hw 0 ⟨fun z => absurd z (by omega), fun _ => ?_⟩))))
        rw [he]
        rfl
      · refine nm_r (show a10 (nI 0).toNatClampNeg = tj_w d from h0) (Exists.intro 2 (br_f (tj_one d hd).1 (nm_r (tj_one d hd).2 (nm_e (br_t rfl (nm_r (nI_1 0) (hw (0 + 1) ⟨fun z => absurd z (by omega), fun _ => ?_⟩)))))))
        rw [he]
        rfl
    · refine nm_r (show a10 (nI i).toNatClampNeg = 0 by rw [nI_clamp (by omega)]; exact hz i (by omega) hi) (Exists.intro 1 (br_t rfl (nm_r (nI_1 i) (hw t ⟨fun z => absurd z (by omega), fun _ => h.2 (by omega)⟩))))
theorem tj_count {post : Int32 → St2 → Prop} {qu ai so fo af bd tc oc ac : Int32} {a1 a10 a11 a12 : Nat → Int64} {a2 a3 a4 a5 a6 a7 a8 a9 a13 a14 a15 a16 a17 a18 a19 a20 a21 a22 a23 a24 a25 : Nat → Int32} {q r n u v s c : Nat} {pt : Prop} (hP : tj_P q r u v s a3 a4 a5 a6) (hn : n < 25) (hW : tj_W r n pt a1) (hC : tj_C u v n c pt) (hdg : tj_dg a15)
    (H0 : ¬ tj_wh u v s → post (-3) (2, qu, ai, so, fo, af, bd, tc, oc, ac, a1, a2, a3, a4, a5, a6, a7, a8, a9, a10, a11, a12, a13, a14, a15, a16, a17, a18, a19, a20, a21, a22, a23, a24, a25))
    (H1 : tj_wh u v s → ∀ (qu ai so fo af oc ac : Int32) (a10 : Nat → Int64) (a7 a8 a9 a15 a18 a19 a20 a21 a22 a23 a24 a25 : Nat → Int32), tj_dg a15 → post (nI c) (2, qu, ai, so, fo, af, bd, tc, oc, ac, a1, a2, a3, a4, a5, a6, a7, a8, a9, a10, a11, a12, a13, a14, a15, a16, a17, a18, a19, a20, a21, a22, a23, a24, a25)) : wpX_count post (2, qu, ai, so, fo, af, bd, tc, oc, ac, a1, a2, a3, a4, a5, a6, a7, a8, a9, a10, a11, a12, a13, a14, a15, a16, a17, a18, a19, a20, a21, a22, a23, a24, a25) (nI q) := by
  have hP' := hP
  obtain ⟨⟨hq, hr, hu, hv, hs⟩, h3, h4, h50, h51, h52, h6⟩ := hP
  unfold wpX_count
  refine tj_isq hq rfl (br_f (by decide) ?_)
  refine tj_whole1 hq hu hv hs rfl h3 h50 h51 h52 h6 (fun hwh => br_f (by decide) ?_) (fun hwh => br_t rfl (H0 hwh))
  refine tj_own hP' hn hW hC hdg ?_
  intro qu ai so fo af oc ac a10 a7 a8 a9 a15 a18 a19 a20 a21 a22 a23 a24 a25 hd hA
  have hx := tj_exp_lt u hu v hv s hs (n / 5) (by omega) (n % 5) (by omega)
  refine tj_ones (e := c) hx ?_ ?_ (H1 hwh _ _ _ _ _ _ _ _ _ _ _ _ _ _ _ _ _ _ _ _ hd)
  · rcases hC with ⟨hc, _⟩ | ⟨hc, _⟩
    · exact Or.inr ⟨hc, ((hA.2 hc).2 hwh).1⟩
    · exact Or.inl ⟨hc, (hA.1 hc).2 0 (by omega)⟩
  · intro j hj hj9
    rcases hC with ⟨hc, _⟩ | ⟨hc, _⟩
    · exact ((hA.2 hc).2 hwh).2 j hj hj9
    · exact (hA.1 hc).2 j hj9
theorem tj_isin {post : Int32 → Prop} {lv qu ai so fo af bd tc oc ac : Int32} {a1 a10 a11 a12 : Nat → Int64} {a2 a3 a4 a5 a6 a7 a8 a9 a13 a14 a15 a16 a17 a18 a19 a20 a21 a22 a23 a24 a25 : Nat → Int32} {p : Int32} (j : Nat) (hj : j < 3125) (hp : p = nI j) (H0 : tj_bit (a10 (j / 64)) j = 0 → post 0) (H1 : ¬ tj_bit (a10 (j / 64)) j = 0 → post 1) : wpX_isIn_2 post (lv, qu, ai, so, fo, af, bd, tc, oc, ac, a1, a2, a3, a4, a5, a6, a7, a8, a9, a10, a11, a12, a13, a14, a15, a16, a17, a18, a19, a20, a21, a22, a23, a24, a25) p := by
  subst hp
  have hi : nI j >>> ((6 : Int32) &&& 31) = nI (j / 64) := tj_s6 (by omega)
  refine And.intro (tj_in _ 49 hi (by omega)) ?_
  rw [tj_cl _ hi (by omega)]
  exact br_c H0 H1
theorem tj_answer {post : Int32 → St2 → Prop} {qu ai so fo af bd tc oc ac : Int32} {a1 a10 a11 a12 : Nat → Int64} {a2 a3 a4 a5 a6 a7 a8 a9 a13 a14 a15 a16 a17 a18 a19 a20 a21 a22 a23 a24 a25 : Nat → Int32} {p : Int32} {q r n u v s c : Nat} {pt : Prop} (hP : tj_P q r u v s a3 a4 a5 a6) (hn : n < 25) (hW : tj_W r n pt a1) (hC : tj_C u v n c pt) (hdg : tj_dg a15)
    (H0 : (¬ tj_wh u v s ∨ ¬ p = 0 ∨ c = 0) → ∀ (qu ai so fo af oc ac : Int32) (a10 : Nat → Int64) (a7 a8 a9 a15 a18 a19 a20 a21 a22 a23 a24 a25 : Nat → Int32), tj_dg a15 → post (-3) (2, qu, ai, so, fo, af, bd, tc, oc, ac, a1, a2, a3, a4, a5, a6, a7, a8, a9, a10, a11, a12, a13, a14, a15, a16, a17, a18, a19, a20, a21, a22, a23, a24, a25))
    (H1 : tj_wh u v s → p = 0 → c = 1 → ∀ (qu ai so fo af oc ac : Int32) (a10 : Nat → Int64) (a7 a8 a9 a15 a18 a19 a20 a21 a22 a23 a24 a25 : Nat → Int32), tj_dg a15 → post (nI (tj_exp u v s (n / 5) (n % 5))) (2, qu, ai, so, fo, af, bd, tc, oc, ac, a1, a2, a3, a4, a5, a6, a7, a8, a9, a10, a11, a12, a13, a14, a15, a16, a17, a18, a19, a20, a21, a22, a23, a24, a25)) : wpX_answer post (2, qu, ai, so, fo, af, bd, tc, oc, ac, a1, a2, a3, a4, a5, a6, a7, a8, a9, a10, a11, a12, a13, a14, a15, a16, a17, a18, a19, a20, a21, a22, a23, a24, a25) (nI q) p := by
  have hP' := hP
  obtain ⟨⟨hq, hr, hu, hv, hs⟩, h3, h4, h50, h51, h52, h6⟩ := hP
  unfold wpX_answer
  refine tj_isq hq rfl (br_f (by decide) ?_)
  refine tj_whole1 hq hu hv hs rfl h3 h50 h51 h52 h6 (fun hwh => br_f (by decide) ?_) (fun hwh => br_t rfl (H0 (Or.inl hwh) _ _ _ _ _ _ _ _ _ _ _ _ _ _ _ _ _ _ _ _ hdg))
  refine br_c (fun hp => ?_) (fun hp => H0 (Or.inr (Or.inl (fun z => hp (by rw [z]; decide)))) _ _ _ _ _ _ _ _ _ _ _ _ _ _ _ _ _ _ _ _ hdg)
  refine tj_own hP' hn hW hC hdg ?_
  intro qu ai so fo af oc ac a10 a7 a8 a9 a15 a18 a19 a20 a21 a22 a23 a24 a25 hd hA
  have hx := tj_exp_lt u hu v hv s hs (n / 5) (by omega) (n % 5) (by omega)
  have hbit : ∀ j, j < 3125 → (tj_bit (a10 (j / 64)) j = 0 ↔ ¬ (c = 1 ∧ j = tj_exp u v s (n / 5) (n % 5))) := by
    intro j hj
    rcases hC with ⟨hc, _⟩ | ⟨hc, _⟩
    · by_cases g : j < 64
      · rw [show j / 64 = 0 by omega, ((hA.2 hc).2 hwh).1]
        exact ⟨fun z y => (tj_wbit _ hx j g).mp z y.2, fun z => (tj_wbit _ hx j g).mpr (fun y => z ⟨hc, y⟩)⟩
      · rw [((hA.2 hc).2 hwh).2 (j / 64) (by omega) (by omega)]
        exact ⟨fun _ y => by omega, fun _ => tj_zb (by omega)⟩
    · rw [(hA.1 hc).2 (j / 64) (by omega)]
      exact ⟨fun _ y => by omega, fun _ => tj_zb (by omega)⟩
  refine pk_loop (fun k i (t : Int32) => wX_answer_35 post 2 qu ai so fo af bd tc oc ac a1 a2 a3 a4 a5 a6 a7 a8 a9 a10 a11 a12 a13 a14 a15 a16 a17 a18 a19 a20 a21 a22 a23 a24 a25 k t (nI i)) (fun i t => (¬ (c = 1 ∧ tj_exp u v s (n / 5) (n % 5) < i) → t = p) ∧ (c = 1 ∧ tj_exp u v s (n / 5) (n % 5) < i → ¬ p = 0)) 3125 0 p (by omega) ⟨fun _ => rfl, fun z => absurd z.2 (by omega)⟩ ?_ ?_
  · intro k t h
    refine pk_le 3125 3125 (fun _ => ?_) (fun z => absurd z (by omega))
    refine H0 ?_ _ _ _ _ _ _ _ _ _ _ _ _ _ _ _ _ _ _ _ _ hd
    rcases hC with ⟨hc, _⟩ | ⟨hc, _⟩
    · exact Or.inr (Or.inl (h.2 ⟨hc, by omega⟩))
    · exact Or.inr (Or.inr hc)
  · intro k i t hi h hw
    refine pk_le 3125 i (fun z => absurd z (by omega)) (fun _ => ?_)
    refine tj_isin i hi rfl (fun e => ?_) (fun e => ?_)
    · have hne := (hbit i hi).mp e
      refine br_t rfl (nm_r (nI_1 i) (hw t ⟨fun z => h.1 (fun y => z ⟨y.1, by omega⟩), fun z => ?_⟩))
      by_cases g : i = tj_exp u v s (n / 5) (n % 5)
      · exact absurd ⟨z.1, g⟩ hne
      · exact h.2 ⟨z.1, by omega⟩
    · have heq : c = 1 ∧ i = tj_exp u v s (n / 5) (n % 5) := Classical.byContradiction (fun z => e ((hbit i hi).mpr z))
      have ht := h.1 (fun z => absurd z.2 (by omega))
      subst ht
      refine br_f (by decide) (br_c (fun h0 => ?_) (fun h0 => ?_))
      · rw [heq.2]
        exact H1 hwh h0 heq.1 _ _ _ _ _ _ _ _ _ _ _ _ _ _ _ _ _ _ _ _ hd
      · refine nm_e (nm_r (nI_1 i) (hw _ ⟨fun z => absurd ⟨heq.1, by omega⟩ z, fun _ => h0⟩))
end
section
theorem tj_usefulN {post : Int32 → St2 → Prop} {lv qu so fo af bd tc oc ac : Int32} {a1 a10 a11 a12 : Nat → Int64} {a2 a3 a4 a5 a6 a7 a8 a9 a13 a14 a15 a16 a17 a18 a19 a20 a21 a22 a23 a24 a25 : Nat → Int32} {p : Int32} (h : (((1 : Int32) >>> (p &&& 31)) &&& 1) = 0) (H : post 0 (lv, qu, 1, so, fo, af, bd, tc, oc, ac, a1, a2, a3, a4, a5, a6, a7, a8, a9, a10, a11, a12, a13, a14, a15, a16, a17, a18, a19, a20, a21, a22, a23, a24, a25)) : wpX_usefulRows post (lv, qu, 1, so, fo, af, bd, tc, oc, ac, a1, a2, a3, a4, a5, a6, a7, a8, a9, a10, a11, a12, a13, a14, a15, a16, a17, a18, a19, a20, a21, a22, a23, a24, a25) p := br_t h H
theorem tj_useful0 {post : Int32 → St2 → Prop} {so fo af bd tc oc ac : Int32} {a1 a10 a11 a12 : Nat → Int64} {a2 a3 a4 a5 a6 a7 a8 a9 a13 a14 a15 a16 a17 a18 a19 a20 a21 a22 a23 a24 a25 : Nat → Int32} {q r n u v s c : Nat} (hP : tj_P q r u v s a3 a4 a5 a6) (hn : n < 25) (hc : c < 2) (hfit : c = 1 → (u ≠ v ∨ n / 5 = n % 5)) (hL : tj_L c n a7 a8 a9) (hdg : tj_dg a15)
    (H : ∀ (fo af oc ac : Int32) (a10 : Nat → Int64) (a9 a15 a18 a19 a20 a21 a22 a23 a24 a25 : Nat → Int32), tj_dg a15 → post (nI c) (2, (nI q), 1, so, fo, af, bd, tc, oc, ac, a1, a2, a3, a4, a5, a6, a7, a8, a9, a10, a11, a12, a13, a14, a15, a16, a17, a18, a19, a20, a21, a22, a23, a24, a25)) : wpX_usefulRows post (2, (nI q), 1, so, fo, af, bd, tc, oc, ac, a1, a2, a3, a4, a5, a6, a7, a8, a9, a10, a11, a12, a13, a14, a15, a16, a17, a18, a19, a20, a21, a22, a23, a24, a25) 0 := by
  have e7 : a7 (0 : Int32).toNatClampNeg = nI c := hL.1
  refine br_f (by decide) (And.intro (tj_in 0 4 rfl (by omega)) (nm_r (show a9 (0 : Int32).toNatClampNeg = nI c from hL.2.1) ?_))
  have hcc : c = 0 ∨ c = 1 := by omega
  rcases hcc with h | h
  · subst h
    refine Exists.intro 1 (And.intro (tj_in 0 4 rfl (by omega)) (br_t (by rw [e7]; decide) (And.intro (tj_in 0 4 rfl (by omega)) (nm_e ?_))))
    exact H _ _ _ _ _ _ _ _ _ _ _ _ _ _ _ hdg
  · subst h
    refine Exists.intro 2 (And.intro (tj_in 0 4 rfl (by omega)) (br_f (by rw [e7]; decide) (br_f (by decide) (And.intro (tj_in 0 4 rfl (by omega)) (nm_e ?_)))))
    refine tj_search hP hn hc hfit ⟨hL.1, tj_us rfl, hL.2.2⟩ hdg ?_
    intro af oc ac a10 a15 a18 a19 a20 a21 a22 a23 a24 a25 hd hA
    have haf := (hA.2 rfl).1
    subst haf
    refine br_f (by decide) (nm_e (nm_e (And.intro (tj_in 0 4 rfl (by omega)) (br_t (by rw [e7]; decide) (And.intro (tj_in 0 4 rfl (by omega)) (nm_e ?_))))))
    exact H _ _ _ _ _ _ _ _ _ _ _ _ _ _ _ hd
theorem tj_keep {post : St2 → Prop} {so fo af bd tc oc ac : Int32} {a1 a10 a11 a12 : Nat → Int64} {a2 a3 a4 a5 a6 a7 a8 a9 a13 a14 a15 a16 a17 a18 a19 a20 a21 a22 a23 a24 a25 : Nat → Int32} {q r n u v s c : Nat} (hP : tj_P q r u v s a3 a4 a5 a6) (hn : n < 25) (hc : c < 2) (hfit : c = 1 → (u ≠ v ∨ n / 5 = n % 5)) (hL : tj_L c n a7 a8 a9) (hdg : tj_dg a15)
    (H : ∀ (fo af oc ac : Int32) (a10 : Nat → Int64) (a9 a15 a18 a19 a20 a21 a22 a23 a24 a25 : Nat → Int32), tj_dg a15 → a9 0 = nI c → post (2, (nI q), 1, so, fo, af, bd, tc, oc, ac, a1, a2, a3, a4, a5, a6, a7, a8, a9, a10, a11, a12, a13, a14, a15, a16, a17, a18, a19, a20, a21, a22, a23, a24, a25)) : wpX_keepUseful post (2, (nI q), 1, so, fo, af, bd, tc, oc, ac, a1, a2, a3, a4, a5, a6, a7, a8, a9, a10, a11, a12, a13, a14, a15, a16, a17, a18, a19, a20, a21, a22, a23, a24, a25) := by
  unfold wpX_keepUseful
  refine tj_useful0 hP hn hc hfit hL hdg ?_
  intro fo af oc ac a10 a9 a15 a18 a19 a20 a21 a22 a23 a24 a25 hd
  refine tj_usefulN (by decide) (tj_usefulN (by decide) (tj_usefulN (by decide) ?_))
  refine nm_e (nm_e (nm_e (nm_e ?_)))
  exact H _ _ _ _ _ _ _ _ _ _ _ _ _ _ _ hd ((tj_u3 (by decide) (by decide) (by decide)).trans pk_us)
theorem tj_isrow {post : Int32 → Prop} {lv qu ai so fo af bd tc oc ac : Int32} {a1 a10 a11 a12 : Nat → Int64} {a2 a3 a4 a5 a6 a7 a8 a9 a13 a14 a15 a16 a17 a18 a19 a20 a21 a22 a23 a24 a25 : Nat → Int32} {p0 p1 : Int32} (r j : Nat) (hr : r < 3) (hj : j < 125) (hp0 : p0 = nI r) (hp1 : p1 = nI j) (H1 : (r = 2 ∨ j < 25) → post 1) (H0 : ¬ (r = 2 ∨ j < 25) → post 0) : wpX_isRow post (lv, qu, ai, so, fo, af, bd, tc, oc, ac, a1, a2, a3, a4, a5, a6, a7, a8, a9, a10, a11, a12, a13, a14, a15, a16, a17, a18, a19, a20, a21, a22, a23, a24, a25) p0 p1 := by
  subst hp0
  subst hp1
  refine br_f (nI_pos (by omega)) (br_f (nI_nlt (b := r) (a := 2) (by omega) (by omega)) (br_f (nI_pos (by omega)) ?_))
  refine pk_eq r 2 (fun z => ?_) (fun z => ?_)
  · exact pk_le 125 j (fun y => absurd y (by omega)) (fun _ => H1 (Or.inl z))
  · exact pk_le 25 j (fun y => H0 (by omega)) (fun y => H1 (Or.inr y))
theorem tj_idle179 {post : Int32 → St2 → Prop} {J : Int32 → Int32 → Prop} {lv qu ai so fo af bd tc oc ac : Int32} {a1 a10 a11 a12 : Nat → Int64} {a2 a3 a4 a5 a6 a7 a8 a9 a13 a14 a15 a16 a17 a18 a19 a20 a21 a22 a23 a24 a25 : Nat → Int32} {r n e x : Nat} {g : Nat} {pt : Prop} (hr : r < 2) (hg : g < 3) (hn : n < 25) (hx : x < 10) (hW : tj_W r n pt a1) (hF0 : ∀ k, 6 ≤ k → k < 12 → k ≠ 6 + 2 * r → a1 k = 0) (hF1 : (pt ∧ a1 (6 + 2 * r) = tj_w n ∧ e = 0) ∨ (a1 (6 + 2 * r) = 0 ∧ (pt → e = 1) ∧ (¬ pt → e = 0)))
    (H : J (nI (x + if g = r then e else 0)) (nI (g + 1))) : ∃ k, wX_idle_179 post J (nI g) lv qu ai so fo af bd tc oc ac a1 a2 a3 a4 a5 a6 a7 a8 a9 a10 a11 a12 a13 a14 a15 a16 a17 a18 a19 a20 a21 a22 a23 a24 a25 k (nI x) 0 := by
  have he1 : e ≤ 1 := by
    rcases hF1 with ⟨_, _, h⟩ | ⟨_, h1, h2⟩
    · omega
    · by_cases hp : pt
      · have := h1 hp
        omega
      · have := h2 hp
        omega
  refine pk_loop (fun k i (t : Int32) => wX_idle_179 post J (nI g) lv qu ai so fo af bd tc oc ac a1 a2 a3 a4 a5 a6 a7 a8 a9 a10 a11 a12 a13 a14 a15 a16 a17 a18 a19 a20 a21 a22 a23 a24 a25 k t (nI i)) (fun i t => t = nI (x + if g = r ∧ n < i then e else 0)) 125 0 (nI x) (by omega) (by rw [if_neg (by omega)]; rfl) ?_ ?_
  · intro k t h
    refine pk_le 125 125 (fun _ => nm_r (nI_1 g) ?_) (fun z => absurd z (by omega))
    rw [h]
    by_cases y : g = r
    · rw [if_pos ⟨y, by omega⟩]
      rw [if_pos y] at H
      exact H
    · rw [if_neg (fun z => y z.1)]
      rw [if_neg y] at H
      exact H
  · intro k i t hi h hw
    subst h
    have keep : ¬ (g = r ∧ i = n ∧ e = 1) → nI (x + if g = r ∧ n < i then e else 0) = nI (x + if g = r ∧ n < i + 1 then e else 0) := by
      intro hne
      by_cases y1 : g = r ∧ n < i
      · rw [if_pos y1, if_pos (by omega)]
      · rw [if_neg y1]
        by_cases y2 : g = r ∧ n < i + 1
        · rw [if_pos y2]
          have : e = 0 := by omega
          rw [this]
        · rw [if_neg y2]
    have hst : ¬ (g = r ∧ i = n ∧ e = 1) → wX_idle_179 post J (nI g) lv qu ai so fo af bd tc oc ac a1 a2 a3 a4 a5 a6 a7 a8 a9 a10 a11 a12 a13 a14 a15 a16 a17 a18 a19 a20 a21 a22 a23 a24 a25 k (nI (x + if g = r ∧ n < i then e else 0)) (nI (i + 1)) := fun z => hw _ (keep z)
    refine pk_le 125 i (fun z => absurd z (by omega)) (fun _ => ?_)
    refine tj_isrow g i hg hi rfl rfl (fun hrow => br_f (by decide) ?_) (fun hrow => br_t rfl (nm_r (nI_1 i) (hst (by omega))))
    have i0 : ((0 : Int32) + (2 * nI g)) + (nI i >>> ((6 : Int32) &&& 31)) = nI (0 + 2 * g + i / 64) := tj_ir 0 g i (by omega)
    have i6 : ((6 : Int32) + (2 * nI g)) + (nI i >>> ((6 : Int32) &&& 31)) = nI (6 + 2 * g + i / 64) := tj_ir 6 g i (by omega)
    refine tj_has _ i (by omega) i0 rfl (fun b => br_t rfl (nm_r (nI_1 i) (hst ?_))) (fun b => br_f (by decide) ?_)
    · rintro ⟨y1, y2, y3⟩
      rw [show 0 + 2 * g + i / 64 = 2 * r by omega] at b
      have hz := (tj_W_bit hn hW i (by omega)).mp b
      rcases hF1 with ⟨_, _, h⟩ | ⟨_, h1, h2⟩
      · omega
      · by_cases hp : pt
        · exact hz ⟨hp, y2⟩
        · have := h2 hp
          omega
    · have hgr : g = r ∧ pt ∧ i = n := by
        by_cases y : 0 + 2 * g + i / 64 = 2 * r
        · rw [y] at b
          have y' : g = r ∧ i < 25 := by omega
          have z : pt ∧ i = n := Classical.byContradiction (fun z => b ((tj_W_bit hn hW i y'.2).mpr z))
          exact ⟨y'.1, z⟩
        · rw [hW.1 _ (by omega) y] at b
          exact absurd (tj_zb (by omega)) b
      obtain ⟨y1, hp, y2⟩ := hgr
      have y3 : 6 + 2 * g + i / 64 = 6 + 2 * r := by omega
      refine tj_has _ i (by omega) i6 rfl (fun b6 => br_t rfl ?_) (fun b6 => br_f (by decide) (nm_r (nI_1 i) (hst ?_)))
      · rw [y3] at b6
        have he : e = 1 := by
          rcases hF1 with ⟨_, h, _⟩ | ⟨_, h, _⟩
          · rw [h] at b6
            exact absurd y2 ((tj_wbit n hn i (by omega)).mp b6)
          · exact h hp
        refine nm_r (nI_1 _) (nm_r (nI_1 i) (hw _ ?_))
        rw [if_neg (by omega), if_pos (by omega), he]
      · rintro ⟨_, _, z3⟩
        rw [y3] at b6
        rcases hF1 with ⟨_, _, h⟩ | ⟨h, _⟩
        · omega
        · rw [h] at b6
          exact b6 (tj_zb (by omega))
theorem tj_idle170 {post : Int32 → St2 → Prop} {lv qu ai so fo af bd tc oc ac : Int32} {a1 a10 a11 a12 : Nat → Int64} {a2 a3 a4 a5 a6 a7 a8 a9 a13 a14 a15 a16 a17 a18 a19 a20 a21 a22 a23 a24 a25 : Nat → Int32} {r n e : Nat} {pt : Prop} (hr : r < 2) (hn : n < 25) (he : e < 2) (hW : tj_W r n pt a1) (hF0 : ∀ k, 6 ≤ k → k < 12 → k ≠ 6 + 2 * r → a1 k = 0) (hF1 : (pt ∧ a1 (6 + 2 * r) = tj_w n ∧ e = 0) ∨ (a1 (6 + 2 * r) = 0 ∧ (pt → e = 1) ∧ (¬ pt → e = 0)))
    (H : post (nI e) (lv, qu, ai, so, fo, af, bd, tc, oc, ac, a1, a2, a3, a4, a5, a6, a7, a8, a9, a10, a11, a12, a13, a14, a15, a16, a17, a18, a19, a20, a21, a22, a23, a24, a25)) : ∃ k, wX_idle_170 post lv qu ai so fo af bd tc oc ac a1 a2 a3 a4 a5 a6 a7 a8 a9 a10 a11 a12 a13 a14 a15 a16 a17 a18 a19 a20 a21 a22 a23 a24 a25 k 0 0 := by
  refine pk_loop (fun k i (t : Int32) => wX_idle_170 post lv qu ai so fo af bd tc oc ac a1 a2 a3 a4 a5 a6 a7 a8 a9 a10 a11 a12 a13 a14 a15 a16 a17 a18 a19 a20 a21 a22 a23 a24 a25 k t (nI i)) (fun i t => t = nI (if r < i then e else 0)) 3 0 0 (by omega) (by rw [if_neg (by omega)]; rfl) ?_ ?_
  · intro k t h
    subst h
    rw [if_pos (by omega)]
    exact pk_le 3 3 (fun _ => H) (fun z => absurd z (by omega))
  · intro k i t hi h hw
    subst h
    refine pk_le 3 i (fun z => absurd z (by omega)) (fun _ => ?_)
    refine tj_idle179 hr hi hn (by split <;> omega) hW hF0 hF1 (hw _ ?_)
    by_cases y1 : r < i
    · rw [if_pos y1, if_neg (by omega), if_pos (by omega), Nat.add_zero]
    · rw [if_neg y1]
      by_cases y2 : i = r
      · rw [if_pos y2, if_pos (by omega), Nat.zero_add]
      · rw [if_neg y2, if_neg (by omega)]
theorem tj_idle66 {post : Int32 → St2 → Prop} {lv qu ai so fo af bd tc oc ac : Int32} {a1 a10 a11 a12 : Nat → Int64} {a2 a3 a4 a5 a6 a7 a8 a9 a13 a14 a15 a16 a17 a18 a19 a20 a21 a22 a23 a24 a25 : Nat → Int32} {q : Nat} (H : ∀ b : Nat → Int64, (∀ k, k < 6 → b k = a1 k) → (∀ k, 6 ≤ k → k < 12 → b k = 0) → ∃ k, wX_idle_87 post (nI q) k 0 lv qu ai so fo af bd tc oc ac b a2 a3 a4 a5 a6 a7 a8 a9 a10 a11 a12 a13 a14 a15 a16 a17 a18 a19 a20 a21 a22 a23 a24 a25) : ∃ k, wX_idle_66 post (nI q) lv qu ai so fo af bd tc oc ac k 6 a1 a2 a3 a4 a5 a6 a7 a8 a9 a10 a11 a12 a13 a14 a15 a16 a17 a18 a19 a20 a21 a22 a23 a24 a25 := by
  refine pk_loop (fun k i (t : Nat → Int64) => wX_idle_66 post (nI q) lv qu ai so fo af bd tc oc ac k (nI i) t a2 a3 a4 a5 a6 a7 a8 a9 a10 a11 a12 a13 a14 a15 a16 a17 a18 a19 a20 a21 a22 a23 a24 a25) (fun i t => 6 ≤ i ∧ (∀ k, k < 6 → t k = a1 k) ∧ ∀ k, 6 ≤ k → k < i → t k = 0) 12 6 a1 (by omega) ⟨by omega, fun _ _ => rfl, fun k h1 h2 => absurd h2 (by omega)⟩ ?_ ?_
  · intro k t h
    exact pk_le 12 12 (fun _ => H t h.2.1 h.2.2) (fun z => absurd z (by omega))
  · intro k i t hi h hw
    have h6 := h.1
    refine pk_le 12 i (fun z => absurd z (by omega)) (fun _ => And.intro (tj_in i 12 rfl hi) (nm_r (show vp_updL t (nI i).toNatClampNeg 0 = vp_updL t i 0 by rw [nI_clamp (by omega)]) (nm_r (nI_1 i) (hw _ ⟨by omega, fun k hk => ?_, fun k h1 h2 => ?_⟩))))
    · rw [pk_uLn (by omega)]
      exact h.2.1 k hk
    · by_cases e : k = i
      · rw [e, pk_uLs]
      · rw [pk_uLn e]
        exact h.2.2 k h1 (by omega)
theorem tj_idle87 {post : Int32 → St2 → Prop} {lv qu ai so fo af bd tc oc ac : Int32} {a1 a10 a11 a12 : Nat → Int64} {a2 a3 a4 a5 a6 a7 a8 a9 a13 a14 a15 a16 a17 a18 a19 a20 a21 a22 a23 a24 a25 : Nat → Int32} {q r n u v s c e : Nat} {pt : Prop} (hP : tj_P q r u v s a3 a4 a5 a6) (hn : n < 25) (hW : tj_W r n pt a1) (hF : ∀ k, 6 ≤ k → k < 12 → a1 k = 0) (h7 : a7 0 = nI c) (h8 : c = 1 → a8 0 = nI n) (h9 : a9 0 = nI c) (he : (c = 1 ∧ pt ∧ e = 0) ∨ (c = 0 ∧ pt ∧ e = 1) ∨ (c = 0 ∧ ¬ pt ∧ e = 0))
    (H : ∀ t : St2, post (nI e) t) : ∃ k, wX_idle_87 post (nI q) k 0 lv qu ai so fo af bd tc oc ac a1 a2 a3 a4 a5 a6 a7 a8 a9 a10 a11 a12 a13 a14 a15 a16 a17 a18 a19 a20 a21 a22 a23 a24 a25 := by
  obtain ⟨⟨hq, hr, hu, hv, hs⟩, h3, h4, h50, h51, h52, h6⟩ := hP
  have e3 : a3 (nI q).toNatClampNeg = 1 := by rw [nI_clamp (by omega)]; exact h3
  have e4 : a4 ((4 * nI q) + 0).toNatClampNeg = nI r := tj_rd (4 * q) (tj_i40 q) (by omega) h4
  have e7 : a7 (0 : Int32).toNatClampNeg = nI c := h7
  have e9 : a9 (0 : Int32).toNatClampNeg = nI c := h9
  refine Exists.intro 2 (And.intro (tj_in q 2 rfl hq) (br_f (by rw [e3]; decide) ?_))
  rcases he with ⟨hc, hp, hE⟩ | hE
  · subst hc
    have e8 : a8 ((16 * 0) + 0 : Int32).toNatClampNeg = nI n := h8 rfl
    refine Exists.intro 2 (And.intro (tj_in 0 4 rfl (by omega)) (br_f (by rw [e7]; decide) (And.intro (tj_in 0 4 rfl (by omega)) (br_f (by rw [e9]; decide) (And.intro (tj_in (4 * q) 8 (tj_i40 q) (by omega)) (And.intro (tj_in 0 64 rfl (by omega)) ?_))))))
    rw [e4, e8]
    have hi : ((6 : Int32) + (2 * nI r)) + (nI n >>> ((6 : Int32) &&& 31)) = nI (6 + 2 * r) := by
      have z := tj_ir 6 r n (by omega)
      rw [show 6 + 2 * r + n / 64 = 6 + 2 * r by omega] at z
      exact z
    refine tj_set (6 + 2 * r) n (by omega) hi rfl ?_
    refine nm_e (And.intro (tj_in 0 4 rfl (by omega)) (br_t (by rw [e7]; decide) (nm_e ?_)))
    refine And.intro (tj_in q 2 rfl hq) (br_t (by rw [e3]; decide) ?_)
    refine tj_idle170 (e := e) (pt := pt) hr hn (by omega) ⟨fun k hk hk2 => ?_, fun h => ?_, fun h => absurd hp h⟩ (fun k hk hk2 hk3 => ?_) (Or.inl ⟨hp, ?_, hE⟩) (H _)
    · rw [pk_uLn (by omega)]
      exact hW.1 k hk hk2
    · rw [pk_uLn (by omega)]
      exact hW.2.1 h
    · rw [pk_uLn hk3]
      exact hF k hk hk2
    · rw [pk_uLs, hF (6 + 2 * r) (by omega) (by omega)]
      rfl
  · have hc : c = 0 := by
      rcases hE with h | h
      · exact h.1
      · exact h.1
    subst hc
    refine Exists.intro 1 (And.intro (tj_in 0 4 rfl (by omega)) (br_t (by rw [e7]; decide) (nm_e ?_)))
    refine And.intro (tj_in q 2 rfl hq) (br_t (by rw [e3]; decide) ?_)
    refine tj_idle170 (e := e) (pt := pt) hr hn ?_ hW (fun k hk hk2 _ => hF k hk hk2) (Or.inr ⟨hF (6 + 2 * r) (by omega) (by omega), ?_, ?_⟩) (H _)
    · rcases hE with h | h
      · omega
      · omega
    · intro hp
      rcases hE with h | h
      · exact h.2.2
      · exact absurd hp h.2.1
    · intro hp
      rcases hE with h | h
      · exact absurd h.2.1 hp
      · exact h.2.2
theorem tj_idle {post : Int32 → St2 → Prop} {qu ai so fo af bd tc oc ac : Int32} {a1 a10 a11 a12 : Nat → Int64} {a2 a3 a4 a5 a6 a7 a8 a9 a13 a14 a15 a16 a17 a18 a19 a20 a21 a22 a23 a24 a25 : Nat → Int32} {q r n u v s c e : Nat} {pt : Prop} (hP : tj_P q r u v s a3 a4 a5 a6) (hn : n < 25) (hW : tj_W r n pt a1) (hC : tj_C u v n c pt) (hdg : tj_dg a15) (he : (c = 1 ∧ pt ∧ e = 0) ∨ (c = 0 ∧ pt ∧ e = 1) ∨ (c = 0 ∧ ¬ pt ∧ e = 0))
    (H : ∀ t : St2, post (nI e) t) : wpX_idle post (2, qu, ai, so, fo, af, bd, tc, oc, ac, a1, a2, a3, a4, a5, a6, a7, a8, a9, a10, a11, a12, a13, a14, a15, a16, a17, a18, a19, a20, a21, a22, a23, a24, a25) (nI q) := by
  have hP' := hP
  obtain ⟨⟨hq, hr, hu, hv, hs⟩, h3, h4, h50, h51, h52, h6⟩ := hP
  have e3 : a3 (nI q).toNatClampNeg = 1 := by rw [nI_clamp (by omega)]; exact h3
  unfold wpX_idle
  refine tj_isq hq rfl (br_f (by decide) (And.intro (tj_in q 2 rfl hq) (br_f (by rw [e3]; decide) ?_)))
  refine tj_all1 hq rfl h3 ?_
  refine tj_start hq hr hn hu hv h4 h50 h51 (tj_W_bit hn hW) hC (fun b7 b8 b9 hL => br_f (by decide) ?_)
  unfold wX_idle_59
  refine tj_keep hP' hn (tj_C_lt hC) (tj_C_fit hC) hL hdg ?_
  intro fo af oc ac a10 a9 a15 a18 a19 a20 a21 a22 a23 a24 a25 hd h9
  refine tj_idle66 (fun b hb1 hb2 => ?_)
  refine tj_idle87 hP' hn ⟨fun k hk hk2 => ?_, fun h => ?_, fun h => ?_⟩ hb2 hL.1 hL.2.2 h9 he H
  · rw [hb1 k hk]
    exact hW.1 k hk hk2
  · rw [hb1 _ (by omega)]
    exact hW.2.1 h
  · rw [hb1 _ (by omega)]
    exact hW.2.2 h
end
section
theorem tj_init {post : St2 → Prop} (H : post (2, 0, 0, 0, 0, 0, 0, 0, 0, 0, (fun _ => 0), (fun _ => 0), (fun _ => 0), (fun _ => 0), (fun _ => 0), (fun _ => 0), (fun _ => 0), (fun _ => 0), (fun _ => 0), (fun _ => 0), (fun _ => 0), (fun _ => 0), (fun _ => 0), (fun _ => 0), (fun _ => 0), (fun _ => 0), (fun _ => 0), (fun _ => 0), (fun _ => 0), (fun _ => 0), (fun _ => 0), (fun _ => 0), (fun _ => 0), (fun _ => 0), (fun _ => 0))) : wpX_init post 25 679 (0, 0, 0, 0, 0, 0, 0, 0, 0, 0) :=
  And.intro (by decide) (And.intro (by decide) (And.intro (by decide) (And.intro (by decide) (And.intro (by decide) (And.intro (by decide) (And.intro (by decide) (And.intro (by decide) (And.intro (by decide) (And.intro (by decide) (And.intro (by decide) (And.intro (by decide) (And.intro (by decide) (And.intro (by decide) (And.intro (by decide) (And.intro (by decide) (And.intro (by decide) (And.intro (by decide) (And.intro (by decide) (And.intro (by decide) (And.intro (by decide) (And.intro (by decide) (And.intro (by decide) (And.intro (by decide) (And.intro (by decide) (And.intro (by decide) (And.intro (by decide) (And.intro (by decide) (And.intro (by decide) (And.intro (by decide) (And.intro (by decide) (And.intro (by decide) (And.intro (by decide) (And.intro (by decide) (And.intro (by decide) (And.intro (by decide) (And.intro (by decide) (And.intro (by decide) (And.intro (by decide) (And.intro (by decide) (And.intro (by decide) (And.intro (by decide) (And.intro (by decide) (And.intro (by decide) (And.intro (by decide) (And.intro (by decide) (And.intro (by decide) (And.intro (by decide) (And.intro (by decide) (And.intro (by decide) (H))))))))))))))))))))))))))))))))))))))))))))))))))
/-- a row of a relation -/
def tj_pn (p0 p1 : Int32) : Prop := ∃ r j, p0 = nI r ∧ p1 = nI j ∧ r < 3 ∧ j < 125 ∧ (r = 2 ∨ j < 25)
theorem tj_isrowG {post : Int32 → Prop} {lv qu ai so fo af bd tc oc ac : Int32} {a1 a10 a11 a12 : Nat → Int64} {a2 a3 a4 a5 a6 a7 a8 a9 a13 a14 a15 a16 a17 a18 a19 a20 a21 a22 a23 a24 a25 : Nat → Int32} {p0 p1 : Int32} (H1 : ∀ r j, p0 = nI r → p1 = nI j → r < 3 → j < 125 → (r = 2 ∨ j < 25) → post 1) (H0 : ¬ tj_pn p0 p1 → post 0) : wpX_isRow post (lv, qu, ai, so, fo, af, bd, tc, oc, ac, a1, a2, a3, a4, a5, a6, a7, a8, a9, a10, a11, a12, a13, a14, a15, a16, a17, a18, a19, a20, a21, a22, a23, a24, a25) p0 p1 := by
  by_cases h : ∃ r j, r < 3 ∧ j < 125 ∧ p0 = nI r ∧ p1 = nI j
  · obtain ⟨r, j, hr, hj, e0, e1⟩ := h
    refine tj_isrow r j hr hj e0 e1 (fun z => H1 r j e0 e1 hr hj z) (fun z => H0 ?_)
    rintro ⟨r', j', e0', e1', hr', hj', z'⟩
    have a := (nI_eq (by omega) (by omega)).mp (e0.symm.trans e0')
    have b := (nI_eq (by omega) (by omega)).mp (e1.symm.trans e1')
    subst a
    subst b
    exact z z'
  · have hz : ¬ tj_pn p0 p1 := by
      rintro ⟨r', j', e0', e1', hr', hj', z'⟩
      exact h ⟨r', j', hr', hj', e0', e1'⟩
    refine br_c (fun _ => H0 hz) (fun a => br_c (fun _ => H0 hz) (fun b => br_c (fun _ => H0 hz) (fun c => ?_)))
    obtain ⟨j, hj, ej⟩ := nI_of c
    obtain ⟨r, hr, er⟩ := nI_of2 (M := 2) (n := 2) (by decide) a (Int32.not_lt.mp b)
    have big : 125 ≤ j := by
      rcases Nat.lt_or_ge j 125 with y | y
      · exact absurd ⟨r, j, by omega, y, er, ej⟩ h
      · exact y
    subst ej
    refine br_c (fun _ => ?_) (fun _ => ?_)
    · exact br_t (nI_le big hj) (H0 hz)
    · exact br_t (nI_le (a := 25) (by omega) hj) (H0 hz)
theorem tj_add {post : Int32 → St2 → Prop} {lv qu ai so fo af bd tc oc ac : Int32} {a10 a11 a12 : Nat → Int64} {a3 a4 a5 a6 a7 a8 a9 a13 a14 a15 a16 a17 a18 a19 a20 a21 a22 a23 a24 a25 : Nat → Int32} {p0 p1 : Int32} (H0 : ¬ tj_pn p0 p1 → post (-1) (lv, qu, ai, so, fo, af, bd, tc, oc, ac, (fun _ => 0), (fun _ => 0), a3, a4, a5, a6, a7, a8, a9, a10, a11, a12, a13, a14, a15, a16, a17, a18, a19, a20, a21, a22, a23, a24, a25))
    (H1 : ∀ r n, p0 = nI r → p1 = nI n → r < 3 → n < 125 → (r = 2 ∨ n < 25) → ∀ b2 : Nat → Int32, post 1 (lv, qu, ai, so, fo, af, bd, tc, oc, ac, (vp_updL (fun _ => 0) (2 * r + n / 64) (tj_w n)), b2, a3, a4, a5, a6, a7, a8, a9, a10, a11, a12, a13, a14, a15, a16, a17, a18, a19, a20, a21, a22, a23, a24, a25)) : wpX_add post (lv, qu, ai, so, fo, af, bd, tc, oc, ac, (fun _ => 0), (fun _ => 0), a3, a4, a5, a6, a7, a8, a9, a10, a11, a12, a13, a14, a15, a16, a17, a18, a19, a20, a21, a22, a23, a24, a25) p0 p1 := by
  unfold wpX_add
  refine tj_isrowG (fun r n e0 e1 hr hn hz => br_f (by decide) ?_) (fun z => br_t rfl (H0 z))
  subst e0
  subst e1
  have hi : ((0 : Int32) + (2 * nI r)) + (nI n >>> ((6 : Int32) &&& 31)) = nI (2 * r + n / 64) := by
    have z := tj_ir 0 r n (by omega)
    rw [Nat.zero_add] at z
    exact z
  refine tj_has (2 * r + n / 64) n (by omega) hi rfl (fun _ => br_t rfl ?_) (fun e => absurd (tj_zb (by omega)) e)
  refine And.intro (tj_in r 3 rfl hr) (br_t (show (0 : Int32) < 16 by decide) ?_)
  refine tj_set (2 * r + n / 64) n (by omega) hi rfl ?_
  exact And.intro (tj_in r 3 rfl hr) (And.intro (tj_in r 3 rfl hr) (nm_e (H1 r n rfl rfl hr hn hz _)))
theorem tj_uw {f : Nat → Int32} {i x y : Int32} (k : Nat) (hi : i = nI k) (hk : k < 2 ^ 31) (hx : x = y) : upd f i.toNatClampNeg x = upd f k y := by rw [tj_cl k hi hk, hx]
theorem tj_atom {post : Int32 → St2 → Prop} {lv qu ai so fo af bd tc oc ac : Int32} {a1 a10 a11 a12 : Nat → Int64} {a2 a3 a4 a5 a6 a7 a8 a9 a13 a14 a15 a16 a17 a18 a19 a20 a21 a22 a23 a24 a25 : Nat → Int32} {p0 p1 p2 : Int32} {q r n : Nat} (hq : q < 2) (hr : r < 2) (hn : n < 25) (e0 : p0 = nI q) (e1 : p1 = nI r) (e2 : p2 = nI n) (h3 : a3 q = 0)
    (H : ∀ b3 b4 b5 : Nat → Int32, b3 q = 1 → b4 (4 * q) = nI r → b5 (12 * q) = nI (n / 5) → b5 (12 * q + 1) = nI (n % 5) → b5 (12 * q + 2) = -1 → post 1 (lv, qu, ai, so, fo, af, bd, tc, oc, ac, a1, a2, b3, b4, b5, a6, a7, a8, a9, a10, a11, a12, a13, a14, a15, a16, a17, a18, a19, a20, a21, a22, a23, a24, a25)) : wpX_atom post (lv, qu, ai, so, fo, af, bd, tc, oc, ac, a1, a2, a3, a4, a5, a6, a7, a8, a9, a10, a11, a12, a13, a14, a15, a16, a17, a18, a19, a20, a21, a22, a23, a24, a25) p0 p1 p2 := by
  subst e0
  subst e1
  subst e2
  have e3 : a3 (nI q).toNatClampNeg = 0 := by rw [nI_clamp (by omega)]; exact h3
  unfold wpX_atom
  refine tj_isq hq rfl (br_f (by decide) ?_)
  refine tj_isrow r n (by omega) (by omega) rfl rfl (fun _ => br_f (by decide) ?_) (fun z => absurd (Or.inr hn) z)
  refine And.intro (tj_in q 2 rfl hq) (br_t (by rw [e3]; decide) (And.intro (tj_in q 2 rfl hq) ?_))
  refine nm_r (show (4 * nI q) + (a3 (nI q).toNatClampNeg) = nI (4 * q) by rw [e3]; exact tj_i40 q) ?_
  refine And.intro (tj_in (4 * q) 8 rfl (by omega)) (nm_r (show upd a4 (nI (4 * q)).toNatClampNeg (nI r).toInt8.toInt32 = upd a4 (4 * q) (nI r) by rw [nI_clamp (by omega), tj_i8 r (by omega)]) ?_)
  refine Exists.intro 4 (br_f (by decide) ?_)
  refine tj_cols hr rfl (br_f (by decide) (tj_col hr rfl hn (Or.inl ⟨rfl, ?_⟩)))
  refine And.intro (tj_in (12 * q) 24 (tj_i3 q 0) (by omega)) (nm_r (tj_uw (12 * q) (tj_i3 q 0) (by omega) (tj_i8 (n / 5) (by omega))) (nm_e ?_))
  refine br_f (by decide) (tj_cols hr rfl (br_f (by decide) (tj_col hr rfl hn (Or.inr ⟨rfl, ?_⟩))))
  refine And.intro (tj_in (12 * q + 1) 24 (tj_i3 q 1) (by omega)) (nm_r (tj_uw (12 * q + 1) (tj_i3 q 1) (by omega) (tj_i8 (n % 5) (by omega))) (nm_e ?_))
  refine br_f (by decide) (tj_cols hr rfl (br_t (by decide) ?_))
  refine And.intro (tj_in (12 * q + 2) 24 (tj_i3 q 2) (by omega)) (nm_r (tj_uw (12 * q + 2) (tj_i3 q 2) (by omega) (show ((-1 : Int32).toInt8.toInt32) = -1 by decide)) (nm_e ?_))
  refine br_t (by decide) (And.intro (tj_in q 2 rfl hq) (And.intro (tj_in q 2 rfl hq) (nm_r (show upd a3 (nI q).toNatClampNeg (((a3 (nI q).toNatClampNeg) + 1).toInt8.toInt32) = upd a3 q 1 by rw [e3, nI_clamp (by omega)]; rfl) (And.intro (tj_in q 2 rfl hq) ?_))))
  rw [show upd a3 q 1 (nI q).toNatClampNeg = 1 by rw [nI_clamp (by omega), pk_us]]
  refine H _ _ _ pk_us pk_us ?_ ?_ pk_us
  · rw [pk_un (by omega), pk_un (by omega), pk_us]
  · rw [pk_un (by omega), pk_us]
theorem tj_atom0 {post : Int32 → St2 → Prop} {lv qu ai so fo af bd tc oc ac : Int32} {a1 a10 a11 a12 : Nat → Int64} {a2 a3 a4 a5 a6 a7 a8 a9 a13 a14 a15 a16 a17 a18 a19 a20 a21 a22 a23 a24 a25 : Nat → Int32} {p0 p1 p2 : Int32} (h : ¬ ((p0 = 0 ∨ p0 = 1) ∧ tj_pn p1 p2)) (H : post (-1) (lv, qu, ai, so, fo, af, bd, tc, oc, ac, a1, a2, a3, a4, a5, a6, a7, a8, a9, a10, a11, a12, a13, a14, a15, a16, a17, a18, a19, a20, a21, a22, a23, a24, a25)) : wpX_atom post (lv, qu, ai, so, fo, af, bd, tc, oc, ac, a1, a2, a3, a4, a5, a6, a7, a8, a9, a10, a11, a12, a13, a14, a15, a16, a17, a18, a19, a20, a21, a22, a23, a24, a25) p0 p1 p2 := by
  unfold wpX_atom
  by_cases g : p0 = 0 ∨ p0 = 1
  · have hz : ∃ q, q < 2 ∧ p0 = nI q := by
      rcases g with g | g
      · exact ⟨0, by omega, g⟩
      · exact ⟨1, by omega, g⟩
    obtain ⟨q, hq, e⟩ := hz
    refine tj_isq hq e (br_f (by decide) ?_)
    exact tj_isrowG (fun r j e0 e1 hr hj z => absurd ⟨g, r, j, e0, e1, hr, hj, z⟩ h) (fun _ => br_t rfl H)
  · exact tj_isq0 g (br_t rfl H)
end
section
/-- a flag that says P -/
abbrev tj_bo (x : Int32) (P : Prop) : Prop := (x = 1 ∧ P) ∨ (x = 0 ∧ ¬ P)
theorem tj_l14 {post : Int32 → St0 → Prop} {mc ms : Nat} {x0 x1 x2 x3 x4 x5 : Int32} (H : ∀ z, tj_bo z (x0 = 0 ∨ x0 = 1) → wL_lawOf_14 post mc ms x0 x1 x2 x3 x4 x5 z 0 0) : wpL_lawOf post mc ms () x0 x1 x2 x3 x4 x5 :=
  br_c (fun h => H 1 (Or.inl ⟨rfl, Or.inl h⟩)) (fun h => br_c (fun g => H 1 (Or.inl ⟨rfl, Or.inr g⟩)) (fun g => H 0 (Or.inr ⟨rfl, fun z => z.elim h g⟩)))
abbrev tj_pu (x0 x1 : Int32) : Prop := ((x0 = 0 ∨ x0 = 1) ∧ ¬ x1 < 0 ∧ x1 ≤ 24) ∨ (x0 = 2 ∧ ¬ x1 < 0 ∧ ¬ 124 < x1)
theorem tj_l51 {post : Int32 → St0 → Prop} {mc ms : Nat} {x0 x1 x2 x3 x4 x5 x6 : Int32} (h6 : tj_bo x6 (x0 = 0 ∨ x0 = 1)) (H : ∀ z, tj_bo z (tj_pu x0 x1) → wL_lawOf_51 post mc ms x0 x1 x2 x3 x4 x5 x6 z 0 0) : wL_lawOf_14 post mc ms x0 x1 x2 x3 x4 x5 x6 0 0 := by
  have r31 : ¬ ((x0 = 0 ∨ x0 = 1) ∧ ¬ x1 < 0 ∧ x1 ≤ 24) → wL_lawOf_31 post mc ms x0 x1 x2 x3 x4 x5 x6 0 0 := fun n =>
    br_c (fun a => br_c (fun b => H 0 (Or.inr ⟨rfl, fun z => z.elim n (fun y => y.2.1 b)⟩)) (fun b => br_c (fun c => H 0 (Or.inr ⟨rfl, fun z => z.elim n (fun y => y.2.2 c)⟩)) (fun c => H 1 (Or.inl ⟨rfl, Or.inr ⟨a, b, c⟩⟩)))) (fun a => H 0 (Or.inr ⟨rfl, fun z => z.elim n (fun y => a y.1)⟩))
  rcases h6 with ⟨e, hp⟩ | ⟨e, hp⟩
  · exact br_f (by rw [e]; decide) (br_c (fun b => r31 (fun y => y.2.1 b)) (fun b => br_c (fun c => H 1 (Or.inl ⟨rfl, Or.inl ⟨hp, b, c⟩⟩)) (fun c => r31 (fun y => c y.2.2))))
  · exact br_t e (r31 (fun y => hp y.1))
abbrev tj_made (x0 x2 x3 : Int32) : Prop := (x2 = 0 ∨ x2 = 1) ∧ (x0 = 0 ∨ x0 = 1) ∧ ¬ x3 < 0 ∧ ¬ 24 < x3
theorem tj_l82 {post : Int32 → St0 → Prop} {mc ms : Nat} {x0 x1 x2 x3 x4 x5 x6 x7 : Int32} (h6 : tj_bo x6 (x0 = 0 ∨ x0 = 1)) (H : ∀ z, tj_bo z (tj_made x0 x2 x3) → wL_lawOf_82 post mc ms x0 x1 x2 x3 x4 x5 x6 x7 z 0 0) : wL_lawOf_51 post mc ms x0 x1 x2 x3 x4 x5 x6 x7 0 0 := by
  have r62 : (x2 = 0 ∨ x2 = 1) → wL_lawOf_62 post mc ms x0 x1 x2 x3 x4 x5 x6 x7 0 0 := by
    intro hq
    rcases h6 with ⟨e, hp⟩ | ⟨e, hp⟩
    · exact br_f (by rw [e]; decide) (br_c (fun b => H 0 (Or.inr ⟨rfl, fun y => y.2.2.1 b⟩)) (fun b => br_c (fun c => H 0 (Or.inr ⟨rfl, fun y => y.2.2.2 c⟩)) (fun c => H 1 (Or.inl ⟨rfl, hq, hp, b, c⟩))))
    · exact br_t e (H 0 (Or.inr ⟨rfl, fun y => hp y.2.1⟩))
  exact br_c (fun a => r62 (Or.inl a)) (fun a => br_c (fun b => r62 (Or.inr b)) (fun b => H 0 (Or.inr ⟨rfl, fun y => y.1.elim a b⟩)))
abbrev tj_asks (x2 x4 : Int32) : Prop := (x2 = 0 ∨ x2 = 1) ∧ ¬ x4 < 0 ∧ ¬ 31 < x4
theorem tj_l133 {post : Int32 → St0 → Prop} {mc ms : Nat} {x0 x1 x2 x3 x4 x5 x6 x7 x8 : Int32} (H : ∀ z y, (z = 1 ∧ y = x4 ∧ tj_asks x2 x4) ∨ (z = 0 ∧ y = 0 ∧ ¬ tj_asks x2 x4) → wL_lawOf_133 post mc ms x0 x1 x2 x3 x4 x5 x6 x7 x8 (x3 / 5) (x3 - x3 / 5 * 5) z y 0 0) : wL_lawOf_82 post mc ms x0 x1 x2 x3 x4 x5 x6 x7 x8 0 0 := by
  have r119 : ¬ tj_asks x2 x4 → wL_lawOf_119 post mc ms x0 x1 x2 x3 x4 x5 x6 x7 x8 (x3 / 5) (x3 - x3 / 5 * 5) 0 0 := fun n => br_t rfl (H 0 0 (Or.inr ⟨rfl, rfl, n⟩))
  have r103 : (x2 = 0 ∨ x2 = 1) → wL_lawOf_103 post mc ms x0 x1 x2 x3 x4 x5 x6 x7 x8 (x3 / 5) (x3 - x3 / 5 * 5) 0 0 := fun hq =>
    br_c (fun b => r119 (fun y => y.2.1 b)) (fun b => br_c (fun c => r119 (fun y => y.2.2 c)) (fun c => br_f (by decide) (H 1 x4 (Or.inl ⟨rfl, rfl, hq, b, c⟩))))
  exact And.intro (by decide) (nm_e (And.intro (by decide) (nm_e (br_c (fun a => r103 (Or.inl a)) (fun a => br_c (fun b => r103 (Or.inr b)) (fun b => r119 (fun y => y.1.elim a b)))))))
abbrev tj_cov (x9 x10 x12 : Int32) : Prop := ((x12 &&& (((1 : Int32) <<< ((x9 &&& 7) &&& 31)) ^^^ (-1))) &&& (((1 : Int32) <<< ((x10 &&& 7) &&& 31)) ^^^ (-1))) = 0
theorem tj_l170 {post : Int32 → St0 → Prop} {mc ms : Nat} {x0 x1 x2 x3 x4 x5 x6 x7 x8 x9 x10 x11 x12 : Int32} (H : ∀ z, tj_bo z (¬ x8 = 0 ∧ tj_cov x9 x10 x12) → wL_lawOf_170 post mc ms x0 x1 x2 x3 x4 x5 x6 x7 x8 x9 x10 x11 x12 z 0 0) : wL_lawOf_133 post mc ms x0 x1 x2 x3 x4 x5 x6 x7 x8 x9 x10 x11 x12 0 0 :=
  br_c (fun a => H 0 (Or.inr ⟨rfl, fun y => y.1 a⟩)) (fun a => br_c (fun b => H 1 (Or.inl ⟨rfl, a, b⟩)) (fun b => H 0 (Or.inr ⟨rfl, fun y => b y.2⟩)))
abbrev tj_fit (x1 x7 x8 x9 x10 : Int32) : Prop := ¬ x7 = 0 ∧ ¬ x8 = 0 ∧ (¬ x9 = x10 ∨ x1 / 5 = x1 - x1 / 5 * 5)
theorem tj_l203 {post : Int32 → St0 → Prop} {mc ms : Nat} {x0 x1 x2 x3 x4 x5 x6 x7 x8 x9 x10 x11 x12 x13 : Int32} (H : ∀ z, tj_bo z (tj_fit x1 x7 x8 x9 x10) → wL_lawOf_203 post mc ms x0 x1 x2 x3 x4 x5 x6 x7 x8 x9 x10 x11 x12 x13 z 0 0) : wL_lawOf_170 post mc ms x0 x1 x2 x3 x4 x5 x6 x7 x8 x9 x10 x11 x12 x13 0 0 :=
  br_c (fun a => H 0 (Or.inr ⟨rfl, fun y => y.1 a⟩)) (fun a => br_c (fun b => H 0 (Or.inr ⟨rfl, fun y => y.2.1 b⟩)) (fun b => br_c
    (fun c => And.intro (by decide) (And.intro (by decide) (br_c (fun d => H 1 (Or.inl ⟨rfl, a, b, Or.inr d⟩)) (fun d => H 0 (Or.inr ⟨rfl, fun y => y.2.2.elim (fun w => w c) d⟩)))))
    (fun c => H 1 (Or.inl ⟨rfl, a, b, Or.inl c⟩))))
def tj_D (x1 x9 x10 x12 : Int32) : Int32 := if ¬ x9 = x10 ∧ ((x12 >>> ((x9 &&& 7) &&& 31)) &&& 1) = 1 ∧ ((x12 >>> ((x10 &&& 7) &&& 31)) &&& 1) = 1 then (5 * (if x10 < x9 then x1 - x1 / 5 * 5 else x1 / 5)) + (if x10 < x9 then x1 / 5 else x1 - x1 / 5 * 5) else if ((x12 >>> ((x9 &&& 7) &&& 31)) &&& 1) = 1 then x1 / 5 else if ((x12 >>> ((x10 &&& 7) &&& 31)) &&& 1) = 1 then x1 - x1 / 5 * 5 else 0
theorem tj_l345 {post : Int32 → St0 → Prop} {mc ms : Nat} {x0 x1 x2 x3 x4 x5 x6 x7 x8 x9 x10 x11 x12 x13 x14 : Int32} (H : wL_lawOf_345 post mc ms x0 x1 x2 x3 x4 x5 x6 x7 x8 x11 x13 x14 (tj_D x1 x9 x10 x12) 0 0) : wL_lawOf_203 post mc ms x0 x1 x2 x3 x4 x5 x6 x7 x8 x9 x10 x11 x12 x13 x14 0 0 := by
  have s305 : ∀ x15 x16 x17 x18 z, tj_bo x15 (((x12 >>> ((x9 &&& 7) &&& 31)) &&& 1) = 1) → tj_bo x16 (((x12 >>> ((x10 &&& 7) &&& 31)) &&& 1) = 1) → (x17 = if x10 < x9 then x1 - x1 / 5 * 5 else x1 / 5) → (x18 = if x10 < x9 then x1 / 5 else x1 - x1 / 5 * 5) → tj_bo z (¬ x9 = x10 ∧ ((x12 >>> ((x9 &&& 7) &&& 31)) &&& 1) = 1 ∧ ((x12 >>> ((x10 &&& 7) &&& 31)) &&& 1) = 1) → wL_lawOf_305 post mc ms x0 x1 x2 x3 x4 x5 x6 x7 x8 x11 x13 x14 x15 x16 x17 x18 z 0 0 := by
    intro x15 x16 x17 x18 z h15 h16 h17 h18 hz
    rcases hz with ⟨ez, hz⟩ | ⟨ez, hz⟩
    · refine br_f (by rw [ez]; decide) ?_
      unfold tj_D at H
      rw [if_pos hz] at H
      rw [h17, h18]
      exact H
    · refine br_t ez ?_
      unfold tj_D at H
      rw [if_neg hz] at H
      rcases h15 with ⟨e15, h15⟩ | ⟨e15, h15⟩
      · rw [if_pos h15] at H
        exact br_f (by rw [e15]; decide) (And.intro (by decide) H)
      · rw [if_neg h15] at H
        refine br_t e15 ?_
        rcases h16 with ⟨e16, h16⟩ | ⟨e16, h16⟩
        · rw [if_pos h16] at H
          exact br_f (by rw [e16]; decide) (And.intro (by decide) H)
        · rw [if_neg h16] at H
          exact br_t e16 H
  have s281 : ∀ x15 x16 x17 x18, tj_bo x15 (((x12 >>> ((x9 &&& 7) &&& 31)) &&& 1) = 1) → tj_bo x16 (((x12 >>> ((x10 &&& 7) &&& 31)) &&& 1) = 1) → (x17 = if x10 < x9 then x1 - x1 / 5 * 5 else x1 / 5) → (x18 = if x10 < x9 then x1 / 5 else x1 - x1 / 5 * 5) → wL_lawOf_281 post mc ms x0 x1 x2 x3 x4 x5 x6 x7 x8 x9 x10 x11 x13 x14 x15 x16 x17 x18 0 0 := by
    intro x15 x16 x17 x18 h15 h16 h17 h18
    refine br_c (fun a => s305 x15 x16 x17 x18 0 h15 h16 h17 h18 (Or.inr ⟨rfl, fun y => y.1 a⟩)) (fun a => ?_)
    rcases h15 with ⟨e15, g15⟩ | ⟨e15, g15⟩
    · refine br_f (by rw [e15]; decide) ?_
      rcases h16 with ⟨e16, g16⟩ | ⟨e16, g16⟩
      · exact br_f (by rw [e16]; decide) (s305 x15 x16 x17 x18 1 (Or.inl ⟨e15, g15⟩) (Or.inl ⟨e16, g16⟩) h17 h18 (Or.inl ⟨rfl, a, g15, g16⟩))
      · exact br_t e16 (s305 x15 x16 x17 x18 0 (Or.inl ⟨e15, g15⟩) (Or.inr ⟨e16, g16⟩) h17 h18 (Or.inr ⟨rfl, fun y => g16 y.2.2⟩))
    · exact br_t e15 (s305 x15 x16 x17 x18 0 (Or.inr ⟨e15, g15⟩) h16 h17 h18 (Or.inr ⟨rfl, fun y => g15 y.2.1⟩))
  have s245 : ∀ x15 x16, tj_bo x15 (((x12 >>> ((x9 &&& 7) &&& 31)) &&& 1) = 1) → tj_bo x16 (((x12 >>> ((x10 &&& 7) &&& 31)) &&& 1) = 1) → wL_lawOf_245 post mc ms x0 x1 x2 x3 x4 x5 x6 x7 x8 x9 x10 x11 x13 x14 x15 x16 0 0 := fun x15 x16 h15 h16 =>
    br_c (fun a => And.intro (by decide) (br_t a (And.intro (by decide) (s281 x15 x16 _ _ h15 h16 (by rw [if_pos a]) (by rw [if_pos a]))))) (fun a => And.intro (by decide) (br_f a (And.intro (by decide) (s281 x15 x16 _ _ h15 h16 (by rw [if_neg a]) (by rw [if_neg a])))))
  have s224 : ∀ x15, tj_bo x15 (((x12 >>> ((x9 &&& 7) &&& 31)) &&& 1) = 1) → wL_lawOf_224 post mc ms x0 x1 x2 x3 x4 x5 x6 x7 x8 x9 x10 x11 x12 x13 x14 x15 0 0 := fun x15 h15 =>
    br_c (fun a => s245 x15 1 h15 (Or.inl ⟨rfl, a⟩)) (fun a => s245 x15 0 h15 (Or.inr ⟨rfl, a⟩))
  exact br_c (fun a => s224 1 (Or.inl ⟨rfl, a⟩)) (fun a => s224 0 (Or.inr ⟨rfl, a⟩))
end
section
theorem tj_ask {post : Int32 → St2 → Prop} {lv qu ai so fo af bd tc oc ac : Int32} {a1 a10 a11 a12 : Nat → Int64} {a2 a3 a4 a5 a6 a7 a8 a9 a13 a14 a15 a16 a17 a18 a19 a20 a21 a22 a23 a24 a25 : Nat → Int32} {x x11 : Int32} {q s : Nat} (hq : q < 2) (hs : s < 32) (h6 : a6 q = 0) (hA : (x11 = 1 ∧ x = nI s) ∨ (x11 = 0 ∧ s = 0 ∧ (x < 0 ∨ ¬ x ≤ 31))) (H : ∀ b6 : Nat → Int32, b6 q = nI s → post x11 (lv, qu, ai, so, fo, af, bd, tc, oc, ac, a1, a2, a3, a4, a5, b6, a7, a8, a9, a10, a11, a12, a13, a14, a15, a16, a17, a18, a19, a20, a21, a22, a23, a24, a25)) : wpX_ask post (lv, qu, ai, so, fo, af, bd, tc, oc, ac, a1, a2, a3, a4, a5, a6, a7, a8, a9, a10, a11, a12, a13, a14, a15, a16, a17, a18, a19, a20, a21, a22, a23, a24, a25) (nI q) x := by
  rcases hA with ⟨e, hx⟩ | ⟨e, e0, hx⟩
  · rw [e] at H
    exact tj_ask1 hq hs rfl hx (H _ pk_us)
  · rw [e] at H
    exact tj_ask0 hq rfl hx (H a6 (by rw [e0]; exact h6))
theorem tj_q2 {A B : Prop} {q : Nat} (hq : q < 2) (R : A) : (nI q = 0 → A) ∧ (¬ nI q = 0 → ((nI q = 1 → A) ∧ (¬ nI q = 1 → B))) := by
  refine br_c (fun _ => R) (fun h0 => br_c (fun _ => R) (fun h1 => ?_))
  have h : q = 0 ∨ q = 1 := by omega
  rcases h with rfl | rfl
  · exact absurd rfl h0
  · exact absurd rfl h1
theorem tj_tI {post : Int32 → St0 → Prop} {mc ms kc ks : Nat} {lv qu ai so fo af bd tc oc ac : Int32} {a1 a10 a11 a12 : Nat → Int64} {a2 a3 a4 a5 a6 a7 a8 a9 a13 a14 a15 a16 a17 a18 a19 a20 a21 a22 a23 a24 a25 : Nat → Int32} {x2 x4 x5 x7 x8 x11 x13 x14 x20 : Int32} (hq : ¬ (x2 = 0 ∨ x2 = 1)) (h11 : x11 = 0) (H : post 1 ()) : wL_lawOf_406 post mc ms x2 x4 x5 x7 x8 x11 x13 x14 x20 kc ks lv qu ai so fo af bd tc oc ac a1 a2 a3 a4 a5 a6 a7 a8 a9 a10 a11 a12 a13 a14 a15 a16 a17 a18 a19 a20 a21 a22 a23 a24 a25 := by
  unfold wL_lawOf_406
  refine tj_askN hq (br_t h11.symm (br_f (fun z => hq (Or.inl z)) (br_f (fun z => hq (Or.inr z)) ?_)))
  unfold wL_lawOf_435 wpX_count
  refine tj_isq0 hq (br_t rfl (br_t rfl (br_t rfl ?_)))
  unfold wpX_answer
  refine tj_isq0 hq (br_t rfl (br_t rfl (br_t rfl ?_)))
  unfold wpX_idle
  exact tj_isq0 hq (br_t rfl (br_t rfl (br_t rfl H)))
theorem tj_tII {post : Int32 → St0 → Prop} {mc ms kc ks : Nat} {lv qu ai so fo af bd tc oc ac : Int32} {a1 a10 a11 a12 : Nat → Int64} {a2 a3 a4 a5 a6 a7 a8 a9 a13 a14 a15 a16 a17 a18 a19 a20 a21 a22 a23 a24 a25 : Nat → Int32} {x4 x5 x7 x8 x11 x13 x14 x20 : Int32} {q s : Nat} (hq : q < 2) (hs : s < 32) (h3 : a3 q = 0) (h6 : a6 q = 0) (hA : (x11 = 1 ∧ x4 = nI s) ∨ (x11 = 0 ∧ s = 0 ∧ (x4 < 0 ∨ ¬ x4 ≤ 31))) (h8 : x8 = 0) (h13 : x13 = 0) (H : post 1 ()) : wL_lawOf_406 post mc ms (nI q) x4 x5 x7 x8 x11 x13 x14 x20 kc ks lv qu ai so fo af bd tc oc ac a1 a2 a3 a4 a5 a6 a7 a8 a9 a10 a11 a12 a13 a14 a15 a16 a17 a18 a19 a20 a21 a22 a23 a24 a25 := by
  have e3 : a3 (nI q).toNatClampNeg = 0 := by rw [nI_clamp (by omega)]; exact h3
  unfold wL_lawOf_406
  refine tj_ask hq hs h6 hA (fun b6 _ => br_t rfl (tj_q2 hq ?_))
  unfold wL_lawOf_430 wL_lawOf_435 wpX_count
  refine tj_isq hq rfl (br_f (by decide) (tj_whole0 hq rfl h3 (br_t rfl (br_f (by decide) (br_t h13 (br_t rfl ?_))))))
  unfold wpX_answer
  refine tj_isq hq rfl (br_f (by decide) (tj_whole0 hq rfl h3 (br_t rfl (br_f (by decide) (br_t h13 (br_t rfl ?_))))))
  unfold wpX_idle
  exact tj_isq hq rfl (br_f (by decide) (And.intro (tj_in q 2 rfl hq) (br_t e3 (br_f (by decide) (br_t h8 (br_t rfl H))))))
theorem tj_t516 {post : Int32 → St0 → Prop} {mc ms kc ks : Nat} {qu ai so fo af bd tc oc ac : Int32} {a1 a10 a11 a12 : Nat → Int64} {a2 a3 a4 a5 a6 a7 a8 a9 a13 a14 a15 a16 a17 a18 a19 a20 a21 a22 a23 a24 a25 : Nat → Int32} {x7 x8 x14 z0 z1 : Int32} {q r n u v s c : Nat} {pt : Prop} (hP : tj_P q r u v s a3 a4 a5 a6) (hn : n < 25) (hW : tj_W r n pt a1) (hC : tj_C u v n c pt) (hdg : tj_dg a15) (h7 : tj_bo x7 pt) (h8 : ¬ x8 = 0) (h14 : (x14 = 1 ∧ c = 1) ∨ (x14 = 0 ∧ c = 0)) (hz : z1 = z0) (H : post 1 ()) : wL_lawOf_516 post mc ms (nI q) x7 x8 x14 1 z0 z1 kc ks 2 qu ai so fo af bd tc oc ac a1 a2 a3 a4 a5 a6 a7 a8 a9 a10 a11 a12 a13 a14 a15 a16 a17 a18 a19 a20 a21 a22 a23 a24 a25 := by
  refine br_t hz ?_
  rcases h14 with ⟨e14, hc⟩ | ⟨e14, hc⟩
  · have hpt : pt := by
      rcases hC with ⟨_, hp, _⟩ | ⟨h, _⟩
      · exact hp
      · omega
    refine tj_idle (e := 0) hP hn hW hC hdg (Or.inl ⟨hc, hpt, rfl⟩) (fun t => ?_)
    obtain ⟨lv, qu, ai, so, fo, af, bd, tc, oc, ac, a1, a2, a3, a4, a5, a6, a7, a8, a9, a10, a11, a12, a13, a14, a15, a16, a17, a18, a19, a20, a21, a22, a23, a24, a25⟩ := t
    exact br_f (by decide) (br_f h8 (br_f (by rw [e14]; decide) (br_t rfl H)))
  · rcases h7 with ⟨e7, hp⟩ | ⟨e7, hp⟩
    · refine tj_idle (e := 1) hP hn hW hC hdg (Or.inr (Or.inl ⟨hc, hp, rfl⟩)) (fun t => ?_)
      obtain ⟨lv, qu, ai, so, fo, af, bd, tc, oc, ac, a1, a2, a3, a4, a5, a6, a7, a8, a9, a10, a11, a12, a13, a14, a15, a16, a17, a18, a19, a20, a21, a22, a23, a24, a25⟩ := t
      exact br_f (by decide) (br_f h8 (br_t e14 (br_f (by rw [e7]; decide) (br_t rfl H))))
    · refine tj_idle (e := 0) hP hn hW hC hdg (Or.inr (Or.inr ⟨hc, hp, rfl⟩)) (fun t => ?_)
      obtain ⟨lv, qu, ai, so, fo, af, bd, tc, oc, ac, a1, a2, a3, a4, a5, a6, a7, a8, a9, a10, a11, a12, a13, a14, a15, a16, a17, a18, a19, a20, a21, a22, a23, a24, a25⟩ := t
      exact br_f (by decide) (br_f h8 (br_t e14 (br_t e7 (br_t rfl H))))
theorem tj_t472 {post : Int32 → St0 → Prop} {mc ms kc ks : Nat} {qu ai so fo af bd tc oc ac : Int32} {a1 a10 a11 a12 : Nat → Int64} {a2 a3 a4 a5 a6 a7 a8 a9 a13 a14 a15 a16 a17 a18 a19 a20 a21 a22 a23 a24 a25 : Nat → Int32} {x5 x7 x8 x13 x14 x20 z0 z1 : Int32} {q r n u v s c : Nat} {pt : Prop} (hP : tj_P q r u v s a3 a4 a5 a6) (hn : n < 25) (hW : tj_W r n pt a1) (hC : tj_C u v n c pt) (hdg : tj_dg a15) (h7 : tj_bo x7 pt) (h8 : ¬ x8 = 0) (h13 : tj_bo x13 (tj_wh u v s)) (h14 : (x14 = 1 ∧ c = 1) ∨ (x14 = 0 ∧ c = 0)) (h20 : c = 1 → x20 = nI (tj_exp u v s (n / 5) (n % 5))) (hz : z1 = z0) (H : post 1 ()) : wL_lawOf_472 post mc ms (nI q) x5 x7 x8 x13 x14 x20 1 z0 z1 kc ks 2 qu ai so fo af bd tc oc ac a1 a2 a3 a4 a5 a6 a7 a8 a9 a10 a11 a12 a13 a14 a15 a16 a17 a18 a19 a20 a21 a22 a23 a24 a25 := by
  refine br_t hz (tj_answer hP hn hW hC hdg (fun h0 => ?_) (fun hwh hx hc => ?_))
  · intro qu ai so fo af oc ac a10 a7 a8 a9 a15 a18 a19 a20 a21 a22 a23 a24 a25 hd
    refine br_f (by decide) ?_
    rcases h13 with ⟨e13, g13⟩ | ⟨e13, g13⟩
    · refine br_f (by rw [e13]; decide) ?_
      rcases h14 with ⟨e14, hc⟩ | ⟨e14, hc⟩
      · refine br_f (by rw [e14]; decide) (br_f ?_ ?_)
        · rcases h0 with h0 | h0 | h0
          · exact absurd g13 h0
          · exact h0
          · omega
        · exact tj_t516 hP hn hW hC hd h7 h8 (Or.inl ⟨e14, hc⟩) rfl H
      · exact br_t e14 (tj_t516 hP hn hW hC hd h7 h8 (Or.inr ⟨e14, hc⟩) rfl H)
    · exact br_t e13 (tj_t516 hP hn hW hC hd h7 h8 h14 rfl H)
  · intro qu ai so fo af oc ac a10 a7 a8 a9 a15 a18 a19 a20 a21 a22 a23 a24 a25 hd
    have e13 : ¬ x13 = 0 := by
      rcases h13 with ⟨e13, _⟩ | ⟨_, g13⟩
      · rw [e13]; decide
      · exact absurd hwh g13
    have e14 : ¬ x14 = 0 := by
      rcases h14 with ⟨e14, _⟩ | ⟨_, g14⟩
      · rw [e14]; decide
      · omega
    exact br_f (by decide) (br_f e13 (br_f e14 (br_t hx (tj_t516 hP hn hW hC hd h7 h8 h14 (h20 hc).symm H))))
theorem tj_tIII {post : Int32 → St0 → Prop} {mc ms kc ks : Nat} {qu ai so fo af bd tc oc ac : Int32} {a1 a10 a11 a12 : Nat → Int64} {a2 a3 a4 a5 a6 a7 a8 a9 a13 a14 a15 a16 a17 a18 a19 a20 a21 a22 a23 a24 a25 : Nat → Int32} {x4 x5 x7 x8 x11 x13 x14 x20 : Int32} {q r n u v s c : Nat} {pt : Prop} (hq : q < 2) (hr : r < 2) (hu : u < 5) (hv : v < 5) (hs : s < 32) (h3 : a3 q = 1) (h4 : a4 (4 * q) = nI r) (h50 : a5 (12 * q) = nI u) (h51 : a5 (12 * q + 1) = nI v) (h52 : a5 (12 * q + 2) = -1) (h6 : a6 q = 0) (hA : (x11 = 1 ∧ x4 = nI s) ∨ (x11 = 0 ∧ s = 0 ∧ (x4 < 0 ∨ ¬ x4 ≤ 31))) (hn : n < 25) (hW : tj_W r n pt a1) (hC : tj_C u v n c pt) (hdg : tj_dg a15) (h7 : tj_bo x7 pt) (h8 : ¬ x8 = 0) (h13 : tj_bo x13 (tj_wh u v s)) (h14 : (x14 = 1 ∧ c = 1) ∨ (x14 = 0 ∧ c = 0)) (h20 : c = 1 → x20 = nI (tj_exp u v s (n / 5) (n % 5))) (H : post 1 ()) : wL_lawOf_406 post mc ms (nI q) x4 x5 x7 x8 x11 x13 x14 x20 kc ks 2 qu ai so fo af bd tc oc ac a1 a2 a3 a4 a5 a6 a7 a8 a9 a10 a11 a12 a13 a14 a15 a16 a17 a18 a19 a20 a21 a22 a23 a24 a25 := by
  unfold wL_lawOf_406
  refine tj_ask hq hs h6 hA (fun b6 e6 => br_t rfl (tj_q2 hq ?_))
  unfold wL_lawOf_430 wL_lawOf_435
  have hP : tj_P q r u v s a3 a4 a5 b6 := ⟨⟨hq, hr, hu, hv, hs⟩, h3, h4, h50, h51, h52, e6⟩
  refine tj_count hP hn hW hC hdg (fun nw => ?_) (fun hwh => ?_)
  · have e13 : x13 = 0 := by
      rcases h13 with ⟨_, g⟩ | ⟨e, _⟩
      · exact absurd g nw
      · exact e
    exact br_f (by decide) (br_t e13 (tj_t472 hP hn hW hC hdg h7 h8 h13 h14 h20 rfl H))
  · intro qu ai so fo af oc ac a10 a7 a8 a9 a15 a18 a19 a20 a21 a22 a23 a24 a25 hd
    have e13 : ¬ x13 = 0 := by
      rcases h13 with ⟨e13, _⟩ | ⟨_, g13⟩
      · rw [e13]; decide
      · exact absurd hwh g13
    refine br_f (by decide) (br_f e13 ?_)
    have h14' := h14
    rcases h14 with ⟨e14, hc⟩ | ⟨e14, hc⟩
    · exact br_f (by rw [e14]; decide) (tj_t472 hP hn hW hC hd h7 h8 h13 h14' h20 (by rw [hc]; rfl) H)
    · exact br_t e14 (tj_t472 hP hn hW hC hd h7 h8 h13 h14' h20 (by rw [hc]; rfl) H)
end
section
theorem tj_covb : ∀ u, u < 5 → ∀ v, v < 5 → ∀ s, s < 32 → (((nI s &&& (((1 : Int32) <<< ((nI u &&& 7) &&& 31)) ^^^ (-1))) &&& (((1 : Int32) <<< ((nI v &&& 7) &&& 31)) ^^^ (-1))) = 0 ↔ tj_wb u v s = true) := by decide +kernel
theorem tj_cov_wh (u : Nat) (hu : u < 5) (v : Nat) (hv : v < 5) (s : Nat) (hs : s < 32) : tj_cov (nI u) (nI v) (nI s) ↔ tj_wh u v s := (tj_covb u hu v hv s hs).trans tj_wb_iff
theorem tj_low : ∀ s, s < 32 → ∀ i, i < 5 → (((nI s >>> ((nI i &&& 7) &&& 31)) &&& 1) = 1 ↔ s.testBit i = true) := by decide +kernel
theorem tj_D_exp {u v s n : Nat} (hu : u < 5) (hv : v < 5) (hs : s < 32) (hn : n < 25) : tj_D (nI n) (nI u) (nI v) (nI s) = nI (tj_exp u v s (n / 5) (n % 5)) := by
  have e1 : nI n / 5 = nI (n / 5) := tj_div (by omega)
  have e2 : nI n - nI n / 5 * 5 = nI (n % 5) := tj_rem (by omega)
  have l1 := tj_low s hs u hu
  have l2 := tj_low s hs v hv
  have l3 : nI u = nI v ↔ u = v := nI_eq (by omega) (by omega)
  have hc : (¬ nI u = nI v ∧ ((nI s >>> ((nI u &&& 7) &&& 31)) &&& 1) = 1 ∧ ((nI s >>> ((nI v &&& 7) &&& 31)) &&& 1) = 1) ↔ (u ≠ v ∧ s.testBit u = true ∧ s.testBit v = true) := by rw [l1, l2, l3]
  unfold tj_D tj_exp
  rw [e2, e1]
  by_cases c : u ≠ v ∧ s.testBit u = true ∧ s.testBit v = true
  · rw [if_pos (hc.mpr c), if_pos c]
    by_cases h4 : v < u
    · have g4 : nI v < nI u := nI_lt h4 (by omega)
      rw [if_pos g4, if_pos g4, if_pos h4, if_pos h4, show (5 : Int32) = nI 5 from rfl, pk_mul, nI_add]
    · have g4 : ¬ nI v < nI u := nI_nlt (by omega) (by omega)
      rw [if_neg g4, if_neg g4, if_neg h4, if_neg h4, show (5 : Int32) = nI 5 from rfl, pk_mul, nI_add]
  · have nc : ¬ (¬ nI u = nI v ∧ ((nI s >>> ((nI u &&& 7) &&& 31)) &&& 1) = 1 ∧ ((nI s >>> ((nI v &&& 7) &&& 31)) &&& 1) = 1) := fun z => c (hc.mp z)
    rw [if_neg nc, if_neg c]
    by_cases h1 : s.testBit u = true
    · rw [if_pos (l1.mpr h1), if_pos h1]
    · have g1 : ¬ ((nI s >>> ((nI u &&& 7) &&& 31)) &&& 1) = 1 := fun z => h1 (l1.mp z)
      rw [if_neg g1, if_neg h1]
      by_cases h2 : s.testBit v = true
      · rw [if_pos (l2.mpr h2), if_pos h2]
      · have g2 : ¬ ((nI s >>> ((nI v &&& 7) &&& 31)) &&& 1) = 1 := fun z => h2 (l2.mp z)
        rw [if_neg g2, if_neg h2]
        rfl
theorem tj_pu_pn {x0 x1 : Int32} : tj_pu x0 x1 ↔ tj_pn x0 x1 := by
  constructor
  · intro h
    rcases h with ⟨h0, h1, h2⟩ | ⟨h0, h1, h2⟩
    · obtain ⟨j, hj, ej⟩ := nI_of2 (M := 24) (n := 24) (by decide) h1 h2
      rcases h0 with h0 | h0
      · exact ⟨0, j, h0, ej, by omega, by omega, by omega⟩
      · exact ⟨1, j, h0, ej, by omega, by omega, by omega⟩
    · obtain ⟨j, hj, ej⟩ := nI_of2 (M := 124) (n := 124) (by decide) h1 (Int32.not_lt.mp h2)
      exact ⟨2, j, h0, ej, by omega, by omega, by omega⟩
  · rintro ⟨r, j, e0, e1, hr, hj, hz⟩
    subst e0
    subst e1
    have h3 : r = 0 ∨ r = 1 ∨ r = 2 := by omega
    rcases h3 with rfl | rfl | rfl
    · exact Or.inl ⟨Or.inl rfl, nI_pos (by omega), nI_le (b := 24) (by omega) (by omega)⟩
    · exact Or.inl ⟨Or.inr rfl, nI_pos (by omega), nI_le (b := 24) (by omega) (by omega)⟩
    · exact Or.inr ⟨rfl, nI_pos (by omega), nI_nlt (b := j) (a := 124) (by omega) (by omega)⟩
theorem tj_01 {x : Int32} (h : x = 0 ∨ x = 1) : ∃ q, q < 2 ∧ x = nI q := by
  rcases h with h | h
  · exact ⟨0, by omega, h⟩
  · exact ⟨1, by omega, h⟩
theorem tj_rest {post : Int32 → St0 → Prop} {mc ms kc ks : Nat} {qu ai so fo af bd tc oc ac : Int32} {a1 a10 a11 a12 : Nat → Int64} {a2 a3 a4 a5 a6 a7 a8 a9 a13 a14 a15 a16 a17 a18 a19 a20 a21 a22 a23 a24 a25 : Nat → Int32} {x0 x1 x2 x3 x4 x5 x6 x7 x8 x11 x12 x13 x14 x20 z0 z1 : Int32} (h6 : tj_bo x6 (x0 = 0 ∨ x0 = 1)) (h7 : tj_bo x7 (tj_pu x0 x1)) (h8 : tj_bo x8 (tj_made x0 x2 x3)) (h11 : (x11 = 1 ∧ x12 = x4 ∧ tj_asks x2 x4) ∨ (x11 = 0 ∧ x12 = 0 ∧ ¬ tj_asks x2 x4))
    (h13 : tj_bo x13 (¬ x8 = 0 ∧ tj_cov (x3 / 5) (x3 - x3 / 5 * 5) x12)) (h14 : tj_bo x14 (tj_fit x1 x7 x8 (x3 / 5) (x3 - x3 / 5 * 5))) (h20 : x20 = tj_D x1 (x3 / 5) (x3 - x3 / 5 * 5) x12) (hT3 : ∀ k, a3 k = 0) (hT6 : ∀ k, a6 k = 0) (hdg : tj_dg a15)
    (hW : ∀ r, r < 2 → x0 = nI r → ∃ n, n < 25 ∧ (tj_pu x0 x1 → x1 = nI n) ∧ tj_W r n (tj_pu x0 x1) a1) (hz : z1 = z0) (H : post 1 ()) : wL_lawOf_373 post mc ms x0 x2 x3 x4 x5 x6 x7 x8 x11 x13 x14 x20 z0 z1 kc ks 2 qu ai so fo af bd tc oc ac a1 a2 a3 a4 a5 a6 a7 a8 a9 a10 a11 a12 a13 a14 a15 a16 a17 a18 a19 a20 a21 a22 a23 a24 a25 := by
  refine br_t hz ?_
  by_cases hq : x2 = 0 ∨ x2 = 1
  · obtain ⟨q, hq2, eq⟩ := tj_01 hq
    have hA : ∃ s, s < 32 ∧ x12 = nI s ∧ ((x11 = 1 ∧ x4 = nI s) ∨ (x11 = 0 ∧ s = 0 ∧ (x4 < 0 ∨ ¬ x4 ≤ 31))) := by
      rcases h11 with ⟨e11, e12, ha⟩ | ⟨e11, e12, ha⟩
      · obtain ⟨j, hj, ej⟩ := nI_of2 (M := 31) (n := 31) (by decide) ha.2.1 (Int32.not_lt.mp ha.2.2)
        exact ⟨j, by omega, e12.trans ej, Or.inl ⟨e11, ej⟩⟩
      · refine ⟨0, by omega, e12, Or.inr ⟨e11, rfl, ?_⟩⟩
        by_cases y : x4 < 0
        · exact Or.inl y
        · exact Or.inr (fun z => ha ⟨hq, y, Int32.not_lt.mpr z⟩)
    obtain ⟨s, hs, e12, hA⟩ := hA
    by_cases hm : tj_made x0 x2 x3
    · have e6 : ¬ x6 = 0 := by
        rcases h6 with ⟨e, _⟩ | ⟨_, g⟩
        · rw [e]; decide
        · exact absurd hm.2.1 g
      have e8 : ¬ x8 = 0 := by
        rcases h8 with ⟨e, _⟩ | ⟨_, g⟩
        · rw [e]; decide
        · exact absurd hm g
      obtain ⟨r, hr, er⟩ := tj_01 hm.2.1
      obtain ⟨j, hj, ej⟩ := nI_of2 (M := 24) (n := 24) (by decide) hm.2.2.1 (Int32.not_lt.mp hm.2.2.2)
      obtain ⟨n, hn, en, hWn⟩ := hW r hr er
      have hu : j / 5 < 5 := by omega
      have hv : j % 5 < 5 := by omega
      have e9 : x3 / 5 = nI (j / 5) := by rw [ej]; exact tj_div (by omega)
      have e10 : x3 - x3 / 5 * 5 = nI (j % 5) := by rw [ej]; exact tj_rem (by omega)
      rw [e10, e9] at h13 h14 h20
      rw [e12] at h13 h20
      have f7 : ¬ x7 = 0 ↔ tj_pu x0 x1 := by
        rcases h7 with ⟨e, g⟩ | ⟨e, g⟩
        · exact ⟨fun _ => g, fun _ => by rw [e]; decide⟩
        · exact ⟨fun z => absurd e z, fun z => absurd z g⟩
      have hfit : tj_pu x0 x1 → (tj_fit x1 x7 x8 (nI (j / 5)) (nI (j % 5)) ↔ (j / 5 ≠ j % 5 ∨ n / 5 = n % 5)) := by
        intro hp
        have e1 := en hp
        rw [e1]
        show (¬ x7 = 0 ∧ ¬ x8 = 0 ∧ (¬ nI (j / 5) = nI (j % 5) ∨ nI n / 5 = nI n - nI n / 5 * 5)) ↔ (j / 5 ≠ j % 5 ∨ n / 5 = n % 5)
        rw [tj_rem (n := n) (by omega), tj_div (n := n) (by omega)]
        constructor
        · rintro ⟨_, _, z | z⟩
          · exact Or.inl (fun y => z (by rw [y]))
          · exact Or.inr ((nI_eq (by omega) (by omega)).mp z)
        · intro z
          refine ⟨f7.mpr hp, e8, ?_⟩
          rcases z with z | z
          · exact Or.inl (tj_neI z (by omega) (by omega))
          · exact Or.inr (by rw [z])
      have hc : ∃ c, tj_C (j / 5) (j % 5) n c (tj_pu x0 x1) ∧ ((x14 = 1 ∧ c = 1) ∨ (x14 = 0 ∧ c = 0)) := by
        rcases h14 with ⟨e, g⟩ | ⟨e, g⟩
        · have hp := f7.mp g.1
          exact ⟨1, Or.inl ⟨rfl, hp, (hfit hp).mp g⟩, Or.inl ⟨e, rfl⟩⟩
        · exact ⟨0, Or.inr ⟨rfl, fun z => g ((hfit z.1).mpr z.2)⟩, Or.inr ⟨e, rfl⟩⟩
      obtain ⟨c, hC, h14'⟩ := hc
      have h13' : tj_bo x13 (tj_wh (j / 5) (j % 5) s) := by
        rcases h13 with ⟨e, g⟩ | ⟨e, g⟩
        · exact Or.inl ⟨e, (tj_cov_wh (j / 5) hu (j % 5) hv s hs).mp g.2⟩
        · exact Or.inr ⟨e, fun z => g ⟨e8, (tj_cov_wh (j / 5) hu (j % 5) hv s hs).mpr z⟩⟩
      have h20' : c = 1 → x20 = nI (tj_exp (j / 5) (j % 5) s (n / 5) (n % 5)) := by
        intro hc1
        have hp : tj_pu x0 x1 := by
          rcases hC with ⟨_, hp, _⟩ | ⟨h, _⟩
          · exact hp
          · omega
        rw [h20, en hp]
        exact tj_D_exp hu hv hs hn
      refine br_f e6 (tj_atom hq2 hr (by omega) eq er ej (hT3 q) (fun b3 b4 b5 g3 g4 g50 g51 g52 => br_f e8 (br_t rfl ?_)))
      rw [eq]
      exact tj_tIII hq2 hr hu hv hs g3 g4 g50 g51 g52 (hT6 q) hA hn hWn hC hdg h7 e8 h13' h14' h20' H
    · have e8 : x8 = 0 := by
        rcases h8 with ⟨_, g⟩ | ⟨e, _⟩
        · exact absurd g hm
        · exact e
      have e13 : x13 = 0 := by
        rcases h13 with ⟨_, g⟩ | ⟨e, _⟩
        · exact absurd e8 g.1
        · exact e
      have fin : wL_lawOf_406 post mc ms x2 x4 x5 x7 x8 x11 x13 x14 x20 kc ks 2 qu ai so fo af bd tc oc ac a1 a2 a3 a4 a5 a6 a7 a8 a9 a10 a11 a12 a13 a14 a15 a16 a17 a18 a19 a20 a21 a22 a23 a24 a25 := by
        rw [eq]
        exact tj_tII hq2 hs (hT3 q) (hT6 q) hA e8 e13 H
      rcases h6 with ⟨e6, g6⟩ | ⟨e6, g6⟩
      · refine br_f (by rw [e6]; decide) (tj_atom0 ?_ (br_t e8 (br_t rfl fin)))
        rintro ⟨_, hp⟩
        rcases tj_pu_pn.mpr hp with ⟨_, y1, y2⟩ | ⟨y0, _⟩
        · exact hm ⟨hq, g6, y1, Int32.not_lt.mpr y2⟩
        · rcases g6 with g6 | g6
          · exact absurd (g6.symm.trans y0) (by decide)
          · exact absurd (g6.symm.trans y0) (by decide)
      · exact br_t e6 fin
  · have e8 : x8 = 0 := by
      rcases h8 with ⟨_, g⟩ | ⟨e, _⟩
      · exact absurd g.1 hq
      · exact e
    have e11 : x11 = 0 := by
      rcases h11 with ⟨_, _, g⟩ | ⟨e, _⟩
      · exact absurd g.1 hq
      · exact e
    rcases h6 with ⟨e6, _⟩ | ⟨e6, _⟩
    · exact br_f (by rw [e6]; decide) (tj_atom0 (fun z => hq z.1) (br_t e8 (br_t rfl (tj_tI hq e11 H))))
    · exact br_t e6 (tj_tI hq e11 H)
theorem tj_345 {post : Int32 → St0 → Prop} {x0 x1 x2 x3 x4 x5 x6 x7 x8 x11 x12 x13 x14 x20 : Int32} (h6 : tj_bo x6 (x0 = 0 ∨ x0 = 1)) (h7 : tj_bo x7 (tj_pu x0 x1)) (h8 : tj_bo x8 (tj_made x0 x2 x3)) (h11 : (x11 = 1 ∧ x12 = x4 ∧ tj_asks x2 x4) ∨ (x11 = 0 ∧ x12 = 0 ∧ ¬ tj_asks x2 x4))
    (h13 : tj_bo x13 (¬ x8 = 0 ∧ tj_cov (x3 / 5) (x3 - x3 / 5 * 5) x12)) (h14 : tj_bo x14 (tj_fit x1 x7 x8 (x3 / 5) (x3 - x3 / 5 * 5))) (h20 : x20 = tj_D x1 (x3 / 5) (x3 - x3 / 5 * 5) x12) (H : post 1 ()) : wL_lawOf_345 post 302 4816 x0 x1 x2 x3 x4 x5 x6 x7 x8 x11 x13 x14 x20 0 0 := by
  refine And.intro (by decide) (And.intro (by decide) (Exists.intro 25 (Exists.intro 679 (And.intro (by decide) (And.intro (by decide) (tj_init ?_))))))
  have hdg : tj_dg (fun _ => 0) := fun j _ => ⟨0, by omega, rfl⟩
  refine tj_add (fun np => ?_) (fun r n e0 e1 hr hn hz b2 => ?_)
  · have npu : ¬ tj_pu x0 x1 := fun z => np (tj_pu_pn.mp z)
    have e7 : x7 = 0 := by
      rcases h7 with ⟨_, g⟩ | ⟨e, _⟩
      · exact absurd g npu
      · exact e
    refine br_t e7 (tj_rest h6 h7 h8 h11 h13 h14 h20 (fun _ => rfl) (fun _ => rfl) hdg (fun r hr er => ?_) rfl H)
    exact ⟨0, by omega, fun z => absurd z npu, fun _ _ _ => rfl, fun z => absurd z npu, fun _ => rfl⟩
  · have pu : tj_pu x0 x1 := tj_pu_pn.mpr ⟨r, n, e0, e1, hr, hn, hz⟩
    have e7 : ¬ x7 = 0 := by
      rcases h7 with ⟨e, _⟩ | ⟨_, g⟩
      · rw [e]; decide
      · exact absurd pu g
    refine br_f e7 (tj_rest h6 h7 h8 h11 h13 h14 h20 (fun _ => rfl) (fun _ => rfl) hdg (fun r' hr' er' => ?_) rfl H)
    have err : r' = r := (nI_eq (by omega) (by omega)).mp (er'.symm.trans e0)
    subst err
    have hn25 : n < 25 := by omega
    refine ⟨n, hn25, fun _ => e1, fun k hk hk2 => ?_, fun _ => ?_, fun z => absurd pu z⟩
    · rw [pk_uLn (by omega)]
    · rw [show 2 * r' + n / 64 = 2 * r' by omega, pk_uLs]
theorem tj_law {post : Int32 → St0 → Prop} {x0 x1 x2 x3 x4 x5 : Int32} (H : post 1 ()) : wpL_lawOf post 302 4816 () x0 x1 x2 x3 x4 x5 :=
  tj_l14 (fun _ h6 => tj_l51 h6 (fun _ h7 => tj_l82 h6 (fun _ h8 => tj_l133 (fun _ _ h11 => tj_l170 (fun _ h13 => tj_l203 (fun _ h14 => tj_l345 (tj_345 h6 h7 h8 h11 h13 h14 rfl H)))))))
theorem tj_cell {post : Int32 → Prop} {L : Nat} {xs : Nat → Int32} {p : Int32} (j : Nat) (hL : L ≤ 6) (hj : j < 6) (hp : p = nI j) (H : ∀ y, post y) : wpL_cellAt post L xs () p := by
  subst hp
  exact pk_le L j (fun _ => H 0) (fun z => And.intro (tj_in j L rfl z) (H _))
theorem i_vc (xs : Nat → Int32) (L : Nat) (hL : L ≤ 6) : wpL_law (fun r => r = 1) L xs :=
  tj_cell 0 hL (by omega) rfl (fun _ => tj_cell 1 hL (by omega) rfl (fun _ => tj_cell 2 hL (by omega) rfl (fun _ => tj_cell 3 hL (by omega) rfl (fun _ => tj_cell 4 hL (by omega) rfl (fun _ => tj_cell 5 hL (by omega) rfl (fun _ => Exists.intro 302 (Exists.intro 4816 (And.intro (by decide) (And.intro (by decide) (tj_law rfl))))))))))
end
