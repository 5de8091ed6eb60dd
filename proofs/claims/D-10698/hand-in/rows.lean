section
/-- a row with one number in it -/
def ww_one (q v : Nat) : Nat → Int32 := fun k => if k = q then nI v else 0
theorem ww_one_s {q v : Nat} : ww_one q v q = nI v := if_pos rfl
theorem ww_one_n {q v k : Nat} (h : k ≠ q) : ww_one q v k = 0 := if_neg h
theorem ww_one_0 (q k : Nat) : ww_one q 0 k = 0 := by
  unfold ww_one
  split
  · rfl
  · rfl
/-- the array of zeros -/
abbrev ww_z : Nat → Int32 := fun _ => 0
theorem ww_upd0 (k : Nat) : upd ww_z k 0 = ww_z := by
  funext j
  unfold upd
  split
  · rfl
  · rfl
theorem ww_fill {f s : Nat → Int32} {i k : Nat} {x : Int32} (hk : k = i) (h : ∀ j, j < i → s j = f j) (hx : x = f i) : ∀ j, j < i + 1 → upd s k x j = f j := by
  intro j hj
  rw [hk]
  by_cases e : j = i
  · rw [e, pk_us, hx]
  · rw [pk_un e]
    exact h j (by omega)
theorem ww_zfill {s : Nat → Int32} {m i : Nat} (h : ∀ j, j < m → s j = 0) : ∀ j, j < m → upd s i 0 j = 0 := by
  intro j hj
  by_cases e : j = i
  · rw [e, pk_us]
  · rw [pk_un e]
    exact h j hj
theorem ww_rem {a : Nat} (h : a < 2 ^ 31) : nI a - nI a / 997 * 997 = nI (a % 997) := pk_rem h (by decide) (by decide)
theorem ww_ix (c A i : Nat) : nI c * nI A + nI i = nI (c * A + i) := by rw [pk_mul, nI_add]
theorem ww_ix0 (x y : Int32) : x * 0 + y = y := by rw [Int32.mul_zero, Int32.zero_add]
theorem ww_row1 {q v k : Nat} (hv : v < 997) : ww_one q v k * 1 - ww_one q v k * 1 / 997 * 997 = ww_one q v k := by
  rw [Int32.mul_one]
  by_cases e : k = q
  · rw [e, ww_one_s, ww_rem (by omega), Nat.mod_eq_of_lt hv]
  · rw [ww_one_n e]
    decide
theorem ww_sh : ∀ i, i < 4 → nI i >>> ((2 : Int32) &&& 31) = 0 := by decide
theorem ww_an : ∀ i, i < 4 → nI i &&& 3 = nI i := by decide
theorem ww_sl : ∀ n, n < 32 → ((nI n &&& 31).toBitVec.smod 32).toNat = n := by decide +kernel
theorem ww_mul {v w : Nat} (hv : v < 997) (hw : w < 997) : v * w < 2 ^ 31 :=
  Nat.lt_of_le_of_lt (Nat.mul_le_mul (show v ≤ 996 by omega) (show w ≤ 996 by omega)) (by decide)
/-- one step of a sum of products of two rows with one number each -/
theorem ww_ev {q v w i : Nat} (hv : v < 997) (hw : w < 997) :
    nI (if q < i then v * w % 997 else 0) + ww_one q v i * ww_one q w i - (nI (if q < i then v * w % 997 else 0) + ww_one q v i * ww_one q w i) / 997 * 997 = nI (if q < i + 1 then v * w % 997 else 0) := by
  have hm := Nat.mod_lt (v * w) (show 0 < 997 by decide)
  by_cases e : i = q
  · rw [e, ww_one_s, ww_one_s, if_neg (by omega), if_pos (by omega), nI_0, Int32.zero_add, pk_mul, ww_rem (ww_mul hv hw)]
  · rw [ww_one_n e, Int32.zero_mul, Int32.add_zero]
    by_cases g : q < i
    · rw [if_pos g, if_pos (by omega), ww_rem (by omega), Nat.mod_eq_of_lt hm]
    · rw [if_neg g, if_neg (by omega)]
      decide
theorem ww_mod {post : Int32 → Prop} {x : Int32} (H : post (fmv x 997)) : wpX_modulo post () x := by
  refine ⟨by decide, nm_e (br_c (fun h => ?_) (fun h => ?_))⟩
  · rw [show fmv x 997 = x - x / 997 * 997 from if_pos h] at H
    exact H
  · rw [show fmv x 997 = x - x / 997 * 997 + 997 from if_neg h] at H
    exact H
theorem ww_fm (x : Int32) : ∃ v : Nat, v < 997 ∧ fmv x 997 = nI v := by
  obtain ⟨c, h1, h2⟩ := fmv_nat (a := x) (m := 997) (by decide)
  have h3 : (997 : Int32).toInt = 997 := by decide
  exact ⟨c, by omega, h1⟩
theorem ww_fm3 : fmv 3 997 = nI 3 := by decide
theorem ww_gn {post : Int32 → Prop} {p : Int32} (h : p < 0 ∨ 2 < p) (H : post 0) : wpX_isGood post () p :=
  br_c (fun _ => H) (fun h1 => br_t (h.resolve_left h1) H)
theorem ww_gy {post : Int32 → Prop} {A : Nat} (hA : A < 3) (H : post 1) : wpX_isGood post () (nI A) :=
  br_f (nI_pos (by omega)) (br_f (nI_nlt (a := 2) (b := A) (by omega) (by omega)) H)
/-- what the state holds behind the law's first three calls -/
def ww_P (A n q v w : Nat) (a1 a2 a3 a4 : Nat → Int32) : Prop :=
  (A < 3 ∧ 1 ≤ n ∧ n ≤ 4 ∧ q < n ∧ v < 997 ∧ w < 997) ∧ a1 A = nI n ∧ (∀ k, k < 4 → a2 (4 * A + k) = ww_one q v k) ∧ (∀ k, k < 4 → a3 (4 * A + k) = ww_one q w k) ∧ ∀ j, a4 j = 0
/-- a call's answer, whatever the other fields and arrays hold -/
def ww_Q (post : Int32 → St2 → Prop) (r : Int32) (a1 a2 a3 a4 : Nat → Int32) : Prop :=
  ∀ (mm ww bb : Int32) (a5 a6 a7 a8 a9 a10 a11 a12 a13 : Nat → Int32), post r (mm, ww, bb, a1, a2, a3, a4, a5, a6, a7, a8, a9, a10, a11, a12, a13)
end
section
theorem ww_init {post : St2 → Prop} {mc ms : Nat} (hc : 13 ≤ mc) (hs : 565 ≤ ms)
    (H : ∀ a1 : Nat → Int32, (∀ j, j < 3 → a1 j = 1) → post (0, 0, 0, a1, ww_z, ww_z, ww_z, ww_z, ww_z, ww_z, ww_z, ww_z, ww_z, ww_z, ww_z, ww_z)) :
    wpX_init post mc ms (0, 0, 0) := by
  unfold wpX_init
  refine ⟨by omega, by omega, by omega, by omega, by omega, by omega, by omega, by omega, by omega, by omega, by omega, by omega, by omega, by omega, by omega, by omega, by omega, by omega, by omega, by omega, by omega, by omega, by omega, by omega, by omega, by omega, ?_⟩
  exact pk_loop (fun n i s => wX_init_109 post mc ms 13 565 0 0 0 n (nI i) s ww_z ww_z ww_z ww_z ww_z ww_z ww_z ww_z ww_z ww_z ww_z ww_z) (fun i s => ∀ j, j < i → s j = 1) 3 0 ww_z (by omega) (fun j hj => absurd hj (by omega))
    (fun n s h => pk_le 3 3 (fun _ => H s h) (fun z => absurd z (by omega)))
    (fun n i s hi h hw => pk_le 3 i (fun z => absurd z (by omega)) (fun _ => ⟨pk_in i 3 hi, nm_e (nm_r (nI_1 i) (hw _ (ww_fill (f := fun _ => 1) (nI_clamp (by omega)) h rfl)))⟩))
theorem ww_size78 {post : Int32 → St2 → Prop} {x3 : Int32} {mm ww bb : Int32} {a1 a2 a3 a5 a6 a7 a8 a9 a10 a11 a12 a13 : Nat → Int32} {A : Nat} (hA : A < 3) (H : post x3 (mm, ww, bb, a1, a2, a3, ww_z, a5, a6, a7, a8, a9, a10, a11, a12, a13)) :
    ∃ n, wX_size_78 post (nI A) x3 mm ww bb n 0 a1 a2 a3 ww_z a5 a6 a7 a8 a9 a10 a11 a12 a13 :=
  pk_loop (σ := Unit) (fun n i _ => wX_size_78 post (nI A) x3 mm ww bb n (nI i) a1 a2 a3 ww_z a5 a6 a7 a8 a9 a10 a11 a12 a13) (fun _ _ => True) 32 0 () (by omega) trivial
    (fun n _ _ => pk_le 32 32 (fun _ => H) (fun z => absurd z (by omega)))
    (fun n i _ hi _ hw => pk_le 32 i (fun z => absurd z (by omega)) (fun _ => ⟨pk_in (32 * A + i) 96 (by omega) (ww_ix 32 A i), nm_r (ww_upd0 _) (nm_r (nI_1 i) (hw () trivial))⟩))
theorem ww_size39 {post : Int32 → St2 → Prop} {x3 : Int32} {mm ww bb : Int32} {a1 a5 a6 a7 a8 a9 a10 a11 a12 a13 : Nat → Int32} {A : Nat} (hA : A < 3) (H : post x3 (mm, ww, bb, a1, ww_z, ww_z, ww_z, a5, a6, a7, a8, a9, a10, a11, a12, a13)) :
    ∃ n, wX_size_39 post (nI A) x3 mm ww bb n 0 a1 ww_z ww_z ww_z a5 a6 a7 a8 a9 a10 a11 a12 a13 :=
  pk_loop (σ := Unit) (fun n i _ => wX_size_39 post (nI A) x3 mm ww bb n (nI i) a1 ww_z ww_z ww_z a5 a6 a7 a8 a9 a10 a11 a12 a13) (fun _ _ => True) 4 0 () (by omega) trivial
    (fun n _ _ => pk_le 4 4 (fun _ => ww_size78 hA H) (fun z => absurd z (by omega)))
    (fun n i _ hi _ hw => pk_le 4 i (fun z => absurd z (by omega)) (fun _ => ⟨pk_in (4 * A + i) 12 (by omega) (ww_ix 4 A i), nm_r (ww_upd0 _) ⟨pk_in (4 * A + i) 12 (by omega) (ww_ix 4 A i), nm_r (ww_upd0 _) (nm_r (nI_1 i) (hw () trivial))⟩⟩))
theorem ww_size {post : Int32 → St2 → Prop} {mm ww bb : Int32} {a1 a5 a6 a7 a8 a9 a10 a11 a12 a13 : Nat → Int32} {A n : Nat} (hA : A < 3) (hn0 : 1 ≤ n) (hn : n ≤ 4) (h1 : a1 A = 1)
    (H : post 1 (mm, ww, bb, upd a1 A (nI n), ww_z, ww_z, ww_z, a5, a6, a7, a8, a9, a10, a11, a12, a13)) : wpX_size post (mm, ww, bb, a1, ww_z, ww_z, ww_z, a5, a6, a7, a8, a9, a10, a11, a12, a13) (nI A) (nI n) := by
  unfold wpX_size
  refine ww_gy hA (br_f (by decide) (br_f (nI_nlt (b := 1) hn0 (by omega)) (br_t (nI_le (b := 4) hn (by omega)) ⟨pk_in A 3 hA, ?_⟩)))
  rw [nI_clamp (show A < 2 ^ 31 by omega), h1]
  exact nm_e ⟨pk_in A 3 hA, nm_e (ww_size39 hA H)⟩
theorem ww_size_n {post : Int32 → St2 → Prop} {mm ww bb : Int32} {a1 a2 a3 a4 a5 a6 a7 a8 a9 a10 a11 a12 a13 : Nat → Int32} {p x : Int32} (h : p < 0 ∨ 2 < p) (H : post (-1) (mm, ww, bb, a1, a2, a3, a4, a5, a6, a7, a8, a9, a10, a11, a12, a13)) : wpX_size post (mm, ww, bb, a1, a2, a3, a4, a5, a6, a7, a8, a9, a10, a11, a12, a13) p x := by
  unfold wpX_size
  exact ww_gn h (br_t rfl H)
theorem ww_size_b {post : Int32 → St2 → Prop} {mm ww bb : Int32} {a1 a2 a3 a4 a5 a6 a7 a8 a9 a10 a11 a12 a13 : Nat → Int32} {A : Nat} {x : Int32} (hA : A < 3) (h : x < 1 ∨ ¬ x ≤ 4) (H : post (-2) (mm, ww, bb, a1, a2, a3, a4, a5, a6, a7, a8, a9, a10, a11, a12, a13)) : wpX_size post (mm, ww, bb, a1, a2, a3, a4, a5, a6, a7, a8, a9, a10, a11, a12, a13) (nI A) x := by
  unfold wpX_size
  exact ww_gy hA (br_f (by decide) (br_c (fun _ => H) (fun g => br_f (h.resolve_left g) H)))
theorem ww_mark_n {post : Int32 → St2 → Prop} {mm ww bb : Int32} {a1 a2 a3 a4 a5 a6 a7 a8 a9 a10 a11 a12 a13 : Nat → Int32} {p x y z : Int32} (h : p < 0 ∨ 2 < p) (H : post (-1) (mm, ww, bb, a1, a2, a3, a4, a5, a6, a7, a8, a9, a10, a11, a12, a13)) : wpX_mark post (mm, ww, bb, a1, a2, a3, a4, a5, a6, a7, a8, a9, a10, a11, a12, a13) p x y z := by
  unfold wpX_mark
  exact ww_gn h (br_t rfl H)
theorem ww_mark_b {post : Int32 → St2 → Prop} {mm ww bb : Int32} {a1 a2 a3 a4 a5 a6 a7 a8 a9 a10 a11 a12 a13 : Nat → Int32} {A n : Nat} {x y z : Int32} (hA : A < 3) (h1 : a1 A = nI n) (h : x < 0 ∨ ¬ x < nI n) (H : post (-2) (mm, ww, bb, a1, a2, a3, a4, a5, a6, a7, a8, a9, a10, a11, a12, a13)) : wpX_mark post (mm, ww, bb, a1, a2, a3, a4, a5, a6, a7, a8, a9, a10, a11, a12, a13) (nI A) x y z := by
  unfold wpX_mark
  refine ww_gy hA (br_f (by decide) (br_c (fun _ => H) (fun g => ⟨pk_in A 3 hA, ?_⟩)))
  rw [nI_clamp (show A < 2 ^ 31 by omega), h1]
  exact br_f (h.resolve_left g) H
theorem ww_mark_s {post : Int32 → St2 → Prop} {mm ww bb : Int32} {a1 a2 a3 a4 a5 a6 a7 a8 a9 a10 a11 a12 a13 : Nat → Int32} {A n q : Nat} {x : Int32} (hA : A < 3) (hn : n ≤ 4) (hq : q < n) (h1 : a1 A = nI n)
    (H : post (a2 (4 * A + q)) (mm, ww, bb, a1, upd a2 (4 * A + q) (fmv x 997), a3, a4, a5, a6, a7, a8, a9, a10, a11, a12, a13)) : wpX_mark post (mm, ww, bb, a1, a2, a3, a4, a5, a6, a7, a8, a9, a10, a11, a12, a13) (nI A) (nI q) 0 x := by
  unfold wpX_mark
  have e : 4 * nI A + nI q = nI (4 * A + q) := ww_ix 4 A q
  refine ww_gy hA (br_f (by decide) (br_f (nI_pos (by omega)) ⟨pk_in A 3 hA, ?_⟩))
  rw [nI_clamp (show A < 2 ^ 31 by omega), h1]
  refine br_t (nI_lt hq (by omega)) (nm_r e (br_t rfl ⟨pk_in (4 * A + q) 12 (by omega), ?_⟩))
  unfold wX_mark_54
  rw [nI_clamp (show 4 * A + q < 2 ^ 31 by omega)]
  exact br_t rfl (ww_mod ⟨pk_in (4 * A + q) 12 (by omega), nm_e H⟩)
theorem ww_mark_e {post : Int32 → St2 → Prop} {mm ww bb : Int32} {a1 a2 a3 a4 a5 a6 a7 a8 a9 a10 a11 a12 a13 : Nat → Int32} {A n q : Nat} {x : Int32} (hA : A < 3) (hn : n ≤ 4) (hq : q < n) (h1 : a1 A = nI n)
    (H : post (a3 (4 * A + q)) (mm, ww, bb, a1, a2, upd a3 (4 * A + q) (fmv x 997), a4, a5, a6, a7, a8, a9, a10, a11, a12, a13)) : wpX_mark post (mm, ww, bb, a1, a2, a3, a4, a5, a6, a7, a8, a9, a10, a11, a12, a13) (nI A) (nI q) 5 x := by
  unfold wpX_mark
  have e : 4 * nI A + nI q = nI (4 * A + q) := ww_ix 4 A q
  refine ww_gy hA (br_f (by decide) (br_f (nI_pos (by omega)) ⟨pk_in A 3 hA, ?_⟩))
  rw [nI_clamp (show A < 2 ^ 31 by omega), h1]
  refine br_t (nI_lt hq (by omega)) (nm_r e (br_f (by decide) ⟨pk_in (4 * A + q) 12 (by omega), ?_⟩))
  unfold wX_mark_54
  rw [nI_clamp (show 4 * A + q < 2 ^ 31 by omega)]
  exact br_f (by decide) (ww_mod ⟨pk_in (4 * A + q) 12 (by omega), nm_e H⟩)
end
section
theorem ww_alone {post : St2 → Prop} {mm ww bb : Int32} {a1 a2 a3 a4 a5 a6 a7 a8 a9 a10 a11 a12 a13 : Nat → Int32} {p : Int32} (H : ∀ s5 s6 : Nat → Int32, s5 0 = p → s6 0 = 1 → post (1, ww, bb, a1, a2, a3, a4, s5, s6, a7, a8, a9, a10, a11, a12, a13)) : wpX_alone post (mm, ww, bb, a1, a2, a3, a4, a5, a6, a7, a8, a9, a10, a11, a12, a13) p := by
  unfold wpX_alone
  exact fun s5 e5 s6 e6 => H s5 s6 (by rw [e5, pk_us]) (by rw [e6, pk_us])
theorem ww_start33 {post : St2 → Prop} {J : Int32 → (Nat → Int32) → (Nat → Int32) → (Nat → Int32) → (Nat → Int32) → (Nat → Int32) → (Nat → Int32) → (Nat → Int32) → (Nat → Int32) → (Nat → Int32) → (Nat → Int32) → (Nat → Int32) → (Nat → Int32) → (Nat → Int32) → Prop} {ww bb : Int32} {a1 a2 a3 a4 a5 a6 a7 a8 a9 a10 a11 a12 a13 : Nat → Int32} {A n q v : Nat} (hA : A < 3) (hn : n ≤ 4) (hq : q < n) (hv : v < 997)
    (h1 : a1 A = nI n) (h2 : ∀ k, k < 4 → a2 (4 * A + k) = ww_one q v k) (h5 : a5 0 = nI A) (h6 : a6 0 = 1) (h11 : ∀ k, k < 12 → a11 k = 0)
    (H : ∀ s : Nat → Int32, (∀ k, k < 12 → s k = ww_one q v k) → J 1 a1 a2 a3 a4 a5 a6 a7 a8 a9 a10 s a12 a13) :
    ∃ f, wX_startRow_33 post J 0 1 ww bb f 0 a1 a2 a3 a4 a5 a6 a7 a8 a9 a10 a11 a12 a13 := by
  refine pk_loop (fun f i s => wX_startRow_33 post J 0 1 ww bb f (nI i) a1 a2 a3 a4 a5 a6 a7 a8 a9 a10 s a12 a13) (fun i s => (∀ k, k < i → s k = ww_one q v k) ∧ ∀ k, i ≤ k → k < 12 → s k = 0) n 0 a11 (by omega) ⟨fun k hk => absurd hk (by omega), fun k _ hk => h11 k hk⟩ ?_ ?_
  · intro f s h
    obtain ⟨h, h'⟩ := h
    refine ⟨pk_in 0 3 (by omega), ?_⟩
    rw [sb_cl0, h5]
    refine ⟨pk_in A 3 hA, ?_⟩
    rw [nI_clamp (show A < 2 ^ 31 by omega), h1]
    refine pk_le n n (fun _ => nm_r (e' := 1) (by decide) (H s (fun k hk => ?_))) (fun z => absurd z (by omega))
    by_cases g : k < n
    · exact h k g
    · rw [h' k (by omega) hk, ww_one_n (by omega)]
  · intro f i s hi h hw
    obtain ⟨h, h'⟩ := h
    have e : 4 * nI A + nI i = nI (4 * A + i) := ww_ix 4 A i
    have e0 : 4 * (0 : Int32) + nI i = nI i := ww_ix0 _ _
    refine ⟨pk_in 0 3 (by omega), ?_⟩
    rw [sb_cl0, h5]
    refine ⟨pk_in A 3 hA, ?_⟩
    rw [nI_clamp (show A < 2 ^ 31 by omega), h1]
    refine pk_le n i (fun z => absurd z (by omega)) (fun _ => ⟨pk_in 0 3 (by omega), ?_⟩)
    rw [e, e0, nI_clamp (show i < 2 ^ 31 by omega), nI_clamp (show 4 * A + i < 2 ^ 31 by omega), h2 i (by omega), h6, ww_row1 hv]
    refine ⟨pk_in (4 * A + i) 12 (by omega), pk_in 0 3 (by omega), by decide, pk_in i 12 (by omega), nm_e (nm_r (nI_1 i) (hw _ ⟨ww_fill rfl h rfl, fun k hk hk2 => ?_⟩))⟩
    rw [pk_un (by omega)]
    exact h' k (by omega) hk2
theorem ww_startRow {post : St2 → Prop} {ww bb : Int32} {a1 a2 a3 a4 a5 a6 a7 a8 a9 a10 a11 a12 a13 : Nat → Int32} {A n q v : Nat} (hA : A < 3) (hn : n ≤ 4) (hq : q < n) (hv : v < 997)
    (h1 : a1 A = nI n) (h2 : ∀ k, k < 4 → a2 (4 * A + k) = ww_one q v k) (h5 : a5 0 = nI A) (h6 : a6 0 = 1)
    (H : ∀ s : Nat → Int32, (∀ k, k < 12 → s k = ww_one q v k) → post (1, ww, bb, a1, a2, a3, a4, a5, a6, a7, a8, a9, a10, s, a12, a13)) : wpX_startRow post (1, ww, bb, a1, a2, a3, a4, a5, a6, a7, a8, a9, a10, a11, a12, a13) := by
  unfold wpX_startRow
  refine pk_loop (fun f i s => wX_startRow_2 post 1 ww bb f (nI i) a1 a2 a3 a4 a5 a6 a7 a8 a9 a10 s a12 a13) (fun i s => ∀ k, k < i → s k = 0) 12 0 a11 (by omega) (fun k hk => absurd hk (by omega)) ?_ ?_
  · intro f s h
    refine pk_le 12 12 (fun _ => ⟨0 + 1 + 1, ?_⟩) (fun z => absurd z (by omega))
    refine br_f (by decide) (ww_start33 hA hn hq hv h1 h2 h5 h6 h (fun s' hs' => ?_))
    exact br_t (by decide) (H s' hs')
  · intro f i s hi h hw
    exact pk_le 12 i (fun z => absurd z (by omega)) (fun _ => ⟨pk_in i 12 hi, nm_e (nm_r (nI_1 i) (hw _ (ww_fill (f := ww_z) (nI_clamp (by omega)) h rfl)))⟩)
theorem ww_adv152 {post : St2 → Prop} {mm ww bb : Int32} {a1 a2 a3 a4 a5 a6 a7 a8 a9 a10 a11 a12 a13 : Nat → Int32} (H : ∀ s : Nat → Int32, (∀ k, k < 12 → s k = a12 k) → post (mm, ww, bb, a1, a2, a3, a4, a5, a6, a7, a8, a9, a10, s, a12, a13)) :
    ∃ f, wX_advance_152 post mm ww bb f 0 a1 a2 a3 a4 a5 a6 a7 a8 a9 a10 a11 a12 a13 :=
  pk_loop (fun f i s => wX_advance_152 post mm ww bb f (nI i) a1 a2 a3 a4 a5 a6 a7 a8 a9 a10 s a12 a13) (fun i s => ∀ k, k < i → s k = a12 k) 12 0 a11 (by omega) (fun k hk => absurd hk (by omega))
    (fun f s h => pk_le 12 12 (fun _ => H s h) (fun z => absurd z (by omega)))
    (fun f i s hi h hw => pk_le 12 i (fun z => absurd z (by omega)) (fun _ => ⟨pk_in i 12 hi, pk_in i 12 hi, nm_e (nm_r (nI_1 i) (hw _ (ww_fill (nI_clamp (by omega)) h (by rw [nI_clamp (by omega)]))))⟩))
theorem ww_ix4 (A l k i : Nat) : 32 * nI A + 16 * nI l + 4 * nI k + nI i = nI (32 * A + 16 * l + 4 * k + i) := by
  rw [show (32 : Int32) = nI 32 from rfl, show (16 : Int32) = nI 16 from rfl, show (4 : Int32) = nI 4 from rfl, pk_mul, pk_mul, pk_mul, nI_add, nI_add, nI_add]
theorem ww_adv53 {post : St2 → Prop} {J : Int32 → (Nat → Int32) → (Nat → Int32) → (Nat → Int32) → (Nat → Int32) → (Nat → Int32) → (Nat → Int32) → (Nat → Int32) → (Nat → Int32) → (Nat → Int32) → (Nat → Int32) → (Nat → Int32) → (Nat → Int32) → (Nat → Int32) → Prop} {mm ww bb : Int32} {a1 a2 a3 a4 a5 a6 a7 a8 a9 a10 a11 a12 a13 : Nat → Int32} {A n k l : Nat} (hA : A < 3) (hn0 : 1 ≤ n) (hn : n ≤ 4) (hk : k < 4) (hl : l < 2)
    (h1 : a1 A = nI n) (h4 : ∀ j, a4 j = 0) (h12 : ∀ j, j < 12 → a12 j = 0)
    (H : ∀ s : Nat → Int32, (∀ j, j < 12 → s j = 0) → J (nI (k + 1)) a1 a2 a3 a4 a5 a6 a7 a8 a9 a10 a11 s a13) :
    ∃ f, wX_advance_53 post J (nI l) (nI k) 0 (nI k) (nI A) mm ww bb f 0 a1 a2 a3 a4 a5 a6 a7 a8 a9 a10 a11 a12 a13 := by
  by_cases hkn : k < n
  · refine pk_loop (fun f i s => wX_advance_53 post J (nI l) (nI k) 0 (nI k) (nI A) mm ww bb f (nI i) a1 a2 a3 a4 a5 a6 a7 a8 a9 a10 a11 s a13) (fun i s => ∀ j, j < 12 → s j = 0) n 0 a12 (by omega) h12 ?_ ?_
    · intro f s h
      refine ⟨pk_in A 3 hA, ?_⟩
      rw [nI_clamp (show A < 2 ^ 31 by omega), h1]
      exact pk_le n n (fun _ => nm_r (nI_1 k) (H s h)) (fun z => absurd z (by omega))
    · intro f i s hi h hw
      have h : ∀ j, j < 12 → s j = 0 := h
      have e0 : 4 * (0 : Int32) + nI i = nI i := ww_ix0 _ _
      refine ⟨pk_in A 3 hA, ?_⟩
      rw [nI_clamp (show A < 2 ^ 31 by omega), h1]
      refine pk_le n i (fun z => absurd z (by omega)) (fun _ => ⟨pk_in A 3 hA, pk_le n k (fun z => absurd z (by omega)) (fun _ => ⟨pk_in k 12 (by omega), ?_⟩)⟩)
      rw [ww_ix4 A l k i, e0, h4, nI_clamp (show i < 2 ^ 31 by omega), h i (by omega)]
      exact ⟨pk_in (32 * A + 16 * l + 4 * k + i) 96 (by omega), nm_r (Int32.mul_zero) ⟨pk_in i 12 (by omega), by decide, pk_in i 12 (by omega), nm_r (e' := upd s i 0) (by rw [show (0 : Int32) + 0 - (0 + 0) / 997 * 997 = 0 by decide]) (nm_r (nI_1 i) (hw _ (ww_zfill h)))⟩⟩
  · refine ⟨0 + 1, pk_in A 3 hA, ?_⟩
    rw [nI_clamp (show A < 2 ^ 31 by omega), h1]
    exact pk_le n 0 (fun z => absurd z (by omega)) (fun _ => ⟨pk_in A 3 hA, pk_le n k (fun _ => nm_r (nI_1 k) (H _ h12)) (fun z => absurd z (by omega))⟩)
theorem ww_advance {post : St2 → Prop} {ww bb : Int32} {a1 a2 a3 a4 a5 a6 a7 a8 a9 a10 a11 a12 a13 : Nat → Int32} {A n l : Nat} (hA : A < 3) (hn0 : 1 ≤ n) (hn : n ≤ 4) (hl : l < 2)
    (h1 : a1 A = nI n) (h4 : ∀ j, a4 j = 0) (h5 : a5 0 = nI A)
    (H : ∀ s t : Nat → Int32, (∀ k, k < 12 → s k = 0) → post (1, ww, bb, a1, a2, a3, a4, a5, a6, a7, a8, a9, a10, s, t, a13)) : wpX_advance post (1, ww, bb, a1, a2, a3, a4, a5, a6, a7, a8, a9, a10, a11, a12, a13) (nI l) := by
  unfold wpX_advance
  refine pk_loop (fun f i s => wX_advance_2 post (nI l) 1 ww bb f (nI i) a1 a2 a3 a4 a5 a6 a7 a8 a9 a10 a11 s a13) (fun i s => ∀ k, k < i → s k = 0) 12 0 a12 (by omega) (fun k hk => absurd hk (by omega)) ?_ ?_
  · intro f s h
    refine pk_le 12 12 (fun _ => ?_) (fun z => absurd z (by omega))
    refine pk_loop (fun f i s => wX_advance_23 post (nI l) 1 ww bb f (nI i) a1 a2 a3 a4 a5 a6 a7 a8 a9 a10 a11 s a13) (fun i s => ∀ k, k < 12 → s k = 0) 4 0 s (by omega) h ?_ ?_
    · intro f s h
      have h : ∀ j, j < 12 → s j = 0 := h
      exact pk_le 4 4 (fun _ => ww_adv152 (fun s' hs' => H s' s (fun k hk => by rw [hs' k hk, h k hk]))) (fun z => absurd z (by omega))
    · intro f i s hi h hw
      refine pk_le 4 i (fun z => absurd z (by omega)) (fun _ => nm_r (ww_sh i hi) (nm_r (ww_an i hi) ⟨pk_in 0 3 (by omega), ?_⟩))
      rw [sb_cl0, h5]
      exact nm_e (ww_adv53 hA hn0 hn hi hl h1 h4 h (fun s' hs' => hw s' hs'))
  · intro f i s hi h hw
    exact pk_le 12 i (fun z => absurd z (by omega)) (fun _ => ⟨pk_in i 12 hi, nm_e (nm_r (nI_1 i) (hw _ (ww_fill (f := ww_z) (nI_clamp (by omega)) h rfl)))⟩)
theorem ww_endValue {post : Int32 → Prop} {ww bb : Int32} {a1 a2 a3 a4 a5 a6 a7 a8 a9 a10 a11 a12 a13 : Nat → Int32} {A q v w : Nat} (hA : A < 3) (hv : v < 997) (hw : w < 997) (hq : q < 4)
    (h3 : ∀ k, k < 4 → a3 (4 * A + k) = ww_one q w k) (h5 : a5 0 = nI A) (h11 : ∀ k, k < 4 → a11 k = ww_one q v k)
    (H : post (nI (v * w % 997))) : wpX_endValue post (1, ww, bb, a1, a2, a3, a4, a5, a6, a7, a8, a9, a10, a11, a12, a13) := by
  unfold wpX_endValue
  refine pk_loop (fun f i s => wX_endValue_4 post 1 ww bb a1 a2 a3 a4 a5 a6 a7 a8 a9 a10 a11 a12 a13 f s (nI i)) (fun i s => s = nI (if q < i then v * w % 997 else 0)) 4 0 0 (by omega) (by rw [if_neg (by omega)]; rfl) ?_ ?_
  · intro f s h
    have h : s = nI (if q < 4 then v * w % 997 else 0) := h
    rw [if_pos hq] at h
    rw [h]
    exact pk_le 4 4 (fun _ => H) (fun z => absurd z (by omega))
  · intro f i s hi h hW
    have h : s = nI (if q < i then v * w % 997 else 0) := h
    have e : 4 * nI A + nI i = nI (4 * A + i) := ww_ix 4 A i
    refine pk_le 4 i (fun z => absurd z (by omega)) (fun _ => ⟨pk_in i 12 (by omega), ?_⟩)
    rw [ww_sh i hi, ww_an i hi, sb_cl0, h5, e, nI_clamp (show i < 2 ^ 31 by omega), nI_clamp (show 4 * A + i < 2 ^ 31 by omega), h11 i hi, h3 i hi, h, ww_ev hv hw]
    exact ⟨pk_in 0 3 (by omega), pk_in (4 * A + i) 12 (by omega), by decide, nm_e (nm_r (nI_1 i) (hW _ rfl))⟩
end
section
theorem ww_w57 {post : Int32 → St2 → Prop} {ww bb : Int32} {a1 a2 a3 a4 a5 a6 a7 a8 a9 a10 a11 a12 a13 : Nat → Int32} {A n q v w e : Nat} {x : Int32} (P : ww_P A n q v w a1 a2 a3 a4) (he : e ≤ 9) (h5 : a5 0 = nI A) (h11 : ∀ k, k < 12 → a11 k = ww_one q v k)
    (H : ww_Q post (nI (if e = 0 then v * w % 997 else 0)) a1 a2 a3 a4) : ∃ f, wX_weight_57 post x f (nI e - 1) 1 ww bb a1 a2 a3 a4 a5 a6 a7 a8 a9 a10 a11 a12 a13 := by
  obtain ⟨⟨hA, hn0, hn, hq, hv, hw⟩, h1, h2, h3, h4⟩ := P
  by_cases he0 : e = 0
  · subst he0
    rw [if_pos rfl] at H
    exact ⟨0 + 1, br_t (by decide) (ww_endValue hA hv hw (by omega) h3 h5 (fun k hk => h11 k (by omega)) (H _ _ _ _ _ _ _ _ _ _ _ _))⟩
  · rw [if_neg he0] at H
    refine ⟨_, pk_loopD (fun f i s => wX_weight_57 post x f (nI i - 1) 1 ww bb a1 a2 a3 a4 a5 a6 a7 a8 a9 a10 s.1 s.2 a13) (fun i s => i ≤ 9 ∧ (i = 0 → ∀ k, k < 12 → s.1 k = 0)) ?_ ?_ e (a11, a12) ⟨he, fun h => absurd h he0⟩⟩
    · intro f s h
      refine br_t (by decide) (ww_endValue (v := 0) hA (by omega) hw (show q < 4 by omega) h3 h5 (fun k hk => ?_) ?_)
      · rw [h.2 rfl k (by omega), ww_one_0]
      · rw [Nat.zero_mul]
        exact H _ _ _ _ _ _ _ _ _ _ _ _
    · intro f i s h hW
      have hi : i + 1 ≤ 9 := h.1
      have ep := nI_pred i
      obtain ⟨l, hl, el⟩ := pk_andE (x >>> (nI i &&& 31)) (m := 1) 1 (by decide)
      show wX_weight_57 post x (f + 1) (nI (i + 1) - 1) 1 ww bb a1 a2 a3 a4 a5 a6 a7 a8 a9 a10 s.1 s.2 a13
      rw [ep]
      refine br_f (nI_pos (by omega)) ?_
      rw [el]
      exact ww_advance hA hn0 hn hl h1 h4 h5 (fun s' t' hs' => nm_r (Int32.sub_eq_add_neg _ _).symm (hW (s', t') ⟨by omega, fun _ => hs'⟩))
theorem ww_w36 {post : Int32 → St2 → Prop} {ww bb : Int32} {a1 a2 a3 a4 a5 a6 a7 a8 a9 a10 a11 a12 a13 : Nat → Int32} {A n q v w c : Nat} (P : ww_P A n q v w a1 a2 a3 a4) (hc : 1 ≤ c) (hc2 : c ≤ 1023) (h5 : a5 0 = nI A) (h11 : ∀ k, k < 12 → a11 k = ww_one q v k)
    (H : ww_Q post (nI (if c = 1 then v * w % 997 else 0)) a1 a2 a3 a4) : ∃ f, wX_weight_36 post (nI c) 1 ww bb a1 a2 a3 a4 a5 a6 a7 a8 a9 a10 a11 a12 a13 f 9 := by
  refine ⟨9 + 1, pk_loopD (σ := Unit) (fun f i _ => wX_weight_36 post (nI c) 1 ww bb a1 a2 a3 a4 a5 a6 a7 a8 a9 a10 a11 a12 a13 f (nI i)) (fun i _ => i ≤ 9 ∧ c < 2 ^ (i + 1)) ?_ ?_ 9 () ⟨by omega, by omega⟩⟩
  · intro f s h
    have h2 : c < 2 ^ (0 + 1) := h.2
    rw [if_pos (by omega)] at H
    exact br_t (by decide) (nm_e (ww_w57 (e := 0) P (by omega) h5 h11 H))
  · intro f i s h hW
    have hi : i + 1 ≤ 9 := h.1
    refine br_f (nI_nle (by omega) (by omega)) ?_
    rw [pk_shrN (show c < 2 ^ 31 by omega) _ (i + 1) (ww_sl (i + 1) (by omega))]
    refine pk_eq (c / 2 ^ (i + 1)) 0 (fun z => nm_r (pk_m1 i) (hW () ⟨by omega, ?_⟩)) (fun z => nm_e (ww_w57 (e := i + 1) P hi h5 h11 ?_)) rfl rfl (Nat.lt_of_le_of_lt (Nat.div_le_self _ _) (by omega))
    · rcases Nat.div_eq_zero_iff.mp z with g | g
      · exact absurd g (Nat.ne_of_gt (Nat.two_pow_pos _))
      · exact g
    · rw [if_neg (fun g => z (by rw [g]; exact Nat.div_eq_of_lt (Nat.one_lt_two_pow (by omega))))] at H
      rw [if_neg (by omega)]
      exact H
theorem ww_weight {post : Int32 → St2 → Prop} {mm ww bb : Int32} {a1 a2 a3 a4 a5 a6 a7 a8 a9 a10 a11 a12 a13 : Nat → Int32} {A n q v w c : Nat} (P : ww_P A n q v w a1 a2 a3 a4) (hc : 1 ≤ c) (hc2 : c ≤ 1023)
    (H : ww_Q post (nI (if c = 1 then v * w % 997 else 0)) a1 a2 a3 a4) : wpX_weight post (mm, ww, bb, a1, a2, a3, a4, a5, a6, a7, a8, a9, a10, a11, a12, a13) (nI A) (nI c) := by
  obtain ⟨⟨hA, hn0, hn, hq, hv, hw⟩, h1, h2, h3, h4⟩ := id P
  unfold wpX_weight
  refine ww_gy hA (br_f (by decide) (br_f (nI_nlt (b := 1) hc (by omega)) (br_t (nI_le (b := 1023) hc2 (by omega)) ?_)))
  exact ww_alone (fun s5 s6 h5 h6 => ww_startRow hA hn hq hv h1 h2 h5 h6 (fun s hs => ww_w36 P hc hc2 h5 hs H))
theorem ww_weight_n {post : Int32 → St2 → Prop} {mm ww bb : Int32} {a1 a2 a3 a4 a5 a6 a7 a8 a9 a10 a11 a12 a13 : Nat → Int32} {p x : Int32} (h : p < 0 ∨ 2 < p) (H : post (-1) (mm, ww, bb, a1, a2, a3, a4, a5, a6, a7, a8, a9, a10, a11, a12, a13)) : wpX_weight post (mm, ww, bb, a1, a2, a3, a4, a5, a6, a7, a8, a9, a10, a11, a12, a13) p x := by
  unfold wpX_weight
  exact ww_gn h (br_t rfl H)
theorem ww_weight_b {post : Int32 → St2 → Prop} {mm ww bb : Int32} {a1 a2 a3 a4 a5 a6 a7 a8 a9 a10 a11 a12 a13 : Nat → Int32} {A : Nat} {x : Int32} (hA : A < 3) (h : x < 1 ∨ ¬ x ≤ 1023) (H : post (-2) (mm, ww, bb, a1, a2, a3, a4, a5, a6, a7, a8, a9, a10, a11, a12, a13)) : wpX_weight post (mm, ww, bb, a1, a2, a3, a4, a5, a6, a7, a8, a9, a10, a11, a12, a13) (nI A) x := by
  unfold wpX_weight
  exact ww_gy hA (br_f (by decide) (br_c (fun _ => H) (fun g => br_f (h.resolve_left g) H)))
end
section
theorem ww_inv {post : Int32 → Prop} {x : Int32} (H : ∀ r, post r) : wpX_inverse post () x := by
  unfold wpX_inverse
  refine pk_loop (fun f i s => wX_inverse_11 post 995 f s.1 s.2 (nI i)) (fun _ _ => True) 10 0 ((1 : Int32), x) (by omega) trivial ?_ ?_
  · intro f s _
    exact pk_le 10 10 (fun _ => H _) (fun z => absurd z (by omega))
  · intro f i s hi _ hW
    refine pk_le 10 i (fun z => absurd z (by omega)) (fun _ => br_c (fun _ => ⟨by decide, nm_e ?_⟩) (fun _ => ?_))
    · exact ⟨by decide, nm_e (nm_r (nI_1 i) (hW (_, _) trivial))⟩
    · exact ⟨by decide, nm_e (nm_r (nI_1 i) (hW (s.1, s.2 * s.2 - s.2 * s.2 / 997 * 997) trivial))⟩
theorem ww_eb149 {post : Int32 → St2 → Prop} {x2 : Int32} {mm ww : Int32} {a1 a2 a3 a4 a5 a6 a7 a8 a9 a10 a11 a12 a13 : Nat → Int32} {q : Nat}
    (H : ∀ s t : Nat → Int32, t 0 = nI q → post 1 (mm, ww, 1, a1, a2, a3, a4, a5, a6, a7, a8, s, t, a11, a12, a13)) : ∃ f, wX_enterBasis_149 post (nI q) x2 mm ww 0 f 0 a1 a2 a3 a4 a5 a6 a7 a8 a9 a10 a11 a12 a13 :=
  pk_loop (fun f i s => wX_enterBasis_149 post (nI q) x2 mm ww 0 f (nI i) a1 a2 a3 a4 a5 a6 a7 a8 s a10 a11 a12 a13) (fun _ _ => True) 12 0 a9 (by omega) trivial
    (fun f s _ => pk_le 12 12 (fun _ => ⟨pk_in 0 14 (by omega), nm_e (nm_r (e' := 1) (by decide) (H s _ (by rw [sb_cl0, pk_us])))⟩) (fun z => absurd z (by omega)))
    (fun f i s hi _ hW => pk_le 12 i (fun z => absurd z (by omega)) (fun _ => ⟨pk_in i 12 hi, by decide, pk_in i 168 (by omega) (ww_ix0 _ _), nm_e (nm_r (nI_1 i) (hW _ trivial))⟩))
theorem ww_eb108_1 {post : Int32 → St2 → Prop} {mm ww bb : Int32} {a1 a2 a3 a4 a5 a6 a7 a8 a9 a10 a11 a12 a13 : Nat → Int32} {q v : Nat} (hv0 : 0 < v) (hv : v < 997) (hq : q < 12) (h12 : ∀ k, k < 12 → a12 k = ww_one q v k)
    (H : wX_enterBasis_129 post (nI q) mm ww bb a1 a2 a3 a4 a5 a6 a7 a8 a9 a10 a11 a12 a13) : ∃ f, wX_enterBasis_108 post mm ww bb a1 a2 a3 a4 a5 a6 a7 a8 a9 a10 a11 a12 a13 f 0 := by
  refine pk_loop (σ := Unit) (fun f i _ => wX_enterBasis_108 post mm ww bb a1 a2 a3 a4 a5 a6 a7 a8 a9 a10 a11 a12 a13 f (nI i)) (fun _ _ => True) q 0 () (by omega) trivial ?_ ?_
  · intro f _ _
    refine pk_le 12 q (fun z => absurd z (by omega)) (fun _ => ⟨pk_in q 12 hq, ?_⟩)
    rw [nI_clamp (show q < 2 ^ 31 by omega), h12 q hq, ww_one_s]
    exact br_f (nI_ne0 hv0 (by omega)) H
  · intro f i _ hi _ hW
    refine pk_le 12 i (fun z => absurd z (by omega)) (fun _ => ⟨pk_in i 12 (by omega), ?_⟩)
    rw [nI_clamp (show i < 2 ^ 31 by omega), h12 i (by omega), ww_one_n (by omega)]
    exact br_t rfl (nm_r (nI_1 i) (hW () trivial))
theorem ww_eb108_0 {post : Int32 → St2 → Prop} {mm ww bb : Int32} {a1 a2 a3 a4 a5 a6 a7 a8 a9 a10 a11 a12 a13 : Nat → Int32} (h12 : ∀ k, k < 12 → a12 k = 0)
    (H : post 0 (mm, ww, bb, a1, a2, a3, a4, a5, a6, a7, a8, a9, a10, a11, a12, a13)) : ∃ f, wX_enterBasis_108 post mm ww bb a1 a2 a3 a4 a5 a6 a7 a8 a9 a10 a11 a12 a13 f 0 := by
  refine pk_loop (σ := Unit) (fun f i _ => wX_enterBasis_108 post mm ww bb a1 a2 a3 a4 a5 a6 a7 a8 a9 a10 a11 a12 a13 f (nI i)) (fun _ _ => True) 12 0 () (by omega) trivial ?_ ?_
  · intro f _ _
    exact pk_le 12 12 (fun _ => br_t rfl H) (fun z => absurd z (by omega))
  · intro f i _ hi _ hW
    refine pk_le 12 i (fun z => absurd z (by omega)) (fun _ => ⟨pk_in i 12 (by omega), ?_⟩)
    rw [nI_clamp (show i < 2 ^ 31 by omega), h12 i (by omega)]
    exact br_t rfl (nm_r (nI_1 i) (hW () trivial))
/-- the first row into an empty basis -/
theorem ww_eb_1 {post : Int32 → St2 → Prop} {mm ww : Int32} {a1 a2 a3 a4 a5 a6 a7 a8 a9 a10 a11 a12 a13 : Nat → Int32} {q v : Nat} (hv0 : 0 < v) (hv : v < 997) (hq : q < 12) (h11 : ∀ k, k < 12 → a11 k = ww_one q v k)
    (H : ∀ s9 s10 s12 : Nat → Int32, s10 0 = nI q → post 1 (mm, ww, 1, a1, a2, a3, a4, a5, a6, a7, a8, s9, s10, a11, s12, a13)) : wpX_enterBasis post (mm, ww, 0, a1, a2, a3, a4, a5, a6, a7, a8, a9, a10, a11, a12, a13) := by
  unfold wpX_enterBasis
  refine pk_loop (fun f i s => wX_enterBasis_2 post mm ww 0 f (nI i) a1 a2 a3 a4 a5 a6 a7 a8 a9 a10 a11 s a13) (fun i s => ∀ k, k < i → s k = a11 k) 12 0 a12 (by omega) (fun k hk => absurd hk (by omega)) ?_ ?_
  · intro f s h
    have h : ∀ k, k < 12 → s k = a11 k := h
    refine pk_le 12 12 (fun _ => ⟨0 + 1, br_t (by decide) (ww_eb108_1 hv0 hv hq (fun k hk => by rw [h k hk, h11 k hk]) ?_)⟩) (fun z => absurd z (by omega))
    unfold wX_enterBasis_129
    exact pk_eq q 12 (fun z => absurd z (by omega)) (fun _ => ⟨pk_in q 12 hq, ww_inv (fun r => ww_eb149 (fun s9 s10 h10 => H s9 s10 s h10))⟩)
  · intro f i s hi h hW
    exact pk_le 12 i (fun z => absurd z (by omega)) (fun _ => ⟨pk_in i 12 hi, pk_in i 12 hi, nm_e (nm_r (nI_1 i) (hW _ (ww_fill (nI_clamp (by omega)) h (by rw [nI_clamp (by omega)]))))⟩)
/-- a row of zeros -/
theorem ww_eb_0 {post : Int32 → St2 → Prop} {mm ww : Int32} {a1 a2 a3 a4 a5 a6 a7 a8 a9 a10 a11 a12 a13 : Nat → Int32} {b : Nat} (hb : b = 0 ∨ (b = 1 ∧ ∃ p, p < 12 ∧ a10 0 = nI p)) (h11 : ∀ k, k < 12 → a11 k = 0)
    (H : ∀ s12 : Nat → Int32, post 0 (mm, ww, nI b, a1, a2, a3, a4, a5, a6, a7, a8, a9, a10, a11, s12, a13)) : wpX_enterBasis post (mm, ww, nI b, a1, a2, a3, a4, a5, a6, a7, a8, a9, a10, a11, a12, a13) := by
  unfold wpX_enterBasis
  refine pk_loop (fun f i s => wX_enterBasis_2 post mm ww (nI b) f (nI i) a1 a2 a3 a4 a5 a6 a7 a8 a9 a10 a11 s a13) (fun i s => ∀ k, k < i → s k = a11 k) 12 0 a12 (by omega) (fun k hk => absurd hk (by omega)) ?_ ?_
  · intro f s h
    have h : ∀ k, k < 12 → s k = 0 := fun k hk => (h k hk).trans (h11 k hk)
    refine pk_le 12 12 (fun _ => ?_) (fun z => absurd z (by omega))
    rcases hb with rfl | ⟨rfl, p, hp, h10⟩
    · exact ⟨0 + 1, br_t (by decide) (ww_eb108_0 h (H s))⟩
    · refine ⟨0 + 1 + 1, br_f (by decide) ⟨pk_in 0 14 (by omega), ?_⟩⟩
      rw [sb_cl0, h10]
      refine ⟨pk_in p 12 hp, ?_⟩
      rw [nI_clamp (show p < 2 ^ 31 by omega), h p hp]
      exact nm_e ⟨0 + 1, br_f (by decide) (br_t rfl (nm_r (e' := 1) (by decide) (br_t (by decide) (ww_eb108_0 h (H s)))))⟩
  · intro f i s hi h hW
    exact pk_le 12 i (fun z => absurd z (by omega)) (fun _ => ⟨pk_in i 12 hi, pk_in i 12 hi, nm_e (nm_r (nI_1 i) (hW _ (ww_fill (nI_clamp (by omega)) h (by rw [nI_clamp (by omega)]))))⟩)
theorem ww_keep11 {post : St2 → Prop} {x : Int32} {mm bb : Int32} {a1 a2 a3 a4 a5 a6 a7 a8 a9 a10 a11 a12 a13 : Nat → Int32} (H : ∀ s7 s8 : Nat → Int32, (∀ k, k < 12 → s7 k = a11 k) → post (mm, 1, bb, a1, a2, a3, a4, a5, a6, s7, s8, a9, a10, a11, a12, a13)) :
    ∃ f, wX_keepRow_11 post x mm 0 bb f 0 a1 a2 a3 a4 a5 a6 a7 a8 a9 a10 a11 a12 a13 :=
  pk_loop (fun f i s => wX_keepRow_11 post x mm 0 bb f (nI i) a1 a2 a3 a4 a5 a6 s a8 a9 a10 a11 a12 a13) (fun i s => ∀ k, k < i → s k = a11 k) 12 0 a7 (by omega) (fun k hk => absurd hk (by omega))
    (fun f s h => pk_le 12 12 (fun _ => ⟨pk_in 0 14 (by omega), nm_e (nm_r (e' := 1) (by decide) (H s _ h))⟩) (fun z => absurd z (by omega)))
    (fun f i s hi h hW => pk_le 12 i (fun z => absurd z (by omega)) (fun _ => ⟨pk_in i 12 hi, pk_in i 168 (by omega) (ww_ix0 _ _), nm_e (nm_r (nI_1 i) (hW _ (ww_fill (by rw [ww_ix0, nI_clamp (by omega)]) h (by rw [nI_clamp (by omega)]))))⟩))
theorem ww_keep0 {post : St2 → Prop} {mm ww : Int32} {a1 a2 a3 a4 a5 a6 a7 a8 a9 a10 a11 a12 a13 : Nat → Int32} {x : Int32} {b : Nat} (hb : b = 0 ∨ (b = 1 ∧ ∃ p, p < 12 ∧ a10 0 = nI p)) (h11 : ∀ k, k < 12 → a11 k = 0)
    (H : ∀ s12 : Nat → Int32, post (mm, ww, nI b, a1, a2, a3, a4, a5, a6, a7, a8, a9, a10, a11, s12, a13)) : wpX_keepRow post (mm, ww, nI b, a1, a2, a3, a4, a5, a6, a7, a8, a9, a10, a11, a12, a13) x := by
  unfold wpX_keepRow
  exact ww_eb_0 hb h11 (fun s => br_t rfl (H s))
theorem ww_keep1 {post : St2 → Prop} {mm : Int32} {a1 a2 a3 a4 a5 a6 a7 a8 a9 a10 a11 a12 a13 : Nat → Int32} {x : Int32} {q v : Nat} (hv0 : 0 < v) (hv : v < 997) (hq : q < 12) (h11 : ∀ k, k < 12 → a11 k = ww_one q v k)
    (H : ∀ s7 s8 s9 s10 s12 : Nat → Int32, (∀ k, k < 12 → s7 k = ww_one q v k) → s10 0 = nI q → post (mm, 1, 1, a1, a2, a3, a4, a5, a6, s7, s8, s9, s10, a11, s12, a13)) :
    wpX_keepRow post (mm, 0, 0, a1, a2, a3, a4, a5, a6, a7, a8, a9, a10, a11, a12, a13) x := by
  unfold wpX_keepRow
  exact ww_eb_1 hv0 hv hq h11 (fun s9 s10 s12 h10 => br_f (by decide) (ww_keep11 (fun s7 s8 h7 => H s7 s8 s9 s10 s12 (fun k hk => (h7 k hk).trans (h11 k hk)) h10)))
theorem ww_take {post : St2 → Prop} {mm ww bb : Int32} {a1 a2 a3 a4 a5 a6 a7 a8 a9 a10 a11 a12 a13 : Nat → Int32} (H : ∀ s : Nat → Int32, post (mm, ww, bb, a1, a2, a3, a4, a5, a6, a7, a8, a9, a10, s, a12, a13)) : wpX_takeRow post (mm, ww, bb, a1, a2, a3, a4, a5, a6, a7, a8, a9, a10, a11, a12, a13) 0 := by
  unfold wpX_takeRow
  exact pk_loop (fun f i s => wX_takeRow_2 post 0 mm ww bb f (nI i) a1 a2 a3 a4 a5 a6 a7 a8 a9 a10 s a12 a13) (fun _ _ => True) 12 0 a11 (by omega) trivial
    (fun f s _ => pk_le 12 12 (fun _ => H s) (fun z => absurd z (by omega)))
    (fun f i s hi _ hW => pk_le 12 i (fun z => absurd z (by omega)) (fun _ => ⟨pk_in i 168 (by omega) (ww_ix0 _ _), pk_in i 12 hi, nm_e (nm_r (nI_1 i) (hW _ trivial))⟩))
end
section
theorem ww_g37 {post : St2 → Prop} {J : Int32 → Int32 → Int32 → Int32 → (Nat → Int32) → (Nat → Int32) → (Nat → Int32) → (Nat → Int32) → (Nat → Int32) → (Nat → Int32) → (Nat → Int32) → (Nat → Int32) → (Nat → Int32) → (Nat → Int32) → (Nat → Int32) → (Nat → Int32) → (Nat → Int32) → Prop} {a1 a2 a3 a4 a5 a6 a7 a8 a9 a10 a11 a12 a13 : Nat → Int32} {A n p : Nat} (hA : A < 3) (hn0 : 1 ≤ n) (hn : n ≤ 4) (h1 : a1 A = nI n) (h4 : ∀ j, a4 j = 0) (h5 : a5 0 = nI A)
    (hp : p < 12) (h10 : a10 0 = nI p) (H : ∀ s t : Nat → Int32, J 1 1 1 1 a1 a2 a3 a4 a5 a6 a7 a8 a9 a10 s t a13) : ∃ f, wX_gather_37 post J 0 f 0 1 1 1 a1 a2 a3 a4 a5 a6 a7 a8 a9 a10 a11 a12 a13 := by
  refine pk_loop (fun f i s => wX_gather_37 post J 0 f (nI i) 1 1 1 a1 a2 a3 a4 a5 a6 a7 a8 a9 a10 s.1 s.2 a13) (fun _ _ => True) 2 0 (a11, a12) (by omega) trivial ?_ ?_
  · intro f s _
    exact pk_le 2 2 (fun _ => nm_r (e' := 1) (by decide) (H s.1 s.2)) (fun z => absurd z (by omega))
  · intro f i s hi _ hW
    refine pk_le 2 i (fun z => absurd z (by omega)) (fun _ => ww_take (fun s' => ww_advance hA hn0 hn hi h1 h4 h5 (fun s2 t2 hs2 => ⟨pk_in 0 14 (by omega), ?_⟩)))
    exact ww_keep0 (b := 1) (Or.inr ⟨rfl, p, hp, h10⟩) hs2 (fun t3 => nm_r (nI_1 i) (hW (s2, t3) trivial))
theorem ww_gather {post : St2 → Prop} {ww bb : Int32} {a1 a2 a3 a4 a5 a6 a7 a8 a9 a10 a11 a12 a13 : Nat → Int32} {A n q v w b : Nat} (P : ww_P A n q v w a1 a2 a3 a4) (h5 : a5 0 = nI A) (h6 : a6 0 = 1) (hb : (v = 0 ∧ b = 0) ∨ (0 < v ∧ b = 1))
    (H : ∀ (y : Int32) (s7 s8 s9 s10 s11 s12 : Nat → Int32), (b = 1 → ∀ k, k < 12 → s7 k = ww_one q v k) → post (1, y, nI b, a1, a2, a3, a4, a5, a6, s7, s8, s9, s10, s11, s12, a13)) :
    wpX_gather post (1, ww, bb, a1, a2, a3, a4, a5, a6, a7, a8, a9, a10, a11, a12, a13) := by
  obtain ⟨⟨hA, hn0, hn, hq, hv, hw⟩, h1, h2, h3, h4⟩ := P
  unfold wpX_gather
  refine ww_startRow hA hn hq hv h1 h2 h5 h6 (fun s hs => ?_)
  rcases hb with ⟨rfl, rfl⟩ | ⟨hv0, rfl⟩
  · exact ww_keep0 (b := 0) (Or.inl rfl) (fun k hk => (hs k hk).trans (ww_one_0 q k)) (fun t => ⟨0 + 1, br_f (by decide) (br_t (by decide) (H _ _ _ _ _ _ _ (fun z => absurd z (by omega))))⟩)
  · exact ww_keep1 hv0 hv (by omega) hs (fun s7 s8 s9 s10 s12 h7 h10 => ⟨0 + 1 + 1, br_f (by decide) (br_f (by decide) (ww_g37 hA hn0 hn h1 h4 h5 (show q < 12 by omega) h10 (fun s t => br_f (by decide) (br_t (by decide) (H _ _ _ _ _ _ _ (fun _ => h7))))))⟩)
theorem ww_sb107 {post : St2 → Prop} {mm ww bb : Int32} {a1 a2 a3 a4 a5 a6 a7 a8 a9 a10 a11 a12 a13 : Nat → Int32} (H : ∀ s : Nat → Int32, (∀ k, k < 12 → s k = a12 k) → post (mm, ww, bb, a1, a2, a3, a4, a5, a6, a7, a8, a9, a10, s, a12, a13)) :
    ∃ f, wX_stepBack_107 post mm ww bb f 0 a1 a2 a3 a4 a5 a6 a7 a8 a9 a10 a11 a12 a13 :=
  pk_loop (fun f i s => wX_stepBack_107 post mm ww bb f (nI i) a1 a2 a3 a4 a5 a6 a7 a8 a9 a10 s a12 a13) (fun i s => ∀ k, k < i → s k = a12 k) 12 0 a11 (by omega) (fun k hk => absurd hk (by omega))
    (fun f s h => pk_le 12 12 (fun _ => H s h) (fun z => absurd z (by omega)))
    (fun f i s hi h hw => pk_le 12 i (fun z => absurd z (by omega)) (fun _ => ⟨pk_in i 12 hi, pk_in i 12 hi, nm_e (nm_r (nI_1 i) (hw _ (ww_fill (nI_clamp (by omega)) h (by rw [nI_clamp (by omega)]))))⟩))
theorem ww_sb36 {post : St2 → Prop} {J : Int32 → (Nat → Int32) → (Nat → Int32) → (Nat → Int32) → (Nat → Int32) → (Nat → Int32) → (Nat → Int32) → (Nat → Int32) → (Nat → Int32) → (Nat → Int32) → (Nat → Int32) → (Nat → Int32) → (Nat → Int32) → (Nat → Int32) → Prop} {mm ww bb : Int32} {a1 a2 a3 a4 a5 a6 a7 a8 a9 a10 a11 a12 a13 : Nat → Int32} {A n k l : Nat} (hA : A < 3) (hn : n ≤ 4) (hk : k < n) (hl : l < 2)
    (h1 : a1 A = nI n) (h4 : ∀ j, a4 j = 0) (h12 : ∀ j, j < 12 → a12 j = 0)
    (H : ∀ s : Nat → Int32, (∀ j, j < 12 → s j = 0) → J (nI (k + 1)) a1 a2 a3 a4 a5 a6 a7 a8 a9 a10 a11 s a13) :
    ∃ f, wX_stepBack_36 post J (nI A) (nI l) (nI k) mm ww bb f 0 a1 a2 a3 a4 a5 a6 a7 a8 a9 a10 a11 a12 a13 := by
  refine pk_loop (fun f i s => wX_stepBack_36 post J (nI A) (nI l) (nI k) mm ww bb f (nI i) a1 a2 a3 a4 a5 a6 a7 a8 a9 a10 a11 s a13) (fun i s => ∀ j, j < 12 → s j = 0) n 0 a12 (by omega) h12 ?_ ?_
  · intro f s h
    refine ⟨pk_in A 3 hA, ?_⟩
    rw [nI_clamp (show A < 2 ^ 31 by omega), h1]
    exact pk_le n n (fun _ => nm_r (nI_1 k) (H s h)) (fun z => absurd z (by omega))
  · intro f i s hi h hw
    have h : ∀ j, j < 12 → s j = 0 := h
    refine ⟨pk_in A 3 hA, ?_⟩
    rw [nI_clamp (show A < 2 ^ 31 by omega), h1]
    refine pk_le n i (fun z => absurd z (by omega)) (fun _ => ⟨pk_in k 12 (by omega), ?_⟩)
    rw [ww_ix4 A l k i, h4, nI_clamp (show k < 2 ^ 31 by omega), h k (by omega), Int32.zero_mul]
    exact ⟨pk_in (32 * A + 16 * l + 4 * k + i) 96 (by omega), pk_in i 12 (by omega), by decide, pk_in k 12 (by omega), nm_r (e' := upd s k 0) (by rw [show (0 : Int32) + 0 - (0 + 0) / 997 * 997 = 0 by decide]) (nm_r (nI_1 i) (hw _ (ww_zfill h)))⟩
theorem ww_stepBack {post : St2 → Prop} {mm ww bb : Int32} {a1 a2 a3 a4 a5 a6 a7 a8 a9 a10 a11 a12 a13 : Nat → Int32} {A n l : Nat} (hA : A < 3) (hn : n ≤ 4) (hl : l < 2)
    (h1 : a1 A = nI n) (h4 : ∀ j, a4 j = 0)
    (H : ∀ s t : Nat → Int32, (∀ k, k < 12 → s k = 0) → post (mm, ww, bb, a1, a2, a3, a4, a5, a6, a7, a8, a9, a10, s, t, a13)) : wpX_stepBack post (mm, ww, bb, a1, a2, a3, a4, a5, a6, a7, a8, a9, a10, a11, a12, a13) (nI A) (nI l) := by
  unfold wpX_stepBack
  refine pk_loop (fun f i s => wX_stepBack_2 post (nI A) (nI l) mm ww bb f (nI i) a1 a2 a3 a4 a5 a6 a7 a8 a9 a10 a11 s a13) (fun i s => ∀ k, k < i → s k = 0) 12 0 a12 (by omega) (fun k hk => absurd hk (by omega)) ?_ ?_
  · intro f s h
    refine pk_le 12 12 (fun _ => ?_) (fun z => absurd z (by omega))
    refine pk_loop (fun f i s => wX_stepBack_23 post (nI A) (nI l) mm ww bb f (nI i) a1 a2 a3 a4 a5 a6 a7 a8 a9 a10 a11 s a13) (fun i s => ∀ k, k < 12 → s k = 0) n 0 s (by omega) h ?_ ?_
    · intro f s h
      have h : ∀ j, j < 12 → s j = 0 := h
      refine ⟨pk_in A 3 hA, ?_⟩
      rw [nI_clamp (show A < 2 ^ 31 by omega), h1]
      exact pk_le n n (fun _ => ww_sb107 (fun s' hs' => H s' s (fun k hk => by rw [hs' k hk, h k hk]))) (fun z => absurd z (by omega))
    · intro f i s hi h hw
      refine ⟨pk_in A 3 hA, ?_⟩
      rw [nI_clamp (show A < 2 ^ 31 by omega), h1]
      exact pk_le n i (fun z => absurd z (by omega)) (fun _ => ww_sb36 hA hn hi hl h1 h4 h (fun s' hs' => hw s' hs'))
  · intro f i s hi h hw
    exact pk_le 12 i (fun z => absurd z (by omega)) (fun _ => ⟨pk_in i 12 hi, nm_e (nm_r (nI_1 i) (hw _ (ww_fill (f := ww_z) (nI_clamp (by omega)) h rfl)))⟩)
theorem ww_gb77 {post : St2 → Prop} {J : Int32 → Int32 → Int32 → Int32 → (Nat → Int32) → (Nat → Int32) → (Nat → Int32) → (Nat → Int32) → (Nat → Int32) → (Nat → Int32) → (Nat → Int32) → (Nat → Int32) → (Nat → Int32) → (Nat → Int32) → (Nat → Int32) → (Nat → Int32) → (Nat → Int32) → Prop} {a1 a2 a3 a4 a5 a6 a7 a8 a9 a10 a11 a12 a13 : Nat → Int32} {mm : Int32} {A n p : Nat} (hA : A < 3) (hn : n ≤ 4) (h1 : a1 A = nI n) (h4 : ∀ j, a4 j = 0)
    (hp : p < 12) (h10 : a10 0 = nI p) (H : ∀ s t : Nat → Int32, J 1 mm 1 1 a1 a2 a3 a4 a5 a6 a7 a8 a9 a10 s t a13) : ∃ f, wX_gatherBack_77 post J (nI A) 0 f 0 mm 1 1 a1 a2 a3 a4 a5 a6 a7 a8 a9 a10 a11 a12 a13 := by
  refine pk_loop (fun f i s => wX_gatherBack_77 post J (nI A) 0 f (nI i) mm 1 1 a1 a2 a3 a4 a5 a6 a7 a8 a9 a10 s.1 s.2 a13) (fun _ _ => True) 2 0 (a11, a12) (by omega) trivial ?_ ?_
  · intro f s _
    exact pk_le 2 2 (fun _ => nm_r (e' := 1) (by decide) (H s.1 s.2)) (fun z => absurd z (by omega))
  · intro f i s hi _ hW
    refine pk_le 2 i (fun z => absurd z (by omega)) (fun _ => ww_take (fun s' => ww_stepBack hA hn hi h1 h4 (fun s2 t2 hs2 => ?_)))
    exact ww_keep0 (b := 1) (Or.inr ⟨rfl, p, hp, h10⟩) hs2 (fun t3 => nm_r (nI_1 i) (hW (s2, t3) trivial))
theorem ww_gatherBack {post : St2 → Prop} {mm ww bb : Int32} {a1 a2 a3 a4 a5 a6 a7 a8 a9 a10 a11 a12 a13 : Nat → Int32} {A n q v w c : Nat} (P : ww_P A n q v w a1 a2 a3 a4) (hc : (w = 0 ∧ c = 0) ∨ (0 < w ∧ c = 1))
    (H : ∀ (y : Int32) (s7 s8 s9 s10 s11 s12 : Nat → Int32), (c = 1 → ∀ k, k < 12 → s7 k = ww_one q w k) → post (mm, y, nI c, a1, a2, a3, a4, a5, a6, s7, s8, s9, s10, s11, s12, a13)) :
    wpX_gatherBack post (mm, ww, bb, a1, a2, a3, a4, a5, a6, a7, a8, a9, a10, a11, a12, a13) (nI A) := by
  obtain ⟨⟨hA, hn0, hn, hq, hv, hw⟩, h1, h2, h3, h4⟩ := P
  unfold wpX_gatherBack
  refine pk_loop (fun f i s => wX_gatherBack_12 post (nI A) mm 0 0 f (nI i) a1 a2 a3 a4 a5 a6 a7 a8 a9 a10 s a12 a13) (fun i s => ∀ k, k < i → s k = ww_one q w k) 12 0 a11 (by omega) (fun k hk => absurd hk (by omega)) ?_ ?_
  · intro f s hs
    have hs : ∀ k, k < 12 → s k = ww_one q w k := hs
    refine pk_le 12 12 (fun _ => ?_) (fun z => absurd z (by omega))
    rcases hc with ⟨rfl, rfl⟩ | ⟨hw0, rfl⟩
    · exact ww_keep0 (b := 0) (Or.inl rfl) (fun k hk => (hs k hk).trans (ww_one_0 q k)) (fun t => ⟨0 + 1, br_f (by decide) (br_t (by decide) (H _ _ _ _ _ _ _ (fun z => absurd z (by omega))))⟩)
    · exact ww_keep1 hw0 hw (by omega) hs (fun s7 s8 s9 s10 s12 h7 h10 => ⟨0 + 1 + 1, br_f (by decide) (br_f (by decide) (ww_gb77 hA hn h1 h4 (show q < 12 by omega) h10 (fun s t => br_f (by decide) (br_t (by decide) (H _ _ _ _ _ _ _ (fun _ => h7))))))⟩)
  · intro f i s hi h hW
    refine pk_le 12 i (fun z => absurd z (by omega)) (fun _ => ⟨pk_in A 3 hA, ?_⟩)
    have e : 4 * nI A + nI i = nI (4 * A + i) := ww_ix 4 A i
    rw [nI_clamp (show A < 2 ^ 31 by omega), h1]
    refine pk_le n i (fun z => ⟨pk_in i 12 hi, nm_e (nm_r (nI_1 i) (hW _ (ww_fill (nI_clamp (by omega)) h (by rw [ww_one_n (by omega)]))))⟩) (fun z => ⟨pk_in (4 * A + i) 12 (by omega) e, pk_in i 12 hi, nm_e (nm_r (nI_1 i) (hW _ (ww_fill (nI_clamp (by omega)) h ?_)))⟩)
    rw [e, nI_clamp (by omega), h3 i (by omega)]
end
section
theorem ww_ix16 (i : Nat) : (16 : Int32) + 4 * 0 + nI i = nI (16 + i) := by
  rw [Int32.mul_zero, Int32.add_zero]
  exact nI_add 16 i
theorem ww_r33 {post : Int32 → St2 → Prop} {J : Int32 → (Nat → Int32) → (Nat → Int32) → (Nat → Int32) → (Nat → Int32) → (Nat → Int32) → (Nat → Int32) → (Nat → Int32) → (Nat → Int32) → (Nat → Int32) → (Nat → Int32) → (Nat → Int32) → (Nat → Int32) → (Nat → Int32) → Prop} {x1 x2 : Int32} {mm ww bb : Int32} {a1 a2 a3 a4 a5 a6 a7 a8 a9 a10 a11 a12 a13 : Nat → Int32} (H : ∀ s : Nat → Int32, (∀ k, k < 4 → s k = a7 k) → J 1 a1 a2 a3 a4 a5 a6 a7 a8 a9 a10 a11 a12 s) :
    ∃ f, wX_rank_33 post J x1 x2 0 mm ww bb f 0 a1 a2 a3 a4 a5 a6 a7 a8 a9 a10 a11 a12 a13 :=
  pk_loop (fun f i s => wX_rank_33 post J x1 x2 0 mm ww bb f (nI i) a1 a2 a3 a4 a5 a6 a7 a8 a9 a10 a11 a12 s) (fun i s => ∀ k, k < i → s k = a7 k) 4 0 a13 (by omega) (fun k hk => absurd hk (by omega))
    (fun f s h => pk_le 4 4 (fun _ => nm_r (e' := 1) (by decide) (H s h)) (fun z => absurd z (by omega)))
    (fun f i s hi h hW => pk_le 4 i (fun z => absurd z (by omega)) (fun _ => ⟨pk_in i 168 (by omega) (ww_ix0 _ _), pk_in i 48 (by omega) (ww_ix0 _ _), nm_e (nm_r (nI_1 i) (hW _ (ww_fill (by rw [ww_ix0, nI_clamp (by omega)]) h (by rw [ww_ix0, nI_clamp (by omega)]))))⟩))
theorem ww_r96 {post : Int32 → St2 → Prop} {J : Int32 → (Nat → Int32) → (Nat → Int32) → (Nat → Int32) → (Nat → Int32) → (Nat → Int32) → (Nat → Int32) → (Nat → Int32) → (Nat → Int32) → (Nat → Int32) → (Nat → Int32) → (Nat → Int32) → (Nat → Int32) → (Nat → Int32) → Prop} {x2 x3 : Int32} {mm ww bb : Int32} {a1 a2 a3 a4 a5 a6 a7 a8 a9 a10 a11 a12 a13 : Nat → Int32} (H : ∀ s : Nat → Int32, (∀ k, k < 4 → s (16 + k) = a7 k) → (∀ k, k < 16 → s k = a13 k) → J 1 a1 a2 a3 a4 a5 a6 a7 a8 a9 a10 a11 a12 s) :
    ∃ f, wX_rank_96 post J x2 x3 0 mm ww bb f 0 a1 a2 a3 a4 a5 a6 a7 a8 a9 a10 a11 a12 a13 := by
  refine pk_loop (fun f i s => wX_rank_96 post J x2 x3 0 mm ww bb f (nI i) a1 a2 a3 a4 a5 a6 a7 a8 a9 a10 a11 a12 s) (fun i s => (∀ k, k < i → s (16 + k) = a7 k) ∧ ∀ k, k < 16 → s k = a13 k) 4 0 a13 (by omega) ⟨fun k hk => absurd hk (by omega), fun k _ => rfl⟩ ?_ ?_
  · intro f s h
    exact pk_le 4 4 (fun _ => nm_r (e' := 1) (by decide) (H s h.1 h.2)) (fun z => absurd z (by omega))
  · intro f i s hi h hW
    obtain ⟨h, h'⟩ := h
    refine pk_le 4 i (fun z => absurd z (by omega)) (fun _ => ?_)
    rw [ww_ix16, ww_ix0, nI_clamp (show i < 2 ^ 31 by omega), nI_clamp (show 16 + i < 2 ^ 31 by omega)]
    refine ⟨pk_in i 168 (by omega), pk_in (16 + i) 48 (by omega), nm_e (nm_r (nI_1 i) (hW _ ⟨fun k hk => ?_, fun k hk => ?_⟩))⟩
    · by_cases e : k = i
      · rw [e, pk_us]
      · rw [pk_un (by omega)]
        exact h k (by omega)
    · rw [pk_un (by omega)]
      exact h' k hk
theorem ww_r177 {post : Int32 → St2 → Prop} {K : Int32 → Int32 → Int32 → Int32 → (Nat → Int32) → (Nat → Int32) → (Nat → Int32) → (Nat → Int32) → (Nat → Int32) → (Nat → Int32) → (Nat → Int32) → (Nat → Int32) → (Nat → Int32) → (Nat → Int32) → (Nat → Int32) → (Nat → Int32) → (Nat → Int32) → Prop} {J : Int32 → (Nat → Int32) → (Nat → Int32) → (Nat → Int32) → (Nat → Int32) → (Nat → Int32) → (Nat → Int32) → (Nat → Int32) → (Nat → Int32) → (Nat → Int32) → (Nat → Int32) → (Nat → Int32) → (Nat → Int32) → (Nat → Int32) → Prop} {x2 : Int32} {mm ww bb : Int32} {a1 a2 a3 a4 a5 a6 a7 a8 a9 a10 a11 a12 a13 : Nat → Int32} {q v w : Nat} (hv : v < 997) (hw : w < 997) (hq : q < 4)
    (hr : ∀ k, k < 4 → a13 k = ww_one q v k) (hc : ∀ k, k < 4 → a13 (16 + k) = ww_one q w k) (h0 : a11 0 = 0)
    (H : ∀ s : Nat → Int32, s 0 = nI (v * w % 997) → J 1 a1 a2 a3 a4 a5 a6 a7 a8 a9 a10 s a12 a13) : ∃ f, wX_rank_177 post K J x2 1 0 0 mm ww bb f 0 a1 a2 a3 a4 a5 a6 a7 a8 a9 a10 a11 a12 a13 := by
  refine pk_loop (fun f i s => wX_rank_177 post K J x2 1 0 0 mm ww bb f (nI i) a1 a2 a3 a4 a5 a6 a7 a8 a9 a10 s a12 a13) (fun i s => s 0 = nI (if q < i then v * w % 997 else 0)) 4 0 a11 (by omega) (by rw [if_neg (by omega), h0]; rfl) ?_ ?_
  · intro f s h
    have h : s 0 = nI (if q < 4 then v * w % 997 else 0) := h
    rw [if_pos hq] at h
    exact pk_le 4 4 (fun _ => nm_r (e' := 1) (by decide) (H s h)) (fun z => absurd z (by omega))
  · intro f i s hi h hW
    have h : s 0 = nI (if q < i then v * w % 997 else 0) := h
    refine pk_le 4 i (fun z => absurd z (by omega)) (fun _ => br_f (by decide) ⟨pk_in 0 12 (by omega), ?_⟩)
    rw [ww_ix16, ww_ix0, nI_clamp (show i < 2 ^ 31 by omega), nI_clamp (show 16 + i < 2 ^ 31 by omega), sb_cl0, hr i hi, hc i hi, h, ww_ev hv hw]
    exact ⟨pk_in i 48 (by omega), pk_in (16 + i) 48 (by omega), by decide, pk_in 0 12 (by omega), nm_e (nm_r (nI_1 i) (hW _ pk_us))⟩
theorem ww_r159 {post : Int32 → St2 → Prop} {K : Int32 → Int32 → Int32 → Int32 → (Nat → Int32) → (Nat → Int32) → (Nat → Int32) → (Nat → Int32) → (Nat → Int32) → (Nat → Int32) → (Nat → Int32) → (Nat → Int32) → (Nat → Int32) → (Nat → Int32) → (Nat → Int32) → (Nat → Int32) → (Nat → Int32) → Prop} {x2 : Int32} {mm ww : Int32} {a1 a2 a3 a4 a5 a6 a7 a8 a9 a10 a11 a12 a13 : Nat → Int32} {q v w : Nat} (hvw : 0 < v * w % 997) (hv : v < 997) (hw : w < 997) (hq : q < 4)
    (hr : ∀ k, k < 4 → a13 k = ww_one q v k) (hc : ∀ k, k < 4 → a13 (16 + k) = ww_one q w k)
    (H : ∀ s9 s10 s11 s12 : Nat → Int32, K 1 mm ww 1 a1 a2 a3 a4 a5 a6 a7 a8 s9 s10 s11 s12 a13) : ∃ f, wX_rank_159 post K x2 1 0 mm ww 0 f 0 a1 a2 a3 a4 a5 a6 a7 a8 a9 a10 a11 a12 a13 := by
  refine pk_loop (fun f i s => wX_rank_159 post K x2 1 0 mm ww 0 f (nI i) a1 a2 a3 a4 a5 a6 a7 a8 a9 a10 s a12 a13) (fun i s => ∀ k, k < i → s k = ww_one 0 (v * w % 997) k) 12 0 a11 (by omega) (fun k hk => absurd hk (by omega)) ?_ ?_
  · intro f s h
    exact pk_le 12 12 (fun _ => ww_eb_1 hvw (Nat.mod_lt _ (by decide)) (show 0 < 12 by decide) h (fun s9 s10 s12 _ => nm_r (e' := 1) (by decide) (H s9 s10 s s12))) (fun z => absurd z (by omega))
  · intro f i s hi h hW
    refine pk_le 12 i (fun z => absurd z (by omega)) (fun _ => ⟨pk_in i 12 hi, nm_e ?_⟩)
    rw [nI_clamp (show i < 2 ^ 31 by omega)]
    by_cases e : i = 0
    · subst e
      refine ww_r177 hv hw hq hr hc pk_us (fun s' hs' => hW s' (fun k hk => ?_))
      rw [show k = 0 by omega, hs', ww_one_s]
    · exact ⟨0 + 1, br_f (by decide) (br_t (nI_le (a := 1) (by omega) (by omega)) (nm_r (nI_1 i) (hW _ (ww_fill rfl h (by rw [ww_one_n e])))))⟩
theorem ww_rank87 {post : Int32 → St2 → Prop} {mm ww bb : Int32} {a1 a2 a3 a4 a5 a6 a7 a8 a9 a10 a11 a12 a13 : Nat → Int32} {q v w b c : Nat} (hv : v < 997) (hw : w < 997) (hq : q < 4)
    (hb : b = 0 ∨ (b = 1 ∧ c = 1 ∧ 0 < v * w % 997)) (hc : c = 0 ∨ c = 1)
    (hr : b = 1 → ∀ k, k < 4 → a13 k = ww_one q v k) (h7 : c = 1 → ∀ k, k < 12 → a7 k = ww_one q w k)
    (H : ww_Q post (nI b) a1 a2 a3 a4) : ∃ f, wX_rank_87 post (nI b) (nI c) mm ww bb f 0 a1 a2 a3 a4 a5 a6 a7 a8 a9 a10 a11 a12 a13 := by
  rcases hc with rfl | rfl
  · rcases hb with rfl | ⟨_, g, _⟩
    · exact ⟨0 + 1, br_t (by decide) ⟨0 + 1, br_t (by decide) (H _ _ _ _ _ _ _ _ _ _ _ _)⟩⟩
    · exact absurd g (by omega)
  · refine ⟨0 + 1 + 1, br_f (by decide) (ww_r96 (fun s hs hs' => br_t (by decide) ?_))⟩
    rcases hb with rfl | ⟨rfl, _, hvw⟩
    · exact ⟨0 + 1, br_t (by decide) (H _ _ _ _ _ _ _ _ _ _ _ _)⟩
    · exact ⟨0 + 1 + 1, br_f (by decide) (ww_r159 hvw hv hw hq (fun k hk => (hs' k (by omega)).trans (hr rfl k hk)) (fun k hk => (hs k hk).trans (h7 rfl k (by omega))) (fun s9 s10 s11 s12 => br_t (by decide) (H _ _ _ _ _ _ _ _ _ _ _ _)))⟩
theorem ww_rank {post : Int32 → St2 → Prop} {mm ww bb : Int32} {a1 a2 a3 a4 a5 a6 a7 a8 a9 a10 a11 a12 a13 : Nat → Int32} {A n q v w b : Nat} (P : ww_P A n q v w a1 a2 a3 a4) (hb : (v = 0 ∧ b = 0) ∨ (0 < v ∧ b = 1)) (hvw : 0 < v → w = 3)
    (H : ww_Q post (nI b) a1 a2 a3 a4) : wpX_rank post (mm, ww, bb, a1, a2, a3, a4, a5, a6, a7, a8, a9, a10, a11, a12, a13) (nI A) := by
  obtain ⟨⟨hA, hn0, hn, hq, hv, hw⟩, h1, h2, h3, h4⟩ := id P
  unfold wpX_rank
  refine ww_gy hA (br_f (by decide) (ww_alone (fun s5 s6 h5 h6 => ww_gather P h5 h6 hb (fun y s7 s8 s9 s10 s11 s12 h7 => ?_))))
  obtain ⟨c, hc⟩ : ∃ c, (w = 0 ∧ c = 0) ∨ (0 < w ∧ c = 1) := by
    rcases Nat.eq_zero_or_pos w with g | g
    · exact ⟨0, Or.inl ⟨g, rfl⟩⟩
    · exact ⟨1, Or.inr ⟨g, rfl⟩⟩
  have hb2 : b = 0 ∨ (b = 1 ∧ c = 1 ∧ 0 < v * w % 997) := by
    rcases hb with g | g
    · exact Or.inl g.2
    · have hw3 := hvw g.1
      refine Or.inr ⟨g.2, by omega, ?_⟩
      rw [hw3]
      omega
  have hc2 : c = 0 ∨ c = 1 := by omega
  rcases hb with ⟨_, rfl⟩ | ⟨_, rfl⟩
  · exact ⟨0 + 1, br_t (by decide) (ww_gatherBack P hc (fun y2 t7 t8 t9 t10 t11 t12 ht7 => ww_rank87 hv hw (show q < 4 by omega) hb2 hc2 (fun z => absurd z (by omega)) ht7 H))⟩
  · exact ⟨0 + 1 + 1, br_f (by decide) (ww_r33 (fun s hs => br_t (by decide) (ww_gatherBack P hc (fun y2 t7 t8 t9 t10 t11 t12 ht7 => ww_rank87 hv hw (show q < 4 by omega) hb2 hc2 (fun _ k hk => (hs k hk).trans (h7 rfl k (by omega))) ht7 H))))⟩
theorem ww_rank_n {post : Int32 → St2 → Prop} {mm ww bb : Int32} {a1 a2 a3 a4 a5 a6 a7 a8 a9 a10 a11 a12 a13 : Nat → Int32} {p : Int32} (h : p < 0 ∨ 2 < p) (H : post (-1) (mm, ww, bb, a1, a2, a3, a4, a5, a6, a7, a8, a9, a10, a11, a12, a13)) : wpX_rank post (mm, ww, bb, a1, a2, a3, a4, a5, a6, a7, a8, a9, a10, a11, a12, a13) p := by
  unfold wpX_rank
  exact ww_gn h (br_t rfl H)
end
section
theorem ww_ix3 (A i k : Nat) : 32 * nI A + 4 * nI i + nI k = nI (32 * A + 4 * i + k) := by
  rw [show (32 : Int32) = nI 32 from rfl, show (4 : Int32) = nI 4 from rfl, pk_mul, pk_mul, nI_add, nI_add]
theorem ww_ix3b (A i k : Nat) : 32 * nI A + 16 + 4 * nI i + nI k = nI (32 * A + 16 + 4 * i + k) := by
  rw [show (32 : Int32) = nI 32 from rfl, show (16 : Int32) = nI 16 from rfl, show (4 : Int32) = nI 4 from rfl, pk_mul, pk_mul, nI_add, nI_add, nI_add]
theorem ww_t165 {post : Int32 → St2 → Prop} {J : Int32 → (Nat → Int32) → (Nat → Int32) → (Nat → Int32) → (Nat → Int32) → (Nat → Int32) → (Nat → Int32) → (Nat → Int32) → (Nat → Int32) → (Nat → Int32) → (Nat → Int32) → (Nat → Int32) → (Nat → Int32) → (Nat → Int32) → Prop} {x1 x2 : Int32} {mm ww bb : Int32} {a1 a2 a3 a4 a5 a6 a7 a8 a9 a10 a11 a12 a13 : Nat → Int32} {c : Nat} (H : ∀ s : Nat → Int32, (∀ k, k < 4 → s k = a12 k) → J (nI (c + 1)) a1 a2 a3 a4 a5 a6 a7 a8 a9 a10 s a12 a13) :
    ∃ f, wX_total_165 post J x1 x2 (nI c) mm ww bb f 0 a1 a2 a3 a4 a5 a6 a7 a8 a9 a10 a11 a12 a13 :=
  pk_loop (fun f i s => wX_total_165 post J x1 x2 (nI c) mm ww bb f (nI i) a1 a2 a3 a4 a5 a6 a7 a8 a9 a10 s a12 a13) (fun i s => ∀ k, k < i → s k = a12 k) 4 0 a11 (by omega) (fun k hk => absurd hk (by omega))
    (fun f s h => pk_le 4 4 (fun _ => nm_r (nI_1 c) (H s h)) (fun z => absurd z (by omega)))
    (fun f i s hi h hW => pk_le 4 i (fun z => absurd z (by omega)) (fun _ => ⟨pk_in i 12 (by omega), pk_in i 12 (by omega), nm_e (nm_r (nI_1 i) (hW _ (ww_fill (nI_clamp (by omega)) h (by rw [nI_clamp (by omega)]))))⟩))
theorem ww_t59 {post : Int32 → St2 → Prop} {K J : Int32 → (Nat → Int32) → (Nat → Int32) → (Nat → Int32) → (Nat → Int32) → (Nat → Int32) → (Nat → Int32) → (Nat → Int32) → (Nat → Int32) → (Nat → Int32) → (Nat → Int32) → (Nat → Int32) → (Nat → Int32) → (Nat → Int32) → Prop} {x2 x3 : Int32} {mm ww bb : Int32} {a1 a2 a3 a4 a5 a6 a7 a8 a9 a10 a11 a12 a13 : Nat → Int32} {A n k : Nat} (hA : A < 3) (hn0 : 1 ≤ n) (hn : n ≤ 4) (hk : k < 4)
    (h1 : a1 A = nI n) (h4 : ∀ j, a4 j = 0) (h12 : ∀ j, j < k + 1 → a12 j = 0)
    (H : ∀ s : Nat → Int32, (∀ j, j < k + 1 → s j = 0) → J (nI (k + 1)) a1 a2 a3 a4 a5 a6 a7 a8 a9 a10 a11 s a13) :
    ∃ f, wX_total_59 post K J (nI A) x2 x3 (nI k) mm ww bb f 0 a1 a2 a3 a4 a5 a6 a7 a8 a9 a10 a11 a12 a13 := by
  by_cases hkn : k < n
  · refine pk_loop (fun f i s => wX_total_59 post K J (nI A) x2 x3 (nI k) mm ww bb f (nI i) a1 a2 a3 a4 a5 a6 a7 a8 a9 a10 a11 s a13) (fun i s => ∀ j, j < k + 1 → s j = 0) n 0 a12 (by omega) h12 ?_ ?_
    · intro f s h
      refine ⟨pk_in A 3 hA, ?_⟩
      rw [nI_clamp (show A < 2 ^ 31 by omega), h1]
      exact pk_le n n (fun _ => nm_r (nI_1 k) (H s h)) (fun z => absurd z (by omega))
    · intro f i s hi h hW
      have h : ∀ j, j < k + 1 → s j = 0 := h
      refine ⟨pk_in A 3 hA, ?_⟩
      rw [nI_clamp (show A < 2 ^ 31 by omega), h1]
      refine pk_le n i (fun z => absurd z (by omega)) (fun _ => ⟨pk_in A 3 hA, pk_le n k (fun z => absurd z (by omega)) (fun _ => ?_)⟩)
      rw [ww_ix3, ww_ix3b, h4, h4]
      refine ⟨pk_in (32 * A + 4 * i + k) 96 (by omega), pk_in (32 * A + 16 + 4 * i + k) 96 (by omega), nm_r (e' := 0) (by decide) ⟨pk_in k 12 (by omega), pk_in i 12 (by omega), by decide, pk_in k 12 (by omega), ?_⟩⟩
      rw [nI_clamp (show k < 2 ^ 31 by omega), h k (by omega), Int32.mul_zero]
      exact nm_r (e' := upd s k 0) (by rw [show (0 : Int32) + 0 - (0 + 0) / 997 * 997 = 0 by decide]) (nm_r (nI_1 i) (hW _ (ww_zfill h)))
  · refine ⟨0 + 1, pk_in A 3 hA, ?_⟩
    rw [nI_clamp (show A < 2 ^ 31 by omega), h1]
    exact pk_le n 0 (fun z => absurd z (by omega)) (fun _ => ⟨pk_in A 3 hA, pk_le n k (fun _ => nm_r (nI_1 k) (H _ h12)) (fun z => absurd z (by omega))⟩)
theorem ww_t42 {post : Int32 → St2 → Prop} {K : Int32 → (Nat → Int32) → (Nat → Int32) → (Nat → Int32) → (Nat → Int32) → (Nat → Int32) → (Nat → Int32) → (Nat → Int32) → (Nat → Int32) → (Nat → Int32) → (Nat → Int32) → (Nat → Int32) → (Nat → Int32) → (Nat → Int32) → Prop} {x2 : Int32} {mm ww bb : Int32} {a1 a2 a3 a4 a5 a6 a7 a8 a9 a10 a11 a12 a13 : Nat → Int32} {A n c : Nat} (hA : A < 3) (hn0 : 1 ≤ n) (hn : n ≤ 4)
    (h1 : a1 A = nI n) (h4 : ∀ j, a4 j = 0)
    (H : ∀ s t : Nat → Int32, (∀ j, j < 4 → s j = 0) → K (nI (c + 1)) a1 a2 a3 a4 a5 a6 a7 a8 a9 a10 s t a13) :
    ∃ f, wX_total_42 post K (nI A) x2 (nI c) mm ww bb f 0 a1 a2 a3 a4 a5 a6 a7 a8 a9 a10 a11 a12 a13 := by
  refine pk_loop (fun f i s => wX_total_42 post K (nI A) x2 (nI c) mm ww bb f (nI i) a1 a2 a3 a4 a5 a6 a7 a8 a9 a10 a11 s a13) (fun i s => ∀ j, j < i → s j = 0) 4 0 a12 (by omega) (fun k hk => absurd hk (by omega)) ?_ ?_
  · intro f s h
    have h : ∀ j, j < 4 → s j = 0 := h
    exact pk_le 4 4 (fun _ => ww_t165 (fun s' hs' => H s' s (fun k hk => (hs' k hk).trans (h k hk)))) (fun z => absurd z (by omega))
  · intro f i s hi h hW
    exact pk_le 4 i (fun z => absurd z (by omega)) (fun _ => ⟨pk_in i 12 (by omega), nm_e (ww_t59 hA hn0 hn hi h1 h4 (ww_fill (f := ww_z) (nI_clamp (by omega)) h rfl) (fun s' hs' => hW s' hs'))⟩)
theorem ww_total {post : Int32 → St2 → Prop} {mm ww bb : Int32} {a1 a2 a3 a4 a5 a6 a7 a8 a9 a10 a11 a12 a13 : Nat → Int32} {A n q v w c : Nat} (P : ww_P A n q v w a1 a2 a3 a4) (hc : c ≤ 200)
    (H : ww_Q post (nI (if c = 0 then v * w % 997 else 0)) a1 a2 a3 a4) : wpX_total post (mm, ww, bb, a1, a2, a3, a4, a5, a6, a7, a8, a9, a10, a11, a12, a13) (nI A) (nI c) := by
  obtain ⟨⟨hA, hn0, hn, hq, hv, hw⟩, h1, h2, h3, h4⟩ := P
  unfold wpX_total
  refine ww_gy hA (br_f (by decide) (br_f (nI_pos (by omega)) (br_t (nI_le (b := 200) hc (by omega)) ?_)))
  refine ww_alone (fun s5 s6 h5 h6 => ww_startRow hA hn hq hv h1 h2 h5 h6 (fun s hs => ?_))
  refine pk_loop (fun f i (t : (Nat → Int32) × (Nat → Int32)) => wX_total_34 post (nI A) (nI c) 1 ww bb f (nI i) a1 a2 a3 a4 s5 s6 a7 a8 a9 a10 t.1 t.2 a13) (fun i t => (i = 0 → ∀ k, k < 4 → t.1 k = ww_one q v k) ∧ (i ≠ 0 → ∀ k, k < 4 → t.1 k = 0)) c 0 (s, a12) (by omega) ⟨fun _ k hk => hs k (by omega), fun g => absurd rfl g⟩ ?_ ?_
  · intro f t h
    refine pk_le c c (fun _ => ?_) (fun z => absurd z (by omega))
    by_cases g : c = 0
    · rw [if_pos g] at H
      exact ww_endValue hA hv hw (by omega) h3 h5 (h.1 g) (H _ _ _ _ _ _ _ _ _ _ _ _)
    · rw [if_neg g] at H
      refine ww_endValue (v := 0) hA (by omega) hw (show q < 4 by omega) h3 h5 (fun k hk => (h.2 g k hk).trans (ww_one_0 q k).symm) ?_
      rw [Nat.zero_mul]
      exact H _ _ _ _ _ _ _ _ _ _ _ _
  · intro f i t hi _ hW
    exact pk_le c i (fun z => absurd z (by omega)) (fun _ => ww_t42 hA hn0 hn h1 h4 (fun s' t' hs' => hW (s', t') ⟨fun g => absurd g (by omega), fun _ => hs'⟩))
theorem ww_total_n {post : Int32 → St2 → Prop} {mm ww bb : Int32} {a1 a2 a3 a4 a5 a6 a7 a8 a9 a10 a11 a12 a13 : Nat → Int32} {p x : Int32} (h : p < 0 ∨ 2 < p) (H : post (-1) (mm, ww, bb, a1, a2, a3, a4, a5, a6, a7, a8, a9, a10, a11, a12, a13)) : wpX_total post (mm, ww, bb, a1, a2, a3, a4, a5, a6, a7, a8, a9, a10, a11, a12, a13) p x := by
  unfold wpX_total
  exact ww_gn h (br_t rfl H)
theorem ww_total_b {post : Int32 → St2 → Prop} {mm ww bb : Int32} {a1 a2 a3 a4 a5 a6 a7 a8 a9 a10 a11 a12 a13 : Nat → Int32} {A : Nat} {x : Int32} (hA : A < 3) (h : x < 0 ∨ ¬ x ≤ 200) (H : post (-2) (mm, ww, bb, a1, a2, a3, a4, a5, a6, a7, a8, a9, a10, a11, a12, a13)) : wpX_total post (mm, ww, bb, a1, a2, a3, a4, a5, a6, a7, a8, a9, a10, a11, a12, a13) (nI A) x := by
  unfold wpX_total
  exact ww_gy hA (br_f (by decide) (br_c (fun _ => H) (fun g => br_f (h.resolve_left g) H)))
end
section
theorem ww_3v {v : Nat} (hv : v < 997) : 3 * nI v - 3 * nI v / 997 * 997 = nI (v * 3 % 997) := by
  rw [show 3 * nI v = nI (3 * v) from pk_mul 3 v, ww_rem (by omega), Nat.mul_comm]
/-- the law's flag for q and its v, against the picture -/
def ww_X (x9 x10 : Int32) (v w : Nat) : Prop := (x9 = 0 ∧ v = 0) ∨ (x9 = 1 ∧ w = 3 ∧ x10 = nI v)
theorem ww_304 {post : Int32 → St0 → Prop} {mc ms kc ks : Nat} {x4 x9 x10 z : Int32} {mm ww bb : Int32} {a1 a2 a3 a4 a5 a6 a7 a8 a9 a10 a11 a12 a13 : Nat → Int32} {A n q v w : Nat} (hp : post 1 ()) (P : ww_P A n q v w a1 a2 a3 a4) (hx : ww_X x9 x10 v w) :
    wL_lawOf_304 post mc ms (nI A) x4 1 x9 x10 z z kc ks mm ww bb a1 a2 a3 a4 a5 a6 a7 a8 a9 a10 a11 a12 a13 := by
  unfold wL_lawOf_304
  refine br_t rfl ?_
  by_cases c1 : x4 < 0
  · exact ww_total_b P.1.1 (Or.inl c1) (br_f (by decide) (br_t c1 (br_t rfl hp)))
  · by_cases c2 : x4 ≤ 200
    · obtain ⟨c, hc, rfl⟩ := nI_of2 (M := 200) (n := 200) (by decide) c1 c2
      refine ww_total P hc (fun _ _ _ _ _ _ _ _ _ _ _ _ => br_f (by decide) (br_f c1 (br_t c2 ?_)))
      refine pk_eq c 0 (fun z => ?_) (fun z => ?_)
      · rw [if_pos z]
        rcases hx with ⟨rfl, rfl⟩ | ⟨rfl, rfl, rfl⟩
        · refine br_t rfl (br_t ?_ hp)
          rw [Nat.zero_mul]
          rfl
        · exact br_f (by decide) ⟨by decide, br_t (ww_3v P.1.2.2.2.2.1).symm hp⟩
      · rw [if_neg z]
        exact br_t rfl hp
    · exact ww_total_b P.1.1 (Or.inr c2) (br_f (by decide) (br_f c1 (br_f c2 (br_t rfl hp))))
theorem ww_269 {post : Int32 → St0 → Prop} {mc ms kc ks : Nat} {x4 x9 x10 z : Int32} {mm ww bb : Int32} {a1 a2 a3 a4 a5 a6 a7 a8 a9 a10 a11 a12 a13 : Nat → Int32} {A n q v w : Nat} (hp : post 1 ()) (P : ww_P A n q v w a1 a2 a3 a4) (hx : ww_X x9 x10 v w) :
    wL_lawOf_269 post mc ms (nI A) x4 1 x9 x10 z z kc ks mm ww bb a1 a2 a3 a4 a5 a6 a7 a8 a9 a10 a11 a12 a13 := by
  unfold wL_lawOf_269
  refine br_t rfl ?_
  have hx' := hx
  rcases hx with ⟨rfl, rfl⟩ | ⟨rfl, rfl, rfl⟩
  · exact ww_rank (b := 0) P (Or.inl ⟨rfl, rfl⟩) (fun g => absurd g (by omega)) (fun _ _ _ _ _ _ _ _ _ _ _ _ => br_f (by decide) (br_t rfl (ww_304 hp P hx')))
  · have hv : v < 997 := P.1.2.2.2.2.1
    by_cases g : v = 0
    · refine ww_rank (b := 0) P (Or.inl ⟨g, rfl⟩) (fun _ => rfl) (fun _ _ _ _ _ _ _ _ _ _ _ _ => br_f (by decide) (br_f (by decide) (br_t ?_ (ww_304 hp P hx'))))
      rw [g]
      rfl
    · exact ww_rank (b := 1) P (Or.inr ⟨by omega, rfl⟩) (fun _ => rfl) (fun _ _ _ _ _ _ _ _ _ _ _ _ => br_f (by decide) (br_f (by decide) (br_f (nI_ne0 (by omega) (by omega)) (ww_304 hp P hx'))))
theorem ww_238 {post : Int32 → St0 → Prop} {mc ms kc ks : Nat} {x4 x9 x10 x11 z : Int32} {mm ww bb : Int32} {a1 a2 a3 a4 a5 a6 a7 a8 a9 a10 a11 a12 a13 : Nat → Int32} {A n q v w : Nat} (hp : post 1 ()) (P : ww_P A n q v w a1 a2 a3 a4) (hx : ww_X x9 x10 v w)
    (hc : (x11 = 0 ∧ (x4 < 1 ∨ ¬ x4 ≤ 1023)) ∨ (x11 = 1 ∧ ∃ c : Nat, 1 ≤ c ∧ c ≤ 1023 ∧ x4 = nI c ∧ z = nI (if c = 1 then v * w % 997 else 0))) :
    wL_lawOf_238 post mc ms (nI A) x4 1 x9 x10 x11 z kc ks mm ww bb a1 a2 a3 a4 a5 a6 a7 a8 a9 a10 a11 a12 a13 := by
  unfold wL_lawOf_238
  rcases hc with ⟨rfl, g⟩ | ⟨rfl, c, c1, c2, rfl, rfl⟩
  · exact ww_weight_b P.1.1 g (br_f (by decide) (br_t rfl (ww_269 hp P hx)))
  · exact ww_weight P c1 c2 (fun _ _ _ _ _ _ _ _ _ _ _ _ => br_f (by decide) (br_f (by decide) (ww_269 hp P hx)))
theorem ww_213 {post : Int32 → St0 → Prop} {mc ms kc ks : Nat} {x4 x9 x10 z : Int32} {mm ww bb : Int32} {a1 a2 a3 a4 a5 a6 a7 a8 a9 a10 a11 a12 a13 : Nat → Int32} {A n q v w : Nat} (hp : post 1 ()) (P : ww_P A n q v w a1 a2 a3 a4) (hx : ww_X x9 x10 v w)
    (hc : (z = 0 ∧ (x4 < 1 ∨ ¬ x4 ≤ 1023)) ∨ (z = 1 ∧ ∃ c : Nat, 1 ≤ c ∧ c ≤ 1023 ∧ x4 = nI c)) :
    wL_lawOf_213 post mc ms (nI A) x4 1 x9 x10 z kc ks mm ww bb a1 a2 a3 a4 a5 a6 a7 a8 a9 a10 a11 a12 a13 := by
  unfold wL_lawOf_213
  have hx' := hx
  rcases hx with ⟨rfl, rfl⟩ | ⟨rfl, rfl, rfl⟩
  · refine br_t rfl (ww_238 hp P hx' ?_)
    rcases hc with g | ⟨g, c, c1, c2, c3⟩
    · exact Or.inl g
    · refine Or.inr ⟨g, c, c1, c2, c3, ?_⟩
      rw [Nat.zero_mul, Nat.zero_mod, ite_self]
      rfl
  · refine br_f (by decide) ?_
    rcases hc with g | ⟨g, c, c1, c2, rfl⟩
    · exact br_c (fun _ => ⟨by decide, ww_238 hp P hx' (Or.inl g)⟩) (fun _ => ww_238 hp P hx' (Or.inl g))
    · refine pk_eq c 1 (fun e => ⟨by decide, ww_238 hp P hx' (Or.inr ⟨g, c, c1, c2, rfl, ?_⟩)⟩) (fun e => ww_238 hp P hx' (Or.inr ⟨g, c, c1, c2, rfl, ?_⟩))
      · rw [if_pos e]
        exact ww_3v P.1.2.2.2.2.1
      · rw [if_neg e]
        rfl
theorem ww_189 {post : Int32 → St0 → Prop} {mc ms kc ks : Nat} {x4 x9 x10 z : Int32} {mm ww bb : Int32} {a1 a2 a3 a4 a5 a6 a7 a8 a9 a10 a11 a12 a13 : Nat → Int32} {A n q v w : Nat} (hp : post 1 ()) (P : ww_P A n q v w a1 a2 a3 a4) (hx : ww_X x9 x10 v w) :
    wL_lawOf_189 post mc ms (nI A) x4 1 x9 x10 z z kc ks mm ww bb a1 a2 a3 a4 a5 a6 a7 a8 a9 a10 a11 a12 a13 := by
  unfold wL_lawOf_189
  refine br_t rfl (br_c (fun g => ww_213 hp P hx (Or.inl ⟨rfl, Or.inl g⟩)) (fun g => br_c (fun g2 => ww_213 hp P hx (Or.inl ⟨rfl, Or.inr (Int32.not_le.mpr g2)⟩)) (fun g2 => ww_213 hp P hx (Or.inr ⟨rfl, ?_⟩))))
  have g0 : ¬ x4 < 0 := fun h => g (Int32.lt_trans h (by decide))
  obtain ⟨c, hc, rfl⟩ := nI_of2 (M := 1023) (n := 1023) (by decide) g0 (Int32.not_lt.mp g2)
  refine ⟨c, ?_, hc, rfl⟩
  rcases Nat.eq_zero_or_pos c with e | e
  · rw [e] at g
    exact absurd (by decide) g
  · exact e
/-- the two marks -/
theorem ww_126 {post : Int32 → St0 → Prop} {mc ms kc ks : Nat} {x2 x3 x4 x9 : Int32} {mm ww bb : Int32} {a1 a5 a6 a7 a8 a9 a10 a11 a12 a13 : Nat → Int32} {A n : Nat} (hp : post 1 ()) (hA : A < 3) (hn0 : 1 ≤ n) (hn : n ≤ 4) (h1 : a1 A = nI n)
    (hx : (x9 = 0 ∧ (x2 < 0 ∨ ¬ x2 < nI n)) ∨ (x9 = 1 ∧ ∃ q : Nat, q < n ∧ x2 = nI q)) :
    wL_lawOf_126 post mc ms (nI A) x2 x3 x4 1 x9 (fmv x3 997) kc ks mm ww bb a1 ww_z ww_z ww_z a5 a6 a7 a8 a9 a10 a11 a12 a13 := by
  unfold wL_lawOf_126
  rcases hx with ⟨rfl, g⟩ | ⟨rfl, q, hq, rfl⟩
  · refine ww_mark_b hA h1 g (br_f (by decide) (br_t rfl ?_))
    refine br_t rfl (ww_mark_b hA h1 g (br_f (by decide) (br_t rfl ?_)))
    exact ww_189 (q := 0) (v := 0) (w := 0) hp ⟨⟨hA, hn0, hn, by omega, by omega, by omega⟩, h1, fun k _ => (ww_one_0 0 k).symm, fun k _ => (ww_one_0 0 k).symm, fun _ => rfl⟩ (Or.inl ⟨rfl, rfl⟩)
  · refine ww_mark_s hA hn hq h1 (br_f (by decide) (br_f (by decide) ?_))
    refine br_t rfl (ww_mark_e hA hn hq h1 (br_f (by decide) (br_f (by decide) ?_)))
    obtain ⟨v, hv, ev⟩ := ww_fm x3
    rw [ev, ww_fm3]
    refine ww_189 (q := q) (v := v) (w := 3) hp ⟨⟨hA, hn0, hn, hq, hv, by omega⟩, h1, fun k hk => ?_, fun k hk => ?_, fun _ => rfl⟩ (Or.inr ⟨rfl, rfl, rfl⟩)
    · by_cases e : k = q
      · rw [e, pk_us, ww_one_s]
      · rw [pk_un (by omega), ww_one_n e]
    · by_cases e : k = q
      · rw [e, pk_us, ww_one_s]
      · rw [pk_un (by omega), ww_one_n e]
theorem ww_106 {post : Int32 → St0 → Prop} {mc ms kc ks : Nat} {x2 x3 x4 x9 : Int32} {mm ww bb : Int32} {a1 a5 a6 a7 a8 a9 a10 a11 a12 a13 : Nat → Int32} {A n : Nat} (hp : post 1 ()) (hA : A < 3) (hn0 : 1 ≤ n) (hn : n ≤ 4) (h1 : a1 A = nI n)
    (hx : (x9 = 0 ∧ (x2 < 0 ∨ ¬ x2 < nI n)) ∨ (x9 = 1 ∧ ∃ q : Nat, q < n ∧ x2 = nI q)) :
    wL_lawOf_106 post mc ms (nI A) x2 x3 x4 1 x9 kc ks mm ww bb a1 ww_z ww_z ww_z a5 a6 a7 a8 a9 a10 a11 a12 a13 := by
  unfold wL_lawOf_106
  have H := ww_126 (post := post) (mc := mc) (ms := ms) (kc := kc) (ks := ks) (x3 := x3) (x4 := x4) (mm := mm) (ww := ww) (bb := bb) (a5 := a5) (a6 := a6) (a7 := a7) (a8 := a8) (a9 := a9) (a10 := a10) (a11 := a11) (a12 := a12) (a13 := a13) hp hA hn0 hn h1 hx
  refine ⟨by decide, nm_e (br_c (fun h => ?_) (fun h => nm_e ?_))⟩
  · rw [show fmv x3 997 = x3 - x3 / 997 * 997 from if_pos h] at H
    exact H
  · rw [show fmv x3 997 = x3 - x3 / 997 * 997 + 997 from if_neg h] at H
    exact H
theorem ww_89 {post : Int32 → St0 → Prop} {mc ms kc ks : Nat} {x2 x3 x4 : Int32} {mm ww bb : Int32} {a1 a5 a6 a7 a8 a9 a10 a11 a12 a13 : Nat → Int32} {A n : Nat} (hp : post 1 ()) (hA : A < 3) (hn0 : 1 ≤ n) (hn : n ≤ 4) (h1 : a1 A = nI n) :
    wL_lawOf_89 post mc ms (nI A) x2 x3 x4 1 (nI n) kc ks mm ww bb a1 ww_z ww_z ww_z a5 a6 a7 a8 a9 a10 a11 a12 a13 := by
  unfold wL_lawOf_89
  refine br_c (fun g => ww_106 hp hA hn0 hn h1 (Or.inl ⟨rfl, Or.inl g⟩)) (fun g => br_c (fun g2 => ww_106 hp hA hn0 hn h1 (Or.inl ⟨rfl, Or.inr (Int32.not_lt.mpr g2)⟩)) (fun g2 => ww_106 hp hA hn0 hn h1 (Or.inr ⟨rfl, ?_⟩)))
  obtain ⟨q, hq, rfl⟩ := nI_of g
  refine ⟨q, ?_, rfl⟩
  rcases Nat.lt_or_ge q n with e | e
  · exact e
  · exact absurd (nI_le e hq) g2
theorem ww_40 {post : Int32 → St0 → Prop} {mc ms kc ks : Nat} {x1 x2 x3 x4 z : Int32} {mm ww bb : Int32} {a1 a5 a6 a7 a8 a9 a10 a11 a12 a13 : Nat → Int32} {A : Nat} (hp : post 1 ()) (hA : A < 3) (h1 : a1 A = 1)
    (hz : (z = 0 ∧ (x1 < 1 ∨ ¬ x1 ≤ 4)) ∨ (z = 1 ∧ ∃ n : Nat, 1 ≤ n ∧ n ≤ 4 ∧ x1 = nI n)) :
    wL_lawOf_40 post mc ms (nI A) x1 x2 x3 x4 1 z kc ks mm ww bb a1 ww_z ww_z ww_z a5 a6 a7 a8 a9 a10 a11 a12 a13 := by
  unfold wL_lawOf_40
  rcases hz with ⟨rfl, g⟩ | ⟨rfl, n, hn0, hn, rfl⟩
  · refine ww_size_b hA g (br_f (by decide) (br_t rfl ?_))
    exact br_t rfl (br_f (by decide) (br_t rfl (ww_89 (n := 1) hp hA (by omega) (by omega) h1)))
  · refine ww_size hA hn0 hn h1 (br_f (by decide) (br_f (by decide) ?_))
    exact br_t rfl (br_f (by decide) (br_f (by decide) (ww_89 hp hA hn0 hn pk_us)))
theorem ww_23 {post : Int32 → St0 → Prop} {mc ms kc ks : Nat} {x1 x2 x3 x4 : Int32} {mm ww bb : Int32} {a1 a5 a6 a7 a8 a9 a10 a11 a12 a13 : Nat → Int32} {A : Nat} (hp : post 1 ()) (hA : A < 3) (h1 : a1 A = 1) :
    wL_lawOf_23 post mc ms (nI A) x1 x2 x3 x4 1 kc ks mm ww bb a1 ww_z ww_z ww_z a5 a6 a7 a8 a9 a10 a11 a12 a13 := by
  unfold wL_lawOf_23
  refine br_c (fun g => ww_40 hp hA h1 (Or.inl ⟨rfl, Or.inl g⟩)) (fun g => br_c (fun g2 => ww_40 hp hA h1 (Or.inl ⟨rfl, Or.inr (Int32.not_le.mpr g2)⟩)) (fun g2 => ww_40 hp hA h1 (Or.inr ⟨rfl, ?_⟩)))
  have g0 : ¬ x1 < 0 := fun h => g (Int32.lt_trans h (by decide))
  obtain ⟨n, hn, rfl⟩ := nI_of2 (M := 4) (n := 4) (by decide) g0 (Int32.not_lt.mp g2)
  refine ⟨n, ?_, hn, rfl⟩
  rcases Nat.eq_zero_or_pos n with e | e
  · rw [e] at g
    exact absurd (by decide) g
  · exact e
end
section
/-! a is no good: every call answers -1 -/
theorem ww_n304 {post : Int32 → St0 → Prop} {mc ms kc ks : Nat} {x0 x4 x9 x10 z : Int32} {mm ww bb : Int32} {a1 a2 a3 a4 a5 a6 a7 a8 a9 a10 a11 a12 a13 : Nat → Int32} (hp : post 1 ()) (h : x0 < 0 ∨ 2 < x0) :
    wL_lawOf_304 post mc ms x0 x4 0 x9 x10 z z kc ks mm ww bb a1 a2 a3 a4 a5 a6 a7 a8 a9 a10 a11 a12 a13 := by
  unfold wL_lawOf_304
  exact br_t rfl (ww_total_n h (br_t rfl (br_t rfl hp)))
theorem ww_n269 {post : Int32 → St0 → Prop} {mc ms kc ks : Nat} {x0 x4 x9 x10 z : Int32} {mm ww bb : Int32} {a1 a2 a3 a4 a5 a6 a7 a8 a9 a10 a11 a12 a13 : Nat → Int32} (hp : post 1 ()) (h : x0 < 0 ∨ 2 < x0) :
    wL_lawOf_269 post mc ms x0 x4 0 x9 x10 z z kc ks mm ww bb a1 a2 a3 a4 a5 a6 a7 a8 a9 a10 a11 a12 a13 := by
  unfold wL_lawOf_269
  exact br_t rfl (ww_rank_n h (br_t rfl (ww_n304 hp h)))
theorem ww_n238 {post : Int32 → St0 → Prop} {mc ms kc ks : Nat} {x0 x4 x9 x10 x11 z : Int32} {mm ww bb : Int32} {a1 a2 a3 a4 a5 a6 a7 a8 a9 a10 a11 a12 a13 : Nat → Int32} (hp : post 1 ()) (h : x0 < 0 ∨ 2 < x0) :
    wL_lawOf_238 post mc ms x0 x4 0 x9 x10 x11 z kc ks mm ww bb a1 a2 a3 a4 a5 a6 a7 a8 a9 a10 a11 a12 a13 := by
  unfold wL_lawOf_238
  exact ww_weight_n h (br_t rfl (ww_n269 hp h))
theorem ww_n213 {post : Int32 → St0 → Prop} {mc ms kc ks : Nat} {x0 x4 x9 x10 z : Int32} {mm ww bb : Int32} {a1 a2 a3 a4 a5 a6 a7 a8 a9 a10 a11 a12 a13 : Nat → Int32} (hp : post 1 ()) (h : x0 < 0 ∨ 2 < x0) :
    wL_lawOf_213 post mc ms x0 x4 0 x9 x10 z kc ks mm ww bb a1 a2 a3 a4 a5 a6 a7 a8 a9 a10 a11 a12 a13 := by
  unfold wL_lawOf_213
  exact br_c (fun _ => ww_n238 hp h) (fun _ => br_c (fun _ => ⟨by decide, ww_n238 hp h⟩) (fun _ => ww_n238 hp h))
theorem ww_n189 {post : Int32 → St0 → Prop} {mc ms kc ks : Nat} {x0 x4 x9 x10 z : Int32} {mm ww bb : Int32} {a1 a2 a3 a4 a5 a6 a7 a8 a9 a10 a11 a12 a13 : Nat → Int32} (hp : post 1 ()) (h : x0 < 0 ∨ 2 < x0) :
    wL_lawOf_189 post mc ms x0 x4 0 x9 x10 z z kc ks mm ww bb a1 a2 a3 a4 a5 a6 a7 a8 a9 a10 a11 a12 a13 := by
  unfold wL_lawOf_189
  exact br_t rfl (br_c (fun _ => ww_n213 hp h) (fun _ => br_c (fun _ => ww_n213 hp h) (fun _ => ww_n213 hp h)))
theorem ww_n126 {post : Int32 → St0 → Prop} {mc ms kc ks : Nat} {x0 x2 x3 x4 x9 x10 : Int32} {mm ww bb : Int32} {a1 a2 a3 a4 a5 a6 a7 a8 a9 a10 a11 a12 a13 : Nat → Int32} (hp : post 1 ()) (h : x0 < 0 ∨ 2 < x0) :
    wL_lawOf_126 post mc ms x0 x2 x3 x4 0 x9 x10 kc ks mm ww bb a1 a2 a3 a4 a5 a6 a7 a8 a9 a10 a11 a12 a13 := by
  unfold wL_lawOf_126
  refine ww_mark_n h (br_t rfl ?_)
  exact br_t rfl (ww_mark_n h (br_t rfl (ww_n189 hp h)))
theorem ww_n106 {post : Int32 → St0 → Prop} {mc ms kc ks : Nat} {x0 x2 x3 x4 x9 : Int32} {mm ww bb : Int32} {a1 a2 a3 a4 a5 a6 a7 a8 a9 a10 a11 a12 a13 : Nat → Int32} (hp : post 1 ()) (h : x0 < 0 ∨ 2 < x0) :
    wL_lawOf_106 post mc ms x0 x2 x3 x4 0 x9 kc ks mm ww bb a1 a2 a3 a4 a5 a6 a7 a8 a9 a10 a11 a12 a13 := by
  unfold wL_lawOf_106
  exact ⟨by decide, nm_e (br_c (fun _ => ww_n126 hp h) (fun _ => nm_e (ww_n126 hp h)))⟩
theorem ww_n40 {post : Int32 → St0 → Prop} {mc ms kc ks : Nat} {x0 x1 x2 x3 x4 z : Int32} {mm ww bb : Int32} {a1 a2 a3 a4 a5 a6 a7 a8 a9 a10 a11 a12 a13 : Nat → Int32} (hp : post 1 ()) (h : x0 < 0 ∨ 2 < x0) :
    wL_lawOf_40 post mc ms x0 x1 x2 x3 x4 0 z kc ks mm ww bb a1 a2 a3 a4 a5 a6 a7 a8 a9 a10 a11 a12 a13 := by
  unfold wL_lawOf_40
  refine ww_size_n h (br_t rfl ?_)
  refine br_t rfl (br_t rfl ?_)
  exact br_c (fun _ => ww_n106 hp h) (fun _ => br_c (fun _ => ww_n106 hp h) (fun _ => ww_n106 hp h))
theorem ww_n23 {post : Int32 → St0 → Prop} {mc ms kc ks : Nat} {x0 x1 x2 x3 x4 : Int32} {mm ww bb : Int32} {a1 a2 a3 a4 a5 a6 a7 a8 a9 a10 a11 a12 a13 : Nat → Int32} (hp : post 1 ()) (h : x0 < 0 ∨ 2 < x0) :
    wL_lawOf_23 post mc ms x0 x1 x2 x3 x4 0 kc ks mm ww bb a1 a2 a3 a4 a5 a6 a7 a8 a9 a10 a11 a12 a13 := by
  unfold wL_lawOf_23
  exact br_c (fun _ => ww_n40 hp h) (fun _ => br_c (fun _ => ww_n40 hp h) (fun _ => ww_n40 hp h))
end
section
theorem ww_lawOf {post : Int32 → St0 → Prop} {x0 x1 x2 x3 x4 : Int32} (hp : post 1 ()) : wpL_lawOf post 320 5120 () x0 x1 x2 x3 x4 := by
  unfold wpL_lawOf
  refine ⟨by omega, by omega, 13, 565, by omega, by omega, ww_init (by omega) (by omega) (fun a1 h1 => ?_)⟩
  refine br_c (fun g => ww_n23 hp (Or.inl g)) (fun g => br_c (fun g2 => ww_n23 hp (Or.inr g2)) (fun g2 => ?_))
  obtain ⟨A, hA, rfl⟩ := nI_of2 (M := 2) (n := 2) (by decide) g (Int32.not_lt.mp g2)
  exact ww_23 hp (by omega) (h1 A (by omega))
theorem ww_cell {post : Int32 → Prop} {L i : Nat} {xs : Nat → Int32} (hL : L ≤ 5) (hi : i < 5) (H : ∀ x, post x) : wpL_cellAt post L xs () (nI i) :=
  pk_le L i (fun _ => H 0) (fun z => ⟨pk_in i L z, H _⟩)
theorem i_vc (xs : Nat → Int32) (L : Nat) (hL : L ≤ 5) : wpL_law (fun r => r = 1) L xs := by
  unfold wpL_law
  exact ww_cell (i := 0) hL (by omega) (fun x0 => ww_cell (i := 1) hL (by omega) (fun x1 => ww_cell (i := 2) hL (by omega) (fun x2 => ww_cell (i := 3) hL (by omega) (fun x3 => ww_cell (i := 4) hL (by omega) (fun x4 => ⟨320, 5120, by omega, by omega, ww_lawOf rfl⟩)))))
end
