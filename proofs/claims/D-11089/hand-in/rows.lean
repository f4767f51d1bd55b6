section
/-! pure rows: keys, amounts, bits, folds -/
def rs_K (h l : Nat) : Int32 := nI (h + 16 * l + 128)
theorem rs_c0 : (0 : Int32).toNatClampNeg = 0 := by decide +kernel
theorem rs_c40 : (40 : Int32).toNatClampNeg = 40 := by decide +kernel
theorem rs_K16 : ∀ h, h < 16 → ∀ l, l < 4 → (rs_K h l).toInt16.toInt32 = rs_K h l := by decide +kernel
theorem rs_Kh : ∀ h, h < 16 → ∀ l, l < 4 → rs_K h l &&& 15 = nI h := by decide +kernel
theorem rs_Kp : ∀ h, h < 16 → ∀ l, l < 4 → (rs_K h l >>> ((4 : Int32) &&& 31)) &&& 3 = nI l := by decide +kernel
theorem rs_Kk : ∀ h, h < 16 → ∀ l, l < 4 → rs_K h l >>> ((6 : Int32) &&& 31) = 2 := by decide +kernel
theorem rs_Keq {h l i m : Nat} (hh : h < 16) (hl : l < 4) (hi : i < 16) (hm : m < 4) : rs_K h l = rs_K i m ↔ h = i ∧ l = m := by
  unfold rs_K
  rw [nI_eq (by omega) (by omega)]
  omega
theorem rs_Kmk : ∀ t, t < 64 → ∀ l, l < 4 → (nI t / 4 + 16 * nI l) + 64 * 2 = rs_K (t / 4) l := by decide +kernel
theorem rs_q4 : ∀ t, t < 64 → nI t / 4 = nI (t / 4) := by decide +kernel
/-- an amount -/
def rs_A (p : Int32) : Prop := ∃ n : Nat, n < 201 ∧ p = nI n - 100
theorem rs_A_lo {p : Int32} (h : rs_A p) : ¬ p < -100 := by
  obtain ⟨n, hn, rfl⟩ := h
  revert n
  decide +kernel
theorem rs_A_hi {p : Int32} (h : rs_A p) : p ≤ 100 := by
  obtain ⟨n, hn, rfl⟩ := h
  revert n
  decide +kernel
theorem rs_A_8 {p : Int32} (h : rs_A p) : p.toInt8.toInt32 = p := by
  obtain ⟨n, hn, rfl⟩ := h
  revert n
  decide +kernel
theorem rs_A_top {p : Int32} (h : rs_A p) (z : 100 ≤ p) : p = 100 := by
  obtain ⟨n, hn, rfl⟩ := h
  revert n
  decide +kernel
theorem rs_A_no {p : Int32} (h : rs_A p) : ¬ p = -1000000 := by
  obtain ⟨n, hn, rfl⟩ := h
  revert n
  decide +kernel
theorem rs_A_2 : ∀ k, k < 401 → ¬ nI k - 200 = -1000000 := by decide +kernel
theorem rs_A_no2 {p q : Int32} (hp : rs_A p) (hq : rs_A q) : ¬ p + q = -1000000 := by
  obtain ⟨n, hn, rfl⟩ := hp
  obtain ⟨m, hm, rfl⟩ := hq
  have e : nI n - 100 + (nI m - 100) = nI (n + m) - 200 := by
    rw [← nI_add]
    grind
  rw [e]
  exact rs_A_2 (n + m) (by omega)
/-- the filter 'all' -/
theorem rs_F1 : ∀ l, l < 4 → ¬ ((246015 : Int32) >>> (nI l &&& 31)) &&& 1 = 0 := by decide +kernel
theorem rs_F1k : ∀ l, l < 4 → ¬ ((246015 : Int32) >>> ((4 + nI l) &&& 31)) &&& 1 = 0 := by decide +kernel
theorem rs_F2 : ∀ h, h < 16 → ¬ nI h < (((246015 : Int32) >>> ((10 : Int32) &&& 31)) &&& 15) := by decide +kernel
theorem rs_F3 : ∀ h, h < 16 → ¬ ((246015 : Int32) >>> ((14 : Int32) &&& 31)) < nI h := by decide +kernel
theorem rs_b0 : ∀ v, v < 16 → ((0 : Int32) >>> (nI v &&& 31)) &&& 1 = 0 := by decide +kernel
/-! a store into a table of longs, and tables -/
theorem rs_fillL {s : Nat → Int64} {i k : Nat} (hk : k = i) (h : ∀ j, j < i → s j = 0) : ∀ j, j < i + 1 → vp_updL s k 0 j = 0 := by
  intro j hj
  rw [hk]
  by_cases e : j = i
  · rw [e, pk_uLs]
  · rw [pk_uLn e]
    exact h j (by omega)
theorem rs_one {s : Nat → Int64} {N i k : Nat} (hk : k = i) (h : ∀ j, j < N → s j = 0) (hi : i < N) : ∀ j, j < N → vp_updL s k (s k ||| 1) j = if j = i then 1 else 0 := by
  intro j hj
  rw [hk]
  by_cases e : j = i
  · rw [e, pk_uLs, if_pos rfl, h i hi]
    decide +kernel
  · rw [pk_uLn e, if_neg e]
    exact h j hj
/-- a walk over 80 rows of which only rows 0 and 40 count -/
theorem rs_rows {σ : Type} (W : Nat → Nat → σ → Prop) (s0 s1 s2 : σ) (hx : ∀ n, W (n + 1) 80 s2) (h0 : ∀ n, W n 1 s1 → W (n + 1) 0 s0) (h40 : ∀ n, W n 41 s2 → W (n + 1) 40 s1)
    (hk : ∀ n i s, i < 80 → i ≠ 0 → i ≠ 40 → W n (i + 1) s → W (n + 1) i s) : ∃ n, W n 0 s0 := by
  refine pk_loop W (fun i s => s = if i = 0 then s0 else if i ≤ 40 then s1 else s2) 80 0 s0 (by omega) rfl (fun n s h => ?_) (fun n i s hi h hw => ?_)
  · have h' : s = s2 := h
    rw [h']
    exact hx n
  · by_cases e0 : i = 0
    · subst e0
      have h' : s = s0 := h
      rw [h']
      exact h0 n (hw s1 rfl)
    · by_cases e1 : i = 40
      · subst e1
        have h' : s = s1 := h
        rw [h']
        exact h40 n (hw s2 rfl)
      · refine hk n i s hi e0 e1 (hw s ?_)
        have h' : s = if i = 0 then s0 else if i ≤ 40 then s1 else s2 := h
        show s = if i + 1 = 0 then s0 else if i + 1 ≤ 40 then s1 else s2
        rw [h', if_neg e0, if_neg (show ¬ i + 1 = 0 by omega)]
        by_cases e2 : i ≤ 40
        · rw [if_pos e2, if_pos (show i + 1 ≤ 40 by omega)]
        · rw [if_neg e2, if_neg (show ¬ i + 1 ≤ 40 by omega)]
/-- what sumOf answers -/
def rs_sum (g1 g2 v p q : Int32) : Int32 := if g1 = v then (if g2 = v then p + q else p) else if g2 = v then q else -1000000
/-- a turn of bestOf -/
def rs_bst (s : Int32 × Int32) (v z : Int32) : Int32 × Int32 := if z = -1000000 then s else if s.1 < 0 then (v, z) else if z ≤ s.2 then s else (v, z)
def rs_bf (f : Nat → Int32) : Nat → Int32 × Int32
  | 0 => (-1, 0)
  | v + 1 => rs_bst (rs_bf f v) (nI v) (f v)
theorem rs_bf_none {f : Nat → Int32} {a : Nat} : ∀ b, a ≤ b → (∀ v, a ≤ v → v < b → f v = -1000000) → rs_bf f b = rs_bf f a
  | 0, h, _ => by rw [show a = 0 by omega]
  | b + 1, h, H => by
    by_cases e : a = b + 1
    · rw [e]
    · show rs_bst (rs_bf f b) (nI b) (f b) = rs_bf f a
      rw [H b (by omega) (by omega)]
      show rs_bf f b = rs_bf f a
      exact rs_bf_none b (by omega) (fun v h1 h2 => H v h1 (by omega))
theorem rs_bst_f {v z : Int32} (h : ¬ z = -1000000) : rs_bst (-1, 0) v z = (v, z) := by
  unfold rs_bst
  rw [if_neg h, if_pos (show (-1 : Int32) < 0 by decide)]
theorem rs_bf_one {f : Nat → Int32} {a : Nat} (ha : a < 16) (h : ∀ v, v < 16 → v ≠ a → f v = -1000000) (hA : ¬ f a = -1000000) : rs_bf f 16 = (nI a, f a) := by
  rw [rs_bf_none (a := a + 1) 16 (by omega) (fun v h1 h2 => h v h2 (by omega))]
  show rs_bst (rs_bf f a) (nI a) (f a) = _
  rw [rs_bf_none (a := 0) a (by omega) (fun v h1 h2 => h v (by omega) (by omega))]
  exact rs_bst_f hA
theorem rs_bf_two {f : Nat → Int32} {a b : Nat} (hab : a < b) (hb : b < 16) (h : ∀ v, v < 16 → v ≠ a → v ≠ b → f v = -1000000) (hA : ¬ f a = -1000000) (hB : ¬ f b = -1000000) : rs_bf f 16 = if f b ≤ f a then (nI a, f a) else (nI b, f b) := by
  rw [rs_bf_none (a := b + 1) 16 (by omega) (fun v h1 h2 => h v h2 (by omega) (by omega))]
  show rs_bst (rs_bf f b) (nI b) (f b) = _
  rw [rs_bf_none (a := a + 1) b (by omega) (fun v h1 h2 => h v (by omega) (by omega) (by omega))]
  show rs_bst (rs_bst (rs_bf f a) (nI a) (f a)) (nI b) (f b) = _
  rw [rs_bf_none (a := 0) a (by omega) (fun v h1 h2 => h v (by omega) (by omega) (by omega))]
  show rs_bst (rs_bst (-1, 0) (nI a) (f a)) (nI b) (f b) = _
  rw [rs_bst_f hA]
  unfold rs_bst
  rw [if_neg hB, if_neg (show ¬ (nI a, f a).1 < 0 from nI_pos (by omega))]
/-- the first of the law: hours h and i with the sums p and q -/
def rs_first (h i : Nat) (p q : Int32) : Int32 := if h = i then nI h else if q < p then nI h else if p = q then (if nI i ≤ nI h then nI i else nI h) else nI i
theorem rs_best {h i : Nat} {p q : Int32} (hh : h < 16) (hi : i < 16) (hp : rs_A p) (hq : rs_A q) : (rs_bf (fun v => rs_sum (nI h) (nI i) (nI v) p q) 16).1 = rs_first h i p q := by
  have E : ∀ a b : Nat, a < 16 → b < 16 → (nI a = nI b ↔ a = b) := fun a b ha hb => nI_eq (by omega) (by omega)
  have N : ∀ v, v < 16 → v ≠ h → v ≠ i → rs_sum (nI h) (nI i) (nI v) p q = -1000000 := by
    intro v hv h1 h2
    unfold rs_sum
    rw [if_neg (fun z => h1 ((E h v hh hv).mp z).symm), if_neg (fun z => h2 ((E i v hi hv).mp z).symm)]
  unfold rs_first
  by_cases e : h = i
  · subst e
    have F : rs_sum (nI h) (nI h) (nI h) p q = p + q := by
      unfold rs_sum
      rw [if_pos rfl, if_pos rfl]
    rw [rs_bf_one hh (fun v hv h1 => N v hv h1 h1) (by rw [F]; exact rs_A_no2 hp hq), if_pos rfl]
  · rw [if_neg e]
    have Fh : rs_sum (nI h) (nI i) (nI h) p q = p := by
      unfold rs_sum
      rw [if_pos rfl, if_neg (fun z => e ((E i h hi hh).mp z).symm)]
    have Fi : rs_sum (nI h) (nI i) (nI i) p q = q := by
      unfold rs_sum
      rw [if_neg (fun z => e ((E h i hh hi).mp z)), if_pos rfl]
    have T : ∀ x y : Int32, x ≤ y ↔ ¬ y < x := fun x y => by
      rw [Int32.le_iff_toInt_le, Int32.lt_iff_toInt_lt]
      omega
    have Q : ¬ q < p → ¬ p < q → p = q := fun a b => by
      rw [Int32.lt_iff_toInt_lt] at a b
      exact Int32.toInt_inj.mp (by omega)
    have Q2 : q < p → ¬ p < q := fun a b => by
      rw [Int32.lt_iff_toInt_lt] at a b
      omega
    have Q3 : q < p → ¬ p = q := fun a b => by
      rw [Int32.lt_iff_toInt_lt, b] at a
      omega
    have Q4 : p < q → ¬ p = q := fun a b => by
      rw [Int32.lt_iff_toInt_lt, b] at a
      omega
    rcases Nat.lt_or_ge h i with z | z
    · rw [rs_bf_two z hi N (by rw [Fh]; exact rs_A_no hp) (by rw [Fi]; exact rs_A_no hq), Fh, Fi]
      have J : ¬ nI i ≤ nI h := nI_ge z (by omega)
      by_cases c : q < p
      · rw [if_pos c, if_pos ((T q p).mpr (Q2 c))]
      · rw [if_neg c]
        by_cases d : p = q
        · rw [if_pos d, if_neg J, if_pos ((T q p).mpr (fun z => Q4 z d))]
        · rw [if_neg d, if_neg (fun z => d (Q c ((T q p).mp z)))]
    · have z' : i < h := by omega
      rw [rs_bf_two z' hh (fun v hv h1 h2 => N v hv h2 h1) (by rw [Fi]; exact rs_A_no hq) (by rw [Fh]; exact rs_A_no hp), Fh, Fi]
      have J : nI i ≤ nI h := nI_le z (by omega)
      by_cases c : q < p
      · rw [if_pos c, if_neg (fun z => (T p q).mp z c)]
      · rw [if_neg c, if_pos ((T p q).mpr c)]
        by_cases d : p = q
        · rw [if_pos d, if_pos J]
        · rw [if_neg d]
/-- a turn of the second loop of gaps: n, run, begun -/
def rs_gst (x e : Int32) (s : Int32 × Int32 × Int32) : Int32 × Int32 × Int32 := (s.1 + (if e = 0 then 0 else if s.2.2 = 0 then 0 else s.2.1), if e = 0 then s.2.1 + 1 else 0, s.2.2 ||| e)
def rs_here (x : Int32) (v : Nat) : Int32 := if (x >>> (nI v &&& 31)) &&& 1 = 0 then 0 else 1
def rs_gf (x : Int32) : Nat → Int32 × Int32 × Int32
  | 0 => (0, 0, 0)
  | v + 1 => rs_gst x (rs_here x v) (rs_gf x v)
def rs_hrs (h i : Nat) : Int32 := ((0 : Int32) ||| ((1 : Int32) <<< (nI h &&& 31))) ||| ((1 : Int32) <<< (nI i &&& 31))
/-- the gaps of the law -/
def rs_gap (h i : Nat) : Int32 := if h = i then 0 else (if nI i ≤ nI h then nI h - nI i else nI i - nI h) - 1
theorem rs_gaps : ∀ h, h < 16 → ∀ i, i < 16 → (rs_gf (rs_hrs h i) 16).1 = rs_gap h i := by decide +kernel
end
section
/-! the methods that change rows: closedRow, openRow, sorts, startRow, take, index, seal -/
/-- row k holds one event: key K, amount p -/
def rs_row (k : Nat) (K p : Int32) (a1 a2 a3 a4 : Nat → Int32) : Prop := a1 k = K ∧ a2 k = 1 ∧ a3 k = p ∧ a4 k = p
theorem rs_hour {post : Int32 → Prop} {x : Int32} {h l : Nat} (hx : x = rs_K h l) (hh : h < 16) (hl : l < 4) (H : post (nI h)) : wpX_hourOf post () x := by
  unfold wpX_hourOf
  rw [hx, rs_Kh h hh l hl]
  exact H
theorem rs_place {post : Int32 → Prop} {x : Int32} {h l : Nat} (hx : x = rs_K h l) (hh : h < 16) (hl : l < 4) (H : post (nI l)) : wpX_placeOf post () x := by
  unfold wpX_placeOf
  rw [hx, rs_Kp h hh l hl]
  exact H
theorem rs_kind {post : Int32 → Prop} {x : Int32} {h l : Nat} (hx : x = rs_K h l) (hh : h < 16) (hl : l < 4) (H : post 2) : wpX_kindOf post () x := by
  unfold wpX_kindOf
  rw [hx, rs_Kk h hh l hl]
  exact H
section
variable {cr ow ec : Int32} {cq oq : Int64} {a1 a2 a3 a4 a5 : Nat → Int32} {a6 a7 a8 : Nat → Int64}
theorem rs_closed0 {post : Int32 → Prop} {K : Int32} (H : post (-1)) : wpX_closedRow post (0, ow, ec, cq, oq, a1, a2, a3, a4, a5, a6, a7, a8) K :=
  ⟨0 + 1, br_t (by decide) H⟩
theorem rs_closed1 {post : Int32 → Prop} {K K1 : Int32} (h1 : a1 0 = K1) (Hy : K1 = K → post 0) (Hn : ¬ K1 = K → post (-1)) : wpX_closedRow post (1, ow, ec, cq, oq, a1, a2, a3, a4, a5, a6, a7, a8) K :=
  ⟨0 + 1 + 1, br_f (by decide) ⟨pk_in 0 80 (by omega), br_c (fun z => Hy (by rw [rs_c0, h1] at z; exact z)) (fun z => nm_r (e' := 1) (by decide) (br_t (by decide) (Hn (by rw [rs_c0, h1] at z; exact z))))⟩⟩
theorem rs_opened0 {post : Int32 → Prop} {K : Int32} (H : post (-1)) : wpX_openRow post (cr, 0, ec, cq, oq, a1, a2, a3, a4, a5, a6, a7, a8) K :=
  ⟨0 + 1, br_t (by decide) H⟩
theorem rs_sorts0 {post : Int32 → Prop} (H : post cr) : wpX_sorts post (cr, 0, ec, cq, oq, a1, a2, a3, a4, a5, a6, a7, a8) :=
  ⟨0 + 1, br_t (by decide) H⟩
theorem rs_sorts1 {post : Int32 → Prop} {K1 K2 : Int32} (h1 : a1 0 = K1) (h2 : a1 40 = K2) (H : post (if K1 = K2 then 1 else 2)) : wpX_sorts post (1, 1, ec, cq, oq, a1, a2, a3, a4, a5, a6, a7, a8) := by
  have Hy : K1 = K2 → post 1 := fun z => by rw [if_pos z] at H; exact H
  have Hn : ¬ K1 = K2 → post 2 := fun z => by rw [if_neg z] at H; exact H
  refine ⟨0 + 1 + 1, br_f (by decide) ⟨pk_in 40 80 (by omega), ?_⟩⟩
  rw [rs_c40, h2]
  exact rs_closed1 h1 (fun z => br_t (by decide) (nm_r (e' := 1) (by decide) (nm_r (e' := 41) (by decide) (br_t (by decide) (Hy z)))))
    (fun z => br_f (by decide) (nm_r (e' := 2) (by decide) (nm_r (e' := 41) (by decide) (br_t (by decide) (Hn z)))))
/-! take -/
theorem rs_t237 {post : Int32 → St2 → Prop} {x6 z0 : Int32}
    (H : ∀ b5 : Nat → Int32, (0 ≤ x6 → vp_in x6 80 ∧ post (a2 40 + a2 x6.toNatClampNeg) (cr, ow, ec + 1, cq, oq, a1, a2, a3, a4, b5, a6, a7, a8)) ∧ (¬ 0 ≤ x6 → post (a2 40) (cr, ow, ec + 1, cq, oq, a1, a2, a3, a4, b5, a6, a7, a8))) :
    wX_take_237 post x6 40 z0 40 cr ow ec cq oq a1 a2 a3 a4 a5 a6 a7 a8 :=
  ⟨pk_in 40 80 (by omega), fun b5 _ => nm_e (br_c (fun z => ⟨pk_in 40 80 (by omega), ((H b5).1 z).1, by rw [rs_c40]; exact ((H b5).1 z).2⟩) (fun z => ⟨pk_in 40 80 (by omega), by rw [rs_c40]; exact (H b5).2 z⟩))⟩
theorem rs_t205 {post : Int32 → St2 → Prop} {x4 x6 z0 p : Int32} (hz : z0.toInt8.toInt32 = p)
    (H : ∀ b4 b5 : Nat → Int32, b4 40 = p → b4 0 = a4 0 → (0 ≤ x6 → vp_in x6 80 ∧ post (a2 40 + a2 x6.toNatClampNeg) (cr, ow, ec + 1, cq, oq, a1, a2, a3, b4, b5, a6, a7, a8)) ∧ (¬ 0 ≤ x6 → post (a2 40) (cr, ow, ec + 1, cq, oq, a1, a2, a3, b4, b5, a6, a7, a8))) :
    wX_take_205 post x4 x6 40 z0 40 cr ow ec cq oq a1 a2 a3 a4 a5 a6 a7 a8 := by
  refine ⟨pk_in 40 80 (by omega), fun b4 e4 => ?_⟩
  rw [rs_c40, hz] at e4
  have h1 : b4 40 = p := by rw [e4]; exact pk_us
  have h2 : b4 0 = a4 0 := by rw [e4]; exact pk_un (by decide)
  exact ⟨pk_in 40 80 (by omega), br_c (fun _ => ⟨pk_in 40 80 (by omega), rs_t237 (fun b5 => H b4 b5 h1 h2)⟩) (fun _ => rs_t237 (fun b5 => H b4 b5 h1 h2))⟩
theorem rs_t151 {post : Int32 → St2 → Prop} {x6 p : Int32} (hp : rs_A p) (h2 : a2 40 = 0) (h3 : a3 40 = 0) (h4 : a4 40 = 100)
    (H : ∀ b2 b3 b4 b5 : Nat → Int32, b2 40 = 1 → b3 40 = p → b4 40 = p → b2 0 = a2 0 → b3 0 = a3 0 → b4 0 = a4 0 → (0 ≤ x6 → vp_in x6 80 ∧ post (b2 40 + b2 x6.toNatClampNeg) (cr, ow, ec + 1, cq, oq, a1, b2, b3, b4, b5, a6, a7, a8)) ∧ (¬ 0 ≤ x6 → post (b2 40) (cr, ow, ec + 1, cq, oq, a1, b2, b3, b4, b5, a6, a7, a8))) :
    wX_take_151 post p x6 40 cr ow ec cq oq a1 a2 a3 a4 a5 a6 a7 a8 := by
  refine ⟨pk_in 40 80 (by omega), pk_in 40 80 (by omega), fun b2 e2 => ⟨pk_in 40 80 (by omega), pk_in 40 80 (by omega), fun b3 e3 => ⟨pk_in 40 80 (by omega), ?_⟩⟩⟩
  rw [rs_c40, h2] at e2
  rw [rs_c40, h3] at e3
  rw [rs_c40, h4]
  have g2 : b2 40 = 1 := by rw [e2, pk_us]; decide +kernel
  have g3 : b3 40 = p := by rw [e3, pk_us]; grind
  have k2 : b2 0 = a2 0 := by rw [e2]; exact pk_un (by decide)
  have k3 : b3 0 = a3 0 := by rw [e3]; exact pk_un (by decide)
  exact br_c (fun z => ⟨pk_in 40 80 (by omega), rs_t205 (p := p) (by rw [rs_A_top hp z]; decide +kernel) (fun b4 b5 g4 k4 => H b2 b3 b4 b5 g2 g3 g4 k2 k3 k4)⟩)
    (fun _ => rs_t205 (p := p) (rs_A_8 hp) (fun b4 b5 g4 k4 => H b2 b3 b4 b5 g2 g3 g4 k2 k3 k4))
theorem rs_t119 {post : Int32 → St2 → Prop} {x6 K p : Int32} (hp : rs_A p) (hK : K.toInt16.toInt32 = K)
    (H : ∀ b1 b2 b3 b4 b5 : Nat → Int32, rs_row 40 K p b1 b2 b3 b4 → b1 0 = a1 0 → b2 0 = a2 0 → b3 0 = a3 0 → b4 0 = a4 0 → (0 ≤ x6 → vp_in x6 80 ∧ post (1 + b2 x6.toNatClampNeg) (cr, 1, ec + 1, cq, oq, b1, b2, b3, b4, b5, a6, a7, a8)) ∧ (¬ 0 ≤ x6 → post 1 (cr, 1, ec + 1, cq, oq, b1, b2, b3, b4, b5, a6, a7, a8))) :
    wX_take_119 post p K x6 (-1) cr 0 ec cq oq a1 a2 a3 a4 a5 a6 a7 a8 := by
  refine br_f (by decide) (nm_r (e' := 40) (by decide) ⟨pk_in 40 80 (by omega), fun c1 e1 => ⟨pk_in 40 80 (by omega), fun c2 e2 => ⟨pk_in 40 80 (by omega), fun c3 e3 => ⟨pk_in 40 80 (by omega), fun c4 e4 => ⟨pk_in 40 80 (by omega), fun c5 e5 => nm_r (e' := 1) (by decide) ?_⟩⟩⟩⟩⟩)
  rw [rs_c40, hK] at e1
  rw [rs_c40] at e2 e3 e4
  have g1 : c1 40 = K := by rw [e1]; exact pk_us
  have k1 : c1 0 = a1 0 := by rw [e1]; exact pk_un (by decide)
  have g2 : c2 40 = 0 := by rw [e2]; exact pk_us
  have k2 : c2 0 = a2 0 := by rw [e2]; exact pk_un (by decide)
  have g3 : c3 40 = 0 := by rw [e3]; exact pk_us
  have k3 : c3 0 = a3 0 := by rw [e3]; exact pk_un (by decide)
  have g4 : c4 40 = 100 := by rw [e4]; exact pk_us
  have k4 : c4 0 = a4 0 := by rw [e4]; exact pk_un (by decide)
  refine rs_t151 hp g2 g3 g4 (fun b2 b3 b4 b5 f2 f3 f4 l2 l3 l4 => ?_)
  rw [f2]
  exact H c1 b2 b3 b4 b5 ⟨g1, f2, f3, f4⟩ k1 (l2.trans k2) (l3.trans k3) (l4.trans k4)
theorem rs_take_new {post : Int32 → St2 → Prop} {t l : Nat} {p ec2 : Int32} (hec : ec + 1 = ec2) (ht : t < 64) (hl : l < 4) (hp : rs_A p) (hc : cr < 40) (he : ¬ 400 ≤ ec)
    (hr : ∀ ψ : Int32 → Prop, ψ (-1) → wpX_closedRow ψ (cr, 0, ec, cq, oq, a1, a2, a3, a4, a5, a6, a7, a8) (rs_K (t / 4) l))
    (H : ∀ b1 b2 b3 b4 b5 : Nat → Int32, rs_row 40 (rs_K (t / 4) l) p b1 b2 b3 b4 → b1 0 = a1 0 → b2 0 = a2 0 → b3 0 = a3 0 → b4 0 = a4 0 → post 1 (cr, 1, ec2, cq, oq, b1, b2, b3, b4, b5, a6, a7, a8)) :
    wpX_take post (cr, 0, ec, cq, oq, a1, a2, a3, a4, a5, a6, a7, a8) (nI t) (nI l) 2 p := by
  subst hec
  have K16 := rs_K16 (t / 4) (by omega) l hl
  refine br_f (nI_pos (by omega)) (br_f (nI_nlt (b := t) (a := 63) (by omega) (by omega)) (br_f (nI_pos (by omega)) (br_f (nI_nlt (b := l) (a := 3) (by omega) (by omega)) (br_f (by decide) (br_f (by decide) (br_f (rs_A_lo hp) (br_t (rs_A_hi hp) ⟨by decide, nm_r (rs_Kmk t ht l hl) (hr _ (rs_opened0 (br_f (by decide) (br_f (by decide) ?_))))⟩)))))))
  refine br_f he (br_f (by decide) (rs_sorts0 (br_t hc ?_)))
  exact rs_t119 hp K16 (fun b1 b2 b3 b4 b5 w k1 k2 k3 k4 => ⟨fun z => absurd z (by decide), fun _ => H b1 b2 b3 b4 b5 w k1 k2 k3 k4⟩)
theorem rs_take_old {post : Int32 → St2 → Prop} {t l : Nat} {p ec2 : Int32} (hec : ec + 1 = ec2) (ht : t < 64) (hl : l < 4) (hp : rs_A p) (he : ¬ 400 ≤ ec)
    (hr : ∀ ψ : Int32 → Prop, ψ 0 → wpX_closedRow ψ (cr, 0, ec, cq, oq, a1, a2, a3, a4, a5, a6, a7, a8) (rs_K (t / 4) l)) (h2 : a2 0 = 1)
    (H : ∀ b1 b2 b3 b4 b5 : Nat → Int32, rs_row 40 (rs_K (t / 4) l) p b1 b2 b3 b4 → b1 0 = a1 0 → b2 0 = a2 0 → b3 0 = a3 0 → b4 0 = a4 0 → post 2 (cr, 1, ec2, cq, oq, b1, b2, b3, b4, b5, a6, a7, a8)) :
    wpX_take post (cr, 0, ec, cq, oq, a1, a2, a3, a4, a5, a6, a7, a8) (nI t) (nI l) 2 p := by
  subst hec
  have K16 := rs_K16 (t / 4) (by omega) l hl
  refine br_f (nI_pos (by omega)) (br_f (nI_nlt (b := t) (a := 63) (by omega) (by omega)) (br_f (nI_pos (by omega)) (br_f (nI_nlt (b := l) (a := 3) (by omega) (by omega)) (br_f (by decide) (br_f (by decide) (br_f (rs_A_lo hp) (br_t (rs_A_hi hp) ⟨by decide, nm_r (rs_Kmk t ht l hl) (hr _ (rs_opened0 (br_t (by decide) ?_)))⟩)))))))
  refine br_f he (br_t (by decide) ?_)
  refine rs_t119 hp K16 (fun b1 b2 b3 b4 b5 w k1 k2 k3 k4 => ⟨fun _ => ⟨pk_in 0 80 (by omega), ?_⟩, fun z => absurd (by decide) z⟩)
  rw [rs_c0, k2, h2]
  exact H b1 b2 b3 b4 b5 w k1 k2 k3 k4
/-- the second event, over one closed row -/
theorem rs_take2 {post : Int32 → St2 → Prop} {t l : Nat} {p ec2 K1 : Int32} (hec : ec + 1 = ec2) (ht : t < 64) (hl : l < 4) (hp : rs_A p) (he : ¬ 400 ≤ ec) (h1 : a1 0 = K1) (h2 : a2 0 = 1)
    (H : ∀ b1 b2 b3 b4 b5 : Nat → Int32, rs_row 40 (rs_K (t / 4) l) p b1 b2 b3 b4 → b1 0 = a1 0 → b2 0 = a2 0 → b3 0 = a3 0 → b4 0 = a4 0 → post (if K1 = rs_K (t / 4) l then 2 else 1) (1, 1, ec2, cq, oq, b1, b2, b3, b4, b5, a6, a7, a8)) :
    wpX_take post (1, 0, ec, cq, oq, a1, a2, a3, a4, a5, a6, a7, a8) (nI t) (nI l) 2 p := by
  by_cases c : K1 = rs_K (t / 4) l
  · rw [if_pos c] at H
    exact rs_take_old hec ht hl hp he (fun ψ g => rs_closed1 h1 (fun _ => g) (fun z => absurd c z)) h2 H
  · rw [if_neg c] at H
    exact rs_take_new hec ht hl hp (by decide) he (fun ψ g => rs_closed1 h1 (fun z => absurd z c) (fun _ => g)) H
/-! index -/
theorem rs_ix23 {post : St2 → Prop}
    (H : ∀ b7 b8 : Nat → Int64, (∀ j, j < 4 → b7 j = 0) → (∀ j, j < 4 → b8 j = 0) → ∃ fu, wX_index_50 post cr ow ec cq oq fu 0 a1 a2 a3 a4 a5 a6 b7 b8) :
    ∃ fu, wX_index_23 post cr ow ec cq oq fu 0 a1 a2 a3 a4 a5 a6 a7 a8 :=
  pk_loop (σ := (Nat → Int64) × (Nat → Int64)) (fun n i s => wX_index_23 post cr ow ec cq oq n (nI i) a1 a2 a3 a4 a5 a6 s.1 s.2) (fun i s => (∀ j, j < i → s.1 j = 0) ∧ (∀ j, j < i → s.2 j = 0)) 4 0 (a7, a8) (by omega) ⟨fun j hj => absurd hj (by omega), fun j hj => absurd hj (by omega)⟩
    (fun n s h => pk_le 4 4 (fun _ => H s.1 s.2 h.1 h.2) (fun z => absurd z (by omega)))
    (fun n i s hi h hw => pk_le 4 i (fun z => absurd z (by omega)) (fun _ => ⟨pk_in i 4 hi, nm_e ⟨pk_in i 4 hi, nm_e (nm_r (nI_1 i) (hw (_, _) ⟨rs_fillL (nI_clamp (by omega)) h.1, rs_fillL (nI_clamp (by omega)) h.2⟩))⟩⟩))
theorem rs_index {post : St2 → Prop}
    (H : ∀ b6 b7 b8 : Nat → Int64, (∀ j, j < 16 → b6 j = 0) → (∀ j, j < 4 → b7 j = 0) → (∀ j, j < 4 → b8 j = 0) → ∃ fu, wX_index_50 post cr ow ec cq oq fu 0 a1 a2 a3 a4 a5 b6 b7 b8) :
    wpX_index post (cr, ow, ec, cq, oq, a1, a2, a3, a4, a5, a6, a7, a8) :=
  pk_loop (fun n i s => wX_index_2 post cr ow ec cq oq n (nI i) a1 a2 a3 a4 a5 s a7 a8) (fun i s => ∀ j, j < i → s j = 0) 16 0 a6 (by omega) (fun j hj => absurd hj (by omega))
    (fun n s h => pk_le 16 16 (fun _ => rs_ix23 (fun b7 b8 h7 h8 => H s b7 b8 h h7 h8)) (fun z => absurd z (by omega)))
    (fun n i s hi h hw => pk_le 16 i (fun z => absurd z (by omega)) (fun _ => ⟨pk_in i 16 hi, nm_e (nm_r (nI_1 i) (hw _ (rs_fillL (nI_clamp (by omega)) h)))⟩))
/-- with no closed row: any tables -/
theorem rs_index0 {post : St2 → Prop} (H : ∀ b6 b7 b8 : Nat → Int64, post (0, ow, ec, cq, oq, a1, a2, a3, a4, a5, b6, b7, b8)) : wpX_index post (0, ow, ec, cq, oq, a1, a2, a3, a4, a5, a6, a7, a8) :=
  rs_index (fun b6 b7 b8 _ _ _ => ⟨0 + 1, br_t (by decide) (H b6 b7 b8)⟩)
/-- with one closed row -/
theorem rs_index1 {post : St2 → Prop} {h l : Nat} (hh : h < 16) (hl : l < 4) (h1 : a1 0 = rs_K h l)
    (H : ∀ b6 b7 b8 : Nat → Int64, (∀ j, j < 16 → b6 j = if j = h then 1 else 0) → (∀ j, j < 4 → b7 j = if j = l then 1 else 0) → (∀ j, j < 4 → b8 j = if j = 2 then 1 else 0) → post (1, ow, ec, cq, oq, a1, a2, a3, a4, a5, b6, b7, b8)) :
    wpX_index post (1, ow, ec, cq, oq, a1, a2, a3, a4, a5, a6, a7, a8) := by
  refine rs_index (fun b6 b7 b8 h6 h7 h8 => ⟨0 + 1 + 1, br_f (by decide) (nm_r (e' := 1) (by decide +kernel) ?_)⟩)
  have k1 : a1 (0 : Int32).toNatClampNeg = rs_K h l := by rw [rs_c0]; exact h1
  refine ⟨pk_in 0 80 (by omega), rs_hour k1 hh hl ⟨pk_in 0 80 (by omega), rs_place k1 hh hl ⟨pk_in 0 80 (by omega), rs_kind k1 hh hl ⟨pk_in h 16 hh, pk_in h 16 hh, nm_e ⟨pk_in l 4 hl, pk_in l 4 hl, nm_e ⟨pk_in 2 4 (by omega), pk_in 2 4 (by omega), nm_e (nm_r (e' := 1) (by decide) (br_t (by decide) ?_))⟩⟩⟩⟩⟩⟩
  exact H _ _ _ (rs_one (nI_clamp (by omega)) h6 hh) (rs_one (nI_clamp (by omega)) h7 hl) (rs_one (pk_cl 2) h8 (by omega))
/-! seal -/
theorem rs_s121 {post : St2 → Prop} {J : Int32 → Int32 → Int32 → Int32 → Int64 → Int64 → (Nat → Int32) → (Nat → Int32) → (Nat → Int32) → (Nat → Int32) → (Nat → Int32) → (Nat → Int64) → (Nat → Int64) → (Nat → Int64) → Prop} {z0 p : Int32} (hz : vp_nar .byte z0 = p)
    (H : ∀ b4 b5 : Nat → Int32, b4 0 = p → J 41 cr ow ec cq oq a1 a2 a3 b4 b5 a6 a7 a8) :
    wX_seal_121 post J 40 0 z0 0 cr ow ec cq oq a1 a2 a3 a4 a5 a6 a7 a8 := by
  refine ⟨pk_in 0 80 (by omega), fun b4 e4 => ?_⟩
  rw [rs_c0, hz] at e4
  have h1 : b4 0 = p := by rw [e4]; exact pk_us
  exact ⟨pk_in 40 80 (by omega), pk_in 0 80 (by omega), br_c (fun _ => ⟨pk_in 0 80 (by omega), pk_in 0 80 (by omega), nm_e (nm_r (e' := 41) (by decide) (H b4 _ h1))⟩) (fun _ => ⟨pk_in 40 80 (by omega), pk_in 0 80 (by omega), nm_e (nm_r (e' := 41) (by decide) (H b4 _ h1))⟩)⟩
theorem rs_s55 {post : St2 → Prop} {J : Int32 → Int32 → Int32 → Int32 → Int64 → Int64 → (Nat → Int32) → (Nat → Int32) → (Nat → Int32) → (Nat → Int32) → (Nat → Int32) → (Nat → Int64) → (Nat → Int64) → (Nat → Int64) → Prop} {p : Int32} (hp : rs_A p)
    (h2 : a2 0 = 0) (h3 : a3 0 = 0) (h4 : a4 0 = 100) (g2 : a2 40 = 1) (g3 : a3 40 = p) (g4 : a4 40 = p)
    (H : ∀ b2 b3 b4 b5 : Nat → Int32, b2 0 = 1 → b3 0 = p → b4 0 = p → J 41 cr ow ec cq oq a1 b2 b3 b4 b5 a6 a7 a8) :
    wX_seal_55 post J 40 0 cr ow ec cq oq a1 a2 a3 a4 a5 a6 a7 a8 := by
  refine ⟨pk_in 0 80 (by omega), pk_in 40 80 (by omega), pk_in 0 80 (by omega), fun b2 e2 => ⟨pk_in 0 80 (by omega), pk_in 40 80 (by omega), pk_in 0 80 (by omega), fun b3 e3 => ⟨pk_in 40 80 (by omega), pk_in 0 80 (by omega), ?_⟩⟩⟩
  rw [rs_c0, rs_c40, h2, g2] at e2
  rw [rs_c0, rs_c40, h3, g3] at e3
  rw [rs_c0, rs_c40, h4, g4]
  have f2 : b2 0 = 1 := by rw [e2, pk_us]; decide +kernel
  have f3 : b3 0 = p := by rw [e3, pk_us]; grind
  exact br_c (fun z => ⟨pk_in 0 80 (by omega), rs_s121 (p := p) (by rw [vp_nar_byte, rs_A_top hp z]; decide +kernel) (fun b4 b5 f4 => H b2 b3 b4 b5 f2 f3 f4)⟩)
    (fun _ => ⟨pk_in 40 80 (by omega), rs_s121 (p := p) (by rw [vp_nar_byte]; exact rs_A_8 hp) (fun b4 b5 f4 => H b2 b3 b4 b5 f2 f3 f4)⟩)
theorem rs_seal {post : St2 → Prop} {h l : Nat} {p : Int32} (hh : h < 16) (hl : l < 4) (hp : rs_A p) (w : rs_row 40 (rs_K h l) p a1 a2 a3 a4)
    (H : ∀ (b1 b2 b3 b4 b5 : Nat → Int32) (b6 b7 b8 : Nat → Int64), rs_row 0 (rs_K h l) p b1 b2 b3 b4 → (∀ j, j < 16 → b6 j = if j = h then 1 else 0) → (∀ j, j < 4 → b7 j = if j = l then 1 else 0) → (∀ j, j < 4 → b8 j = if j = 2 then 1 else 0) → post (1, 0, ec, cq, oq, b1, b2, b3, b4, b5, b6, b7, b8)) :
    wpX_seal post (0, 1, ec, cq, oq, a1, a2, a3, a4, a5, a6, a7, a8) := by
  obtain ⟨w1, w2, w3, w4⟩ := w
  refine ⟨0 + 1 + 1, br_f (by decide) ⟨pk_in 40 80 (by omega), rs_closed0 (br_f (by decide) ⟨pk_in 40 80 (by omega), ?_⟩)⟩⟩
  refine ⟨pk_in 0 80 (by omega), fun c1 e1 => ⟨pk_in 0 80 (by omega), fun c2 e2 => ⟨pk_in 0 80 (by omega), fun c3 e3 => ⟨pk_in 0 80 (by omega), fun c4 e4 => ⟨pk_in 0 80 (by omega), fun c5 e5 => nm_r (e' := 1) (by decide) ?_⟩⟩⟩⟩⟩
  rw [rs_c0, rs_c40, w1, rs_K16 h hh l hl] at e1
  rw [rs_c0] at e2 e3 e4
  have g1 : c1 0 = rs_K h l := by rw [e1]; exact pk_us
  have g2 : c2 0 = 0 := by rw [e2]; exact pk_us
  have k2 : c2 40 = 1 := by rw [e2, pk_un (by decide)]; exact w2
  have g3 : c3 0 = 0 := by rw [e3]; exact pk_us
  have k3 : c3 40 = p := by rw [e3, pk_un (by decide)]; exact w3
  have g4 : c4 0 = 100 := by rw [e4]; exact pk_us
  have k4 : c4 40 = p := by rw [e4, pk_un (by decide)]; exact w4
  refine rs_s55 hp g2 g3 g4 k2 k3 k4 (fun b2 b3 b4 b5 f2 f3 f4 => ?_)
  refine br_t (by decide) (rs_index1 hh hl g1 (fun b6 b7 b8 h6 h7 h8 => ?_))
  exact H c1 b2 b3 b4 b5 b6 b7 b8 ⟨g1, f2, f3, f4⟩ h6 h7 h8
end
end
section
/-! the methods that ask: select, passing, sumOf, bestOf, top, gaps, least, sumFor; and forget -/
theorem rs_passes {post : Int32 → Prop} {x : Int32} {h l : Nat} (hx : x = rs_K h l) (hh : h < 16) (hl : l < 4) (H : post 1) : wpX_passes post () 246015 x :=
  rs_hour hx hh hl (rs_place hx hh hl (br_f (rs_F1 l hl) (rs_kind hx hh hl (br_f (by decide +kernel) (nm_r (e' := 0) (by decide +kernel) (br_t (by decide +kernel) (br_f (by decide) (br_f (by decide) (br_f (rs_F2 h hh) (br_f (rs_F3 h hh) (br_f (by decide) (br_t rfl H)))))))))))) 
theorem rs_n10 : ¬ (1 : Int32) = 0 := by decide
section
variable {cr ow ec : Int32} {cq oq : Int64} {a1 a2 a3 a4 a5 : Nat → Int32} {a6 a7 a8 : Nat → Int64}
theorem rs_sel92 {post : St2 → Prop} {h : Nat} (hh : h < 16) (h6 : ∀ j, j < 16 → a6 j = if j = h then 1 else 0) (H : post (cr, ow, ec, 1, oq, a1, a2, a3, a4, a5, a6, a7, a8)) :
    ∃ fu, wX_selectClosed_92 post 246015 1 1 15 cr ow ec cq oq a1 a2 a3 a4 a5 a6 a7 a8 fu 0 0 := by
  refine pk_loop (fun n i s => wX_selectClosed_92 post 246015 1 1 15 cr ow ec cq oq a1 a2 a3 a4 a5 a6 a7 a8 n s (nI i)) (fun i s => s = if i ≤ h then 0 else 1) 16 0 0 (by omega) ?_ (fun n s hs => ?_) (fun n i s hi hs hw => ?_)
  · show (0 : Int64) = if 0 ≤ h then 0 else 1
    rw [if_pos (by omega)]
  · have hs' : s = if 16 ≤ h then 0 else 1 := hs
    rw [if_neg (by omega)] at hs'
    subst hs'
    exact pk_lt 15 16 (fun _ => nm_r (e' := 0) (by decide +kernel) (br_t (by decide) (br_f (by decide) (nm_r (e' := 1) (by decide +kernel) H)))) (fun z => absurd z (by omega))
  · have hs' : s = if i ≤ h then 0 else 1 := hs
    refine pk_lt 15 i (fun z => absurd z (by omega)) (fun _ => ⟨pk_in i 16 hi, nm_e (nm_r (nI_1 i) (hw _ ?_))⟩)
    show s ||| a6 (nI i).toNatClampNeg = if i + 1 ≤ h then 0 else 1
    rw [nI_clamp (by omega), h6 i hi, hs']
    rcases Nat.lt_trichotomy i h with z | z | z
    · rw [if_pos (by omega), if_neg (by omega), if_pos (by omega)]
      decide +kernel
    · rw [if_pos (by omega), if_pos z, if_neg (by omega)]
      decide +kernel
    · rw [if_neg (by omega), if_neg (by omega), if_neg (by omega)]
      decide +kernel
theorem rs_selT : ∀ i, i < 4 → ((if i ≤ 1 then (0 : Int64) else 1) ||| (if i = 1 then 1 else 0) = if i + 1 ≤ 1 then 0 else 1) ∧ ((if i ≤ 2 then (0 : Int64) else 1) ||| (if i = 2 then 1 else 0) = if i + 1 ≤ 2 then 0 else 1) := by decide +kernel
theorem rs_selC {post : St2 → Prop} {h : Nat} (hh : h < 16) (h6 : ∀ j, j < 16 → a6 j = if j = h then 1 else 0) (h7 : ∀ j, j < 4 → a7 j = if j = 1 then 1 else 0) (h8 : ∀ j, j < 4 → a8 j = if j = 2 then 1 else 0)
    (H : post (cr, ow, ec, 1, oq, a1, a2, a3, a4, a5, a6, a7, a8)) : wpX_selectClosed post (cr, ow, ec, cq, oq, a1, a2, a3, a4, a5, a6, a7, a8) 246015 := by
  refine pk_loop (σ := Int64 × Int64) (fun n i s => wX_selectClosed_11 post 246015 0 cr ow ec cq oq a1 a2 a3 a4 a5 a6 a7 a8 n s.1 s.2 (nI i)) (fun i s => s = (if i ≤ 1 then 0 else 1, if i ≤ 2 then 0 else 1)) 4 0 (0, 0) (by omega) rfl (fun n s hs => ?_) (fun n i s hi hs hw => ?_)
  · have hs' : s = (1, 1) := hs
    subst hs'
    exact pk_le 4 4 (fun _ => nm_r (e' := 0) (by decide +kernel) (nm_r (e' := 15) (by decide +kernel) (rs_sel92 hh h6 H))) (fun z => absurd z (by omega))
  · have hs' : s = (if i ≤ 1 then 0 else 1, if i ≤ 2 then 0 else 1) := hs
    refine pk_le 4 i (fun z => absurd z (by omega)) (fun _ => br_f (rs_F1 i hi) ⟨pk_in i 4 hi, nm_e (br_f (rs_F1k i hi) ⟨pk_in i 4 hi, nm_e (nm_r (nI_1 i) (hw (_, _) ?_))⟩)⟩)
    show (s.1 ||| a7 (nI i).toNatClampNeg, s.2 ||| a8 (nI i).toNatClampNeg) = (if i + 1 ≤ 1 then 0 else 1, if i + 1 ≤ 2 then 0 else 1)
    rw [nI_clamp (by omega), h7 i hi, h8 i hi, hs']
    show ((if i ≤ 1 then (0 : Int64) else 1) ||| (if i = 1 then 1 else 0), (if i ≤ 2 then (0 : Int64) else 1) ||| (if i = 2 then 1 else 0)) = _
    rw [(rs_selT i hi).1, (rs_selT i hi).2]
theorem rs_select {post : Int32 → St2 → Prop} {h i l : Nat} (hh : h < 16) (hi : i < 16) (hl : l < 4) (h6 : ∀ j, j < 16 → a6 j = if j = h then 1 else 0) (h7 : ∀ j, j < 4 → a7 j = if j = 1 then 1 else 0) (h8 : ∀ j, j < 4 → a8 j = if j = 2 then 1 else 0) (h1 : a1 40 = rs_K i l)
    (H : post 1 (1, 1, ec, 1, 1, a1, a2, a3, a4, a5, a6, a7, a8)) : wpX_select post (1, 1, ec, cq, oq, a1, a2, a3, a4, a5, a6, a7, a8) 246015 := by
  refine br_f (by decide) (br_f (by decide) (br_f (by decide) (rs_selC hh h6 h7 h8 ⟨0 + 1 + 1, br_f (by decide) ⟨pk_in 40 80 (by omega), ?_⟩⟩)))
  have e : a1 ((40 : Int32) + 0).toNatClampNeg = rs_K i l := by
    rw [show ((40 : Int32) + 0).toNatClampNeg = 40 by decide +kernel]
    exact h1
  exact rs_passes e hi hl (br_f (by decide) (nm_r (e' := 1) (by decide +kernel) (nm_r (e' := 1) (by decide) (br_t (by decide) H))))
/-! the rows that pass: 0 and 40 -/
theorem rs_pass0 {post : Int32 → Prop} (H : post 1) : wpX_passing post (1, 1, ec, 1, 1, a1, a2, a3, a4, a5, a6, a7, a8) 0 :=
  br_f (by decide) (br_f (by decide) (br_f (by decide +kernel) H))
theorem rs_pass40 {post : Int32 → Prop} (H : post 1) : wpX_passing post (1, 1, ec, 1, 1, a1, a2, a3, a4, a5, a6, a7, a8) 40 :=
  br_t (by decide) (br_f (by decide) (br_f (by decide +kernel) H))
theorem rs_passN {post : Int32 → Prop} {r : Nat} (hr : r < 80) (r0 : r ≠ 0) (r4 : r ≠ 40) (H : post 0) : wpX_passing post (1, 1, ec, 1, 1, a1, a2, a3, a4, a5, a6, a7, a8) (nI r) :=
  pk_le 40 r (fun _ => pk_le 41 r (fun _ => H) (fun z => absurd z (by omega))) (fun _ => pk_le 1 r (fun _ => H) (fun z => absurd z (by omega)))
theorem rs_sumOf {post : Int32 → Prop} {K1 K2 by' v g1 g2 p q : Int32} (h1 : a1 0 = K1) (h2 : a1 40 = K2) (s1 : a3 0 = p) (s2 : a3 40 = q)
    (G1 : ∀ ψ : Int32 → Prop, ψ g1 → wpX_part ψ () K1 by') (G2 : ∀ ψ : Int32 → Prop, ψ g2 → wpX_part ψ () K2 by')
    (H : post (rs_sum g1 g2 v p q)) : wpX_sumOf post (1, 1, ec, 1, 1, a1, a2, a3, a4, a5, a6, a7, a8) by' v := by
  refine rs_rows (σ := Int32 × Int32) (fun n i s => wX_sumOf_8 post by' v 1 1 ec 1 1 a1 a2 a3 a4 a5 a6 a7 a8 n s.1 s.2 (nI i)) (0, 0) (if g1 = v then (1, 0 + p) else (0, 0)) (if g2 = v then (1, (if g1 = v then ((1 : Int32), 0 + p) else (0, 0)).2 + q) else (if g1 = v then (1, 0 + p) else (0, 0)))
    (fun n => ?_) (fun n hw => ?_) (fun n hw => ?_) (fun n i s hi i0 i4 hw => ?_)
  · refine pk_le 80 80 (fun _ => ?_) (fun z => absurd z (by omega))
    unfold rs_sum at H
    by_cases c1 : g1 = v
    · rw [if_pos c1] at H ⊢
      by_cases c2 : g2 = v
      · rw [if_pos c2] at H ⊢
        refine br_f rs_n10 ?_
        show post (0 + p + q)
        rw [Int32.zero_add]
        exact H
      · rw [if_neg c2] at H ⊢
        refine br_f rs_n10 ?_
        show post (0 + p)
        rw [Int32.zero_add]
        exact H
    · rw [if_neg c1] at H ⊢
      by_cases c2 : g2 = v
      · rw [if_pos c2] at H ⊢
        refine br_f rs_n10 ?_
        show post (0 + q)
        rw [Int32.zero_add]
        exact H
      · rw [if_neg c2] at H ⊢
        exact br_t rfl H
  · refine br_f (by decide) (rs_pass0 (br_f (by decide) ⟨pk_in 0 80 (by omega), ?_⟩))
    rw [show a1 (nI 0).toNatClampNeg = K1 from by rw [nI_0, rs_c0]; exact h1]
    refine G1 _ ?_
    by_cases c1 : g1 = v
    · rw [if_pos c1] at hw
      refine br_t c1 ⟨pk_in 0 80 (by omega), nm_r (e' := 0 + p) ?_ (nm_r (nI_1 0) hw)⟩
      show 0 + a3 (nI 0).toNatClampNeg = 0 + p
      rw [nI_0, rs_c0, s1]
    · rw [if_neg c1] at hw
      exact br_f c1 (nm_r (nI_1 0) hw)
  · refine br_f (by decide) (rs_pass40 (br_f (by decide) ⟨pk_in 40 80 (by omega), ?_⟩))
    rw [show a1 (nI 40).toNatClampNeg = K2 from by rw [nI_clamp (by omega)]; exact h2]
    refine G2 _ ?_
    by_cases c2 : g2 = v
    · rw [if_pos c2] at hw
      refine br_t c2 ⟨pk_in 40 80 (by omega), nm_r (e' := (if g1 = v then ((1 : Int32), 0 + p) else (0, 0)).2 + q) ?_ (nm_r (nI_1 40) hw)⟩
      rw [nI_clamp (by omega), s2]
    · rw [if_neg c2] at hw
      exact br_f c2 (nm_r (nI_1 40) hw)
  · exact pk_le 80 i (fun z => absurd z (by omega)) (fun _ => rs_passN hi i0 i4 (br_t rfl (nm_r (nI_1 i) hw)))
theorem rs_part0 {post : Int32 → Prop} {h l : Nat} (hh : h < 16) (hl : l < 4) (H : post (nI h)) : wpX_part post () (rs_K h l) 0 :=
  br_t rfl (rs_hour rfl hh hl H)
theorem rs_part1 {post : Int32 → Prop} {h l : Nat} (hh : h < 16) (hl : l < 4) (H : post (nI l)) : wpX_part post () (rs_K h l) 1 :=
  br_f (by decide) (br_t rfl (rs_place rfl hh hl H))
theorem rs_b36 {post : Int32 → Prop} {J : Int32 → Int32 → Int32 → Prop} {x1 x2 : Int32} {s : Int32 × Int32} {v : Nat} {z : Int32} (H : J (rs_bst s (nI v) z).1 (rs_bst s (nI v) z).2 (nI (v + 1))) :
    wX_bestOf_36 post J x1 x2 s.1 s.2 (nI v) z cr ow ec cq oq a1 a2 a3 a4 a5 a6 a7 a8 := by
  unfold rs_bst at H
  refine br_c (fun c => nm_r (nI_1 v) ?_) (fun c => br_c (fun d => nm_r (nI_1 v) ?_) (fun d => br_c (fun e => nm_r (nI_1 v) ?_) (fun e => nm_r (nI_1 v) ?_)))
  · rw [if_pos c] at H
    exact H
  · rw [if_neg c, if_pos d] at H
    exact H
  · rw [if_neg c, if_neg d, if_pos e] at H
    exact H
  · rw [if_neg c, if_neg d, if_neg e] at H
    exact H
theorem rs_bestOf {post : Int32 → Prop} {h i l m : Nat} {p q : Int32} (hh : h < 16) (hi : i < 16) (hl : l < 4) (hm : m < 4) (hp : rs_A p) (hq : rs_A q) (w : rs_row 0 (rs_K h l) p a1 a2 a3 a4) (w' : rs_row 40 (rs_K i m) q a1 a2 a3 a4)
    (H : post (rs_first h i p q)) : wpX_bestOf post (1, 1, ec, 1, 1, a1, a2, a3, a4, a5, a6, a7, a8) 0 0 := by
  obtain ⟨w1, w2, w3, w4⟩ := w
  obtain ⟨u1, u2, u3, u4⟩ := w'
  refine pk_loop (σ := Int32 × Int32) (fun n v s => wX_bestOf_8 post 0 0 1 1 ec 1 1 a1 a2 a3 a4 a5 a6 a7 a8 n s.1 s.2 (nI v)) (fun v s => s = rs_bf (fun v => rs_sum (nI h) (nI i) (nI v) p q) v) 16 0 (-1, 0) (by omega) rfl (fun n s hs => ?_) (fun n v s hv hs hw => ?_)
  · have hs' : s = rs_bf (fun v => rs_sum (nI h) (nI i) (nI v) p q) 16 := hs
    refine pk_le 16 16 (fun _ => ?_) (fun z => absurd z (by omega))
    rw [hs', rs_best hh hi hp hq]
    exact H
  · refine pk_le 16 v (fun z => absurd z (by omega)) (fun _ => br_t (rs_b0 v hv) ?_)
    refine rs_sumOf w1 u1 w3 u3 (fun ψ H => rs_part0 hh hl H) (fun ψ H => rs_part0 hi hm H) (rs_b36 (hw (rs_bst s (nI v) (rs_sum (nI h) (nI i) (nI v) p q)) ?_))
    have hs' : s = rs_bf (fun v => rs_sum (nI h) (nI i) (nI v) p q) v := hs
    rw [hs']
    rfl
/-- the state that the questions meet -/
def rs_S (h i l : Nat) (p q : Int32) (a1 a2 a3 a4 : Nat → Int32) (a6 a7 a8 : Nat → Int64) : Prop :=
  rs_row 0 (rs_K h 1) p a1 a2 a3 a4 ∧ rs_row 40 (rs_K i l) q a1 a2 a3 a4 ∧ (∀ j, j < 16 → a6 j = if j = h then 1 else 0) ∧ (∀ j, j < 4 → a7 j = if j = 1 then 1 else 0) ∧ (∀ j, j < 4 → a8 j = if j = 2 then 1 else 0)
theorem rs_top {post : Int32 → St2 → Prop} {h i l : Nat} {p q : Int32} (hh : h < 16) (hi : i < 16) (hl : l < 4) (hp : rs_A p) (hq : rs_A q) (w : rs_S h i l p q a1 a2 a3 a4 a6 a7 a8)
    (hf : 0 ≤ rs_first h i p q) (H : post (rs_first h i p q) (1, 1, ec, 1, 1, a1, a2, a3, a4, a5, a6, a7, a8)) : wpX_top post (1, 1, ec, cq, oq, a1, a2, a3, a4, a5, a6, a7, a8) 246015 0 0 := by
  obtain ⟨w1, w2, w6, w7, w8⟩ := w
  refine br_f (by decide) (br_f (by decide) (br_f (by decide) (rs_select hh hi hl w6 w7 w8 w2.1 (br_f (by decide) ⟨0 + 1 + 1, br_f (by decide) (br_f (by decide) ?_)⟩))))
  exact rs_bestOf hh hi (by omega) hl hp hq w1 w2 (br_t hf (nm_e (nm_r (e' := 1) (by decide) (br_t (by decide) H))))
theorem rs_g88 {post : Int32 → St2 → Prop} {J : Int32 → Int32 → Int32 → Int32 → Prop} {x e : Int32} {s : Int32 × Int32 × Int32} {v : Nat} (H : J (rs_gst x e s).1 (rs_gst x e s).2.1 (rs_gst x e s).2.2 (nI (v + 1))) :
    wX_gaps_88 post J x s.1 s.2.1 s.2.2 (nI v) e cr ow ec cq oq a1 a2 a3 a4 a5 a6 a7 a8 := by
  have H' : J (s.1 + (if e = 0 then 0 else if s.2.2 = 0 then 0 else s.2.1)) (if e = 0 then s.2.1 + 1 else 0) (s.2.2 ||| e) (nI (v + 1)) := H
  refine br_c (fun c => ?_) (fun c => br_c (fun d => ?_) (fun d => ?_))
  · rw [if_pos c, if_pos c] at H'
    exact nm_e (br_t c (nm_e (nm_e (nm_r (nI_1 v) H'))))
  · rw [if_neg c, if_neg c, if_pos d] at H'
    exact nm_e (br_f c (nm_e (nm_r (nI_1 v) H')))
  · rw [if_neg c, if_neg c, if_neg d] at H'
    exact nm_e (br_f c (nm_e (nm_r (nI_1 v) H')))
theorem rs_g67 {post : Int32 → St2 → Prop} {x : Int32} (H : post (rs_gf x 16).1 (cr, ow, ec, cq, oq, a1, a2, a3, a4, a5, a6, a7, a8)) : ∃ fu, wX_gaps_67 post x cr ow ec cq oq a1 a2 a3 a4 a5 a6 a7 a8 fu 0 0 0 0 := by
  refine pk_loop (σ := Int32 × Int32 × Int32) (fun n v s => wX_gaps_67 post x cr ow ec cq oq a1 a2 a3 a4 a5 a6 a7 a8 n s.1 s.2.1 s.2.2 (nI v)) (fun v s => s = rs_gf x v) 16 0 (0, 0, 0) (by omega) rfl (fun n s hs => ?_) (fun n v s hv hs hw => ?_)
  · have hs' : s = rs_gf x 16 := hs
    refine pk_le 16 16 (fun _ => ?_) (fun z => absurd z (by omega))
    rw [hs']
    exact H
  · have hs' : s = rs_gf x v := hs
    have W := hw (rs_gst x (rs_here x v) s) (by rw [hs']; rfl)
    unfold rs_here at W
    refine pk_le 16 v (fun z => absurd z (by omega)) (fun _ => br_c (fun c => ?_) (fun c => ?_))
    · rw [if_pos c] at W
      exact rs_g88 W
    · rw [if_neg c] at W
      exact rs_g88 W
theorem rs_gapsOf {post : Int32 → St2 → Prop} {h i l : Nat} {p q : Int32} (hh : h < 16) (hi : i < 16) (hl : l < 4) (w : rs_S h i l p q a1 a2 a3 a4 a6 a7 a8)
    (H : post (rs_gap h i) (1, 1, ec, 1, 1, a1, a2, a3, a4, a5, a6, a7, a8)) : wpX_gaps post (1, 1, ec, cq, oq, a1, a2, a3, a4, a5, a6, a7, a8) 246015 := by
  obtain ⟨w1, w2, w6, w7, w8⟩ := w
  unfold wpX_gaps
  dsimp only
  refine rs_select hh hi hl w6 w7 w8 w2.1 (br_f (by decide) ?_)
  refine rs_rows (fun n r s => wX_gaps_14 post 1 1 ec 1 1 a1 a2 a3 a4 a5 a6 a7 a8 n s (nI r)) 0 ((0 : Int32) ||| ((1 : Int32) <<< (nI h &&& 31))) (rs_hrs h i) (fun n => ?_) (fun n hw => ?_) (fun n hw => ?_) (fun n r s hr r0 r4 hw => ?_)
  · refine pk_le 80 80 (fun _ => rs_g67 ?_) (fun z => absurd z (by omega))
    rw [rs_gaps h hh i hi]
    exact H
  · refine br_f (by decide) (rs_pass0 (br_f (by decide) ⟨pk_in 0 80 (by omega), rs_hour (h := h) (l := 1) ?_ hh (by omega) (nm_e (nm_e (nm_r (nI_1 0) hw)))⟩))
    rw [nI_0, rs_c0]
    exact w1.1
  · refine br_f (by decide) (rs_pass40 (br_f (by decide) ⟨pk_in 40 80 (by omega), rs_hour (h := i) (l := l) ?_ hi hl (nm_e (nm_e (nm_r (nI_1 40) hw)))⟩))
    rw [nI_clamp (by omega)]
    exact w2.1
  · refine pk_le 80 r (fun z => absurd z (by omega)) (fun _ => rs_passN hr r0 r4 (br_t rfl (nm_r (e' := s) ?_ (nm_r (nI_1 r) hw))))
    exact Int32.or_zero
theorem rs_leastOf {post : Int32 → St2 → Prop} {h i l : Nat} {p q : Int32} (hh : h < 16) (hi : i < 16) (hl : l < 4) (hp : rs_A p) (w : rs_S h i l p q a1 a2 a3 a4 a6 a7 a8)
    (H : post (if p ≤ q then p else q) (1, 1, ec, 1, 1, a1, a2, a3, a4, a5, a6, a7, a8)) : wpX_least post (1, 1, ec, cq, oq, a1, a2, a3, a4, a5, a6, a7, a8) 246015 := by
  obtain ⟨w1, w2, w6, w7, w8⟩ := w
  unfold wpX_least
  dsimp only
  refine rs_select hh hi hl w6 w7 w8 w2.1 ?_
  refine rs_rows (fun n r s => wX_least_12 post 1 1 1 ec 1 1 a1 a2 a3 a4 a5 a6 a7 a8 n s (nI r)) (-1000000) p (if p ≤ q then p else q) (fun n => ?_) (fun n hw => ?_) (fun n hw => ?_) (fun n r s hr r0 r4 hw => ?_)
  · exact pk_le 80 80 (fun _ => H) (fun z => absurd z (by omega))
  · refine br_f (by decide) (br_f (by decide) (rs_pass0 (br_f (by decide) (br_t rfl ⟨pk_in 0 80 (by omega), nm_r (e' := p) ?_ (nm_r (nI_1 0) hw)⟩))))
    rw [nI_0, rs_c0]
    exact w1.2.2.2
  · have e : a4 (nI 40).toNatClampNeg = q := by rw [nI_clamp (by omega)]; exact w2.2.2.2
    refine br_f (by decide) (br_f (by decide) (rs_pass40 (br_f (by decide) (br_f (rs_A_no hp) ⟨pk_in 40 80 (by omega), br_c (fun c => ?_) (fun c => ?_)⟩))))
    · rw [e] at c
      rw [if_pos c] at hw
      exact nm_r (nI_1 40) hw
    · rw [e] at c
      rw [if_neg c] at hw
      exact ⟨pk_in 40 80 (by omega), nm_r e (nm_r (nI_1 40) hw)⟩
  · exact pk_le 80 r (fun z => absurd z (by omega)) (fun _ => br_f (by decide) (rs_passN hr r0 r4 (br_t rfl (nm_r (nI_1 r) hw))))
theorem rs_sumFor {post : Int32 → St2 → Prop} {h i l : Nat} {p q : Int32} (hh : h < 16) (hi : i < 16) (hl : l < 4) (w : rs_S h i l p q a1 a2 a3 a4 a6 a7 a8)
    (H : post (if nI l = 1 then p + q else p) (1, 1, ec, 1, 1, a1, a2, a3, a4, a5, a6, a7, a8)) : wpX_sumFor post (1, 1, ec, cq, oq, a1, a2, a3, a4, a5, a6, a7, a8) 246015 1 1 := by
  obtain ⟨w1, w2, w6, w7, w8⟩ := w
  refine br_f (by decide) (br_f (by decide) (rs_select hh hi hl w6 w7 w8 w2.1 (br_f (by decide) ?_)))
  refine rs_sumOf (g1 := nI 1) (g2 := nI l) w1.1 w2.1 w1.2.2.1 w2.2.2.1 (fun ψ H => rs_part1 hh (by omega) H) (fun ψ H => rs_part1 hi hl H) ?_
  unfold rs_sum
  rw [if_pos (show nI 1 = 1 by decide)]
  exact H
/-! forget -/
theorem rs_keep0 {post : Int32 → St2 → Prop} {h l : Nat} (hh : h < 16) (hl : l < 4) (h1 : a1 0 = rs_K h l) (h2 : a2 0 = 1) (H : post 0 (cr, ow, 1, cq, oq, a1, a2, a3, a4, a5, a6, a7, a8)) :
    wpX_keepOthers post (cr, ow, 2, cq, oq, a1, a2, a3, a4, a5, a6, a7, a8) 0 1 (nI h) := by
  refine ⟨0 + 1 + 1, br_f (by decide) ⟨pk_in 0 80 (by omega), rs_hour (h := h) (l := l) ?_ hh hl (br_t rfl ⟨pk_in 0 80 (by omega), nm_r (e' := 1) ?_ (nm_r (e' := 1) (by decide) (br_t (by decide) H))⟩)⟩⟩
  · rw [rs_c0]
    exact h1
  · rw [rs_c0, h2]
    decide +kernel
theorem rs_keep40 {post : Int32 → St2 → Prop} {h i l : Nat} (hh : h < 16) (hi : i < 16) (hl : l < 4) (h1 : a1 40 = rs_K i l) (h2 : a2 40 = 1)
    (Hy : i = h → post 0 (cr, ow, 0, cq, oq, a1, a2, a3, a4, a5, a6, a7, a8)) (Hn : ¬ i = h → ∀ b1 b2 b3 b4 b5 : Nat → Int32, post 1 (cr, ow, 1, cq, oq, b1, b2, b3, b4, b5, a6, a7, a8)) :
    wpX_keepOthers post (cr, ow, 1, cq, oq, a1, a2, a3, a4, a5, a6, a7, a8) 40 1 (nI h) := by
  refine ⟨0 + 1 + 1, br_f (by decide) ⟨pk_in 40 80 (by omega), rs_hour (h := i) (l := l) ?_ hi hl (pk_eq i h (fun c => ⟨pk_in 40 80 (by omega), nm_r (e' := 0) ?_ (nm_r (e' := 41) (by decide) (br_t (by decide) (Hy c)))⟩) (fun c => nm_r (e' := 40) (by decide) ?_))⟩⟩
  · rw [rs_c40]
    exact h1
  · rw [rs_c40, h2]
    decide +kernel
  · exact ⟨pk_in 40 80 (by omega), pk_in 40 80 (by omega), nm_e ⟨pk_in 40 80 (by omega), pk_in 40 80 (by omega), nm_e ⟨pk_in 40 80 (by omega), pk_in 40 80 (by omega), nm_e ⟨pk_in 40 80 (by omega), pk_in 40 80 (by omega), nm_e ⟨pk_in 40 80 (by omega), pk_in 40 80 (by omega), nm_e (nm_r (e' := 1) (by decide) (nm_r (e' := 41) (by decide) (br_t (by decide) (Hn c _ _ _ _ _))))⟩⟩⟩⟩⟩
theorem rs_forget {post : Int32 → St2 → Prop} {h i l : Nat} {p q x : Int32} (hx : x = nI h) (hh : h < 16) (hi : i < 16) (hl : l < 4) (w : rs_S h i l p q a1 a2 a3 a4 a6 a7 a8)
    (H : ∀ (x1 x2 x3 : Int32) (y1 y2 : Int64) (b1 b2 b3 b4 b5 : Nat → Int32) (b6 b7 b8 : Nat → Int64), post (if h = i then 2 else 1) (x1, x2, x3, y1, y2, b1, b2, b3, b4, b5, b6, b7, b8)) : wpX_forget post (1, 1, 2, 1, 1, a1, a2, a3, a4, a5, a6, a7, a8) x := by
  obtain ⟨w1, w2, w6, w7, w8⟩ := w
  subst hx
  refine br_f (nI_pos (by omega)) (br_t (nI_lt (b := 16) hh (by omega)) (rs_keep0 hh (l := 1) (by omega) w1.1 w1.2.1 (rs_keep40 hh hi hl w2.1 w2.2.1 (fun c => rs_index0 (fun b6 b7 b8 => ?_)) (fun c b1 b2 b3 b4 b5 => rs_index0 (fun b6 b7 b8 => ?_)))))
  · have G := H 0 0 0 1 1 a1 a2 a3 a4 a5 b6 b7 b8
    rw [if_pos c.symm] at G
    show post ((2 : Int32) - 0) _
    rw [show (2 : Int32) - 0 = 2 by decide]
    exact G
  · have G := H 0 1 1 1 1 b1 b2 b3 b4 b5 b6 b7 b8
    rw [if_neg (fun z => c z.symm)] at G
    show post ((2 : Int32) - 1) _
    rw [show (2 : Int32) - 1 = 1 by decide]
    exact G
end
end
section
/-! the law's checks -/
section
variable {post : Int32 → St0 → Prop} {mc ms kc ks : Nat} {p q x10 x12 x13 x14 x15 x16 x17 x18 x21 x22 x23 z0 : Int32}
theorem rs_L250 (H : post 1 ()) (h12 : x12 = if x22 = 0 then 1 else 2) (h13 : x13 = if x22 = 0 then 2 else 1) (h14 : x14 = z0) (h15 : x15 = if x21 = 0 then x23 - 1 else 0) (h16 : x16 = if q ≤ p then q else p) (h17 : x17 = if x10 = 1 then p + q else p) (h18 : x18 = if x21 = 0 then 1 else 2) :
    wL_lawOf_250 post mc ms p q x10 x12 x13 x14 x15 x16 x17 x18 x21 x22 x23 z0 kc ks := by
  have c344 : ∀ y, x17 = y → wL_lawOf_344 post mc ms x18 x21 y x17 kc ks := fun y e => br_t e (br_c (fun c => br_t (by rw [h18, if_pos c]) H) (fun c => br_t (by rw [h18, if_neg c]) H))
  have c323 : ∀ y, x16 = y → wL_lawOf_323 post mc ms p q x10 x17 x18 x21 y x16 kc ks := fun y e => br_t e (br_c (fun c => c344 _ (by rw [h17, if_pos c])) (fun c => c344 _ (by rw [h17, if_neg c])))
  have c304 : ∀ y, x15 = y → wL_lawOf_304 post mc ms p q x10 x16 x17 x18 x21 y x15 kc ks := fun y e => br_t e (br_c (fun c => c323 _ (by rw [h16, if_pos c])) (fun c => c323 _ (by rw [h16, if_neg c])))
  have c279 : ∀ y, x13 = y → wL_lawOf_279 post mc ms p q x10 x14 x15 x16 x17 x18 x21 x23 z0 y x13 kc ks := fun y e => br_t e (br_t h14 (br_c (fun c => c304 _ (by rw [h15, if_pos c])) (fun c => c304 _ (by rw [h15, if_neg c]))))
  have c264 : ∀ y, x12 = y → wL_lawOf_264 post mc ms p q x10 x13 x14 x15 x16 x17 x18 x21 x22 x23 z0 y x12 kc ks := fun y e => br_t e (br_c (fun c => c279 _ (by rw [h13, if_pos c])) (fun c => c279 _ (by rw [h13, if_neg c])))
  exact br_c (fun c => c264 _ (by rw [h12, if_pos c])) (fun c => c264 _ (by rw [h12, if_neg c]))
theorem rs_min (p q : Int32) : (if p ≤ q then p else q) = if q ≤ p then q else p := by
  by_cases c : p ≤ q
  · rw [if_pos c]
    by_cases d : q ≤ p
    · rw [if_pos d]
      rw [Int32.le_iff_toInt_le] at c d
      exact Int32.toInt_inj.mp (by omega)
    · rw [if_neg d]
  · rw [if_neg c, if_pos ?_]
    rw [Int32.le_iff_toInt_le] at c ⊢
    omega
theorem rs_L210 {h i : Nat} (H : post 1 ()) (h21 : x21 = if h = i then 1 else 0) (h12 : x12 = if x22 = 0 then 1 else 2) (h13 : x13 = if x22 = 0 then 2 else 1) (h15 : rs_gap h i = if x21 = 0 then x23 - 1 else 0) :
    wL_lawOf_210 post mc ms p q x10 x12 x13 (rs_first h i p q) (rs_gap h i) (if p ≤ q then p else q) (if x10 = 1 then p + q else p) (if h = i then 2 else 1) (nI h) (nI i) x21 x22 x23 kc ks := by
  have h18 : (if h = i then 2 else 1 : Int32) = if x21 = 0 then 1 else 2 := by
    by_cases e : h = i
    · rw [h21, if_pos e, if_pos e, if_neg (by decide)]
    · rw [h21, if_neg e, if_neg e, if_pos rfl]
  have go : ∀ y, rs_first h i p q = y → wL_lawOf_250 post mc ms p q x10 x12 x13 (rs_first h i p q) (rs_gap h i) (if p ≤ q then p else q) (if x10 = 1 then p + q else p) (if h = i then 2 else 1) x21 x22 x23 y kc ks :=
    fun y e => rs_L250 H h12 h13 e h15 (rs_min p q) rfl h18
  refine br_c (fun c => ?_) (fun c => go _ ?_)
  · have e : ¬ h = i := fun e => by
      rw [h21, if_pos e] at c
      exact absurd c (by decide)
    refine br_c (fun d => go _ ?_) (fun d => br_c (fun f => br_c (fun g => go _ ?_) (fun g => go _ ?_)) (fun f => go _ ?_))
    · unfold rs_first
      rw [if_neg e, if_pos d]
    · unfold rs_first
      rw [if_neg e, if_neg d, if_pos f, if_pos g]
    · unfold rs_first
      rw [if_neg e, if_neg d, if_pos f, if_neg g]
    · unfold rs_first
      rw [if_neg e, if_neg d, if_neg f]
  · have e : h = i := by
      by_cases e : h = i
      · exact e
      · rw [h21, if_neg e] at c
        exact absurd rfl c
    unfold rs_first
    rw [if_pos e]
theorem rs_L188 {h i : Nat} (H : post 1 ()) (h21 : x21 = if h = i then 1 else 0) (h12 : x12 = if x22 = 0 then 1 else 2) (h13 : x13 = if x22 = 0 then 2 else 1) :
    wL_lawOf_188 post mc ms p q x10 x12 x13 (rs_first h i p q) (rs_gap h i) (if p ≤ q then p else q) (if x10 = 1 then p + q else p) (if h = i then 2 else 1) (nI h) (nI i) x21 x22 kc ks := by
  have G : ∀ y, (if nI i ≤ nI h then nI h - nI i else nI i - nI h) = y → rs_gap h i = if x21 = 0 then y - 1 else 0 := by
    intro y ey
    unfold rs_gap
    by_cases e : h = i
    · rw [if_pos e, h21, if_pos e, if_neg (by decide)]
    · rw [if_neg e, h21, if_neg e, if_pos rfl, ey]
  exact br_c (fun c => rs_L210 H h21 h12 h13 (G _ (if_pos c))) (fun c => rs_L210 H h21 h12 h13 (G _ (if_neg c)))
theorem rs_L170 {h i l : Nat} (H : post 1 ()) (hh : h < 16) (hi : i < 16) (hl : l < 4) (h21 : x21 = if h = i then 1 else 0) :
    wL_lawOf_170 post mc ms p q (nI l) (if rs_K h 1 = rs_K i l then 2 else 1) (if rs_K h 1 = rs_K i l then 1 else 2) (rs_first h i p q) (rs_gap h i) (if p ≤ q then p else q) (if nI l = 1 then p + q else p) (if h = i then 2 else 1) (nI h) (nI i) x21 kc ks := by
  have K := rs_Keq (l := 1) hh (by omega) hi hl
  have Z : ¬ rs_K h 1 = rs_K i l → wL_lawOf_187 post mc ms p q (nI l) (if rs_K h 1 = rs_K i l then 2 else 1) (if rs_K h 1 = rs_K i l then 1 else 2) (rs_first h i p q) (rs_gap h i) (if p ≤ q then p else q) (if nI l = 1 then p + q else p) (if h = i then 2 else 1) (nI h) (nI i) x21 kc ks := by
    intro k
    rw [if_neg k, if_neg k]
    exact rs_L188 H h21 (by decide) (by decide)
  refine br_c (fun c => Z (fun k => ?_)) (fun c => pk_eq l 1 (fun e => ?_) (fun e => Z (fun k => e (K.mp k).2.symm)))
  · rw [h21, if_pos (K.mp k).1] at c
    exact absurd c (by decide)
  · have e' : h = i := by
      by_cases e : h = i
      · exact e
      · rw [h21, if_neg e] at c
        exact absurd rfl c
    have k : rs_K h 1 = rs_K i l := K.mpr ⟨e', e.symm⟩
    rw [if_pos k, if_pos k]
    exact rs_L188 H h21 (by decide) (by decide)
end
theorem rs_first_pos {h i : Nat} {p q : Int32} (hh : h < 16) (hi : i < 16) : 0 ≤ rs_first h i p q := by
  have a : 0 ≤ nI h := nI_pos' (by omega)
  have b : 0 ≤ nI i := nI_pos' (by omega)
  unfold rs_first
  by_cases e : h = i
  · rw [if_pos e]
    exact a
  · rw [if_neg e]
    by_cases d : q < p
    · rw [if_pos d]
      exact a
    · rw [if_neg d]
      by_cases f : p = q
      · rw [if_pos f]
        by_cases g : nI i ≤ nI h
        · rw [if_pos g]
          exact b
        · rw [if_neg g]
          exact a
      · rw [if_neg f]
        exact b
theorem rs_amt (x : Int32) : ∃ n, n < 201 ∧ (x &&& 65535) - (x &&& 65535) / 201 * 201 - 100 = nI n - 100 := by
  obtain ⟨k, hk, ek⟩ := pk_andE x (m := 65535) 16 (by decide +kernel)
  refine ⟨k % 201, by omega, ?_⟩
  rw [ek]
  have r : nI k - nI k / 201 * 201 = nI (k % 201) := pk_rem (d := 201) (by omega) (by omega) (by omega)
  rw [r]
theorem rs_lawOf {post : Int32 → St0 → Prop} (p0 p1 p2 p3 p4 : Int32) (H : post 1 ()) : wpL_lawOf post 9 437 () p0 p1 p2 p3 p4 := by
  obtain ⟨t, ht, et⟩ := pk_andE p0 (m := 63) 6 (by decide +kernel)
  obtain ⟨u, hu, eu⟩ := pk_andE p1 (m := 63) 6 (by decide +kernel)
  obtain ⟨l, hl, el⟩ := pk_andE p4 (m := 3) 2 (by decide +kernel)
  obtain ⟨n, hn, en⟩ := rs_amt p2
  obtain ⟨m, hm, em⟩ := rs_amt p3
  have hp : rs_A (nI n - 100) := ⟨n, hn, rfl⟩
  have hq : rs_A (nI m - 100) := ⟨m, hm, rfl⟩
  have hh : t / 4 < 16 := by omega
  have hi : u / 4 < 16 := by omega
  refine ⟨by decide, by decide, 8, 424, by decide, by decide, by decide, by decide, by decide, by decide, by decide, by decide, by decide, by decide, by decide, by decide, by decide, by decide, by decide, by decide, by decide, by decide, ?_⟩
  refine nm_r et (nm_r eu ⟨by decide, nm_r en ⟨by decide, nm_r em (nm_r el ?_)⟩⟩)
  refine rs_take_new (l := 1) (ec2 := 1) (by decide) ht (by omega) hp (by decide) (by decide) (fun ψ g => rs_closed0 g) (fun b1 b2 b3 b4 b5 w _ _ _ _ => ?_)
  refine rs_seal hh (by omega) hp w (fun c1 c2 c3 c4 c5 c6 c7 c8 w' h6 h7 h8 => ?_)
  refine rs_take2 (ec2 := 2) (by decide) hu hl hq (by decide) w'.1 w'.2.1 (fun d1 d2 d3 d4 d5 v k1 k2 k3 k4 => ?_)
  have v0 : rs_row 0 (rs_K (t / 4) 1) (nI n - 100) d1 d2 d3 d4 := ⟨k1.trans w'.1, k2.trans w'.2.1, k3.trans w'.2.2.1, k4.trans w'.2.2.2⟩
  have S : rs_S (t / 4) (u / 4) l (nI n - 100) (nI m - 100) d1 d2 d3 d4 c6 c7 c8 := ⟨v0, v, h6, h7, h8⟩
  refine rs_sorts1 v0.1 v.1 ?_
  refine rs_top hh hi hl hp hq S (rs_first_pos hh hi) ?_
  refine rs_gapsOf hh hi hl S ?_
  refine rs_leastOf hh hi hl hp S ?_
  refine rs_sumFor hh hi hl S ⟨by decide, ?_⟩
  refine rs_forget (rs_q4 t ht) hh hi hl S (fun x1 x2 x3 y1 y2 e1 e2 e3 e4 e5 e6 e7 e8 => ?_)
  refine ⟨by decide, nm_r (rs_q4 t ht) ⟨by decide, nm_r (rs_q4 u hu) (pk_eq (t / 4) (u / 4) (fun e => ?_) (fun e => ?_))⟩⟩
  · exact rs_L170 H hh hi hl (by rw [if_pos e])
  · exact rs_L170 H hh hi hl (by rw [if_neg e])
theorem rs_cell {post : Int32 → Prop} {L : Nat} {xs : Nat → Int32} (k : Nat) (hL : L ≤ 5) (hk : k < 5) (H : ∀ r, post r) : wpL_cellAt post L xs () (nI k) :=
  pk_le L k (fun _ => H 0) (fun z => ⟨pk_in k L z, H _⟩)
end
section
theorem i_vc (xs : Nat → Int32) (L : Nat) (hL : L ≤ 5) : wpL_law (fun r => r = 1) L xs :=
  rs_cell 0 hL (by omega) (fun r1 => rs_cell 1 hL (by omega) (fun r2 => rs_cell 2 hL (by omega) (fun r3 => rs_cell 3 hL (by omega) (fun r4 => rs_cell 4 hL (by omega) (fun r5 => ⟨9, 437, by omega, by omega, rs_lawOf r1 r2 r3 r4 r5 rfl⟩)))))
end
