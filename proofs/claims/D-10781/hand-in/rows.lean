section
/-- bit k of a set of types t, as the code prints it -/
def so_bit (t k : Nat) : Int32 := (nI t >>> (nI k &&& 31)) &&& 1
/-- the conversions after the constructor -/
def so_c0 (j : Nat) : Int32 := if j % 4 = 0 then 0 else -1
/-- what the table of type t adds to the total -/
def so_g (a : Nat → Int32) (w t : Nat) (b : Int32) : Int32 := if w = 3 ∨ ¬ a (3 * t + w) < 0 then b else 0
theorem so_bit01 : ∀ t, t < 8 → ∀ k, k < 3 → so_bit t k = 0 ∨ so_bit t k = 1 := by decide +kernel
theorem so_sum_upd (f : Nat → Int32) (k : Nat) (x : Int32) (n : Nat) : bx_sum (upd f k (f k + x)) n = bx_sum f n + (if k < n then x else 0) := by
  induction n with
  | zero =>
    rw [if_neg (by omega)]
    show (0 : Int32) = 0 + 0
    decide
  | succ n ih =>
    show bx_sum (upd f k (f k + x)) n + upd f k (f k + x) n = bx_sum f n + f n + _
    rw [ih]
    by_cases e : n = k
    · rw [e, pk_us, if_neg (by omega), if_pos (by omega)]
      grind
    · rw [pk_un e]
      by_cases h : k < n
      · rw [if_pos h, if_pos (by omega)]
        grind
      · rw [if_neg h, if_neg (by omega)]
        grind
theorem so_sum_0 {f : Nat → Int32} {n : Nat} (h : ∀ j, j < n → f j = 0) : bx_sum f n = 0 := by
  induction n with
  | zero => rfl
  | succ n ih =>
    show bx_sum f n + f n = 0
    rw [ih (fun j hj => h j (by omega)), h n (by omega)]
    decide
theorem so_sum_1 {f : Nat → Int32} {n : Nat} (h : ∀ j, 0 < j → j < n + 1 → f j = 0) : bx_sum f (n + 1) = f 0 := by
  induction n with
  | zero =>
    show (0 : Int32) + f 0 = f 0
    grind
  | succ n ih =>
    show bx_sum f (n + 1) + f (n + 1) = f 0
    rw [ih (fun j h0 hj => h j h0 (by omega)), h (n + 1) (by omega) (by omega)]
    grind
theorem so_x5 (t : Nat) : ((3 : Int32) * 0 + nI t) * 128 = nI (t * 128) := by
  rw [← pk_mul]
  show _ = nI t * 128
  grind
theorem so_ix (t w : Nat) : (3 : Int32) * nI t + nI w = nI (3 * t + w) := by
  rw [show (3 : Int32) * nI t = nI (3 * t) from pk_mul 3 t, nI_add]
end
section
theorem so_add28 {post : St2 → Prop} {f0 f1 f2 : Int32} {a1 a2 a3 a4 a5 a6 a7 a8 a9 a10 a11 a12 a13 a14 a15 a16 a17 a18 a19 a20 : Nat → Int32} {e p : Nat} (he : e ≤ 9) (hp : p ≤ 384)
    (H : ∀ s : Nat → Int32, bx_sum s 128 = bx_sum a15 128 + bx_sum (fun c => a14 (p + c)) (128 - e) → post (f0, f1, f2, a1, a2, a3, a4, a5, a6, a7, a8, a9, a10, a11, a12, a13, a14, s, a16, a17, a18, a19, a20)) :
    ∃ n, wX_addTable_28 post (nI e) (nI p) f0 f1 f2 n 0 a1 a2 a3 a4 a5 a6 a7 a8 a9 a10 a11 a12 a13 a14 a15 a16 a17 a18 a19 a20 :=
  pk_loop (fun n i s => wX_addTable_28 post (nI e) (nI p) f0 f1 f2 n (nI i) a1 a2 a3 a4 a5 a6 a7 a8 a9 a10 a11 a12 a13 a14 s a16 a17 a18 a19 a20) (fun i s => bx_sum s 128 = bx_sum a15 128 + bx_sum (fun c => a14 (p + c)) i) (128 - e) 0 a15 (by omega)
    (by show bx_sum a15 128 = bx_sum a15 128 + 0; grind)
    (fun n s h => pk_le 128 (128 - e + e) (fun _ => H s h) (fun z => absurd z (by omega)) rfl (nI_add _ _))
    (fun n i s hi h hw => pk_le 128 (i + e) (fun z => absurd z (by omega)) (fun _ => ⟨pk_in (i + e) 128 (by omega) (nI_add _ _), pk_in (p + i) 4608 (by omega) (nI_add _ _), pk_in (i + e) 128 (by omega) (nI_add _ _), nm_e (nm_r (nI_1 i) (hw _ (by
      show bx_sum (upd s (nI i + nI e).toNatClampNeg (s (nI i + nI e).toNatClampNeg + a14 (nI p + nI i).toNatClampNeg)) 128 = bx_sum a15 128 + (bx_sum (fun c => a14 (p + c)) i + a14 (p + i))
      rw [pk_cl (i + e) (nI_add _ _), pk_cl (p + i) (nI_add _ _), so_sum_upd, if_pos (by omega), h]
      grind)))⟩) rfl (nI_add _ _))
theorem so_addTable {post : St2 → Prop} {f0 f1 f2 : Int32} {a1 a2 a3 a4 a5 a6 a7 a8 a9 a10 a11 a12 a13 a14 a15 a16 a17 a18 a19 a20 : Nat → Int32} {t w : Nat} (ht : t < 3) (hw : w ≤ 3)
    (ho : w ≠ 3 → a1 (3 * t + w) < 0 ∨ ∃ e : Nat, e ≤ 9 ∧ a1 (3 * t + w) = nI e)
    (hz : ∀ c, 0 < c → c < 128 → a14 (t * 128 + c) = 0)
    (H : ∀ s : Nat → Int32, bx_sum s 128 = bx_sum a15 128 + so_g a1 w t (a14 (t * 128)) → post (f0, f1, f2, a1, a2, a3, a4, a5, a6, a7, a8, a9, a10, a11, a12, a13, a14, s, a16, a17, a18, a19, a20)) :
    wpX_addTable post (f0, f1, f2, a1, a2, a3, a4, a5, a6, a7, a8, a9, a10, a11, a12, a13, a14, a15, a16, a17, a18, a19, a20) 0 (nI t) (nI w) := by
  have key : ∀ e : Nat, e ≤ 9 → so_g a1 w t (a14 (t * 128)) = a14 (t * 128) → ∃ n, wX_addTable_28 post (nI e) (nI (t * 128)) f0 f1 f2 n 0 a1 a2 a3 a4 a5 a6 a7 a8 a9 a10 a11 a12 a13 a14 a15 a16 a17 a18 a19 a20 := by
    intro e he hg
    refine so_add28 he (by omega) (fun s hs => H s ?_)
    rw [hs, hg, show 128 - e = (127 - e) + 1 by omega, so_sum_1 (fun j h0 hj => hz j h0 (by omega))]
    rfl
  unfold wpX_addTable
  dsimp only
  unfold wpX_conversionCost
  dsimp only
  refine pk_eq w 3 (fun z => ?_) (fun z => ⟨pk_in (3 * t + w) 9 (by omega) (so_ix t w), ?_⟩)
  · exact br_t (by decide) (nm_r (so_x5 t) (key 0 (by omega) (if_pos (Or.inl z))))
  · rw [pk_cl (3 * t + w) (so_ix t w)]
    rcases ho z with h | ⟨e, he, h⟩
    · refine br_f ?_ (H a15 ?_)
      · intro h0
        rw [Int32.le_iff_toInt_le] at h0
        rw [Int32.lt_iff_toInt_lt] at h
        omega
      · rw [show so_g a1 w t (a14 (t * 128)) = 0 from if_neg (fun o => o.elim (fun y => z y) (fun y => y h))]
        grind
    · rw [h]
      refine br_t (nI_pos' (by omega)) (nm_r (so_x5 t) (key e he (if_pos (Or.inr ?_))))
      rw [h]
      exact nI_pos (by omega)
end
section
theorem so_0i (i : Nat) : (0 : Int32) + nI i = nI i := by
  rw [Int32.zero_add]
theorem so_at (i : Nat) (b : Int32) (h : b = 0) : ((0 : Int32) + nI i * 128) + b = nI (i * 128) := by
  rw [h, show nI i * 128 = nI (i * 128) from pk_mul i 128, Int32.zero_add, Int32.add_zero]
theorem so_fz {s : Nat → Int32} {i : Nat} (h : ∀ j, j < i → s j = 0) : ∀ j, j < i + 1 → upd s i 0 j = 0 := by
  intro j hj
  by_cases e : j = i
  · rw [e, pk_us]
  · rw [pk_un e]
    exact h j (by omega)
theorem so_fb {s : Nat → Int32} {t i : Nat} (hb : so_bit t i = 1) (h : ∀ j, j < 384 → s j = if j % 128 = 0 ∧ j / 128 < i then so_bit t (j / 128) else 0) :
    ∀ j, j < 384 → upd s (i * 128) 1 j = if j % 128 = 0 ∧ j / 128 < i + 1 then so_bit t (j / 128) else 0 := by
  intro j hj
  by_cases e : j = i * 128
  · rw [e, pk_us, if_pos ⟨by omega, by omega⟩, show i * 128 / 128 = i by omega, hb]
  · rw [pk_un e, h j hj]
    by_cases g : j % 128 = 0 ∧ j / 128 < i
    · rw [if_pos g, if_pos ⟨g.1, by omega⟩]
    · rw [if_neg g, if_neg (by omega)]
theorem so_fn {s : Nat → Int32} {t i : Nat} (hb : so_bit t i = 0) (h : ∀ j, j < 384 → s j = if j % 128 = 0 ∧ j / 128 < i then so_bit t (j / 128) else 0) :
    ∀ j, j < 384 → s j = if j % 128 = 0 ∧ j / 128 < i + 1 then so_bit t (j / 128) else 0 := by
  intro j hj
  by_cases e : j = i * 128
  · rw [h j hj, if_neg (by omega), if_pos ⟨by omega, by omega⟩, e, show i * 128 / 128 = i by omega, hb]
  · rw [h j hj]
    by_cases g : j % 128 = 0 ∧ j / 128 < i
    · rw [if_pos g, if_pos ⟨g.1, by omega⟩]
    · rw [if_neg g, if_neg (by omega)]
theorem so_f3 {s : Nat → Int32} {t : Nat} (h : ∀ j, j < 384 → s j = if j % 128 = 0 ∧ j / 128 < 3 then so_bit t (j / 128) else 0) :
    ∀ j, j < 384 → s j = if j % 128 = 0 then so_bit t (j / 128) else 0 := by
  intro j hj
  rw [h j hj]
  by_cases e : j % 128 = 0
  · rw [if_pos ⟨e, by omega⟩, if_pos e]
  · rw [if_neg (fun o => e o.1), if_neg e]
theorem so_fill43 {post : St2 → Prop} {f0 f1 f2 : Int32} {a1 a2 a3 a4 a5 a6 a7 a8 a9 a10 a11 a12 a13 a14 a15 a16 a17 a18 a19 a20 : Nat → Int32} {t : Nat} (ht : t < 8) (h6 : ∀ j, j < 3 → a6 j = 0) (h8 : a8 0 = nI t) (hz : ∀ j, j < 384 → a14 j = 0)
    (H : ∀ s : Nat → Int32, (∀ j, j < 384 → s j = if j % 128 = 0 then so_bit t (j / 128) else 0) → post (f0, f1, f2, a1, a2, a3, a4, a5, a6, a7, a8, a9, a10, a11, a12, a13, s, a15, a16, a17, a18, a19, a20)) :
    ∃ n, wX_fill_43 post 0 0 f0 f1 f2 n 0 a1 a2 a3 a4 a5 a6 a7 a8 a9 a10 a11 a12 a13 a14 a15 a16 a17 a18 a19 a20 :=
  pk_loop (fun n i s => wX_fill_43 post 0 0 f0 f1 f2 n (nI i) a1 a2 a3 a4 a5 a6 a7 a8 a9 a10 a11 a12 a13 s a15 a16 a17 a18 a19 a20) (fun i s => ∀ j, j < 384 → s j = if j % 128 = 0 ∧ j / 128 < i then so_bit t (j / 128) else 0) 3 0 a14 (by omega)
    (fun j hj => by rw [hz j hj, if_neg (by omega)])
    (fun n s h => pk_le 3 3 (fun _ => H s (so_f3 h)) (fun z => absurd z (by omega)))
    (fun n i s hi h hw => pk_le 3 i (fun z => absurd z (by omega)) (fun _ => ⟨pk_in 0 12 (by omega), by
      have hc : ((a8 (0 : Int32).toNatClampNeg) >>> (nI i &&& 31)) &&& 1 = so_bit t i := by
        rw [sb_cl0, h8]
        rfl
      have ha : ((0 : Int32) + nI i * 128) + a6 (nI i).toNatClampNeg = nI (i * 128) := so_at i _ (by rw [nI_clamp (by omega)]; exact h6 i hi)
      rcases so_bit01 t ht i hi with hb | hb
      · exact br_f (by rw [hc, hb]; decide) (nm_r (nI_1 i) (hw s (so_fn hb h)))
      · exact br_t (by rw [hc, hb]) ⟨pk_in i 3 hi, pk_in (i * 128) 4608 (by omega) ha, nm_e (nm_r (nI_1 i) (hw _ (by rw [pk_cl (i * 128) ha]; exact so_fb hb h)))⟩⟩))
theorem so_fill10 {post : St2 → Prop} {f0 f1 f2 : Int32} {a1 a2 a3 a4 a5 a6 a7 a8 a9 a10 a11 a12 a13 a14 a15 a16 a17 a18 a19 a20 : Nat → Int32} {t : Nat} (ht : t < 8) (h6 : ∀ j, j < 3 → a6 j = 0) (h7 : a7 0 = 0) (h8 : a8 0 = nI t)
    (H : ∀ s : Nat → Int32, (∀ j, j < 384 → s j = if j % 128 = 0 then so_bit t (j / 128) else 0) → post (f0, f1, f2, a1, a2, a3, a4, a5, a6, a7, a8, a9, a10, a11, a12, a13, s, a15, a16, a17, a18, a19, a20)) :
    ∃ n, wX_fill_10 post 0 0 f0 f1 f2 n 0 a1 a2 a3 a4 a5 a6 a7 a8 a9 a10 a11 a12 a13 a14 a15 a16 a17 a18 a19 a20 :=
  pk_loop (fun n i s => wX_fill_10 post 0 0 f0 f1 f2 n (nI i) a1 a2 a3 a4 a5 a6 a7 a8 a9 a10 a11 a12 a13 s a15 a16 a17 a18 a19 a20) (fun i s => ∀ j, j < i → s j = 0) 384 0 a14 (by omega) (fun j hj => absurd hj (by omega))
    (fun n s h => pk_le 384 384 (fun _ => ⟨pk_in 0 12 (by omega), br_t h7 (so_fill43 ht h6 h8 h H)⟩) (fun z => absurd z (by omega)))
    (fun n i s hi h hw => pk_le 384 i (fun z => absurd z (by omega)) (fun _ => ⟨pk_in i 4608 (by omega) (so_0i i), nm_e (nm_r (nI_1 i) (hw _ (by rw [pk_cl i (so_0i i)]; exact so_fz h)))⟩))
theorem so_fillAll {post : St2 → Prop} {f0 f1 f2 : Int32} {a1 a2 a3 a4 a5 a6 a7 a8 a9 a10 a11 a12 a13 a14 a15 a16 a17 a18 a19 a20 : Nat → Int32} {t : Nat} (x : Int32) (ht : t < 8) (h6 : ∀ j, j < 3 → a6 j = 0) (h7 : a7 0 = 0) (h8 : a8 0 = nI t) (h12 : a12 0 = 1)
    (H : ∀ s v : Nat → Int32, (∀ j, j < 384 → s j = if j % 128 = 0 then so_bit t (j / 128) else 0) → post (f0, f1, f2, a1, a2, a3, a4, a5, a6, a7, a8, a9, a10, a11, a12, v, s, a15, a16, a17, a18, a19, a20)) :
    wpX_fillAll post (f0, f1, f2, a1, a2, a3, a4, a5, a6, a7, a8, a9, a10, a11, a12, a13, a14, a15, a16, a17, a18, a19, a20) 0 x := by
  unfold wpX_fillAll
  dsimp only
  refine ⟨by decide, nm_e ⟨by decide, nm_e ⟨2, ?_⟩⟩⟩
  refine pk_lt 0 0 (fun z => absurd z (by omega)) (fun _ => ⟨pk_in 0 12 (by omega), br_f (fun z => absurd (h12.symm.trans z) (by decide)) ?_⟩)
  unfold wpX_fill
  dsimp only
  refine nm_r (show ((3 : Int32) * 0) * 128 = 0 by decide) (so_fill10 ht h6 h7 h8 (fun s hs => ?_))
  dsimp only
  exact nm_r (nI_1 0) (pk_lt 0 1 (fun _ => H s _ hs) (fun z => absurd z (by omega)))
end
section
theorem so_fm {s : Nat → Int32} {i : Nat} {x : Int32} (hx : x = if i = 0 then 1 else 0) (h : ∀ j, j < i → s j = if j = 0 then 1 else 0) : ∀ j, j < i + 1 → upd s i x j = if j = 0 then 1 else 0 := by
  intro j hj
  by_cases e : j = i
  · rw [e, pk_us, hx]
  · rw [pk_un e]
    exact h j (by omega)
theorem so_mark37 {post : St2 → Prop} {f0 f1 : Int32} {a1 a2 a3 a4 a5 a6 a7 a8 a9 a10 a11 a12 a13 a14 a15 a16 a17 a18 a19 a20 : Nat → Int32} (h7 : a7 0 = 0) (h12 : a12 0 = 1) (H : post (f0, f1, 0, a1, a2, a3, a4, a5, a6, a7, a8, a9, a10, a11, a12, a13, a14, a15, a16, a17, a18, a19, a20)) :
    wX_markParts_37 post f0 f1 2 0 0 a1 a2 a3 a4 a5 a6 a7 a8 a9 a10 a11 a12 a13 a14 a15 a16 a17 a18 a19 a20 := by
  have n12 : ¬ a12 0 = 0 := by rw [h12]; decide
  have n3 : ¬ a7 0 = 3 := by rw [h7]; decide
  have n1 : ¬ a7 0 = 1 := by rw [h7]; decide
  refine pk_lt 0 0 (fun z => absurd z (by omega)) (fun _ => ⟨pk_in 0 12 (by omega), br_f n12 ⟨pk_in 0 12 (by omega), br_f n3 ?_⟩⟩)
  unfold wX_markParts_84
  exact ⟨pk_in 0 12 (by omega), br_f n12 ⟨pk_in 0 12 (by omega), br_f n1 (nm_r (show (0 : Int32) + (-1) = -1 by decide) (br_t (by decide) H))⟩⟩
theorem so_markParts {post : St2 → Prop} {f0 f1 f2 : Int32} {a1 a2 a3 a4 a5 a6 a7 a8 a9 a10 a11 a12 a13 a14 a15 a16 a17 a18 a19 a20 : Nat → Int32} (h7 : a7 0 = 0) (H : ∀ s : Nat → Int32, s 0 = 1 → post (f0, f1, 0, a1, a2, a3, a4, a5, a6, a7, a8, a9, a10, a11, s, a13, a14, a15, a16, a17, a18, a19, a20)) :
    wpX_markParts post (f0, f1, f2, a1, a2, a3, a4, a5, a6, a7, a8, a9, a10, a11, a12, a13, a14, a15, a16, a17, a18, a19, a20) 0 :=
  pk_loop (fun n i s => wX_markParts_2 post 0 f0 f1 f2 n (nI i) a1 a2 a3 a4 a5 a6 a7 a8 a9 a10 a11 s a13 a14 a15 a16 a17 a18 a19 a20) (fun i s => ∀ j, j < i → s j = if j = 0 then 1 else 0) 12 0 a12 (by omega) (fun j hj => absurd hj (by omega))
    (fun n s h => pk_le 12 12 (fun _ => ⟨2, so_mark37 h7 (h 0 (by omega)) (H s (h 0 (by omega)))⟩) (fun z => absurd z (by omega)))
    (fun n i s hi h hw => pk_le 12 i (fun z => absurd z (by omega)) (fun _ => pk_eq i 0
      (fun z => ⟨pk_in i 12 hi, nm_e (nm_r (nI_1 i) (hw _ (by rw [nI_clamp (by omega)]; exact so_fm (by rw [if_pos z]) h)))⟩)
      (fun z => ⟨pk_in i 12 hi, nm_e (nm_r (nI_1 i) (hw _ (by rw [nI_clamp (by omega)]; exact so_fm (by rw [if_neg z]) h)))⟩)))
theorem so_may {post : Int32 → Prop} {f0 f1 : Int32} {a1 a2 a3 a4 a5 a6 a7 a8 a9 a10 a11 a12 a13 a14 a15 a16 a17 a18 a19 a20 : Nat → Int32} {p x : Int32} (hp : ((0 : Int32) >>> (p &&& 31)) &&& 1 = 0) (k : Nat) (hx : x = nI k) (hk : k < 2 ^ 31) (h1 : k = 0 → post 1) (h0 : k ≠ 0 → post 0) :
    wpX_mayHave post (f0, f1, 0, a1, a2, a3, a4, a5, a6, a7, a8, a9, a10, a11, a12, a13, a14, a15, a16, a17, a18, a19, a20) p x :=
  br_t hp (pk_eq k 0 h1 h0 hx)
theorem so_sum66 {post : St2 → Prop} {J : Int32 → Int32 → Int32 → Int32 → (Nat → Int32) → (Nat → Int32) → (Nat → Int32) → (Nat → Int32) → (Nat → Int32) → (Nat → Int32) → (Nat → Int32) → (Nat → Int32) → (Nat → Int32) → (Nat → Int32) → (Nat → Int32) → (Nat → Int32) → (Nat → Int32) → (Nat → Int32) → (Nat → Int32) → (Nat → Int32) → (Nat → Int32) → (Nat → Int32) → (Nat → Int32) → (Nat → Int32) → Prop}
    {f0 f1 f2 x3 : Int32} {a1 a2 a3 a4 a5 a6 a7 a8 a9 a10 a11 a12 a13 a14 a15 a16 a17 a18 a19 a20 : Nat → Int32} {t w : Nat} (hw : w ≤ 3)
    (ho : w ≠ 3 → ∀ k, k < 3 → a1 (3 * k + w) < 0 ∨ ∃ e : Nat, e ≤ 9 ∧ a1 (3 * k + w) = nI e)
    (hs : ∀ j, j < 384 → a14 j = if j % 128 = 0 then so_bit t (j / 128) else 0)
    (H : ∀ s : Nat → Int32, bx_sum s 128 = bx_sum a15 128 + bx_sum (fun k => so_g a1 w k (so_bit t k)) 3 → J (x3 + 1) f0 f1 f2 a1 a2 a3 a4 a5 a6 a7 a8 a9 a10 a11 a12 a13 a14 s a16 a17 a18 a19 a20) :
    ∃ n, wX_sumUp_66 post J 0 (nI w) x3 n 0 f0 f1 f2 a1 a2 a3 a4 a5 a6 a7 a8 a9 a10 a11 a12 a13 a14 a15 a16 a17 a18 a19 a20 :=
  pk_loop (fun n i s => wX_sumUp_66 post J 0 (nI w) x3 n (nI i) f0 f1 f2 a1 a2 a3 a4 a5 a6 a7 a8 a9 a10 a11 a12 a13 a14 s a16 a17 a18 a19 a20) (fun i s => bx_sum s 128 = bx_sum a15 128 + bx_sum (fun k => so_g a1 w k (so_bit t k)) i) 3 0 a15 (by omega)
    (by show bx_sum a15 128 = bx_sum a15 128 + 0; grind)
    (fun n s h => pk_le 3 3 (fun _ => nm_e (H s h)) (fun z => absurd z (by omega)))
    (fun n i s hi h hW => pk_le 3 i (fun z => absurd z (by omega)) (fun _ => so_addTable hi hw (fun z => ho z i hi) (fun c h0 hc => by rw [hs _ (by omega), if_neg (by omega)]) (fun s' hs' => nm_r (nI_1 i) (hW s' (by
      show bx_sum s' 128 = bx_sum a15 128 + (bx_sum (fun k => so_g a1 w k (so_bit t k)) i + so_g a1 w i (so_bit t i))
      rw [hs', h, hs _ (by omega), if_pos (by omega), show i * 128 / 128 = i by omega]
      grind)))))
theorem so_sum29 {post : St2 → Prop} {f0 f1 : Int32} {a1 a2 a3 a4 a5 a6 a7 a8 a9 a10 a11 a12 a13 a14 a15 a16 a17 a18 a19 a20 : Nat → Int32} {t w : Nat} (hw : w ≤ 3) (ht : t < 8) (h6 : ∀ j, j < 3 → a6 j = 0) (h7 : a7 0 = 0) (h8 : a8 0 = nI t) (h12 : a12 0 = 1)
    (ho : w ≠ 3 → ∀ k, k < 3 → a1 (3 * k + w) < 0 ∨ ∃ e : Nat, e ≤ 9 ∧ a1 (3 * k + w) = nI e)
    (hz : ∀ j, j < 128 → a15 j = 0)
    (H : ∀ s13 s14 s15 : Nat → Int32, bx_sum s15 128 = bx_sum (fun k => so_g a1 w k (so_bit t k)) 3 → post (f0, f1, 0, a1, a2, a3, a4, a5, a6, a7, a8, a9, a10, a11, a12, s13, s14, s15, a16, a17, a18, a19, a20)) :
    ∃ n, wX_sumUp_29 post 0 (nI w) n 0 f0 f1 0 a1 a2 a3 a4 a5 a6 a7 a8 a9 a10 a11 a12 a13 a14 a15 a16 a17 a18 a19 a20 :=
  pk_loop (σ := (Nat → Int32) × (Nat → Int32) × (Nat → Int32)) (fun n i s => wX_sumUp_29 post 0 (nI w) n (nI i) f0 f1 0 a1 a2 a3 a4 a5 a6 a7 a8 a9 a10 a11 a12 s.1 s.2.1 s.2.2 a16 a17 a18 a19 a20)
    (fun i s => (i = 0 → bx_sum s.2.2 128 = 0) ∧ (0 < i → bx_sum s.2.2 128 = bx_sum (fun k => so_g a1 w k (so_bit t k)) 3)) 9 0 (a13, a14, a15) (by omega)
    ⟨fun _ => so_sum_0 hz, fun z => absurd z (by omega)⟩
    (fun n s h => pk_le 9 9 (fun _ => H s.1 s.2.1 s.2.2 (h.2 (by omega))) (fun z => absurd z (by omega)))
    (fun n i s hi h hW => pk_le 9 i (fun z => absurd z (by omega)) (fun _ => ⟨by decide, by
      have nx : i ≠ 0 → wX_sumUp_29 post 0 (nI w) n (nI (i + 1)) f0 f1 0 a1 a2 a3 a4 a5 a6 a7 a8 a9 a10 a11 a12 s.1 s.2.1 s.2.2 a16 a17 a18 a19 a20 := fun z => hW s ⟨fun q => absurd q (by omega), fun _ => h.2 (by omega)⟩
      refine so_may (by decide) (i / 3) (pk_div (d := 3) (by omega) (by omega) (by omega)) (by omega) (fun z => ?_) (fun z => br_t rfl (nm_r (nI_1 i) (nx (by omega))))
      refine br_f (by decide) ⟨by decide, ?_⟩
      refine so_may (by decide) (i % 3) (pk_rem (d := 3) (by omega) (by omega) (by omega)) (by omega) (fun z2 => ?_) (fun z2 => br_t rfl (nm_r (nI_1 i) (nx (by omega))))
      refine br_f (by decide) (so_fillAll (nI i) ht h6 h7 h8 h12 (fun s14 s13 hs => ?_))
      dsimp only
      refine so_sum66 hw ho hs (fun s15 h15 => ?_)
      rw [nI_1]
      exact hW (s13, s14, s15) ⟨fun q => absurd q (by omega), fun _ => by
        show bx_sum s15 128 = _
        rw [h15, h.1 (by omega), Int32.zero_add]⟩⟩))
theorem so_sum7 {post : St2 → Prop} {f0 f1 : Int32} {a1 a2 a3 a4 a5 a6 a7 a8 a9 a10 a11 a12 a13 a14 a15 a16 a17 a18 a19 a20 : Nat → Int32} {t w : Nat} (hw : w ≤ 3) (ht : t < 8) (h6 : ∀ j, j < 3 → a6 j = 0) (h7 : a7 0 = 0) (h8 : a8 0 = nI t) (h12 : a12 0 = 1)
    (ho : w ≠ 3 → ∀ k, k < 3 → a1 (3 * k + w) < 0 ∨ ∃ e : Nat, e ≤ 9 ∧ a1 (3 * k + w) = nI e)
    (H : ∀ s13 s14 s15 : Nat → Int32, bx_sum s15 128 = bx_sum (fun k => so_g a1 w k (so_bit t k)) 3 → post (f0, f1, 0, a1, a2, a3, a4, a5, a6, a7, a8, a9, a10, a11, a12, s13, s14, s15, a16, a17, a18, a19, a20)) :
    ∃ n, wX_sumUp_7 post 0 (nI w) f0 f1 0 n 0 a1 a2 a3 a4 a5 a6 a7 a8 a9 a10 a11 a12 a13 a14 a15 a16 a17 a18 a19 a20 :=
  pk_loop (fun n i s => wX_sumUp_7 post 0 (nI w) f0 f1 0 n (nI i) a1 a2 a3 a4 a5 a6 a7 a8 a9 a10 a11 a12 a13 a14 s a16 a17 a18 a19 a20) (fun i s => ∀ j, j < i → s j = 0) 128 0 a15 (by omega) (fun j hj => absurd hj (by omega))
    (fun n s h => pk_le 128 128 (fun _ => so_sum29 hw ht h6 h7 h8 h12 ho h H) (fun z => absurd z (by omega)))
    (fun n i s hi h hW => pk_le 128 i (fun z => absurd z (by omega)) (fun _ => ⟨pk_in i 128 hi, nm_e (nm_r (nI_1 i) (hW _ (by rw [nI_clamp (by omega)]; exact so_fz h)))⟩))
theorem so_sumUp {post : St2 → Prop} {f0 f1 f2 : Int32} {a1 a2 a3 a4 a5 a6 a7 a8 a9 a10 a11 a12 a13 a14 a15 a16 a17 a18 a19 a20 : Nat → Int32} {t w : Nat} (hw : w ≤ 3) (ht : t < 8) (h6 : ∀ j, j < 3 → a6 j = 0) (h7 : a7 0 = 0) (h8 : a8 0 = nI t)
    (ho : w ≠ 3 → ∀ k, k < 3 → a1 (3 * k + w) < 0 ∨ ∃ e : Nat, e ≤ 9 ∧ a1 (3 * k + w) = nI e)
    (H : ∀ s12 s13 s14 s15 : Nat → Int32, bx_sum s15 128 = bx_sum (fun k => so_g a1 w k (so_bit t k)) 3 → post (f0, f1, 0, a1, a2, a3, a4, a5, a6, a7, a8, a9, a10, a11, s12, s13, s14, s15, a16, a17, a18, a19, a20)) :
    wpX_sumUp post (f0, f1, f2, a1, a2, a3, a4, a5, a6, a7, a8, a9, a10, a11, a12, a13, a14, a15, a16, a17, a18, a19, a20) 0 (nI w) := by
  unfold wpX_sumUp
  dsimp only
  refine so_markParts h7 (fun s12 h12 => ?_)
  dsimp only
  exact so_sum7 hw ht h6 h7 h8 h12 ho (H s12)
end
section
theorem so_sol25 {post : Int32 → St2 → Prop} {f0 f1 f2 : Int32} {a1 a2 a3 a4 a5 a6 a7 a8 a9 a10 a11 a12 a13 a14 a15 a16 a17 a18 a19 a20 : Nat → Int32} (H : post (bx_sum a15 128) (f0, f1, f2, a1, a2, a3, a4, a5, a6, a7, a8, a9, a10, a11, a12, a13, a14, a15, a16, a17, a18, a19, a20)) :
    ∃ n, wX_solutions_25 post f0 f1 f2 a1 a2 a3 a4 a5 a6 a7 a8 a9 a10 a11 a12 a13 a14 a15 a16 a17 a18 a19 a20 n 0 0 :=
  pk_loop (fun n i s => wX_solutions_25 post f0 f1 f2 a1 a2 a3 a4 a5 a6 a7 a8 a9 a10 a11 a12 a13 a14 a15 a16 a17 a18 a19 a20 n s (nI i)) (fun i s => s = bx_sum a15 i) 128 0 0 (by omega) rfl
    (fun n s h => pk_le 128 128 (fun _ => by rw [show s = bx_sum a15 128 from h]; exact H) (fun z => absurd z (by omega)))
    (fun n i s hi h hW => pk_le 128 i (fun z => absurd z (by omega)) (fun _ => ⟨pk_in i 128 hi, nm_e (nm_r (nI_1 i) (hW _ (by
      show s + a15 (nI i).toNatClampNeg = bx_sum a15 i + a15 i
      rw [nI_clamp (by omega), show s = bx_sum a15 i from h])))⟩))
/-- no node: refused -/
theorem so_sol0 {post : Int32 → St2 → Prop} {f1 f2 x : Int32} {a1 a2 a3 a4 a5 a6 a7 a8 a9 a10 a11 a12 a13 a14 a15 a16 a17 a18 a19 a20 : Nat → Int32} (H : post (-1) (0, f1, f2, a1, a2, a3, a4, a5, a6, a7, a8, a9, a10, a11, a12, a13, a14, a15, a16, a17, a18, a19, a20)) : wpX_solutions post (0, f1, f2, a1, a2, a3, a4, a5, a6, a7, a8, a9, a10, a11, a12, a13, a14, a15, a16, a17, a18, a19, a20) 0 x := by
  unfold wpX_solutions
  dsimp only
  unfold wpX_refused
  dsimp only
  unfold wpX_isNode
  dsimp only
  exact pk_lt 0 0 (fun z => absurd z (by omega)) (fun _ => pk_le 0 0 (fun _ => br_t rfl (br_f (by decide) H)) (fun z => absurd z (by omega)))
/-- a type out of range: refused -/
theorem so_sol1 {post : Int32 → St2 → Prop} {f1 f2 x : Int32} {a1 a2 a3 a4 a5 a6 a7 a8 a9 a10 a11 a12 a13 a14 a15 a16 a17 a18 a19 a20 : Nat → Int32} (hx : x < 0 ∨ ¬ x ≤ 3) (H : post (-2) (1, f1, f2, a1, a2, a3, a4, a5, a6, a7, a8, a9, a10, a11, a12, a13, a14, a15, a16, a17, a18, a19, a20)) : wpX_solutions post (1, f1, f2, a1, a2, a3, a4, a5, a6, a7, a8, a9, a10, a11, a12, a13, a14, a15, a16, a17, a18, a19, a20) 0 x := by
  unfold wpX_solutions
  dsimp only
  unfold wpX_refused
  dsimp only
  unfold wpX_isNode
  dsimp only
  refine pk_lt 0 0 (fun z => absurd z (by omega)) (fun _ => pk_le 1 0 (fun z => absurd z (by omega)) (fun _ => br_f (by decide) ?_))
  refine br_c (fun _ => br_f (by decide) H) (fun z => br_f (hx.elim (fun y => absurd y z) id) (br_f (by decide) H))
theorem so_sol {post : Int32 → St2 → Prop} {f1 f2 : Int32} {a1 a2 a3 a4 a5 a6 a7 a8 a9 a10 a11 a12 a13 a14 a15 a16 a17 a18 a19 a20 : Nat → Int32} {t w : Nat} (hw : w ≤ 3) (ht : t < 8) (h6 : ∀ j, j < 3 → a6 j = 0) (h7 : a7 0 = 0) (h8 : a8 0 = nI t)
    (ho : w ≠ 3 → ∀ k, k < 3 → a1 (3 * k + w) < 0 ∨ ∃ e : Nat, e ≤ 9 ∧ a1 (3 * k + w) = nI e)
    (H : ∀ s12 s13 s14 s15 : Nat → Int32, post (bx_sum (fun k => so_g a1 w k (so_bit t k)) 3) (1, f1, 0, a1, a2, a3, a4, a5, a6, a7, a8, a9, a10, a11, s12, s13, s14, s15, a16, a17, a18, a19, a20)) :
    wpX_solutions post (1, f1, f2, a1, a2, a3, a4, a5, a6, a7, a8, a9, a10, a11, a12, a13, a14, a15, a16, a17, a18, a19, a20) 0 (nI w) := by
  unfold wpX_solutions
  dsimp only
  unfold wpX_refused
  dsimp only
  unfold wpX_isNode
  dsimp only
  refine pk_lt 0 0 (fun z => absurd z (by omega)) (fun _ => pk_le 1 0 (fun z => absurd z (by omega)) (fun _ => br_f (by decide) ?_))
  refine br_f (nI_pos (by omega)) (pk_le w 3 (fun _ => br_t (by decide) ?_) (fun z => absurd z (by omega)))
  refine so_sumUp hw ht h6 h7 h8 ho (fun s12 s13 s14 s15 hs => ?_)
  dsimp only
  refine so_sol25 ?_
  rw [hs]
  exact H s12 s13 s14 s15
end
section
def so_T (x z : Int32) : Prop := (z = 1 ∧ ∃ v : Nat, v < 3 ∧ x = nI v) ∨ (z = 0 ∧ (x < 0 ∨ 2 < x))
theorem so_le {a b : Int32} (h : ¬ a < b) : b ≤ a := by
  rw [Int32.lt_iff_toInt_lt] at h
  rw [Int32.le_iff_toInt_le]
  omega
theorem so_nle {a b : Int32} (h : a < b) : ¬ b ≤ a := by
  rw [Int32.lt_iff_toInt_lt] at h
  rw [Int32.le_iff_toInt_le]
  omega
theorem so_gt {a b : Int32} (h : ¬ a ≤ b) : b < a := by
  rw [Int32.le_iff_toInt_le] at h
  rw [Int32.lt_iff_toInt_lt]
  omega
theorem so_Tor (x : Int32) : so_T x 1 ∨ so_T x 0 := by
  rcases pk_ix x (n := 3) (by decide) with h | h | ⟨j, hj, h⟩
  · exact Or.inr (Or.inr ⟨rfl, Or.inl h⟩)
  · refine Or.inr (Or.inr ⟨rfl, Or.inr ?_⟩)
    have h3 : (nI 3).toInt = 3 := by decide
    have h2 : (2 : Int32).toInt = 2 := by decide
    rw [Int32.le_iff_toInt_le, h3] at h
    rw [Int32.lt_iff_toInt_lt, h2]
    omega
  · exact Or.inl (Or.inl ⟨rfl, j, hj, h⟩)
theorem so_isType {post : Int32 → Prop} {x z : Int32} (h : so_T x z) (hp : post z) : wpX_isType post () x := by
  unfold wpX_isType
  rcases h with ⟨rfl, v, hv, rfl⟩ | ⟨rfl, h⟩
  · exact br_f (nI_pos (by omega)) (pk_lt 2 v (fun z => absurd z (by omega)) (fun _ => hp))
  · exact br_c (fun _ => hp) (fun z => br_t (h.elim (fun y => absurd y z) id) hp)
theorem so_fc {s : Nat → Int32} {i : Nat} {x : Int32} (hx : x = so_c0 i) (h : ∀ j, j < i → s j = so_c0 j) : ∀ j, j < i + 1 → upd s i x j = so_c0 j := by
  intro j hj
  by_cases e : j = i
  · rw [e, pk_us, hx]
  · rw [pk_un e]
    exact h j (by omega)
theorem so_init166 {post : St2 → Prop} {mc ms kc ks : Nat} {f0 f1 f2 : Int32} {a1 a2 a3 a4 a5 a6 a7 a8 a9 a10 a11 a12 a13 a14 a15 a16 a17 a18 a19 a20 : Nat → Int32}
    (H : ∀ s v : Nat → Int32, (∀ j, j < 9 → s j = so_c0 j) → post (f0, f1, f2, s, a2, a3, a4, v, a6, a7, a8, a9, a10, a11, a12, a13, a14, a15, a16, a17, a18, a19, a20)) :
    ∃ n, wX_init_166 post mc ms kc ks f0 f1 f2 n 0 a1 a2 a3 a4 a5 a6 a7 a8 a9 a10 a11 a12 a13 a14 a15 a16 a17 a18 a19 a20 :=
  pk_loop (fun n i s => wX_init_166 post mc ms kc ks f0 f1 f2 n (nI i) s a2 a3 a4 a5 a6 a7 a8 a9 a10 a11 a12 a13 a14 a15 a16 a17 a18 a19 a20) (fun i s => ∀ j, j < i → s j = so_c0 j) 9 0 a1 (by omega) (fun j hj => absurd hj (by omega))
    (fun n s h => pk_le 9 9 (fun _ => nm_e (nm_e (H s _ h))) (fun z => absurd z (by omega)))
    (fun n i s hi h hW => pk_le 9 i (fun z => absurd z (by omega)) (fun _ => ⟨by decide, pk_eq (i % 4) 0
      (fun z => ⟨pk_in i 9 hi, nm_e (nm_r (nI_1 i) (hW _ (by rw [nI_clamp (by omega)]; exact so_fc (by unfold so_c0; rw [if_pos z]) h)))⟩)
      (fun z => ⟨pk_in i 9 hi, nm_e (nm_r (nI_1 i) (hW _ (by rw [nI_clamp (by omega)]; exact so_fc (by unfold so_c0; rw [if_neg z]) h)))⟩)
      (pk_rem (d := 4) (by omega) (by omega) (by omega))⟩))
/-- what convert answers -/
def so_D (x0 x1 x2 z : Int32) : Prop :=
  (z = -1 ∧ (so_T x0 0 ∨ so_T x1 0)) ∨
  ∃ v w : Nat, v < 3 ∧ w < 3 ∧ x0 = nI v ∧ x1 = nI w ∧ ((z = -2 ∧ v = w) ∨ (v ≠ w ∧ ((z = -3 ∧ (x2 < -1 ∨ 9 < x2)) ∨ (z = 0 ∧ ¬ x2 < -1 ∧ ¬ 9 < x2))))
/-- the conversions after convert answered z -/
def so_C (x0 x1 x2 z : Int32) (a : Nat → Int32) : Prop :=
  (¬ z = 0 ∧ ∀ j, j < 9 → a j = so_c0 j) ∨
  (z = 0 ∧ ∃ v w : Nat, v < 3 ∧ w < 3 ∧ v ≠ w ∧ x0 = nI v ∧ x1 = nI w ∧ ¬ x2 < -1 ∧ ¬ 9 < x2 ∧ ∀ j, j < 9 → a j = if j = 3 * v + w then x2 else so_c0 j)
theorem so_convert {post : Int32 → St2 → Prop} {f0 f1 f2 x0 x1 x2 z : Int32} {a1 a2 a3 a4 a5 a6 a7 a8 a9 a10 a11 a12 a13 a14 a15 a16 a17 a18 a19 a20 : Nat → Int32} (h1 : ∀ j, j < 9 → a1 j = so_c0 j) (hd : so_D x0 x1 x2 z)
    (H : ∀ s : Nat → Int32, so_C x0 x1 x2 z s → post z (f0, f1, f2, s, a2, a3, a4, a5, a6, a7, a8, a9, a10, a11, a12, a13, a14, a15, a16, a17, a18, a19, a20)) : wpX_convert post (f0, f1, f2, a1, a2, a3, a4, a5, a6, a7, a8, a9, a10, a11, a12, a13, a14, a15, a16, a17, a18, a19, a20) x0 x1 x2 := by
  unfold wpX_convert
  rcases hd with ⟨rfl, hd⟩ | ⟨v, w, hv, hw, rfl, rfl, hd⟩
  · have G := H a1 (Or.inl ⟨by decide, h1⟩)
    rcases so_Tor x0 with t0 | t0
    · rcases hd with hd | hd
      · exact so_isType hd (br_t rfl G)
      · exact so_isType t0 (br_f (by decide) (so_isType hd (br_t rfl G)))
    · exact so_isType t0 (br_t rfl G)
  · refine so_isType (Or.inl ⟨rfl, v, hv, rfl⟩) (br_f (by decide) (so_isType (Or.inl ⟨rfl, w, hw, rfl⟩) (br_f (by decide) ?_)))
    rcases hd with ⟨rfl, rfl⟩ | ⟨hn, hd⟩
    · exact br_t rfl (H a1 (Or.inl ⟨by decide, h1⟩))
    · refine br_f (fun e => hn ((nI_eq (by omega) (by omega)).mp e)) ?_
      rcases hd with ⟨rfl, hd⟩ | ⟨rfl, hl, hh⟩
      · have G := H a1 (Or.inl ⟨by decide, h1⟩)
        exact br_c (fun _ => G) (fun y => br_f (hd.elim (fun q => absurd q y) so_nle) G)
      · refine br_f hl (br_t (so_le hh) ⟨pk_in (3 * v + w) 9 (by omega) (so_ix v w), nm_e (H _ (Or.inr ⟨rfl, v, w, hv, hw, hn, rfl, rfl, hl, hh, ?_⟩))⟩)
        rw [pk_cl (3 * v + w) (so_ix v w)]
        intro j hj
        by_cases e : j = 3 * v + w
        · rw [e, pk_us, if_pos rfl]
        · rw [pk_un e, if_neg e, h1 j hj]
/-- what overload answers (z), and whether it was made (x11) -/
def so_O (x2 x3 x4 x10 x11 z : Int32) : Prop :=
  (z = -1 ∧ x10 = 0 ∧ (x11 = 0 ∨ x11 = 1) ∧ so_T x3 0) ∨
  ∃ o : Nat, o < 3 ∧ x3 = nI o ∧ x10 = 1 ∧ ((z = -2 ∧ x11 = 0 ∧ (x4 < 0 ∨ 26 < x4)) ∨ (¬ x4 < 0 ∧ ¬ 26 < x4 ∧ ((z = -3 ∧ x11 = 0 ∧ (x2 < 0 ∨ 9 < x2)) ∨ (z = 1 ∧ x11 = 1 ∧ ¬ x2 < 0 ∧ ¬ 9 < x2))))
def so_F (x3 x10 x11 : Int32) (a : Nat → Int32) : Prop :=
  (x10 = 0 ∧ so_T x3 0) ∨ ∃ o : Nat, o < 3 ∧ x3 = nI o ∧ x10 = 1 ∧ a o = x11 ∧ (x11 = 0 ∨ x11 = 1)
theorem so_overload {post : Int32 → St2 → Prop} {f0 f1 f2 x2 x3 x4 x10 x11 z : Int32} {a1 a2 a3 a4 a5 a6 a7 a8 a9 a10 a11 a12 a13 a14 a15 a16 a17 a18 a19 a20 : Nat → Int32} (h4 : ∀ j, j < 3 → a4 j = 0) (hd : so_O x2 x3 x4 x10 x11 z)
    (H : ∀ s2 s3 s4 : Nat → Int32, so_F x3 x10 x11 s4 → post z (f0, f1, f2, a1, s2, s3, s4, a5, a6, a7, a8, a9, a10, a11, a12, a13, a14, a15, a16, a17, a18, a19, a20)) : wpX_overload post (f0, f1, f2, a1, a2, a3, a4, a5, a6, a7, a8, a9, a10, a11, a12, a13, a14, a15, a16, a17, a18, a19, a20) x3 x4 x2 := by
  unfold wpX_overload
  rcases hd with ⟨rfl, rfl, h11, hd⟩ | ⟨o, ho, rfl, rfl, hd⟩
  · exact so_isType hd (br_t rfl (H a2 a3 a4 (Or.inl ⟨rfl, hd⟩)))
  · refine so_isType (Or.inl ⟨rfl, o, ho, rfl⟩) (br_f (by decide) ?_)
    rcases hd with ⟨rfl, rfl, hd⟩ | ⟨hl, hh, hd⟩
    · have G := H a2 a3 a4 (Or.inr ⟨o, ho, rfl, rfl, h4 o ho, Or.inl rfl⟩)
      exact br_c (fun _ => G) (fun y => br_f (hd.elim (fun q => absurd q y) so_nle) G)
    · refine br_f hl (br_t (so_le hh) ?_)
      rcases hd with ⟨rfl, rfl, hd⟩ | ⟨rfl, rfl, hl2, hh2⟩
      · have G := H a2 a3 a4 (Or.inr ⟨o, ho, rfl, rfl, h4 o ho, Or.inl rfl⟩)
        exact br_c (fun _ => G) (fun y => br_f (hd.elim (fun q => absurd q y) so_nle) G)
      · have io : (nI o).toNatClampNeg = o := nI_clamp (by omega)
        have e4 : a4 (nI o).toNatClampNeg = 0 := by rw [io]; exact h4 o ho
        have ix : (4 : Int32) * nI o + a4 (nI o).toNatClampNeg = nI (4 * o) := by
          rw [e4, show (4 : Int32) * nI o = nI (4 * o) from pk_mul 4 o, Int32.add_zero]
        refine br_f hl2 (br_t (so_le hh2) ⟨pk_in o 3 ho, br_f (by rw [e4]; decide) ⟨pk_in o 3 ho, pk_in (4 * o) 12 (by omega) ix, nm_e ⟨pk_in o 3 ho, pk_in (4 * o) 12 (by omega) ix, nm_e ⟨pk_in o 3 ho, pk_in o 3 ho, nm_e ⟨pk_in o 3 ho, ?_⟩⟩⟩⟩⟩)
        have e1 : upd a4 (nI o).toNatClampNeg (a4 (nI o).toNatClampNeg + 1) (nI o).toNatClampNeg = 1 := by
          rw [pk_us, e4]
          decide
        rw [e1]
        refine H _ _ _ (Or.inr ⟨o, ho, rfl, rfl, ?_, Or.inr rfl⟩)
        rw [io] at e1 ⊢
        exact e1
theorem so_forget {post : Int32 → St2 → Prop} {f0 f1 f2 x3 x10 x11 : Int32} {a1 a2 a3 a4 a5 a6 a7 a8 a9 a10 a11 a12 a13 a14 a15 a16 a17 a18 a19 a20 : Nat → Int32} (hd : so_F x3 x10 x11 a4)
    (H : ∀ (r : Int32) (s4 : Nat → Int32), ((x10 = 0 ∧ r = -1) ∨ (x10 = 1 ∧ r = x11 ∧ (x11 = 0 ∨ x11 = 1))) → post r (f0, f1, f2, a1, a2, a3, s4, a5, a6, a7, a8, a9, a10, a11, a12, a13, a14, a15, a16, a17, a18, a19, a20)) : wpX_forget post (f0, f1, f2, a1, a2, a3, a4, a5, a6, a7, a8, a9, a10, a11, a12, a13, a14, a15, a16, a17, a18, a19, a20) x3 := by
  unfold wpX_forget
  rcases hd with ⟨rfl, hd⟩ | ⟨o, ho, rfl, rfl, h, h11⟩
  · exact so_isType hd (br_t rfl (H (-1) a4 (Or.inl ⟨rfl, rfl⟩)))
  · exact so_isType (Or.inl ⟨rfl, o, ho, rfl⟩) (br_f (by decide) ⟨pk_in o 3 ho, nm_e ⟨pk_in o 3 ho, nm_e (H _ _ (Or.inr ⟨rfl, by rw [nI_clamp (by omega)]; exact h, h11⟩))⟩⟩)
theorem so_lit0 {post : Int32 → St2 → Prop} {f0 f1 f2 x : Int32} {a1 a2 a3 a4 a5 a6 a7 a8 a9 a10 a11 a12 a13 a14 a15 a16 a17 a18 a19 a20 : Nat → Int32} (hx : x < 1 ∨ 7 < x) (H : post (-1) (f0, f1, f2, a1, a2, a3, a4, a5, a6, a7, a8, a9, a10, a11, a12, a13, a14, a15, a16, a17, a18, a19, a20)) : wpX_literal post (f0, f1, f2, a1, a2, a3, a4, a5, a6, a7, a8, a9, a10, a11, a12, a13, a14, a15, a16, a17, a18, a19, a20) x := by
  unfold wpX_literal
  exact br_c (fun _ => H) (fun y => br_f (hx.elim (fun q => absurd q y) so_nle) H)
theorem so_lit1 {post : Int32 → St2 → Prop} {f1 f2 : Int32} {a1 a2 a3 a4 a5 a6 a7 a8 a9 a10 a11 a12 a13 a14 a15 a16 a17 a18 a19 a20 : Nat → Int32} {t : Nat} (h1 : 1 ≤ t) (h7 : t < 8)
    (H : ∀ s7 s8 : Nat → Int32, s7 0 = 0 → s8 0 = nI t → post 0 (1, f1, f2, a1, a2, a3, a4, a5, a6, s7, s8, a9, a10, a11, a12, a13, a14, a15, a16, a17, a18, a19, a20)) : wpX_literal post (0, f1, f2, a1, a2, a3, a4, a5, a6, a7, a8, a9, a10, a11, a12, a13, a14, a15, a16, a17, a18, a19, a20) (nI t) := by
  unfold wpX_literal
  refine pk_lt t 1 (fun z => absurd z (by omega)) (fun _ => pk_le t 7 (fun _ => br_f (by decide) ?_) (fun z => absurd z (by omega)))
  unfold wpX_newNode
  refine ⟨pk_in 0 12 (by omega), nm_e ⟨pk_in 0 12 (by omega), nm_e (nm_r (show (0 : Int32) + 1 = 1 by decide) ?_)⟩⟩
  exact H _ _ pk_us pk_us
end
section
theorem so_ho {a : Nat → Int32} {x0 x1 x2 z : Int32} {w : Nat} (hw : w < 3) (hC : so_C x0 x1 x2 z a) : ∀ k, k < 3 → a (3 * k + w) < 0 ∨ ∃ e : Nat, e ≤ 9 ∧ a (3 * k + w) = nI e := by
  have c0 : ∀ j, so_c0 j < 0 ∨ ∃ e : Nat, e ≤ 9 ∧ so_c0 j = nI e := by
    intro j
    unfold so_c0
    by_cases e : j % 4 = 0
    · rw [if_pos e]
      exact Or.inr ⟨0, by omega, rfl⟩
    · rw [if_neg e]
      exact Or.inl (by decide)
  intro k hk
  rcases hC with ⟨_, h⟩ | ⟨_, v, w', hv, hw', _, _, _, hl, hh, h⟩
  · rw [h _ (by omega)]
    exact c0 _
  · rw [h _ (by omega)]
    by_cases e : 3 * k + w = 3 * v + w'
    · rw [if_pos e]
      by_cases q : x2 < 0
      · exact Or.inl q
      · obtain ⟨j, hj, e⟩ := nI_of2 (M := 9) (n := 9) (by decide) q (so_le hh)
        exact Or.inr ⟨j, hj, e⟩
    · rw [if_neg e]
      exact c0 _
theorem so_gc {a b : Nat → Int32} {t w : Nat} (hw : w < 3) (h : ∀ j, j < 9 → a j = b j) : bx_sum (fun k => so_g a w k (so_bit t k)) 3 = bx_sum (fun k => so_g b w k (so_bit t k)) 3 := by
  show 0 + so_g a w 0 (so_bit t 0) + so_g a w 1 (so_bit t 1) + so_g a w 2 (so_bit t 2) = 0 + so_g b w 0 (so_bit t 0) + so_g b w 1 (so_bit t 1) + so_g b w 2 (so_bit t 2)
  unfold so_g
  rw [h (3 * 0 + w) (by omega), h (3 * 1 + w) (by omega), h (3 * 2 + w) (by omega)]
theorem so_e0 : ∀ t, t < 8 → ∀ w, w < 3 → so_bit t w = bx_sum (fun k => so_g so_c0 w k (so_bit t k)) 3 := by decide +kernel
theorem so_e1 : ∀ t, t < 8 → ∀ w, w < 3 → ∀ v, v < 3 → v ≠ w → so_bit t w = bx_sum (fun k => so_g (fun j => if j = 3 * v + w then -1 else so_c0 j) w k (so_bit t k)) 3 := by decide +kernel
theorem so_e2 : ∀ t, t < 8 → ∀ w, w < 3 → ∀ v, v < 3 → v ≠ w → ∀ e, e < 10 → so_bit t w + so_bit t v = bx_sum (fun k => so_g (fun j => if j = 3 * v + w then nI e else so_c0 j) w k (so_bit t k)) 3 := by decide +kernel
theorem so_e3 : ∀ t, t < 8 → ((nI t &&& 1) + ((nI t >>> ((1 : Int32) &&& 31)) &&& 1)) + ((nI t >>> ((2 : Int32) &&& 31)) &&& 1) = 0 + so_bit t 0 + so_bit t 1 + so_bit t 2 := by decide +kernel
theorem so_375a {post : Int32 → St0 → Prop} {mc ms kc ks : Nat} {f1 f2 x1 : Int32} {a1 a2 a3 a4 a5 a6 a7 a8 a9 a10 a11 a12 a13 a14 a15 a16 a17 a18 a19 a20 : Nat → Int32} (hp : post 1 ()) : wL_lawOf_375 post mc ms x1 0 (-1) kc ks 0 f1 f2 a1 a2 a3 a4 a5 a6 a7 a8 a9 a10 a11 a12 a13 a14 a15 a16 a17 a18 a19 a20 := by
  unfold wL_lawOf_375
  refine so_sol0 (br_t rfl ?_)
  unfold wpX_nodes
  refine br_t rfl ?_
  unfold wL_lawOf_404
  exact br_t rfl hp
theorem so_375b {post : Int32 → St0 → Prop} {mc ms kc ks : Nat} {f1 f2 x1 : Int32} {a1 a2 a3 a4 a5 a6 a7 a8 a9 a10 a11 a12 a13 a14 a15 a16 a17 a18 a19 a20 : Nat → Int32} (hp : post 1 ()) (hx : x1 < 0 ∨ ¬ x1 ≤ 3) : wL_lawOf_375 post mc ms x1 1 (-2) kc ks 1 f1 f2 a1 a2 a3 a4 a5 a6 a7 a8 a9 a10 a11 a12 a13 a14 a15 a16 a17 a18 a19 a20 := by
  unfold wL_lawOf_375
  refine so_sol1 hx (br_t rfl ?_)
  unfold wpX_nodes
  refine br_f (by decide) ?_
  unfold wL_lawOf_404
  exact br_t rfl hp
theorem so_375c {post : Int32 → St0 → Prop} {mc ms kc ks : Nat} {f1 f2 x14 : Int32} {a1 a2 a3 a4 a5 a6 a7 a8 a9 a10 a11 a12 a13 a14 a15 a16 a17 a18 a19 a20 : Nat → Int32} (hp : post 1 ()) {t w : Nat} (hw : w ≤ 3) (ht : t < 8) (h6 : ∀ j, j < 3 → a6 j = 0) (h7 : a7 0 = 0) (h8 : a8 0 = nI t)
    (ho : w ≠ 3 → ∀ k, k < 3 → a1 (3 * k + w) < 0 ∨ ∃ e : Nat, e ≤ 9 ∧ a1 (3 * k + w) = nI e) (hx : x14 = bx_sum (fun k => so_g a1 w k (so_bit t k)) 3) :
    wL_lawOf_375 post mc ms (nI w) 1 x14 kc ks 1 f1 f2 a1 a2 a3 a4 a5 a6 a7 a8 a9 a10 a11 a12 a13 a14 a15 a16 a17 a18 a19 a20 := by
  unfold wL_lawOf_375
  refine so_sol hw ht h6 h7 h8 ho (fun s12 s13 s14 s15 => br_t hx.symm ?_)
  unfold wpX_nodes
  refine br_f (by decide) ?_
  unfold wL_lawOf_404
  exact br_t rfl hp
theorem so_349a {post : Int32 → St0 → Prop} {mc ms kc ks : Nat} {f1 f2 x1 x7 x14 : Int32} {a1 a2 a3 a4 a5 a6 a7 a8 a9 a10 a11 a12 a13 a14 a15 a16 a17 a18 a19 a20 : Nat → Int32} (hp : post 1 ()) : wL_lawOf_349 post mc ms x1 x7 0 x14 kc ks 0 f1 f2 a1 a2 a3 a4 a5 a6 a7 a8 a9 a10 a11 a12 a13 a14 a15 a16 a17 a18 a19 a20 := by
  unfold wL_lawOf_349
  exact br_t rfl (so_375a hp)
theorem so_349b {post : Int32 → St0 → Prop} {mc ms kc ks : Nat} {f1 f2 x1 x14 : Int32} {a1 a2 a3 a4 a5 a6 a7 a8 a9 a10 a11 a12 a13 a14 a15 a16 a17 a18 a19 a20 : Nat → Int32} (hp : post 1 ()) (hx : x1 < 0 ∨ ¬ x1 ≤ 3) (h3 : ¬ x1 = 3) : wL_lawOf_349 post mc ms x1 0 1 x14 kc ks 1 f1 f2 a1 a2 a3 a4 a5 a6 a7 a8 a9 a10 a11 a12 a13 a14 a15 a16 a17 a18 a19 a20 := by
  unfold wL_lawOf_349
  exact br_f (by decide) (br_t rfl (br_f h3 (so_375b hp hx)))
theorem so_349c {post : Int32 → St0 → Prop} {mc ms kc ks : Nat} {f1 f2 x14 : Int32} {a1 a2 a3 a4 a5 a6 a7 a8 a9 a10 a11 a12 a13 a14 a15 a16 a17 a18 a19 a20 : Nat → Int32} (hp : post 1 ()) {t : Nat} (ht : t < 8) (h6 : ∀ j, j < 3 → a6 j = 0) (h7 : a7 0 = 0) (h8 : a8 0 = nI t)
    (hx : x14 = bx_sum (fun k => so_g a1 3 k (so_bit t k)) 3) : wL_lawOf_349 post mc ms 3 0 1 x14 kc ks 1 f1 f2 a1 a2 a3 a4 a5 a6 a7 a8 a9 a10 a11 a12 a13 a14 a15 a16 a17 a18 a19 a20 := by
  unfold wL_lawOf_349
  refine br_f (by decide) (br_t rfl (br_t rfl ?_))
  unfold wL_lawOf_368
  exact so_375c hp (w := 3) (by omega) ht h6 h7 h8 (fun z => absurd rfl z) hx
theorem so_349d {post : Int32 → St0 → Prop} {mc ms kc ks : Nat} {f1 f2 x14 : Int32} {a1 a2 a3 a4 a5 a6 a7 a8 a9 a10 a11 a12 a13 a14 a15 a16 a17 a18 a19 a20 : Nat → Int32} (hp : post 1 ()) {t w : Nat} (hw : w < 3) (ht : t < 8) (h6 : ∀ j, j < 3 → a6 j = 0) (h7 : a7 0 = 0) (h8 : a8 0 = nI t)
    (ho : ∀ k, k < 3 → a1 (3 * k + w) < 0 ∨ ∃ e : Nat, e ≤ 9 ∧ a1 (3 * k + w) = nI e) (hx : x14 = bx_sum (fun k => so_g a1 w k (so_bit t k)) 3) :
    wL_lawOf_349 post mc ms (nI w) 1 1 x14 kc ks 1 f1 f2 a1 a2 a3 a4 a5 a6 a7 a8 a9 a10 a11 a12 a13 a14 a15 a16 a17 a18 a19 a20 := by
  unfold wL_lawOf_349
  refine br_f (by decide) (br_f (by decide) ?_)
  unfold wL_lawOf_368
  exact so_375c hp (by omega) ht h6 h7 h8 (fun _ => ho) hx
theorem so_329a {post : Int32 → St0 → Prop} {mc ms kc ks : Nat} {f1 f2 x0 x1 x2 x4 x7 x9 x14 : Int32} {a1 a2 a3 a4 a5 a6 a7 a8 a9 a10 a11 a12 a13 a14 a15 a16 a17 a18 a19 a20 : Nat → Int32} (hp : post 1 ()) : wL_lawOf_329 post mc ms x0 x1 x2 x4 x7 x9 0 x14 kc ks 0 f1 f2 a1 a2 a3 a4 a5 a6 a7 a8 a9 a10 a11 a12 a13 a14 a15 a16 a17 a18 a19 a20 := by
  unfold wL_lawOf_329
  exact br_c (fun _ => br_c (fun _ => so_349a hp) (fun _ => nm_e (so_349a hp))) (fun _ => so_349a hp)
theorem so_316a {post : Int32 → St0 → Prop} {mc ms kc ks : Nat} {f1 f2 x0 x1 x2 x4 x7 x9 x14 : Int32} {a1 a2 a3 a4 a5 a6 a7 a8 a9 a10 a11 a12 a13 a14 a15 a16 a17 a18 a19 a20 : Nat → Int32} (hp : post 1 ()) : wL_lawOf_316 post mc ms x0 x1 x2 x4 x7 x9 0 x14 kc ks 0 f1 f2 a1 a2 a3 a4 a5 a6 a7 a8 a9 a10 a11 a12 a13 a14 a15 a16 a17 a18 a19 a20 := by
  unfold wL_lawOf_316
  exact br_c (fun _ => so_329a hp) (fun _ => nm_e (so_329a hp))
theorem so_283a {post : Int32 → St0 → Prop} {mc ms kc ks : Nat} {f1 f2 x0 x1 x2 x4 x7 x9 : Int32} {a1 a2 a3 a4 a5 a6 a7 a8 a9 a10 a11 a12 a13 a14 a15 a16 a17 a18 a19 a20 : Nat → Int32} (hp : post 1 ()) : wL_lawOf_283 post mc ms x0 x1 x2 x4 x7 x9 0 (-1) (-1) kc ks 0 f1 f2 a1 a2 a3 a4 a5 a6 a7 a8 a9 a10 a11 a12 a13 a14 a15 a16 a17 a18 a19 a20 := by
  unfold wL_lawOf_283
  exact br_t rfl (br_c (fun _ => nm_e (so_316a hp)) (fun _ => so_316a hp))
theorem so_283b {post : Int32 → St0 → Prop} {mc ms kc ks : Nat} {f1 f2 x0 x1 x2 x4 x9 : Int32} {a1 a2 a3 a4 a5 a6 a7 a8 a9 a10 a11 a12 a13 a14 a15 a16 a17 a18 a19 a20 : Nat → Int32} (hp : post 1 ()) (hx : x1 < 0 ∨ ¬ x1 ≤ 3) (h3 : ¬ x1 = 3) : wL_lawOf_283 post mc ms x0 x1 x2 x4 0 x9 1 0 0 kc ks 1 f1 f2 a1 a2 a3 a4 a5 a6 a7 a8 a9 a10 a11 a12 a13 a14 a15 a16 a17 a18 a19 a20 := by
  unfold wL_lawOf_283
  refine br_t rfl (br_f h3 ?_)
  unfold wL_lawOf_316
  refine br_t rfl ?_
  unfold wL_lawOf_329
  exact br_c (fun _ => br_c (fun _ => so_349b hp hx h3) (fun _ => nm_e (so_349b hp hx h3))) (fun _ => so_349b hp hx h3)
theorem so_283c {post : Int32 → St0 → Prop} {mc ms kc ks : Nat} {f1 f2 x0 x2 x9 : Int32} {a1 a2 a3 a4 a5 a6 a7 a8 a9 a10 a11 a12 a13 a14 a15 a16 a17 a18 a19 a20 : Nat → Int32} (hp : post 1 ()) {t : Nat} (ht : t < 8) (h6 : ∀ j, j < 3 → a6 j = 0) (h7 : a7 0 = 0) (h8 : a8 0 = nI t) (h9 : ¬ x9 = 0) :
    wL_lawOf_283 post mc ms x0 3 x2 (nI t) 0 x9 1 0 0 kc ks 1 f1 f2 a1 a2 a3 a4 a5 a6 a7 a8 a9 a10 a11 a12 a13 a14 a15 a16 a17 a18 a19 a20 := by
  unfold wL_lawOf_283
  refine br_t rfl (br_t rfl (nm_e ?_))
  unfold wL_lawOf_316
  refine br_t rfl ?_
  unfold wL_lawOf_329
  refine br_f h9 (so_349c hp ht h6 h7 h8 ?_)
  rw [so_e3 t ht]
  show _ = 0 + so_g a1 3 0 (so_bit t 0) + so_g a1 3 1 (so_bit t 1) + so_g a1 3 2 (so_bit t 2)
  unfold so_g
  rw [if_pos (Or.inl rfl), if_pos (Or.inl rfl), if_pos (Or.inl rfl)]
theorem so_283d {post : Int32 → St0 → Prop} {mc ms kc ks : Nat} {f1 f2 x0 x2 x9 : Int32} {a1 a2 a3 a4 a5 a6 a7 a8 a9 a10 a11 a12 a13 a14 a15 a16 a17 a18 a19 a20 : Nat → Int32} (hp : post 1 ()) {t w : Nat} (hw : w < 3) (ht : t < 8) (h6 : ∀ j, j < 3 → a6 j = 0) (h7 : a7 0 = 0) (h8 : a8 0 = nI t) (hC : so_C x0 (nI w) x2 x9 a1) :
    wL_lawOf_283 post mc ms x0 (nI w) x2 (nI t) 1 x9 1 0 0 kc ks 1 f1 f2 a1 a2 a3 a4 a5 a6 a7 a8 a9 a10 a11 a12 a13 a14 a15 a16 a17 a18 a19 a20 := by
  have ho := so_ho hw hC
  unfold wL_lawOf_283
  refine br_t rfl (pk_eq w 3 (fun z => absurd z (by omega)) (fun _ => ?_))
  unfold wL_lawOf_316
  refine br_f (by decide) (nm_e ?_)
  unfold wL_lawOf_329
  rcases hC with ⟨h9, h⟩ | ⟨rfl, v, w', hv, hw', hn, rfl, hx1, hl, hh, h⟩
  · refine br_f h9 (so_349d hp hw ht h6 h7 h8 ho ?_)
    rw [so_gc hw h, ← so_e0 t ht w hw]
    rfl
  · have ew : w = w' := (nI_eq (by omega) (by omega)).mp hx1
    subst ew
    refine br_t rfl (br_c (fun q => ?_) (fun q => nm_e ?_))
    · have e2 : x2 = -1 := by
        have m1 : (-1 : Int32).toInt = -1 := by decide
        rw [Int32.lt_iff_toInt_lt] at hl q
        have z0 : (0 : Int32).toInt = 0 := by decide
        rw [m1] at hl
        rw [z0] at q
        apply Int32.toInt_inj.mp
        rw [m1]
        omega
      subst e2
      refine so_349d hp hw ht h6 h7 h8 ho ?_
      rw [so_gc hw h, ← so_e1 t ht w hw v hv hn]
      rfl
    · obtain ⟨e, he, rfl⟩ := nI_of2 (M := 9) (n := 9) (by decide) q (so_le hh)
      refine so_349d hp hw ht h6 h7 h8 ho ?_
      rw [so_gc hw h, ← so_e2 t ht w hw v hv hn e (by omega)]
      rfl
end
section
theorem so_264a {post : Int32 → St0 → Prop} {mc ms kc ks : Nat} {f1 f2 x0 x1 x2 x4 x7 x9 : Int32} {a1 a2 a3 a4 a5 a6 a7 a8 a9 a10 a11 a12 a13 a14 a15 a16 a17 a18 a19 a20 : Nat → Int32} (hp : post 1 ()) (h4 : x4 < 1 ∨ 7 < x4) : wL_lawOf_264 post mc ms x0 x1 x2 x4 x7 x9 0 kc ks 0 f1 f2 a1 a2 a3 a4 a5 a6 a7 a8 a9 a10 a11 a12 a13 a14 a15 a16 a17 a18 a19 a20 := by
  unfold wL_lawOf_264
  exact so_lit0 h4 (br_t rfl (so_283a hp))
theorem so_264b {post : Int32 → St0 → Prop} {mc ms kc ks : Nat} {f1 f2 x0 x1 x2 x7 x9 : Int32} {a1 a2 a3 a4 a5 a6 a7 a8 a9 a10 a11 a12 a13 a14 a15 a16 a17 a18 a19 a20 : Nat → Int32} (hp : post 1 ()) {t : Nat} (h1 : 1 ≤ t) (ht : t < 8) (h6 : ∀ j, j < 3 → a6 j = 0) (hT : so_T x1 x7) (hC : so_C x0 x1 x2 x9 a1) :
    wL_lawOf_264 post mc ms x0 x1 x2 (nI t) x7 x9 1 kc ks 0 f1 f2 a1 a2 a3 a4 a5 a6 a7 a8 a9 a10 a11 a12 a13 a14 a15 a16 a17 a18 a19 a20 := by
  unfold wL_lawOf_264
  refine so_lit1 h1 ht (fun s7 s8 h7 h8 => br_f (by decide) ?_)
  rcases hT with ⟨rfl, w, hw, rfl⟩ | ⟨rfl, hx⟩
  · exact so_283d hp hw ht h6 h7 h8 hC
  · by_cases e3 : x1 = 3
    · subst e3
      refine so_283c hp ht h6 h7 h8 ?_
      rcases hC with ⟨h9, _⟩ | ⟨_, v, w, _, hw, _, _, e, _⟩
      · exact h9
      · exact absurd ((nI_eq (a := 3) (by omega) (by omega)).mp e) (by omega)
    · refine so_283b hp ?_ e3
      refine hx.imp id (fun h l => e3 ?_)
      have i2 : (2 : Int32).toInt = 2 := by decide
      have i3 : (3 : Int32).toInt = 3 := by decide
      rw [Int32.lt_iff_toInt_lt, i2] at h
      rw [Int32.le_iff_toInt_le, i3] at l
      apply Int32.toInt_inj.mp
      rw [i3]
      omega
theorem so_241 {post : Int32 → St0 → Prop} {mc ms kc ks : Nat} {f1 f2 x0 x1 x2 x4 x7 x9 z : Int32} {a1 a2 a3 a4 a5 a6 a7 a8 a9 a10 a11 a12 a13 a14 a15 a16 a17 a18 a19 a20 : Nat → Int32} (hp : post 1 ()) (h6 : ∀ j, j < 3 → a6 j = 0) (hT : so_T x1 x7) (hC : so_C x0 x1 x2 x9 a1) :
    wL_lawOf_241 post mc ms x0 x1 x2 x4 x7 x9 z z kc ks 0 f1 f2 a1 a2 a3 a4 a5 a6 a7 a8 a9 a10 a11 a12 a13 a14 a15 a16 a17 a18 a19 a20 := by
  unfold wL_lawOf_241
  refine br_t rfl (br_c (fun q => ?_) (fun q => br_c (fun q2 => ?_) (fun q2 => ?_)))
  · unfold wL_lawOf_263
    exact so_264a hp (Or.inl q)
  · unfold wL_lawOf_263
    exact so_264a hp (Or.inr q2)
  · have i1 : (1 : Int32).toInt = 1 := by decide
    have q0 : ¬ x4 < 0 := by
      intro y
      apply q
      have i0 : (0 : Int32).toInt = 0 := by decide
      rw [Int32.lt_iff_toInt_lt, i0] at y
      rw [Int32.lt_iff_toInt_lt, i1]
      omega
    obtain ⟨t, ht, rfl⟩ := nI_of2 (M := 7) (n := 7) (by decide) q0 (so_le q2)
    have t1 : 1 ≤ t := by
      rcases Nat.lt_or_ge t 1 with y | y
      · exact absurd (nI_lt (b := 1) y (by omega)) q
      · exact y
    exact so_264b hp t1 (by omega) h6 hT hC
theorem so_198 {post : Int32 → St0 → Prop} {mc ms kc ks : Nat} {f1 f2 x0 x1 x2 x3 x4 x7 x9 x10 x11 z : Int32} {a1 a2 a3 a4 a5 a6 a7 a8 a9 a10 a11 a12 a13 a14 a15 a16 a17 a18 a19 a20 : Nat → Int32} (hp : post 1 ()) (h4 : ∀ j, j < 3 → a4 j = 0) (h6 : ∀ j, j < 3 → a6 j = 0) (hT : so_T x1 x7) (hC : so_C x0 x1 x2 x9 a1) (hO : so_O x2 x3 x4 x10 x11 z) :
    wL_lawOf_198 post mc ms x0 x1 x2 x3 x4 x7 x9 x10 x11 z kc ks 0 f1 f2 a1 a2 a3 a4 a5 a6 a7 a8 a9 a10 a11 a12 a13 a14 a15 a16 a17 a18 a19 a20 := by
  unfold wL_lawOf_198
  refine so_overload h4 hO (fun s2 s3 s4 hF => br_t rfl (so_forget hF (fun r s4' hr => ?_)))
  rcases hr with ⟨rfl, rfl⟩ | ⟨rfl, rfl, rfl | rfl⟩
  · exact br_t rfl (so_241 hp h6 hT hC)
  · exact br_f (by decide) (br_t rfl (so_241 hp h6 hT hC))
  · exact br_f (by decide) (br_f (by decide) (so_241 hp h6 hT hC))
/-- made: what the law says of go, types and cost -/
def so_M (x2 x4 x10 z : Int32) : Prop := (z = 1 ∧ x10 = 1 ∧ ¬ x4 < 0 ∧ ¬ 26 < x4 ∧ ¬ x2 < 0 ∧ ¬ 9 < x2) ∨ (z = 0 ∧ (x10 = 0 ∨ x4 < 0 ∨ 26 < x4 ∨ x2 < 0 ∨ 9 < x2))
theorem so_159 {post : Int32 → St0 → Prop} {mc ms kc ks : Nat} {f1 f2 x0 x1 x2 x3 x4 x7 x9 x10 z : Int32} {a1 a2 a3 a4 a5 a6 a7 a8 a9 a10 a11 a12 a13 a14 a15 a16 a17 a18 a19 a20 : Nat → Int32} (hp : post 1 ()) (h4 : ∀ j, j < 3 → a4 j = 0) (h6 : ∀ j, j < 3 → a6 j = 0) (hT : so_T x1 x7) (hC : so_C x0 x1 x2 x9 a1) (h3 : so_T x3 x10) (hM : so_M x2 x4 x10 z) :
    wL_lawOf_159 post mc ms x0 x1 x2 x3 x4 x7 x9 x10 z kc ks 0 f1 f2 a1 a2 a3 a4 a5 a6 a7 a8 a9 a10 a11 a12 a13 a14 a15 a16 a17 a18 a19 a20 := by
  unfold wL_lawOf_159
  rcases h3 with ⟨rfl, o, ho, rfl⟩ | ⟨rfl, h3⟩
  · refine br_f (by decide) ?_
    rcases hM with ⟨rfl, _, m1, m2, m3, m4⟩ | ⟨rfl, hM⟩
    · exact br_f m1 (br_t (so_le m2) (br_f (by decide) (so_198 hp h4 h6 hT hC (Or.inr ⟨o, ho, rfl, rfl, Or.inr ⟨m1, m2, Or.inr ⟨rfl, rfl, m3, m4⟩⟩⟩))))
    · refine br_c (fun q => ?_) (fun q => br_c (fun q2 => br_t rfl ?_) (fun q2 => ?_))
      · unfold wL_lawOf_182
        exact so_198 hp h4 h6 hT hC (Or.inr ⟨o, ho, rfl, rfl, Or.inl ⟨rfl, rfl, Or.inl q⟩⟩)
      · have q3 : ¬ 26 < x4 := fun y => so_nle y q2
        refine so_198 hp h4 h6 hT hC (Or.inr ⟨o, ho, rfl, rfl, Or.inr ⟨q, q3, Or.inl ⟨rfl, rfl, ?_⟩⟩⟩)
        rcases hM with y | y | y | y | y
        · exact absurd y (by decide)
        · exact absurd y q
        · exact absurd y q3
        · exact Or.inl y
        · exact Or.inr y
      · unfold wL_lawOf_182
        exact so_198 hp h4 h6 hT hC (Or.inr ⟨o, ho, rfl, rfl, Or.inl ⟨rfl, rfl, Or.inr (so_gt q2)⟩⟩)
  · refine br_t rfl (so_198 hp h4 h6 hT hC (Or.inl ⟨rfl, rfl, ?_, Or.inr ⟨rfl, h3⟩⟩))
    rcases hM with ⟨rfl, _⟩ | ⟨rfl, _⟩
    · exact Or.inr rfl
    · exact Or.inl rfl
theorem so_125 {post : Int32 → St0 → Prop} {mc ms kc ks : Nat} {f1 f2 x0 x1 x2 x3 x4 x7 x9 z : Int32} {a1 a2 a3 a4 a5 a6 a7 a8 a9 a10 a11 a12 a13 a14 a15 a16 a17 a18 a19 a20 : Nat → Int32} (hp : post 1 ()) (h4 : ∀ j, j < 3 → a4 j = 0) (h6 : ∀ j, j < 3 → a6 j = 0) (hT : so_T x1 x7) (hC : so_C x0 x1 x2 x9 a1) (h3 : so_T x3 z) :
    wL_lawOf_125 post mc ms x0 x1 x2 x3 x4 x7 x9 z kc ks 0 f1 f2 a1 a2 a3 a4 a5 a6 a7 a8 a9 a10 a11 a12 a13 a14 a15 a16 a17 a18 a19 a20 := by
  have k : (z = 0 ∨ x4 < 0 ∨ 26 < x4 ∨ x2 < 0 ∨ 9 < x2) → wL_lawOf_158 post mc ms x0 x1 x2 x3 x4 x7 x9 z kc ks 0 f1 f2 a1 a2 a3 a4 a5 a6 a7 a8 a9 a10 a11 a12 a13 a14 a15 a16 a17 a18 a19 a20 := by
    intro h
    unfold wL_lawOf_158
    exact so_159 hp h4 h6 hT hC h3 (Or.inr ⟨rfl, h⟩)
  unfold wL_lawOf_125
  refine br_c (fun q => k (Or.inl q)) (fun q => br_c (fun q1 => k (Or.inr (Or.inl q1))) (fun q1 => br_c (fun q2 => k (Or.inr (Or.inr (Or.inl q2)))) (fun q2 => br_c (fun q3 => k (Or.inr (Or.inr (Or.inr (Or.inl q3))))) (fun q3 => br_c (fun q4 => k (Or.inr (Or.inr (Or.inr (Or.inr q4))))) (fun q4 => ?_)))))
  refine so_159 hp h4 h6 hT hC h3 (Or.inl ⟨rfl, ?_, q1, q2, q3, q4⟩)
  rcases h3 with ⟨e, _⟩ | ⟨e, _⟩
  · exact e
  · exact absurd e q
theorem so_94 {post : Int32 → St0 → Prop} {mc ms kc ks : Nat} {f1 f2 x0 x1 x2 x3 x4 x7 z : Int32} {a1 a2 a3 a4 a5 a6 a7 a8 a9 a10 a11 a12 a13 a14 a15 a16 a17 a18 a19 a20 : Nat → Int32} (hp : post 1 ()) (h1 : ∀ j, j < 9 → a1 j = so_c0 j) (h4 : ∀ j, j < 3 → a4 j = 0) (h6 : ∀ j, j < 3 → a6 j = 0) (hT : so_T x1 x7) (hD : so_D x0 x1 x2 z) :
    wL_lawOf_94 post mc ms x0 x1 x2 x3 x4 x7 z kc ks 0 f1 f2 a1 a2 a3 a4 a5 a6 a7 a8 a9 a10 a11 a12 a13 a14 a15 a16 a17 a18 a19 a20 := by
  unfold wL_lawOf_94
  refine so_convert h1 hD (fun s hC => br_t rfl (br_c (fun q => ?_) (fun q => br_c (fun q2 => ?_) (fun q2 => ?_))))
  · unfold wL_lawOf_124
    exact so_125 hp h4 h6 hT hC (Or.inr ⟨rfl, Or.inl q⟩)
  · unfold wL_lawOf_124
    exact so_125 hp h4 h6 hT hC (Or.inr ⟨rfl, Or.inr q2⟩)
  · obtain ⟨o, ho, e⟩ := nI_of2 (M := 2) (n := 2) (by decide) q (so_le q2)
    exact so_125 hp h4 h6 hT hC (Or.inl ⟨rfl, o, by omega, e⟩)
theorem so_57 {post : Int32 → St0 → Prop} {mc ms kc ks : Nat} {f1 f2 x0 x1 x2 x3 x4 x6 x7 z : Int32} {a1 a2 a3 a4 a5 a6 a7 a8 a9 a10 a11 a12 a13 a14 a15 a16 a17 a18 a19 a20 : Nat → Int32} (hp : post 1 ()) (h1 : ∀ j, j < 9 → a1 j = so_c0 j) (h4 : ∀ j, j < 3 → a4 j = 0) (h6 : ∀ j, j < 3 → a6 j = 0) (hS : so_T x0 x6) (hT : so_T x1 x7)
    (hz : (z = 1 ∧ ¬ x2 < -1 ∧ ¬ 9 < x2) ∨ (z = 0 ∧ (x2 < -1 ∨ 9 < x2))) :
    wL_lawOf_57 post mc ms x0 x1 x2 x3 x4 x6 x7 z kc ks 0 f1 f2 a1 a2 a3 a4 a5 a6 a7 a8 a9 a10 a11 a12 a13 a14 a15 a16 a17 a18 a19 a20 := by
  unfold wL_lawOf_57
  have hT' := hT
  rcases hS with ⟨rfl, v, hv, rfl⟩ | ⟨rfl, hS⟩
  · refine br_f (by decide) ?_
    rcases hT with ⟨rfl, w, hw, rfl⟩ | ⟨rfl, hT⟩
    · refine br_f (by decide) (pk_eq v w (fun e => ?_) (fun e => ?_))
      · exact so_94 hp h1 h4 h6 hT' (Or.inr ⟨v, w, hv, hw, rfl, rfl, Or.inl ⟨rfl, e⟩⟩)
      · rcases hz with ⟨rfl, hz⟩ | ⟨rfl, hz⟩
        · exact br_f (by decide) (so_94 hp h1 h4 h6 hT' (Or.inr ⟨v, w, hv, hw, rfl, rfl, Or.inr ⟨e, Or.inr ⟨rfl, hz⟩⟩⟩))
        · exact br_t rfl (so_94 hp h1 h4 h6 hT' (Or.inr ⟨v, w, hv, hw, rfl, rfl, Or.inr ⟨e, Or.inl ⟨rfl, hz⟩⟩⟩))
    · refine br_t rfl ?_
      unfold wL_lawOf_69
      exact so_94 hp h1 h4 h6 hT' (Or.inl ⟨rfl, Or.inr hT'⟩)
  · refine br_t rfl ?_
    unfold wL_lawOf_69
    exact so_94 hp h1 h4 h6 hT' (Or.inl ⟨rfl, Or.inl (Or.inr ⟨rfl, hS⟩)⟩)
theorem so_39 {post : Int32 → St0 → Prop} {mc ms kc ks : Nat} {f1 f2 x0 x1 x2 x3 x4 x6 z : Int32} {a1 a2 a3 a4 a5 a6 a7 a8 a9 a10 a11 a12 a13 a14 a15 a16 a17 a18 a19 a20 : Nat → Int32} (hp : post 1 ()) (h1 : ∀ j, j < 9 → a1 j = so_c0 j) (h4 : ∀ j, j < 3 → a4 j = 0) (h6 : ∀ j, j < 3 → a6 j = 0) (hS : so_T x0 x6) (hT : so_T x1 z) :
    wL_lawOf_39 post mc ms x0 x1 x2 x3 x4 x6 z kc ks 0 f1 f2 a1 a2 a3 a4 a5 a6 a7 a8 a9 a10 a11 a12 a13 a14 a15 a16 a17 a18 a19 a20 := by
  unfold wL_lawOf_39
  refine br_c (fun q => ?_) (fun q => br_c (fun q2 => ?_) (fun q2 => ?_))
  · unfold wL_lawOf_56
    exact so_57 hp h1 h4 h6 hS hT (Or.inr ⟨rfl, Or.inl q⟩)
  · unfold wL_lawOf_56
    exact so_57 hp h1 h4 h6 hS hT (Or.inr ⟨rfl, Or.inr q2⟩)
  · exact so_57 hp h1 h4 h6 hS hT (Or.inl ⟨rfl, q, q2⟩)
theorem so_23 {post : Int32 → St0 → Prop} {mc ms kc ks : Nat} {f1 f2 x0 x1 x2 x3 x4 z : Int32} {a1 a2 a3 a4 a5 a6 a7 a8 a9 a10 a11 a12 a13 a14 a15 a16 a17 a18 a19 a20 : Nat → Int32} (hp : post 1 ()) (h1 : ∀ j, j < 9 → a1 j = so_c0 j) (h4 : ∀ j, j < 3 → a4 j = 0) (h6 : ∀ j, j < 3 → a6 j = 0) (hS : so_T x0 z) :
    wL_lawOf_23 post mc ms x0 x1 x2 x3 x4 z kc ks 0 f1 f2 a1 a2 a3 a4 a5 a6 a7 a8 a9 a10 a11 a12 a13 a14 a15 a16 a17 a18 a19 a20 := by
  unfold wL_lawOf_23
  refine br_c (fun q => ?_) (fun q => br_c (fun q2 => ?_) (fun q2 => ?_))
  · unfold wL_lawOf_38
    exact so_39 hp h1 h4 h6 hS (Or.inr ⟨rfl, Or.inl q⟩)
  · unfold wL_lawOf_38
    exact so_39 hp h1 h4 h6 hS (Or.inr ⟨rfl, Or.inr q2⟩)
  · obtain ⟨o, ho, e⟩ := nI_of2 (M := 2) (n := 2) (by decide) q (so_le q2)
    exact so_39 hp h1 h4 h6 hS (Or.inl ⟨rfl, o, by omega, e⟩)
theorem so_lawOf {post : Int32 → St0 → Prop} (hp : post 1 ()) (p0 p1 p2 p3 p4 : Int32) : wpL_lawOf post 21 5166 () p0 p1 p2 p3 p4 := by
  unfold wpL_lawOf
  refine ⟨by decide, by decide, 20, 5143, by decide, by decide, ?_⟩
  unfold wpX_init
  refine ⟨by decide, by decide, by decide, by decide, by decide, by decide, by decide, by decide, by decide, by decide, by decide, by decide, by decide, by decide, by decide, by decide, by decide, by decide, by decide, by decide, by decide, by decide, by decide, by decide, by decide, by decide, by decide, by decide, by decide, by decide, by decide, by decide, by decide, by decide, by decide, by decide, by decide, by decide, by decide, by decide, ?_⟩
  refine so_init166 (fun s v h1 => ?_)
  have z3 : ∀ j, j < 3 → (fun _ : Nat => (0 : Int32)) j = 0 := fun _ _ => rfl
  refine br_c (fun q => ?_) (fun q => br_c (fun q2 => ?_) (fun q2 => ?_))
  · unfold wL_lawOf_22
    exact so_23 hp h1 z3 z3 (Or.inr ⟨rfl, Or.inl q⟩)
  · unfold wL_lawOf_22
    exact so_23 hp h1 z3 z3 (Or.inr ⟨rfl, Or.inr q2⟩)
  · obtain ⟨o, ho, e⟩ := nI_of2 (M := 2) (n := 2) (by decide) q (so_le q2)
    exact so_23 hp h1 z3 z3 (Or.inl ⟨rfl, o, by omega, e⟩)
theorem so_cell {post : Int32 → Prop} {L : Nat} {xs : Nat → Int32} (hL : L ≤ 5) (k : Nat) (hk : k < 5) (h : ∀ r, post r) : wpL_cellAt post L xs () (nI k) := by
  unfold wpL_cellAt
  exact pk_le L k (fun _ => h _) (fun z => ⟨pk_in k L z, h _⟩)
theorem i_vc (xs : Nat → Int32) (L : Nat) (hL : L ≤ 5) : wpL_law (fun r => r = 1) L xs := by
  unfold wpL_law
  exact so_cell hL 0 (by omega) (fun r1 => so_cell hL 1 (by omega) (fun r2 => so_cell hL 2 (by omega) (fun r3 => so_cell hL 3 (by omega) (fun r4 => so_cell hL 4 (by omega) (fun r5 => ⟨21, 5166, by decide, by decide, so_lawOf rfl r1 r2 r3 r4 r5⟩)))))
end
