section
/-! numbers, places, pictures -/
theorem lc_ix (j b : Nat) : 3 * nI j + nI b = nI (3 * j + b) := by
  rw [show (3 : Int32) = nI 3 from rfl, pk_mul, nI_add]
theorem lc_ixm {j : Nat} (t : Nat) (h : 1 ≤ j) : 3 * nI j - 3 + nI t = nI (3 * j - 3 + t) := by
  rw [show (3 : Int32) = nI 3 from rfl, pk_mul, pk_sub (by omega), nI_add]
theorem lc_ixp (j t : Nat) : 3 * nI j + 3 + nI t = nI (3 * j + 3 + t) := by
  rw [show (3 : Int32) = nI 3 from rfl, pk_mul, nI_add, nI_add]
theorem lc_ix8 (b k : Nat) : 8 * nI b + nI k = nI (8 * b + k) := by
  rw [show (8 : Int32) = nI 8 from rfl, pk_mul, nI_add]
theorem lc_m8 (b : Nat) : 8 * nI b = nI (8 * b) := by
  rw [show (8 : Int32) = nI 8 from rfl, pk_mul]
theorem lc_cl {c : Nat} (h : c < 1000) : (nI c).toNatClampNeg = c := nI_clamp (by omega)
theorem lc_neg {m : Nat} (h : m < 2 ^ 31) : (-1000 : Int32) < nI m := by
  rw [Int32.lt_iff_toInt_lt, nI_toInt h]
  have e : (-1000 : Int32).toInt = -1000 := by decide
  omega
theorem lc_neg0 : (-1000 : Int32) < 0 := by decide
theorem lc_uu (f : Nat → Int32) (k : Nat) (x y : Int32) : upd (upd f k x) k y = upd f k y := by
  funext j
  unfold upd
  by_cases h : j = k
  · rw [if_pos h, if_pos h]
  · rw [if_neg h, if_neg h, if_neg h]
theorem lc_ui (f : Nat → Int32) (k : Nat) : upd f k (f k) = f := by
  funext j
  unfold upd
  by_cases h : j = k
  · rw [if_pos h, h]
  · rw [if_neg h]
theorem lc_uuL (f : Nat → Int64) (k : Nat) (x y : Int64) : vp_updL (vp_updL f k x) k y = vp_updL f k y := by
  funext j
  unfold vp_updL
  by_cases h : j = k
  · rw [if_pos h, if_pos h]
  · rw [if_neg h, if_neg h, if_neg h]
theorem lc_l0 : (0 : Int64) = lN 0 := rfl
theorem lc_l1 : (1 : Int64) = lN 1 := rfl
theorem lc_i1 : (1 : Int32) = nI 1 := rfl
theorem lc_pw {j : Nat} (h : j < 7) : 3 ^ j ≤ 729 := by
  have : ∀ j, j < 7 → 3 ^ j ≤ 729 := by decide
  exact this j h
theorem lc_pw1 (j : Nat) : 1 ≤ 3 ^ j := Nat.pos_of_ne_zero (by intro h; exact absurd (Nat.pow_eq_zero.mp h).1 (by decide))
theorem lc_pws (j : Nat) : 3 ^ (j + 1) = 3 * 3 ^ j := by rw [Nat.pow_succ, Nat.mul_comm]
/-- the weight of a place -/
def lc_w (q a w j b : Nat) : Nat := if j = q ∧ b = a then w else 1
def lc_fs (q a w j b : Nat) : Nat := if j < q then 2 * j + 1 else if j = q then 2 * j + lc_w q a w j b else 2 * j + max 1 w
def lc_fb (q w j : Nat) : Nat := if j ≤ q then 3 ^ j else if 1 < w then 3 ^ (j - 1) else if w = 1 then 3 ^ j else 2 * 3 ^ (j - 1)
def lc_fp (q a w j b : Nat) : Nat := if j < q then 3 ^ j else if j = q then 3 ^ j * lc_w q a w j b else 3 ^ (j - 1) * (2 + w)
def lc_bp (n q w j : Nat) : Nat := if j < q then 3 ^ (n - 2 - j) * (2 + w) else 3 ^ (n - 1 - j)
def lc_ct (m y s z : Nat) : Nat := if m < s then z else if m = s then y + z else y
theorem lc_w9 {q a w j b : Nat} (hw : w ≤ 9) : lc_w q a w j b ≤ 9 := by
  unfold lc_w
  split <;> omega
theorem lc_fs_b {q a w j b : Nat} (hw : w ≤ 9) (hj : j < 6) : lc_fs q a w j b ≤ 19 := by
  have h := lc_w9 (q := q) (a := a) (j := j) (b := b) hw
  unfold lc_fs
  split
  · omega
  · split <;> omega
theorem lc_fs_r {q a w i b : Nat} (ha : a < 3) : max (max (lc_fs q a w i 0) (lc_fs q a w i 1)) (lc_fs q a w i 2) + 1 + lc_w q a w (i + 1) b = lc_fs q a w (i + 1) b := by
  have h3 : a = 0 ∨ a = 1 ∨ a = 2 := by omega
  unfold lc_fs lc_w
  by_cases h1 : i + 1 < q
  · have e1 : i < q := by omega
    have e2 : ¬ i + 1 = q := by omega
    simp only [h1, e1, e2, if_true, if_false, false_and]
    omega
  · by_cases h2 : i + 1 = q
    · have e1 : i < q := by omega
      have e2 : ¬ q < q := by omega
      simp only [h2, e1, e2, if_true, if_false, true_and]
      split <;> omega
    · by_cases h4 : i = q
      · have e1 : ¬ q + 1 < q := by omega
        have e2 : ¬ q + 1 = q := by omega
        have e3 : ¬ q < q := by omega
        subst h4
        rcases h3 with rfl | rfl | rfl <;> simp [e1] <;> omega
      · have e1 : ¬ i < q := by omega
        simp only [h1, h2, h4, e1, if_true, if_false, false_and]
        omega
theorem lc_fb_r {q a w i : Nat} (ha : a < 3) : lc_ct (max (lc_fs q a w i 0) (lc_fs q a w i 1)) (lc_ct (lc_fs q a w i 0) (lc_fb q w i) (lc_fs q a w i 1) (lc_fb q w i)) (lc_fs q a w i 2) (lc_fb q w i) = lc_fb q w (i + 1) := by
  have h3 : a = 0 ∨ a = 1 ∨ a = 2 := by omega
  have hp := lc_pws i
  have hi : i + 1 - 1 = i := by omega
  by_cases h1 : i + 1 ≤ q
  · have e1 : i < q := by omega
    have e2 : i ≤ q := by omega
    have e3 : ∀ b, lc_fs q a w i b = 2 * i + 1 := fun b => by unfold lc_fs; rw [if_pos e1]
    have e4 : lc_fb q w i = 3 ^ i := by unfold lc_fb; rw [if_pos e2]
    have e5 : lc_fb q w (i + 1) = 3 ^ (i + 1) := by unfold lc_fb; rw [if_pos h1]
    rw [e3, e3, e3, e4, e5, Nat.max_self]
    unfold lc_ct
    rw [if_neg (by omega), if_pos rfl, if_neg (by omega), if_pos rfl]
    omega
  · by_cases h4 : i = q
    · subst h4
      have e4 : lc_fb i w i = 3 ^ i := by unfold lc_fb; rw [if_pos (by omega)]
      have e5 : lc_fb i w (i + 1) = if 1 < w then 3 ^ i else if w = 1 then 3 ^ (i + 1) else 2 * 3 ^ i := by unfold lc_fb; rw [if_neg (by omega), hi]
      have e3 : ∀ b, lc_fs i a w i b = 2 * i + lc_w i a w i b := fun b => by unfold lc_fs; rw [if_neg (by omega), if_pos rfl]
      rw [e3, e3, e3, e4, e5, hp]
      unfold lc_ct lc_w
      clear e4 e5 e3 hp
      generalize 3 ^ i = P
      have hw : w = 0 ∨ w = 1 ∨ 1 < w := by omega
      have w0 : ¬ 2 * i + 1 < 2 * i := by omega
      rcases hw with rfl | rfl | hw
      · rcases h3 with rfl | rfl | rfl <;> simp [w0] <;> omega
      · rcases h3 with rfl | rfl | rfl <;> simp <;> omega
      · have w1 : ¬ w = 1 := by omega
        have w2 : ¬ w < 1 := by omega
        have w3 : max 1 w = w := by omega
        have w4 : max w 1 = w := by omega
        have w5 : ¬ 1 = w := by omega
        rcases h3 with rfl | rfl | rfl <;> simp [hw, w1, w2, w3, w4, w5] <;> omega
    · have e1 : ¬ i < q := by omega
      have e2 : ¬ i ≤ q := by omega
      have e3 : ∀ b, lc_fs q a w i b = 2 * i + max 1 w := fun b => by unfold lc_fs; rw [if_neg e1, if_neg h4]
      rw [e3, e3, e3, Nat.max_self]
      unfold lc_ct
      rw [if_neg (by omega), if_pos rfl, if_neg (by omega), if_pos rfl]
      obtain ⟨k, rfl⟩ : ∃ k, i = k + 1 := ⟨i - 1, by omega⟩
      have hp2 := lc_pws k
      have hk : k + 1 - 1 = k := by omega
      unfold lc_fb
      rw [if_neg e2, if_neg h1, hi, hk]
      generalize 3 ^ (k + 1 + 1) = A at *
      generalize 3 ^ (k + 1) = B at *
      split
      · omega
      · split <;> omega
theorem lc_fp_r {q a w i b : Nat} (ha : a < 3) : (lc_fp q a w i 0 + lc_fp q a w i 1 + lc_fp q a w i 2) * lc_w q a w (i + 1) b = lc_fp q a w (i + 1) b := by
  have h3 : a = 0 ∨ a = 1 ∨ a = 2 := by omega
  have hp := lc_pws i
  have hi : i + 1 - 1 = i := by omega
  by_cases h1 : i + 1 < q
  · have e1 : i < q := by omega
    have e2 : ¬ i + 1 = q := by omega
    unfold lc_fp lc_w
    simp only [h1, e1, e2, if_true, if_false, false_and]
    omega
  · by_cases h2 : i + 1 = q
    · have e1 : i < q := by omega
      have e3 : ∀ b, lc_fp q a w i b = 3 ^ i := fun b => by unfold lc_fp; rw [if_pos e1]
      have e4 : lc_fp q a w (i + 1) b = 3 ^ (i + 1) * lc_w q a w (i + 1) b := by unfold lc_fp; rw [if_neg h1, if_pos h2]
      rw [e3, e3, e3, e4, hp]
      congr 1
      omega
    · have e5 : lc_w q a w (i + 1) b = 1 := by unfold lc_w; rw [if_neg (fun h => h2 h.1)]
      have e4 : lc_fp q a w (i + 1) b = 3 ^ i * (2 + w) := by unfold lc_fp; rw [if_neg h1, if_neg h2, hi]
      rw [e4, e5, Nat.mul_one]
      by_cases h4 : i = q
      · have e3 : ∀ b, lc_fp q a w i b = 3 ^ i * lc_w q a w i b := fun b => by unfold lc_fp; rw [if_neg (by omega), if_pos h4]
        rw [e3, e3, e3, ← Nat.mul_add, ← Nat.mul_add]
        congr 1
        unfold lc_w
        rcases h3 with rfl | rfl | rfl <;> simp [h4] <;> omega
      · obtain ⟨k, rfl⟩ : ∃ k, i = k + 1 := ⟨i - 1, by omega⟩
        have e3 : ∀ b, lc_fp q a w (k + 1) b = 3 ^ k * (2 + w) := fun b => by unfold lc_fp; rw [if_neg (by omega), if_neg h4]; rfl
        rw [e3, e3, e3, lc_pws k, Nat.mul_assoc]
        omega
theorem lc_bp_r {n q a w i : Nat} (ha : a < 3) (hq : q < n) (hn : i + 1 < n) : lc_w q a w (i + 1) 0 * lc_bp n q w (i + 1) + lc_w q a w (i + 1) 1 * lc_bp n q w (i + 1) + lc_w q a w (i + 1) 2 * lc_bp n q w (i + 1) = lc_bp n q w i := by
  have h3 : a = 0 ∨ a = 1 ∨ a = 2 := by omega
  rw [← Nat.add_mul, ← Nat.add_mul]
  by_cases h1 : i + 1 = q
  · have e1 : lc_bp n q w (i + 1) = 3 ^ (n - 2 - i) := by unfold lc_bp; rw [if_neg (by omega)]; congr 1; omega
    have e2 : lc_bp n q w i = 3 ^ (n - 2 - i) * (2 + w) := by unfold lc_bp; rw [if_pos (by omega)]
    rw [e1, e2, Nat.mul_comm (3 ^ (n - 2 - i))]
    congr 1
    unfold lc_w
    rcases h3 with rfl | rfl | rfl <;> simp [h1] <;> omega
  · have e5 : ∀ b, lc_w q a w (i + 1) b = 1 := fun b => by unfold lc_w; rw [if_neg (fun h => h1 h.1)]
    rw [e5, e5, e5]
    by_cases h2 : i + 1 < q
    · obtain ⟨k, hk⟩ : ∃ k, n - 2 - i = k + 1 := ⟨n - 2 - i - 1, by omega⟩
      unfold lc_bp
      rw [if_pos h2, if_pos (by omega), hk, show n - 2 - (i + 1) = k by omega, lc_pws, Nat.mul_assoc]
    · unfold lc_bp
      rw [if_neg h2, if_neg (by omega), show n - 1 - i = (n - 1 - (i + 1)) + 1 by omega, lc_pws]
end
section
/-! startFront, fillFront -/
abbrev lc_JA : Type := (Nat → Int32) → (Nat → Int32) → (Nat → Int32) → (Nat → Int32) → (Nat → Int32) → (Nat → Int32) → (Nat → Int32) → (Nat → Int32) → (Nat → Int64) → (Nat → Int64) → (Nat → Int32) → (Nat → Int32) → (Nat → Int32) → (Nat → Int32) → Prop
theorem lc_tri {m y s z ω : Nat} (hm : m ≤ 100) (hs : s ≤ 100) (hω : ω ≤ 9) :
    (nI (m + 1 + ω) < nI (s + 1 + ω) ∧ nI (max m s + 1 + ω) = nI (s + 1 + ω) ∧ nI (lc_ct m y s z) = nI z)
    ∨ (nI (m + 1 + ω) = nI (s + 1 + ω) ∧ nI (max m s + 1 + ω) = nI (m + 1 + ω) ∧ nI (lc_ct m y s z) = nI y + nI z)
    ∨ (nI (s + 1 + ω) < nI (m + 1 + ω) ∧ nI (max m s + 1 + ω) = nI (m + 1 + ω) ∧ nI (lc_ct m y s z) = nI y) := by
  unfold lc_ct
  by_cases h : m < s
  · refine Or.inl ⟨nI_lt (by omega) (by omega), ?_, ?_⟩
    · rw [show max m s = s by omega]
    · rw [if_pos h]
  · by_cases h2 : m = s
    · refine Or.inr (Or.inl ⟨by rw [h2], ?_, ?_⟩)
      · rw [show max m s = m by omega]
      · rw [if_neg h, if_pos h2, nI_add]
    · refine Or.inr (Or.inr ⟨nI_lt (by omega) (by omega), ?_, ?_⟩)
      · rw [show max m s = m by omega]
      · rw [if_neg h, if_neg h2]
section
variable {post : St2 → Prop} {f0 f1 : Int32} {a1 a2 a3 a4 a5 a6 a7 a8 : Nat → Int32} {a9 a10 : Nat → Int64} {a11 a12 a13 a14 : Nat → Int32}
theorem lc_start {t : Nat} (ht : t < 18) (h2 : a2 t = 0)
    (H : post (f0, f1, a1, a2, a3, a4, upd a5 t (a1 t), a6, upd a7 t 1, upd a8 t 1, vp_updL a9 t (a1 t).toInt64, a10, a11, a12, a13, a14)) :
    wpX_startFront post (f0, f1, a1, a2, a3, a4, a5, a6, a7, a8, a9, a10, a11, a12, a13, a14) (nI t) := by
  have hc : (nI t).toNatClampNeg = t := nI_clamp (by omega)
  have hv : vp_in (nI t) 18 := vp_in_nI ht (by omega)
  unfold wpX_startFront
  dsimp only
  rw [hc]
  refine ⟨hv, nm_r h2 (br_t rfl ⟨hv, ?_⟩)⟩
  unfold wX_startFront_28
  rw [hc]
  refine ⟨hv, nm_e (br_t rfl ?_)⟩
  unfold wX_startFront_43
  rw [hc]
  refine ⟨hv, nm_e (br_t rfl ?_)⟩
  unfold wX_startFront_58
  rw [hc]
  exact ⟨hv, nm_e (br_t rfl ⟨hv, hv, nm_e H⟩)⟩
theorem lc_f173 {J : Int32 → lc_JA} {x1 x2 x4 : Int32} {c g e : Nat} (hc : c < 18) (hg : g < 18) (he : e < 9) (hx : 3 * x4 + x2 = nI e)
    (H : J (x4 + 1) a1 a2 a3 a4 a5 a6 (upd a7 c (a7 c + a7 g)) a8 (vp_updL a9 c (a9 c + a9 g * (a3 e).toInt64 * (a1 c).toInt64)) a10 a11 a12 a13 a14) :
    wX_fillFront_173 post J x1 x2 (nI c) x4 (nI g) f0 f1 a1 a2 a3 a4 a5 a6 a7 a8 a9 a10 a11 a12 a13 a14 := by
  have vc : vp_in (nI c) 18 := vp_in_nI hc (by omega)
  have vg : vp_in (nI g) 18 := vp_in_nI hg (by omega)
  have ve : vp_in (nI e) 9 := vp_in_nI he (by omega)
  unfold wX_fillFront_173
  rw [hx, lc_cl (show c < 1000 by omega), lc_cl (show g < 1000 by omega), lc_cl (show e < 1000 by omega)]
  exact ⟨vc, vg, vc, nm_e ⟨vc, vg, ve, vc, vc, nm_e (nm_e H)⟩⟩
theorem lc_f146 {J : Int32 → lc_JA} {x1 x2 x4 s : Int32} {c g : Nat} (hc : c < 18) (hg : g < 18)
    (hA : s = a5 c → wX_fillFront_173 post J x1 x2 (nI c) x4 (nI g) f0 f1 a1 a2 a3 a4 a5 a6 a7 (upd a8 c (a8 c + a8 g)) a9 a10 a11 a12 a13 a14)
    (hB : ¬ s = a5 c → wX_fillFront_173 post J x1 x2 (nI c) x4 (nI g) f0 f1 a1 a2 a3 a4 a5 a6 a7 a8 a9 a10 a11 a12 a13 a14) :
    wX_fillFront_146 post J x1 x2 (nI c) x4 (nI g) s f0 f1 a1 a2 a3 a4 a5 a6 a7 a8 a9 a10 a11 a12 a13 a14 := by
  have vc : vp_in (nI c) 18 := vp_in_nI hc (by omega)
  have vg : vp_in (nI g) 18 := vp_in_nI hg (by omega)
  unfold wX_fillFront_146
  rw [lc_cl (show c < 1000 by omega), lc_cl (show g < 1000 by omega)]
  exact ⟨vc, br_c (fun h => ⟨vc, vg, vc, nm_e (hA h)⟩) hB⟩
theorem lc_ffs {j b t n c g e : Nat} {v5 v7 v8 v5' v8' : Int32} {v9 : Int64} {s x y z ω : Nat} (ht : t < 3) (hc : c < 18) (hg : g < 18) (he : e < 9)
    (hxe : 3 * nI t + nI b = nI e) (hxg : 3 * nI j - 3 + nI t = nI g) (hgc : g ≠ c)
    (h4 : ∀ k, k < 9 → a4 k = 0) (h3 : ∀ k, k < 9 → a3 k = 1) (e1 : a1 c = nI ω) (hω : ω ≤ 9)
    (e5 : a5 g = nI s) (e7 : a7 g = nI x) (e8 : a8 g = nI y) (e9 : a9 g = lN z) (hx : 0 < x) (hx' : x < 2 ^ 31)
    (hv : (v5 < nI (s + 1 + ω) ∧ v5' = nI (s + 1 + ω) ∧ v8' = nI y) ∨ (v5 = nI (s + 1 + ω) ∧ v5' = v5 ∧ v8' = v8 + nI y) ∨ (nI (s + 1 + ω) < v5 ∧ v5' = v5 ∧ v8' = v8))
    (H : wX_fillFront_49 post (nI j) (nI b) (nI c) f0 f1 n (nI (t + 1)) a1 a2 a3 a4 (upd a5 c v5') a6 (upd a7 c (v7 + nI x)) (upd a8 c v8') (vp_updL a9 c (v9 + lN (z * ω))) a10 a11 a12 a13 a14) :
    wX_fillFront_49 post (nI j) (nI b) (nI c) f0 f1 (n + 1) (nI t) a1 a2 a3 a4 (upd a5 c v5) a6 (upd a7 c v7) (upd a8 c v8) (vp_updL a9 c v9) a10 a11 a12 a13 a14 := by
  have vc : vp_in (nI c) 18 := vp_in_nI hc (by omega)
  have vg : vp_in (nI g) 18 := vp_in_nI hg (by omega)
  have cc : (nI c).toNatClampNeg = c := lc_cl (by omega)
  have cg : (nI g).toNatClampNeg = g := lc_cl (by omega)
  have ce : (nI e).toNatClampNeg = e := lc_cl (by omega)
  have hmul : lN z * (1 : Int32).toInt64 * (nI ω).toInt64 = lN (z * ω) := by
    rw [lc_i1, nI_l (by omega), nI_l (by omega), lN_mul, lN_mul, Nat.mul_one]
  have K : ∀ A5 A8 : Nat → Int32, A5 = upd a5 c v5' → A8 = upd a8 c v8' → wX_fillFront_173 post (wX_fillFront_49 post (nI j) (nI b) (nI c) f0 f1 n) (nI j) (nI b) (nI c) (nI t) (nI g) f0 f1 a1 a2 a3 a4 A5 a6 (upd a7 c v7) A8 (vp_updL a9 c v9) a10 a11 a12 a13 a14 := by
    intro A5 A8 h5 h8
    refine lc_f173 hc hg he hxe ?_
    rw [h5, h8, nI_1, lc_uu, lc_uuL, pk_us, pk_un hgc, pk_uLs, pk_uLn hgc, e7, e9, h3 e he, e1, hmul]
    exact H
  refine pk_le 3 t (fun z => absurd z (by omega)) (fun _ => nm_r hxg ⟨pk_in e 9 he hxe, br_t ?_ ⟨vg, br_f ?_ ⟨vg, pk_in e 9 he hxe, vc, nm_r (e' := nI (s + 1 + ω)) ?_ ⟨vc, ?_⟩⟩⟩⟩)
  · rw [hxe, ce]
    exact h4 e he
  · rw [cg, pk_un hgc, e7]
    exact nI_ne0 hx hx'
  · rw [hxe, ce, cg, cc, pk_un hgc, e5, h3 e he, e1, lc_i1, nI_add, nI_add]
  · rw [cc, pk_us]
    rcases hv with ⟨h1, h5, h8⟩ | ⟨h1, h5, h8⟩ | ⟨h1, h5, h8⟩
    · refine br_f (Int32.not_le.mpr h1) ⟨vc, nm_e ⟨vc, nm_e (lc_f146 hc hg (fun _ => K _ _ ?_ ?_) (fun h => absurd ?_ h))⟩⟩
      · rw [lc_uu, h5]
      · rw [lc_uu, lc_uu, pk_us, pk_un hgc, pk_un hgc, e8, h8, Int32.zero_add]
      · rw [pk_us]
    · refine br_t (by rw [h1]; exact Int32.le_refl _) (lc_f146 hc hg (fun _ => K _ _ ?_ ?_) (fun h => absurd ?_ h))
      · rw [h5]
      · rw [lc_uu, pk_us, pk_un hgc, e8, h8]
      · rw [pk_us]
        exact h1.symm
    · refine br_t (Int32.le_of_lt h1) (lc_f146 hc hg (fun h => absurd h ?_) (fun _ => K _ _ ?_ ?_))
      · rw [pk_us]
        intro h
        rw [h] at h1
        exact absurd h1 Int32.lt_irrefl
      · rw [h5]
      · rw [h8]
theorem lc_front {j b ω : Nat} {s x y z : Nat → Nat} (hj : 1 ≤ j) (hj6 : j < 6) (hb : b < 3) (h2 : a2 (3 * j + b) = 0)
    (h4 : ∀ k, k < 9 → a4 k = 0) (h3 : ∀ k, k < 9 → a3 k = 1) (e1 : a1 (3 * j + b) = nI ω) (hω : ω ≤ 9)
    (hs : ∀ t, t < 3 → s t ≤ 100 ∧ 0 < x t ∧ x t < 2 ^ 31 ∧ a5 (3 * j - 3 + t) = nI (s t) ∧ a7 (3 * j - 3 + t) = nI (x t) ∧ a8 (3 * j - 3 + t) = nI (y t) ∧ a9 (3 * j - 3 + t) = lN (z t))
    (H : post (f0, f1, a1, a2, a3, a4, upd a5 (3 * j + b) (nI (max (max (s 0) (s 1)) (s 2) + 1 + ω)), a6, upd a7 (3 * j + b) (nI (x 0 + x 1 + x 2)), upd a8 (3 * j + b) (nI (lc_ct (max (s 0) (s 1)) (lc_ct (s 0) (y 0) (s 1) (y 1)) (s 2) (y 2))), vp_updL a9 (3 * j + b) (lN ((z 0 + z 1 + z 2) * ω)), a10, a11, a12, a13, a14)) :
    wpX_fillFront post (f0, f1, a1, a2, a3, a4, a5, a6, a7, a8, a9, a10, a11, a12, a13, a14) (nI j) (nI b) := by
  have hc : 3 * j + b < 18 := by omega
  have vc : vp_in (nI (3 * j + b)) 18 := vp_in_nI hc (by omega)
  obtain ⟨s0, p0, r0, i0, k0, m0, n0⟩ := hs 0 (by omega)
  obtain ⟨s1, p1, r1, i1, k1, m1, n1⟩ := hs 1 (by omega)
  obtain ⟨s2, p2, r2, i2, k2, m2, n2⟩ := hs 2 (by omega)
  unfold wpX_fillFront
  dsimp only
  refine nm_r (lc_ix j b) ?_
  rw [lc_cl (show 3 * j + b < 1000 by omega)]
  refine ⟨vc, nm_e ⟨vc, nm_e ⟨vc, nm_e ⟨vc, nm_e ⟨vc, br_t h2 ⟨4, ?_⟩⟩⟩⟩⟩⟩
  refine lc_ffs (t := 0) (n := 3) (v5' := nI (s 0 + 1 + ω)) (v8' := nI (y 0)) (by omega) hc (by omega) (by omega) (lc_ix 0 b) (lc_ixm 0 hj) (by omega) h4 h3 e1 hω i0 k0 m0 n0 p0 r0 (Or.inl ⟨lc_neg (by omega), rfl, rfl⟩) ?_
  refine lc_ffs (t := 1) (n := 2) (by omega) hc (by omega) (by omega) (lc_ix 1 b) (lc_ixm 1 hj) (by omega) h4 h3 e1 hω i1 k1 m1 n1 p1 r1 (lc_tri s0 s1 hω) ?_
  refine lc_ffs (t := 2) (n := 1) (by omega) hc (by omega) (by omega) (lc_ix 2 b) (lc_ixm 2 hj) (by omega) h4 h3 e1 hω i2 k2 m2 n2 p2 r2 (lc_tri (by omega) s2 hω) ?_
  refine pk_le 3 3 (fun _ => ?_) (fun z => absurd z (by omega))
  have q7 : (0 : Int32) + nI (x 0) + nI (x 1) + nI (x 2) = nI (x 0 + x 1 + x 2) := by
    rw [Int32.zero_add, nI_add, nI_add]
  have q9 : (0 : Int64) + lN (z 0 * ω) + lN (z 1 * ω) + lN (z 2 * ω) = lN ((z 0 + z 1 + z 2) * ω) := by
    rw [Int64.zero_add, lN_add, lN_add, Nat.add_mul, Nat.add_mul]
  rw [q7, q9]
  exact H
end
/-- the front tables hold their pictures below the place m -/
def lc_F (q a w m : Nat) (a5 a7 a8 : Nat → Int32) (a9 : Nat → Int64) : Prop := ∀ j b, b < 3 → 3 * j + b < m → a5 (3 * j + b) = nI (lc_fs q a w j b) ∧ a7 (3 * j + b) = nI (3 ^ j) ∧ a8 (3 * j + b) = nI (lc_fb q w j) ∧ a9 (3 * j + b) = lN (lc_fp q a w j b)
theorem lc_F0 {q a w : Nat} {a5 a7 a8 : Nat → Int32} {a9 : Nat → Int64} : lc_F q a w 0 a5 a7 a8 a9 := fun _ _ _ h => absurd h (by omega)
theorem lc_Fs {q a w m j b : Nat} {a5 a7 a8 : Nat → Int32} {a9 : Nat → Int64} {v5 v7 v8 : Int32} {v9 : Int64} (hb : b < 3) (hm : 3 * j + b = m) (h : lc_F q a w m a5 a7 a8 a9)
    (h5 : v5 = nI (lc_fs q a w j b)) (h7 : v7 = nI (3 ^ j)) (h8 : v8 = nI (lc_fb q w j)) (h9 : v9 = lN (lc_fp q a w j b)) :
    lc_F q a w (m + 1) (upd a5 m v5) (upd a7 m v7) (upd a8 m v8) (vp_updL a9 m v9) := by
  intro j' b' hb' hlt
  by_cases e : 3 * j' + b' = m
  · have ej : j' = j := by omega
    have eb : b' = b := by omega
    rw [e, pk_us, pk_us, pk_us, pk_uLs, ej, eb]
    exact ⟨h5, h7, h8, h9⟩
  · rw [pk_un e, pk_un e, pk_un e, pk_uLn e]
    exact h j' b' hb' (by omega)
section
variable {post : St2 → Prop} {f0 f1 : Int32} {a1 a2 a3 a4 a5 a6 a7 a8 : Nat → Int32} {a9 a10 : Nat → Int64} {a11 a12 a13 a14 : Nat → Int32}
theorem lc_startF {q a w t : Nat} (ht : t < 3) (hw : w ≤ 9) (h2 : a2 t = 0) (e1 : a1 t = nI (lc_w q a w 0 t)) (hF : lc_F q a w t a5 a7 a8 a9)
    (H : ∀ b5 b7 b8 b9, lc_F q a w (t + 1) b5 b7 b8 b9 → post (f0, f1, a1, a2, a3, a4, b5, a6, b7, b8, b9, a10, a11, a12, a13, a14)) :
    wpX_startFront post (f0, f1, a1, a2, a3, a4, a5, a6, a7, a8, a9, a10, a11, a12, a13, a14) (nI t) := by
  refine lc_start (by omega) h2 (H _ _ _ _ (lc_Fs (j := 0) (b := t) ht (by omega) hF ?_ rfl ?_ ?_))
  · rw [e1]
    unfold lc_fs
    by_cases hq : 0 < q
    · rw [if_pos hq]
      unfold lc_w
      rw [if_neg (fun h => by omega)]
    · rw [if_neg hq, if_pos (by omega), Nat.mul_zero, Nat.zero_add]
  · unfold lc_fb
    rw [if_pos (by omega)]
    rfl
  · rw [e1, nI_l (Nat.lt_of_le_of_lt (lc_w9 hw) (by omega))]
    unfold lc_fp
    by_cases hq : 0 < q
    · rw [if_pos hq]
      unfold lc_w
      rw [if_neg (fun h => by omega)]
    · rw [if_neg hq, if_pos (by omega), Nat.pow_zero, Nat.one_mul]
theorem lc_frontF {q a w j b : Nat} (hj : 1 ≤ j) (hj6 : j < 6) (hb : b < 3) (ha : a < 3) (hw : w ≤ 9) (h2 : a2 (3 * j + b) = 0)
    (h4 : ∀ k, k < 9 → a4 k = 0) (h3 : ∀ k, k < 9 → a3 k = 1) (e1 : a1 (3 * j + b) = nI (lc_w q a w j b)) (hF : lc_F q a w (3 * j + b) a5 a7 a8 a9)
    (H : ∀ b5 b7 b8 b9, lc_F q a w (3 * j + b + 1) b5 b7 b8 b9 → post (f0, f1, a1, a2, a3, a4, b5, a6, b7, b8, b9, a10, a11, a12, a13, a14)) :
    wpX_fillFront post (f0, f1, a1, a2, a3, a4, a5, a6, a7, a8, a9, a10, a11, a12, a13, a14) (nI j) (nI b) := by
  obtain ⟨i, rfl⟩ : ∃ i, j = i + 1 := ⟨j - 1, by omega⟩
  refine lc_front (ω := lc_w q a w (i + 1) b) (s := lc_fs q a w i) (x := fun _ => 3 ^ i) (y := fun _ => lc_fb q w i) (z := lc_fp q a w i) hj hj6 hb h2 h4 h3 e1 (lc_w9 hw) ?_ ?_
  · intro t ht
    have e : 3 * (i + 1) - 3 + t = 3 * i + t := by omega
    rw [e]
    have hp := lc_pw (j := i) (by omega)
    have hp1 := lc_pw1 i
    have hsb := lc_fs_b (q := q) (a := a) (b := t) hw (show i < 6 by omega)
    obtain ⟨g5, g7, g8, g9⟩ := hF i t ht (by omega)
    exact ⟨by omega, hp1, Nat.lt_of_le_of_lt hp (by decide), g5, g7, g8, g9⟩
  · refine H _ _ _ _ (lc_Fs hb rfl hF ?_ ?_ ?_ ?_)
    · rw [lc_fs_r ha]
    · rw [lc_pws]
      congr 1
      omega
    · rw [lc_fb_r ha]
    · rw [lc_fp_r ha]
end
end
section
/-! fillBack -/
/-- the back tables hold their pictures behind the row i, and in it below t -/
def lc_B (n q w i t : Nat) (a6 : Nat → Int32) (a10 : Nat → Int64) : Prop := ∀ j b, b < 3 → j < n → (i < j ∨ (j = i ∧ b < t)) → a10 (3 * j + b) = lN (lc_bp n q w j) ∧ ∃ v, v ≤ 10 * (n - j) ∧ a6 (3 * j + b) = nI v
theorem lc_Bs {n q w i b : Nat} {a6 : Nat → Int32} {a10 : Nat → Int64} {v6 : Int32} {v10 : Int64} (hb : b < 3) (h : lc_B n q w i b a6 a10)
    (h6 : ∃ v, v ≤ 10 * (n - i) ∧ v6 = nI v) (h10 : v10 = lN (lc_bp n q w i)) : lc_B n q w i (b + 1) (upd a6 (3 * i + b) v6) (vp_updL a10 (3 * i + b) v10) := by
  intro j' b' hb' hj' hlt
  by_cases e : 3 * j' + b' = 3 * i + b
  · have ej : j' = i := by omega
    rw [e, pk_us, pk_uLs, ej]
    exact ⟨h10, h6⟩
  · rw [pk_un e, pk_uLn e]
    exact h j' b' hb' hj' (by omega)
theorem lc_Bn {n q w i : Nat} {a6 : Nat → Int32} {a10 : Nat → Int64} (h : lc_B n q w (i + 1) 3 a6 a10) : lc_B n q w i 0 a6 a10 := by
  intro j b hb hj hlt
  exact h j b hb hj (by omega)
theorem lc_B1 {n q w i : Nat} {a6 : Nat → Int32} {a10 : Nat → Int64} (hi : n = i + 1) : lc_B n q w i 0 a6 a10 := by
  intro j b hb hj hlt
  omega
theorem lc_Bd {n q w i : Nat} {a6 : Nat → Int32} {a10 : Nat → Int64} (h : lc_B n q w i 3 a6 a10) (k : Nat) (hk : i = k + 1) : lc_B n q w k 0 a6 a10 := by
  subst hk
  exact lc_Bn h
section
variable {post : St2 → Prop} {f0 f1 : Int32} {a1 a2 a3 a4 a5 a6 a7 a8 : Nat → Int32} {a9 a10 : Nat → Int64} {a11 a12 a13 a14 : Nat → Int32}
theorem lc_b137 {J : Int32 → Int64 → Int32 → Prop} {x1 x3 x4 : Int32} {x5 : Int64} {b t e g ω β : Nat} (he : e < 9) (hg : g < 18) (hxe : 3 * nI b + nI t = nI e)
    (h3 : ∀ k, k < 9 → a3 k = 1) (e1 : a1 g = nI ω) (hω : ω ≤ 9) (e10 : a10 g = lN β) (H : J x4 (x5 + lN (ω * β)) (nI (t + 1))) :
    wX_fillBack_137 post J x1 (nI b) x3 x4 x5 (nI t) (nI g) f0 f1 a1 a2 a3 a4 a5 a6 a7 a8 a9 a10 a11 a12 a13 a14 := by
  have vg : vp_in (nI g) 18 := vp_in_nI hg (by omega)
  have ve : vp_in (nI e) 9 := vp_in_nI he (by omega)
  unfold wX_fillBack_137
  rw [hxe, lc_cl (show g < 1000 by omega), lc_cl (show e < 1000 by omega), h3 e he, e1, e10]
  rw [lc_i1, pk_mul, nI_l (by omega), lN_mul, Nat.one_mul]
  exact ⟨ve, vg, vg, nm_e (nm_r (nI_1 t) H)⟩
theorem lc_bs {x4 : Int32} {x5 : Int64} {n i b t c e g ω β v B : Nat} (ht : t < 3) (he : e < 9) (hg : g < 18) (hxe : 3 * nI b + nI t = nI e) (hxg : 3 * nI i + 3 + nI t = nI g)
    (h4 : ∀ k, k < 9 → a4 k = 0) (h3 : ∀ k, k < 9 → a3 k = 1) (e1 : a1 g = nI ω) (hω : ω ≤ 9) (e10 : a10 g = lN β) (e6 : a6 g = nI v) (hv : v + 1 ≤ B) (hB : B < 1000)
    (hx4 : x4 = -1000 ∨ ∃ m, m ≤ B ∧ x4 = nI m)
    (H : ∀ m, m ≤ B → wX_fillBack_62 post (nI i) (nI b) (nI c) f0 f1 a1 a2 a3 a4 a5 a6 a7 a8 a9 a10 a11 a12 a13 a14 n (nI m) (x5 + lN (ω * β)) (nI (t + 1))) :
    wX_fillBack_62 post (nI i) (nI b) (nI c) f0 f1 a1 a2 a3 a4 a5 a6 a7 a8 a9 a10 a11 a12 a13 a14 (n + 1) x4 x5 (nI t) := by
  have vg : vp_in (nI g) 18 := vp_in_nI hg (by omega)
  have cg : (nI g).toNatClampNeg = g := lc_cl (by omega)
  have ce : (nI e).toNatClampNeg = e := lc_cl (by omega)
  refine pk_le 3 t (fun z => absurd z (by omega)) (fun _ => nm_r hxg ⟨pk_in e 9 he hxe, br_t ?_ ⟨vg, br_t ?_ ⟨pk_in e 9 he hxe, vg, nm_r (e' := nI (v + 1)) ?_ ?_⟩⟩⟩)
  · rw [hxe, ce]
    exact h4 e he
  · rw [cg, e6]
    exact nI_pos' (by omega)
  · rw [hxe, ce, cg, e6, h3 e he, lc_i1, nI_add, Nat.add_comm]
  · rcases hx4 with rfl | ⟨m, hm, rfl⟩
    · exact br_f (Int32.not_le.mpr (lc_neg (by omega))) (lc_b137 he hg hxe h3 e1 hω e10 (H (v + 1) hv))
    · exact br_c (fun _ => lc_b137 he hg hxe h3 e1 hω e10 (H m hm)) (fun _ => lc_b137 he hg hxe h3 e1 hω e10 (H (v + 1) hv))
theorem lc_bx {x5 : Int64} {n i b c ω m : Nat} (hc : c < 18) (h2 : a2 c = 0) (e1 : a1 c = nI ω) (hm : m < 1000)
    (H : post (f0, f1, a1, a2, a3, a4, a5, upd a6 c (nI (ω + m)), a7, a8, a9, vp_updL a10 c x5, a11, a12, a13, a14)) :
    wX_fillBack_62 post (nI i) (nI b) (nI c) f0 f1 a1 a2 a3 a4 a5 a6 a7 a8 a9 a10 a11 a12 a13 a14 (n + 1) (nI m) x5 (nI 3) := by
  have vc : vp_in (nI c) 18 := vp_in_nI hc (by omega)
  have cc : (nI c).toNatClampNeg = c := lc_cl (by omega)
  refine pk_le 3 3 (fun _ => ⟨vc, nm_e ⟨vc, br_t ?_ (br_t (nI_pos' (by omega)) ⟨vc, vc, nm_e ?_⟩)⟩⟩) (fun z => absurd z (by omega))
  · rw [cc]
    exact h2
  · rw [cc, e1, nI_add]
    exact H
theorem lc_backF {N q a w i b : Nat} (hN : N ≤ 6) (hq : q < N) (hi : i < N) (hb : b < 3) (ha : a < 3) (hw : w ≤ 9) (h2 : a2 (3 * i + b) = 0)
    (h4 : ∀ k, k < 9 → a4 k = 0) (h3 : ∀ k, k < 9 → a3 k = 1) (e1 : ∀ j b, b < 3 → j < N → a1 (3 * j + b) = nI (lc_w q a w j b)) (hF : lc_B N q w i b a6 a10)
    (H : ∀ b6 b10, lc_B N q w i (b + 1) b6 b10 → post (nI N, f1, a1, a2, a3, a4, a5, b6, a7, a8, a9, b10, a11, a12, a13, a14)) :
    wpX_fillBack post (nI N, f1, a1, a2, a3, a4, a5, a6, a7, a8, a9, a10, a11, a12, a13, a14) (nI i) (nI b) := by
  have hc : 3 * i + b < 18 := by omega
  have vc : vp_in (nI (3 * i + b)) 18 := vp_in_nI hc (by omega)
  have cc : (nI (3 * i + b)).toNatClampNeg = 3 * i + b := lc_cl (by omega)
  have w1 := e1 i b hb hi
  have w9 := lc_w9 (q := q) (a := a) (j := i) (b := b) hw
  unfold wpX_fillBack
  dsimp only
  refine nm_r (lc_ix i b) ?_
  rw [cc]
  refine ⟨vc, br_t h2 ⟨vc, ?_⟩⟩
  unfold wX_fillBack_32
  rw [cc]
  refine ⟨vc, nm_e ⟨vc, nm_e ?_⟩⟩
  have hN1 : nI N - 1 = nI (N - 1) := by
    rw [lc_i1, pk_sub (by omega)]
  refine pk_eq i (N - 1) (fun z => ?_) (fun z => ⟨4, ?_⟩) rfl hN1
  · refine H _ _ (lc_Bs hb hF ⟨lc_w q a w i b, by omega, w1⟩ ?_)
    unfold lc_bp
    rw [if_neg (by omega), show N - 1 - i = 0 by omega]
    rfl
  · have g : ∀ t, t < 3 → ∃ v, v ≤ 10 * (N - (i + 1)) ∧ a6 (3 * i + 3 + t) = nI v ∧ a10 (3 * i + 3 + t) = lN (lc_bp N q w (i + 1)) ∧ a1 (3 * i + 3 + t) = nI (lc_w q a w (i + 1) t) := by
      intro t ht
      obtain ⟨g1, v, g2, g3⟩ := hF (i + 1) t ht (by omega) (by omega)
      have g4 := e1 (i + 1) t ht (by omega)
      rw [show 3 * (i + 1) + t = 3 * i + 3 + t by omega] at g1 g3 g4
      exact ⟨v, g2, g3, g1, g4⟩
    obtain ⟨v0, p0, q0, r0, s0⟩ := g 0 (by omega)
    obtain ⟨v1, p1, q1, r1, s1⟩ := g 1 (by omega)
    obtain ⟨v2, p2, q2, r2, s2⟩ := g 2 (by omega)
    refine lc_bs (t := 0) (n := 3) (B := 10 * (N - (i + 1)) + 1) (by omega) (by omega) (by omega) (lc_ix b 0) (lc_ixp i 0) h4 h3 s0 (lc_w9 hw) ((pk_uLn (by omega)).trans r0) ((pk_un (by omega)).trans q0) (by omega) (by omega) (Or.inl rfl) (fun m0 k0 => ?_)
    refine lc_bs (t := 1) (n := 2) (B := 10 * (N - (i + 1)) + 1) (by omega) (by omega) (by omega) (lc_ix b 1) (lc_ixp i 1) h4 h3 s1 (lc_w9 hw) ((pk_uLn (by omega)).trans r1) ((pk_un (by omega)).trans q1) (by omega) (by omega) (Or.inr ⟨m0, k0, rfl⟩) (fun m1 k1 => ?_)
    refine lc_bs (t := 2) (n := 1) (B := 10 * (N - (i + 1)) + 1) (by omega) (by omega) (by omega) (lc_ix b 2) (lc_ixp i 2) h4 h3 s2 (lc_w9 hw) ((pk_uLn (by omega)).trans r2) ((pk_un (by omega)).trans q2) (by omega) (by omega) (Or.inr ⟨m1, k1, rfl⟩) (fun m2 k2 => ?_)
    refine lc_bx hc h2 w1 (by omega) ?_
    rw [lc_uu, lc_uuL]
    refine H _ _ (lc_Bs hb hF ⟨_, by omega, rfl⟩ ?_)
    rw [Int64.zero_add, lN_add, lN_add, lc_bp_r ha hq (by omega)]
end
end
section
/-! offer: an insertion into eight places -/
def lc_cur (f : Nat → Int32) (p k : Nat) : Nat → Int32 := fun i => if p + k < i ∧ i < p + 8 then f (i - 1) else f i
def lc_ins (f : Nat → Int32) (p m : Nat) (s : Int32) : Nat → Int32 := fun i => if p + m < i ∧ i < p + 8 then f (i - 1) else if i = p + m ∧ m < 8 then s else f i
theorem lc_cur7 (f : Nat → Int32) (p : Nat) : lc_cur f p 7 = f := by
  funext i
  unfold lc_cur
  rw [if_neg (by omega)]
theorem lc_ins8 (f : Nat → Int32) (p : Nat) (s : Int32) : lc_ins f p 8 s = f := by
  funext i
  unfold lc_ins
  rw [if_neg (by omega), if_neg (by omega)]
theorem lc_cur_put (f : Nat → Int32) (p k : Nat) (s : Int32) (hk : k ≤ 7) : upd (lc_cur f p k) (p + k) s = lc_ins f p k s := by
  funext i
  unfold upd lc_cur lc_ins
  by_cases h : i = p + k
  · rw [if_pos h, if_neg (by omega), if_pos ⟨h, by omega⟩]
  · rw [if_neg h, if_neg (fun z : i = p + k ∧ k < 8 => h z.1)]
theorem lc_cur_dn (f : Nat → Int32) (p k : Nat) (hk : k + 1 ≤ 7) : upd (lc_cur f p (k + 1)) (p + (k + 1)) (f (p + k)) = lc_cur f p k := by
  funext i
  unfold upd lc_cur
  by_cases h : i = p + (k + 1)
  · rw [if_pos h, if_pos (by omega), h]
    rfl
  · rw [if_neg h]
    by_cases h2 : p + (k + 1) < i ∧ i < p + 8
    · rw [if_pos h2, if_pos (by omega)]
    · rw [if_neg h2, if_neg (by omega)]
theorem lc_cur_at (f : Nat → Int32) (p k : Nat) : lc_cur f p (k + 1) (p + k) = f (p + k) := by
  unfold lc_cur
  rw [if_neg (by omega)]
theorem lc_ins_out {f : Nat → Int32} {p m i : Nat} {s : Int32} (h : i < p ∨ p + 8 ≤ i) : lc_ins f p m s i = f i := by
  unfold lc_ins
  rw [if_neg (by omega), if_neg (by omega)]
theorem lc_ins_in {f : Nat → Int32} {p m k : Nat} {s : Int32} (hk : k < 8) : lc_ins f p m s (p + k) = if k < m then f (p + k) else if k = m then s else f (p + (k - 1)) := by
  unfold lc_ins
  by_cases h : k < m
  · rw [if_pos h, if_neg (by omega), if_neg (by omega)]
  · by_cases h2 : k = m
    · rw [if_neg h, if_pos h2, if_neg (by omega), if_pos (by omega)]
    · rw [if_neg h, if_neg h2, if_pos (by omega)]
      congr 1
      omega
section
variable {post : St2 → Prop} {f0 f1 : Int32} {a1 a2 a3 a4 a5 a6 a7 a8 : Nat → Int32} {a9 a10 : Nat → Int64} {a11 a12 a13 a14 : Nat → Int32}
theorem lc_off18 {p m : Nat} {s : Int32} (f : Nat → Int32) (hp : p ≤ 16) (h1 : ∀ k, k < m → s ≤ f (p + k)) (h2 : ∀ k, m ≤ k → k < 8 → f (p + k) < s)
    (H : post (f0, f1, a1, a2, a3, a4, a5, a6, a7, a8, a9, a10, a11, lc_ins f p m s, a13, a14)) : ∀ k n, m ≤ k → k ≤ 7 → k < n → wX_offer_18 post (nI p) s f0 f1 n (nI (p + k)) a1 a2 a3 a4 a5 a6 a7 a8 a9 a10 a11 (lc_cur f p k) a13 a14 := by
  intro k
  induction k with
  | zero =>
    intro n hm hk hn
    obtain ⟨n, rfl⟩ : ∃ n', n = n' + 1 := ⟨n - 1, by omega⟩
    refine pk_le (p + 0) p (fun _ => ⟨pk_in (p + 0) 24 (by omega), nm_e ?_⟩) (fun z => absurd z (by omega))
    rw [lc_cl (by omega), lc_cur_put _ _ _ _ (by omega)]
    have e : m = 0 := by omega
    subst e
    exact H
  | succ k ih =>
    intro n hm hk hn
    obtain ⟨n, rfl⟩ : ∃ n', n = n' + 1 := ⟨n - 1, by omega⟩
    have hx : nI (p + (k + 1)) - 1 = nI (p + k) := nI_pred (p + k)
    have hx2 : nI (p + (k + 1)) + (-1) = nI (p + k) := pk_m1 (p + k)
    have vk : vp_in (nI (p + (k + 1)) - 1) 24 := pk_in (p + k) 24 (by omega) hx
    have vk1 : vp_in (nI (p + (k + 1))) 24 := pk_in (p + (k + 1)) 24 (by omega)
    refine pk_le (p + (k + 1)) p (fun z => absurd z (by omega)) (fun _ => ⟨vk, ?_⟩)
    rw [hx, lc_cl (show p + k < 1000 by omega), lc_cl (show p + (k + 1) < 1000 by omega), lc_cur_at]
    by_cases e : m = k + 1
    · refine br_t (h1 k (by omega)) ⟨vk1, nm_e ?_⟩
      rw [lc_cur_put _ _ _ _ (by omega), ← e]
      exact H
    · refine br_f (Int32.not_le.mpr (h2 k (by omega) (by omega))) ⟨pk_in (p + k) 24 (by omega), vk1, nm_r (lc_cur_dn f p k hk) (nm_r hx2 ?_)⟩
      exact ih n (by omega) (by omega) (by omega)
theorem lc_offer {p m : Nat} {s : Int32} (hp : p ≤ 16) (hm : m ≤ 8) (h1 : ∀ k, k < m → s ≤ a12 (p + k)) (h2 : ∀ k, m ≤ k → k < 8 → a12 (p + k) < s)
    (H : post (f0, f1, a1, a2, a3, a4, a5, a6, a7, a8, a9, a10, a11, lc_ins a12 p m s, a13, a14)) : wpX_offer post (f0, f1, a1, a2, a3, a4, a5, a6, a7, a8, a9, a10, a11, a12, a13, a14) (nI p) s := by
  have hx : nI p + 8 - 1 = nI (p + 7) := by
    rw [show (8 : Int32) = nI 8 from rfl, nI_add]
    exact nI_pred (p + 7)
  unfold wpX_offer
  dsimp only
  refine nm_r hx ⟨pk_in (p + 7) 24 (by omega), ?_⟩
  rw [lc_cl (show p + 7 < 1000 by omega)]
  by_cases e : m = 8
  · subst e
    refine br_f (fun z => ?_) ?_
    · have := h1 7 (by omega)
      exact absurd z (Int32.not_lt.mpr this)
    · rw [lc_ins8] at H
      exact H
  · refine br_t (h2 7 (by omega) (by omega)) ⟨8, ?_⟩
    have t := lc_off18 (n := 8) (k := 7) (m := m) (s := s) a12 hp h1 h2 H (by omega) (by omega) (by omega)
    rw [lc_cur7] at t
    exact t
end
/-! blocks of two levels -/
def lc_bk (H L u v k : Nat) : Int32 := if k < u then nI H else if k < u + v then nI L else -1000
def lc_Bk (f : Nat → Int32) (t H L u v : Nat) : Prop := ∀ k, k < 8 → f (8 * t + k) = lc_bk H L u v k
theorem lc_bk1 {H L u v k : Nat} (h : k < u) : lc_bk H L u v k = nI H := by
  unfold lc_bk
  rw [if_pos h]
theorem lc_bk2 {H L u v k : Nat} (h : u ≤ k) (h2 : k < u + v) : lc_bk H L u v k = nI L := by
  unfold lc_bk
  rw [if_neg (by omega), if_pos h2]
theorem lc_bk3 {H L u v k : Nat} (h : u + v ≤ k) : lc_bk H L u v k = -1000 := by
  unfold lc_bk
  rw [if_neg (by omega), if_neg (by omega)]
theorem lc_Bkc {f : Nat → Int32} {t H L u v u' v' : Nat} (h : lc_Bk f t H L u v) (e : ∀ k, k < 8 → (k < u ↔ k < u') ∧ (k < u + v ↔ k < u' + v')) : lc_Bk f t H L u' v' := by
  intro k hk
  rw [h k hk]
  obtain ⟨e1, e2⟩ := e k hk
  unfold lc_bk
  simp only [e1, e2]
theorem lc_insL {f : Nat → Int32} {t H L u v : Nat} (h : lc_Bk f t H L u v) : lc_Bk (lc_ins f (8 * t) (min (u + v) 8) (nI L)) t H L u (v + 1) := by
  intro k hk
  rw [lc_ins_in hk, h k hk, h (k - 1) (by omega)]
  by_cases c1 : k < u + v
  · rw [if_pos (by omega)]
    by_cases c2 : k < u
    · rw [lc_bk1 c2, lc_bk1 c2]
    · rw [lc_bk2 (by omega) c1, lc_bk2 (by omega) (by omega)]
  · by_cases c3 : k = u + v
    · rw [if_neg (by omega), if_pos (by omega), lc_bk2 (by omega) (by omega)]
    · rw [if_neg (by omega), if_neg (by omega), lc_bk3 (by omega), lc_bk3 (by omega)]
theorem lc_insH {f : Nat → Int32} {t H L u v : Nat} (h : lc_Bk f t H L u v) : lc_Bk (lc_ins f (8 * t) (min u 8) (nI H)) t H L (u + 1) v := by
  intro k hk
  rw [lc_ins_in hk, h k hk, h (k - 1) (by omega)]
  by_cases c1 : k < u
  · rw [if_pos (by omega), lc_bk1 c1, lc_bk1 (by omega)]
  · by_cases c3 : k = u
    · rw [if_neg (by omega), if_pos (by omega), lc_bk1 (by omega)]
    · rw [if_neg (by omega), if_neg (by omega)]
      by_cases c4 : k - 1 < u + v
      · rw [lc_bk2 (by omega) c4, lc_bk2 (by omega) (by omega)]
      · rw [lc_bk3 (by omega), lc_bk3 (by omega)]
section
variable {post : St2 → Prop} {f0 f1 : Int32} {a1 a2 a3 a4 a5 a6 a7 a8 : Nat → Int32} {a9 a10 : Nat → Int64} {a11 a12 a13 a14 : Nat → Int32}
theorem lc_offL {t H L u v : Nat} (ht : t < 3) (hL : L ≤ H) (hH : H < 1000) (hf : lc_Bk a12 t H L u v)
    (K : ∀ f, lc_Bk f t H L u (v + 1) → (∀ i, i < 8 * t ∨ 8 * t + 8 ≤ i → f i = a12 i) → post (f0, f1, a1, a2, a3, a4, a5, a6, a7, a8, a9, a10, a11, f, a13, a14)) :
    wpX_offer post (f0, f1, a1, a2, a3, a4, a5, a6, a7, a8, a9, a10, a11, a12, a13, a14) (nI (8 * t)) (nI L) := by
  refine lc_offer (m := min (u + v) 8) (by omega) (by omega) (fun k hk => ?_) (fun k hk hk8 => ?_) (K _ (lc_insL hf) (fun i hi => lc_ins_out hi))
  · rw [hf k (by omega)]
    by_cases c : k < u
    · rw [lc_bk1 c]
      exact nI_le hL (by omega)
    · rw [lc_bk2 (by omega) (by omega)]
      exact Int32.le_refl _
  · rw [hf k hk8, lc_bk3 (by omega)]
    exact lc_neg (by omega)
theorem lc_offH {t H L u v : Nat} (ht : t < 3) (hL : L ≤ H) (hH : H < 1000) (hf : lc_Bk a12 t H L u v)
    (K : ∀ f, lc_Bk f t H L (u + 1) v → (∀ i, i < 8 * t ∨ 8 * t + 8 ≤ i → f i = a12 i) → post (f0, f1, a1, a2, a3, a4, a5, a6, a7, a8, a9, a10, a11, f, a13, a14)) :
    wpX_offer post (f0, f1, a1, a2, a3, a4, a5, a6, a7, a8, a9, a10, a11, a12, a13, a14) (nI (8 * t)) (nI H) := by
  by_cases e : L = H
  · subst e
    refine lc_offL ht (by omega) hH hf (fun f hf' ho => K f (fun k hk => ?_) ho)
    rw [hf' k hk]
    by_cases c1 : k < u
    · rw [lc_bk1 c1, lc_bk1 (by omega)]
    · by_cases c2 : k < u + (v + 1)
      · rw [lc_bk2 (by omega) c2]
        by_cases c3 : k < u + 1
        · rw [lc_bk1 c3]
        · rw [lc_bk2 (by omega) (by omega)]
      · rw [lc_bk3 (by omega), lc_bk3 (by omega)]
  · refine lc_offer (m := min u 8) (by omega) (by omega) (fun k hk => ?_) (fun k hk hk8 => ?_) (K _ (lc_insH hf) (fun i hi => lc_ins_out hi))
    · rw [hf k (by omega), lc_bk1 (by omega)]
      exact Int32.le_refl _
    · rw [hf k hk8]
      by_cases c : k < u + v
      · rw [lc_bk2 (by omega) c]
        exact nI_lt (by omega) (by omega)
      · rw [lc_bk3 (by omega)]
        exact lc_neg (by omega)
end
end
section
/-! the two levels and their counts, row by row -/
def lc_h (q w j : Nat) : Nat := if j < q then 2 * j + 1 else 2 * j + max 1 w
def lc_l (q w j : Nat) : Nat := if j < q then 2 * j + 1 else 2 * j + min 1 w
def lc_u (q a w j b : Nat) : Nat := if j = q ∧ lc_w q a w j b ≠ max 1 w then 0 else lc_fb q w j
def lc_v (q a w j b : Nat) : Nat := 3 ^ j - lc_u q a w j b
theorem lc_lh {q w j : Nat} : lc_l q w j ≤ lc_h q w j := by
  unfold lc_l lc_h
  split <;> omega
theorem lc_hb {q w j : Nat} (hw : w ≤ 9) (hj : j < 7) : lc_h q w j ≤ 21 := by
  unfold lc_h
  split <;> omega
theorem lc_fb_le {q w j : Nat} : lc_fb q w j ≤ 3 ^ j := by
  unfold lc_fb
  by_cases h : j ≤ q
  · rw [if_pos h]
    exact Nat.le_refl _
  · obtain ⟨k, rfl⟩ : ∃ k, j = k + 1 := ⟨j - 1, by omega⟩
    have hp := lc_pws k
    rw [if_neg h, show k + 1 - 1 = k by omega]
    split
    · omega
    · split <;> omega
theorem lc_u_le {q a w j b : Nat} : lc_u q a w j b ≤ 3 ^ j := by
  unfold lc_u
  split
  · exact Nat.zero_le _
  · exact lc_fb_le
theorem lc_us {q a w j : Nat} (ha : a < 3) (hq : q ≤ j) : lc_u q a w j 0 + lc_u q a w j 1 + lc_u q a w j 2 = lc_fb q w (j + 1) := by
  have h3 : a = 0 ∨ a = 1 ∨ a = 2 := by omega
  have hp := lc_pws j
  have hj : j + 1 - 1 = j := by omega
  by_cases e : j = q
  · subst e
    have e5 : lc_fb j w (j + 1) = if 1 < w then 3 ^ j else if w = 1 then 3 * 3 ^ j else 2 * 3 ^ j := by unfold lc_fb; rw [if_neg (by omega), hj, hp]
    have e4 : lc_fb j w j = 3 ^ j := by unfold lc_fb; rw [if_pos (by omega)]
    unfold lc_u
    rw [e5, e4]
    unfold lc_w
    clear e5 e4 hp
    generalize 3 ^ j = P
    have hw : w = 0 ∨ w = 1 ∨ 1 < w := by omega
    rcases hw with rfl | rfl | hw
    · rcases h3 with rfl | rfl | rfl <;> simp <;> omega
    · rcases h3 with rfl | rfl | rfl <;> simp <;> omega
    · have w1 : max 1 w = w := by omega
      have w2 : ¬ 1 = w := by omega
      rcases h3 with rfl | rfl | rfl <;> simp [hw, w1, w2]
  · have e1 : ∀ b, lc_u q a w j b = lc_fb q w j := fun b => by unfold lc_u; rw [if_neg (fun z => e z.1)]
    rw [e1, e1, e1]
    obtain ⟨k, rfl⟩ : ∃ k, j = k + 1 := ⟨j - 1, by omega⟩
    have hp2 := lc_pws k
    have hk : k + 1 - 1 = k := by omega
    unfold lc_fb
    rw [if_neg (show ¬ k + 1 ≤ q by omega), if_neg (show ¬ k + 1 + 1 ≤ q by omega), hj, hk, hp]
    generalize 3 ^ (k + 1) = B at *
    split
    · omega
    · split <;> omega
theorem lc_vs {q a w j : Nat} : lc_v q a w j 0 + lc_v q a w j 1 + lc_v q a w j 2 + (lc_u q a w j 0 + lc_u q a w j 1 + lc_u q a w j 2) = 3 ^ (j + 1) := by
  have h0 := lc_u_le (q := q) (a := a) (w := w) (j := j) (b := 0)
  have h1 := lc_u_le (q := q) (a := a) (w := w) (j := j) (b := 1)
  have h2 := lc_u_le (q := q) (a := a) (w := w) (j := j) (b := 2)
  have hp := lc_pws j
  unfold lc_v
  omega
theorem lc_wm {q a w j t : Nat} (h : ¬ lc_w q a w j t = max 1 w) : lc_w q a w j t = min 1 w := by
  unfold lc_w at h ⊢
  by_cases z : j = q ∧ t = a
  · rw [if_pos z] at h ⊢
    omega
  · rw [if_neg z] at h ⊢
    omega
theorem lc_u_lo {q a w j b : Nat} (h : j < q) : lc_u q a w j b = 3 ^ j := by
  unfold lc_u lc_fb
  rw [if_neg (fun z => by omega), if_pos (by omega)]
theorem lc_u_hi {q a w j b : Nat} (h : q < j) : lc_u q a w j b = lc_fb q w j := by
  unfold lc_u
  rw [if_neg (fun z => by omega)]
theorem lc_BkL {f : Nat → Int32} {t H L L' u v u' v' : Nat} (h : lc_Bk f t H L u v) (hu : u = u') (hv : v = 0) (hv' : v' = 0) : lc_Bk f t H L' u' v' := by
  subst hu hv hv'
  intro k hk
  rw [h k hk]
  by_cases c : k < u
  · rw [lc_bk1 c, lc_bk1 c]
  · rw [lc_bk3 (by omega), lc_bk3 (by omega)]
theorem lc_BkX {f : Nat → Int32} {t H L L' H' u v u' v' : Nat} (h : lc_Bk f t H L u v) (e : H = L') (hu : u' = 0) (hv : v = 0) (hv' : v' = u) : lc_Bk f t H' L' u' v' := by
  subst hu hv hv' e
  intro k hk
  rw [h k hk]
  by_cases c : k < v'
  · rw [lc_bk1 c, lc_bk2 (by omega) (by omega)]
  · rw [lc_bk3 (by omega), lc_bk3 (by omega)]
theorem lc_BkE {f : Nat → Int32} {t H L H' L' u v u' v' : Nat} (h : lc_Bk f t H L u v) (e1 : H = H') (e2 : L = L') (hu : u = u') (hv : v = v') : lc_Bk f t H' L' u' v' := by
  subst e1 e2 hu hv
  exact h
theorem lc_tr {q a w j t : Nat} {f : Nat → Int32} (ha : a < 3) (h : lc_Bk f t (lc_h q w j + (1 + lc_w q a w (j + 1) t)) (lc_l q w j + (1 + lc_w q a w (j + 1) t)) (lc_u q a w j 0 + lc_u q a w j 1 + lc_u q a w j 2) (lc_v q a w j 0 + lc_v q a w j 1 + lc_v q a w j 2)) :
    lc_Bk f t (lc_h q w (j + 1)) (lc_l q w (j + 1)) (lc_u q a w (j + 1) t) (lc_v q a w (j + 1) t) := by
  have hp := lc_pws j
  have hv := lc_vs (q := q) (a := a) (w := w) (j := j)
  by_cases c1 : j < q
  · rw [lc_u_lo c1, lc_u_lo c1, lc_u_lo c1] at h hv
    have hh : lc_h q w j = 2 * j + 1 := by unfold lc_h; rw [if_pos c1]
    have hl : lc_l q w j = 2 * j + 1 := by unfold lc_l; rw [if_pos c1]
    rw [hh, hl] at h
    have hfb : lc_fb q w (j + 1) = 3 ^ (j + 1) := by unfold lc_fb; rw [if_pos (by omega)]
    by_cases c2 : j + 1 = q
    · have hh' : lc_h q w (j + 1) = 2 * (j + 1) + max 1 w := by unfold lc_h; rw [if_neg (by omega)]
      have hl' : lc_l q w (j + 1) = 2 * (j + 1) + min 1 w := by unfold lc_l; rw [if_neg (by omega)]
      rw [hh', hl']
      by_cases c3 : lc_w q a w (j + 1) t = max 1 w
      · have hu' : lc_u q a w (j + 1) t = 3 ^ (j + 1) := by unfold lc_u; rw [if_neg (fun z => z.2 c3), hfb]
        have hv' : lc_v q a w (j + 1) t = 0 := by unfold lc_v; rw [hu']; omega
        have e : 2 * j + 1 + (1 + lc_w q a w (j + 1) t) = 2 * (j + 1) + max 1 w := by omega
        rw [e] at h
        exact lc_BkL h (by omega) (by omega) hv'
      · have hu' : lc_u q a w (j + 1) t = 0 := by unfold lc_u; rw [if_pos ⟨c2, c3⟩]
        have hv' : lc_v q a w (j + 1) t = 3 ^ (j + 1) := by unfold lc_v; rw [hu']; omega
        have hm : lc_w q a w (j + 1) t = min 1 w := lc_wm c3
        exact lc_BkX h (by omega) hu' (by omega) (by omega)
    · have hh' : lc_h q w (j + 1) = 2 * (j + 1) + 1 := by unfold lc_h; rw [if_pos (by omega)]
      have hl' : lc_l q w (j + 1) = 2 * (j + 1) + 1 := by unfold lc_l; rw [if_pos (by omega)]
      have hw' : lc_w q a w (j + 1) t = 1 := by unfold lc_w; rw [if_neg (fun z => c2 z.1)]
      have hu' : lc_u q a w (j + 1) t = 3 ^ (j + 1) := lc_u_lo (by omega)
      have hv' : lc_v q a w (j + 1) t = 0 := by unfold lc_v; rw [hu']; omega
      exact lc_BkE h (by omega) (by omega) (by omega) (by omega)
  · rw [lc_us ha (by omega)] at h hv
    have hw' : lc_w q a w (j + 1) t = 1 := by unfold lc_w; rw [if_neg (fun z => by omega)]
    have hh : lc_h q w j = 2 * j + max 1 w := by unfold lc_h; rw [if_neg c1]
    have hl : lc_l q w j = 2 * j + min 1 w := by unfold lc_l; rw [if_neg c1]
    have hh' : lc_h q w (j + 1) = 2 * (j + 1) + max 1 w := by unfold lc_h; rw [if_neg (by omega)]
    have hl' : lc_l q w (j + 1) = 2 * (j + 1) + min 1 w := by unfold lc_l; rw [if_neg (by omega)]
    have hu' : lc_u q a w (j + 1) t = lc_fb q w (j + 1) := lc_u_hi (by omega)
    have hv' : lc_v q a w (j + 1) t = 3 ^ (j + 1) - lc_fb q w (j + 1) := by unfold lc_v; rw [hu']
    exact lc_BkE h (by omega) (by omega) hu'.symm (by omega)
theorem lc_t0 {q a w b : Nat} {f : Nat → Int32} (h0 : f (8 * b) = nI (lc_fs q a w 0 b)) (h : ∀ k, 0 < k → k < 8 → f (8 * b + k) = -1000) :
    lc_Bk f b (lc_h q w 0) (lc_l q w 0) (lc_u q a w 0 b) (lc_v q a w 0 b) := by
  have hfb : lc_fb q w 0 = 1 := by unfold lc_fb; rw [if_pos (by omega)]
  intro k hk
  by_cases hk0 : k = 0
  · subst hk0
    rw [Nat.add_zero, h0]
    by_cases c1 : 0 < q
    · have hu : lc_u q a w 0 b = 1 := lc_u_lo c1
      rw [lc_bk1 (by omega)]
      unfold lc_fs lc_h
      rw [if_pos c1, if_pos c1]
    · have c2 : 0 = q := by omega
      have e : lc_fs q a w 0 b = lc_w q a w 0 b := by unfold lc_fs; rw [if_neg c1, if_pos c2, Nat.mul_zero, Nat.zero_add]
      rw [e]
      by_cases c3 : lc_w q a w 0 b = max 1 w
      · have hu : lc_u q a w 0 b = 1 := by unfold lc_u; rw [if_neg (fun z => z.2 c3), hfb]
        rw [lc_bk1 (by omega), c3]
        unfold lc_h
        rw [if_neg c1, Nat.mul_zero, Nat.zero_add]
      · have hu : lc_u q a w 0 b = 0 := by unfold lc_u; rw [if_pos ⟨c2, c3⟩]
        have hv : lc_v q a w 0 b = 1 := by unfold lc_v; rw [hu]
        have hm : lc_w q a w 0 b = min 1 w := lc_wm c3
        rw [lc_bk2 (by omega) (by omega), hm]
        unfold lc_l
        rw [if_neg c1, Nat.mul_zero, Nat.zero_add]
  · have hu := lc_u_le (q := q) (a := a) (w := w) (j := 0) (b := b)
    have hv : lc_v q a w 0 b + lc_u q a w 0 b = 1 := by
      unfold lc_v
      have : 3 ^ 0 = 1 := rfl
      omega
    rw [h k (by omega) hk, lc_bk3 (by omega)]
/-! counts -/
def lc_ps (u : Nat → Nat) (c t : Nat) : Nat := (if t < c then u 0 else 0) + (if 3 + t < c then u 1 else 0) + (if 6 + t < c then u 2 else 0)
theorem lc_ps0 {u : Nat → Nat} {t : Nat} : lc_ps u 0 t = 0 := by
  unfold lc_ps
  rw [if_neg (by omega), if_neg (by omega), if_neg (by omega)]
theorem lc_ps9 {u : Nat → Nat} {t : Nat} (ht : t < 3) : lc_ps u 9 t = u 0 + u 1 + u 2 := by
  unfold lc_ps
  rw [if_pos (by omega), if_pos (by omega), if_pos (by omega)]
theorem lc_psA {u : Nat → Nat} {b t : Nat} (hb : b < 3) (ht : t < 3) : lc_ps u (3 * b + t + 1) t = lc_ps u (3 * b + t) t + u b := by
  have h3 : b = 0 ∨ b = 1 ∨ b = 2 := by omega
  have h4 : t = 0 ∨ t = 1 ∨ t = 2 := by omega
  unfold lc_ps
  rcases h3 with rfl | rfl | rfl <;> rcases h4 with rfl | rfl | rfl <;> simp
theorem lc_psB {u : Nat → Nat} {b t t' : Nat} (hb : b < 3) (ht : t < 3) (ht' : t' < 3) (h : t' ≠ t) : lc_ps u (3 * b + t + 1) t' = lc_ps u (3 * b + t) t' := by
  have h3 : b = 0 ∨ b = 1 ∨ b = 2 := by omega
  have h4 : t = 0 ∨ t = 1 ∨ t = 2 := by omega
  have h5 : t' = 0 ∨ t' = 1 ∨ t' = 2 := by omega
  unfold lc_ps
  rcases h3 with rfl | rfl | rfl <;> rcases h4 with rfl | rfl | rfl <;> rcases h5 with rfl | rfl | rfl <;> first | exact absurd rfl h | simp
def lc_cu (u : Nat → Nat) : Nat → Nat
  | 0 => 0
  | k + 1 => lc_cu u k + (if k % 8 < u (k / 8) then 1 else 0)
def lc_cv (u v : Nat → Nat) : Nat → Nat
  | 0 => 0
  | k + 1 => lc_cv u v k + (if u (k / 8) ≤ k % 8 ∧ k % 8 < u (k / 8) + v (k / 8) then 1 else 0)
theorem lc_cw (u v : Nat → Nat) (k : Nat) : lc_cu u k + lc_cv u v k = lc_cu (fun b => u b + v b) k := by
  induction k with
  | zero => rfl
  | succ k ih =>
    show lc_cu u k + (if k % 8 < u (k / 8) then 1 else 0) + (lc_cv u v k + (if u (k / 8) ≤ k % 8 ∧ k % 8 < u (k / 8) + v (k / 8) then 1 else 0)) = lc_cu (fun b => u b + v b) k + (if k % 8 < u (k / 8) + v (k / 8) then 1 else 0)
    rw [← ih]
    by_cases h1 : k % 8 < u (k / 8)
    · rw [if_pos h1, if_neg (by omega), if_pos (by omega)]
      omega
    · by_cases h2 : k % 8 < u (k / 8) + v (k / 8)
      · rw [if_neg h1, if_pos ⟨by omega, h2⟩, if_pos h2]
        omega
      · rw [if_neg h1, if_neg (fun z => h2 z.2), if_neg h2]
        omega
theorem lc_cub (u : Nat → Nat) (b r : Nat) (hr : r ≤ 8) : lc_cu u (8 * b + r) = lc_cu u (8 * b) + min (u b) r := by
  induction r with
  | zero => rw [Nat.add_zero, Nat.min_zero, Nat.add_zero]
  | succ r ih =>
    show lc_cu u (8 * b + r) + (if (8 * b + r) % 8 < u ((8 * b + r) / 8) then 1 else 0) = _
    rw [ih (by omega), show (8 * b + r) % 8 = r by omega, show (8 * b + r) / 8 = b by omega]
    split <;> omega
theorem lc_cu24 (u : Nat → Nat) : lc_cu u 24 = min (u 0) 8 + min (u 1) 8 + min (u 2) 8 := by
  have h0 : lc_cu u 8 = lc_cu u 0 + min (u 0) 8 := lc_cub u 0 8 (by omega)
  have h1 : lc_cu u 16 = lc_cu u 8 + min (u 1) 8 := lc_cub u 1 8 (by omega)
  have h2 : lc_cu u 24 = lc_cu u 16 + min (u 2) 8 := lc_cub u 2 8 (by omega)
  rw [h2, h1, h0, show lc_cu u 0 = 0 from rfl, Nat.zero_add]
theorem lc_min8 {x y z k : Nat} (hk : k < 8) : k < min x 8 + min y 8 + min z 8 ↔ k < x + y + z := by
  constructor
  · intro h
    omega
  · intro h
    omega
theorem lc_c24 {u v : Nat → Nat} {k : Nat} (hk : k < 8) : (k < lc_cu u 24 ↔ k < u 0 + u 1 + u 2) ∧ (k < lc_cu u 24 + lc_cv u v 24 ↔ k < u 0 + u 1 + u 2 + (v 0 + v 1 + v 2)) := by
  rw [lc_cw, lc_cu24, lc_cu24, lc_min8 hk, lc_min8 hk]
  exact ⟨Iff.rfl, by omega⟩
theorem lc_fill {f s : Nat → Int32} {i : Nat} {x : Int32} (h : ∀ j, j < i → s j = f j) (hx : x = f i) : ∀ j, j < i + 1 → upd s i x j = f j := by
  intro j hj
  by_cases e : j = i
  · rw [e, pk_us, hx]
  · rw [pk_un e]
    exact h j (by omega)
end
section
/-! rankCouple, rankSums -/
section
variable {post : St2 → Prop} {f0 f1 : Int32} {a1 a2 a3 a4 a5 a6 a7 a8 : Nat → Int32} {a9 a10 : Nat → Int64} {a11 a12 a13 a14 : Nat → Int32}
theorem lc_rc53 {b t h l u v U V g : Nat} (hb : b < 3) (ht : t < 3) (hl : l ≤ h) (hh : h + g < 1000) (hS : lc_Bk a11 b h l u v) (hT : lc_Bk a12 t (h + g) (l + g) U V)
    (K : ∀ f, lc_Bk f t (h + g) (l + g) (U + u) (V + v) → (∀ i, i < 8 * t ∨ 8 * t + 8 ≤ i → f i = a12 i) → post (f0, f1, a1, a2, a3, a4, a5, a6, a7, a8, a9, a10, a11, f, a13, a14)) :
    ∃ n, wX_rankCouple_53 post (nI b) (nI t) (nI g) n 0 f0 f1 a1 a2 a3 a4 a5 a6 a7 a8 a9 a10 a11 a12 a13 a14 := by
  refine pk_loop (fun n k s => wX_rankCouple_53 post (nI b) (nI t) (nI g) n (nI k) f0 f1 a1 a2 a3 a4 a5 a6 a7 a8 a9 a10 a11 s a13 a14)
    (fun k s => lc_Bk s t (h + g) (l + g) (U + min u k) (V + (min (u + v) k - min u k)) ∧ ∀ i, i < 8 * t ∨ 8 * t + 8 ≤ i → s i = a12 i) 8 0 a12 (by omega) ⟨?_, fun _ _ => rfl⟩ ?_ ?_
  · exact lc_BkE hT rfl rfl (by omega) (by omega)
  · intro n s hs
    exact pk_le 8 8 (fun _ => K s (lc_Bkc hs.1 (fun k hk => ⟨by omega, by omega⟩)) hs.2) (fun z => absurd z (by omega))
  · intro n k s hk hs hw
    refine pk_le 8 k (fun z => absurd z (by omega)) (fun _ => ⟨pk_in (8 * b + k) 24 (by omega) (lc_ix8 b k), nm_r (e' := lc_bk h l u v k) ?_ ?_⟩)
    · rw [lc_ix8, lc_cl (by omega), hS k hk]
    · by_cases c1 : k < u
      · rw [lc_bk1 c1]
        refine br_f (nI_pos (by omega)) ?_
        rw [lc_m8, nI_add]
        exact lc_offH ht (by omega) (by omega) hs.1 (fun f hf ho => nm_r (nI_1 k) (hw f ⟨lc_BkE hf rfl rfl (by omega) (by omega), fun i hi => (ho i hi).trans (hs.2 i hi)⟩))
      · by_cases c2 : k < u + v
        · rw [lc_bk2 (by omega) c2]
          refine br_f (nI_pos (by omega)) ?_
          rw [lc_m8, nI_add]
          exact lc_offL ht (by omega) (by omega) hs.1 (fun f hf ho => nm_r (nI_1 k) (hw f ⟨lc_BkE hf rfl rfl (by omega) (by omega), fun i hi => (ho i hi).trans (hs.2 i hi)⟩))
        · rw [lc_bk3 (by omega)]
          exact br_t lc_neg0 (nm_r (nI_1 k) (hw s ⟨lc_BkE hs.1 rfl rfl (by omega) (by omega), hs.2⟩))
theorem lc_rc {i b t h l u v U V ω : Nat} (hi : i < 6) (hb : b < 3) (ht : t < 3) (hl : l ≤ h) (hh : h + (1 + ω) < 1000) (h2 : a2 (3 * i + t) = 0)
    (h4 : ∀ k, k < 9 → a4 k = 0) (h3 : ∀ k, k < 9 → a3 k = 1) (e1 : a1 (3 * i + t) = nI ω) (hS : lc_Bk a11 b h l u v) (hT : lc_Bk a12 t (h + (1 + ω)) (l + (1 + ω)) U V)
    (K : ∀ f, lc_Bk f t (h + (1 + ω)) (l + (1 + ω)) (U + u) (V + v) → (∀ i, i < 8 * t ∨ 8 * t + 8 ≤ i → f i = a12 i) → post (f0, f1, a1, a2, a3, a4, a5, a6, a7, a8, a9, a10, a11, f, a13, a14)) :
    wpX_rankCouple post (f0, f1, a1, a2, a3, a4, a5, a6, a7, a8, a9, a10, a11, a12, a13, a14) (nI i) (nI b) (nI t) := by
  have vc : vp_in (nI (3 * i + t)) 18 := vp_in_nI (by omega) (by omega)
  have ve : vp_in (nI (3 * b + t)) 9 := vp_in_nI (by omega) (by omega)
  unfold wpX_rankCouple
  dsimp only
  rw [lc_ix b t, lc_ix i t, lc_cl (show 3 * b + t < 1000 by omega), lc_cl (show 3 * i + t < 1000 by omega)]
  refine ⟨ve, br_t (h4 _ (by omega)) ⟨vc, br_t h2 ⟨ve, vc, nm_r (e' := nI (1 + ω)) ?_ (lc_rc53 hb ht hl hh hS hT K)⟩⟩⟩
  rw [h3 _ (by omega), e1, lc_i1, nI_add]
theorem lc_rs200 (K : ∀ f, (∀ k, k < 8 → f k = a12 k) → post (f0, f1, a1, a2, a3, a4, a5, a6, a7, a8, a9, a10, a11, a12, f, a14)) : ∃ n, wX_rankSums_200 post f0 f1 n 0 a1 a2 a3 a4 a5 a6 a7 a8 a9 a10 a11 a12 a13 a14 :=
  pk_loop (fun n k s => wX_rankSums_200 post f0 f1 n (nI k) a1 a2 a3 a4 a5 a6 a7 a8 a9 a10 a11 a12 s a14) (fun k s => ∀ j, j < k → s j = a12 j) 8 0 a13 (by omega) (fun j hj => absurd hj (by omega))
    (fun n s hs => pk_le 8 8 (fun _ => K s hs) (fun z => absurd z (by omega)))
    (fun n k s hk hs hw => pk_le 8 k (fun z => absurd z (by omega)) (fun _ => ⟨pk_in k 24 (by omega), pk_in k 8 hk, nm_r (e' := upd s k (a12 k)) (by rw [lc_cl (by omega)]) (nm_r (nI_1 k) (hw _ (lc_fill hs rfl)))⟩))
theorem lc_rs166 {H L : Nat} {u v : Nat → Nat} (hL : L ≤ H) (hH : H < 1000) (hS : ∀ b, b < 3 → lc_Bk a11 b H L (u b) (v b)) (hT : lc_Bk a12 0 H L 0 0)
    (K : ∀ f, lc_Bk f 0 H L (u 0 + u 1 + u 2) (v 0 + v 1 + v 2) → ∃ n, wX_rankSums_200 post f0 f1 n 0 a1 a2 a3 a4 a5 a6 a7 a8 a9 a10 a11 f a13 a14) :
    ∃ n, wX_rankSums_166 post n 0 f0 f1 a1 a2 a3 a4 a5 a6 a7 a8 a9 a10 a11 a12 a13 a14 := by
  refine pk_loop (fun n k s => wX_rankSums_166 post n (nI k) f0 f1 a1 a2 a3 a4 a5 a6 a7 a8 a9 a10 a11 s a13 a14) (fun k s => lc_Bk s 0 H L (lc_cu u k) (lc_cv u v k)) 24 0 a12 (by omega) hT ?_ ?_
  · intro n s hs
    exact pk_le 24 24 (fun _ => K s (lc_Bkc hs (fun k hk => lc_c24 hk))) (fun z => absurd z (by omega))
  · intro n k s hk hs hw
    have hv : a11 k = lc_bk H L (u (k / 8)) (v (k / 8)) (k % 8) := by
      have := hS (k / 8) (by omega) (k % 8) (by omega)
      rw [show 8 * (k / 8) + k % 8 = k by omega] at this
      exact this
    refine pk_le 24 k (fun z => absurd z (by omega)) (fun _ => ⟨pk_in k 24 hk, ?_⟩)
    rw [lc_cl (show k < 1000 by omega), hv]
    by_cases c1 : k % 8 < u (k / 8)
    · rw [lc_bk1 c1]
      refine br_f (nI_pos (by omega)) ⟨pk_in k 24 hk, ?_⟩
      refine lc_offH (t := 0) (by omega) hL hH hs (fun f hf ho => nm_r (nI_1 k) (hw f (lc_BkE hf rfl rfl ?_ ?_)))
      · show _ = lc_cu u k + (if k % 8 < u (k / 8) then 1 else 0)
        rw [if_pos c1]
      · show _ = lc_cv u v k + (if u (k / 8) ≤ k % 8 ∧ k % 8 < u (k / 8) + v (k / 8) then 1 else 0)
        rw [if_neg (fun z => by omega)]
        rfl
    · by_cases c2 : k % 8 < u (k / 8) + v (k / 8)
      · rw [lc_bk2 (by omega) c2]
        refine br_f (nI_pos (by omega)) ⟨pk_in k 24 hk, ?_⟩
        refine lc_offL (t := 0) (by omega) hL hH hs (fun f hf ho => nm_r (nI_1 k) (hw f (lc_BkE hf rfl rfl ?_ ?_)))
        · show _ = lc_cu u k + (if k % 8 < u (k / 8) then 1 else 0)
          rw [if_neg c1]
          rfl
        · show _ = lc_cv u v k + (if u (k / 8) ≤ k % 8 ∧ k % 8 < u (k / 8) + v (k / 8) then 1 else 0)
          rw [if_pos ⟨by omega, c2⟩]
      · rw [lc_bk3 (by omega)]
        refine br_t lc_neg0 (nm_r (nI_1 k) (hw s (lc_BkE hs rfl rfl ?_ ?_)))
        · show _ = lc_cu u k + (if k % 8 < u (k / 8) then 1 else 0)
          rw [if_neg c1]
          rfl
        · show _ = lc_cv u v k + (if u (k / 8) ≤ k % 8 ∧ k % 8 < u (k / 8) + v (k / 8) then 1 else 0)
          rw [if_neg (fun z => c2 z.2)]
          rfl
theorem lc_rs143 (K : ∀ f, (∀ k, k < 8 → f k = -1000) → ∃ n, wX_rankSums_166 post n 0 f0 f1 a1 a2 a3 a4 a5 a6 a7 a8 a9 a10 a11 f a13 a14) : ∃ n, wX_rankSums_143 post f0 f1 n 0 a1 a2 a3 a4 a5 a6 a7 a8 a9 a10 a11 a12 a13 a14 :=
  pk_loop (fun n k s => wX_rankSums_143 post f0 f1 n (nI k) a1 a2 a3 a4 a5 a6 a7 a8 a9 a10 a11 s a13 a14) (fun k s => ∀ j, j < k → s j = -1000) 8 0 a12 (by omega) (fun j hj => absurd hj (by omega))
    (fun n s hs => pk_le 8 8 (fun _ => K s hs) (fun z => absurd z (by omega)))
    (fun n k s hk hs hw => pk_le 8 k (fun z => absurd z (by omega)) (fun _ => ⟨pk_in k 24 (by omega), nm_r (e' := upd s k (-1000)) (by rw [lc_cl (by omega)]) (nm_r (nI_1 k) (hw _ (lc_fill (f := fun _ => -1000) hs rfl)))⟩))
theorem lc_rs111 {J : Int32 → Int32 → Int32 → lc_JA} {x1 : Int32} (K : ∀ f, (∀ k, k < 24 → f k = a12 k) → J (x1 + 1) f0 f1 a1 a2 a3 a4 a5 a6 a7 a8 a9 a10 f a12 a13 a14) : ∃ n, wX_rankSums_111 post J x1 f0 f1 n 0 a1 a2 a3 a4 a5 a6 a7 a8 a9 a10 a11 a12 a13 a14 :=
  pk_loop (fun n k s => wX_rankSums_111 post J x1 f0 f1 n (nI k) a1 a2 a3 a4 a5 a6 a7 a8 a9 a10 s a12 a13 a14) (fun k s => ∀ j, j < k → s j = a12 j) 24 0 a11 (by omega) (fun j hj => absurd hj (by omega))
    (fun n s hs => pk_le 24 24 (fun _ => nm_e (K s hs)) (fun z => absurd z (by omega)))
    (fun n k s hk hs hw => pk_le 24 k (fun z => absurd z (by omega)) (fun _ => ⟨pk_in k 24 (by omega), pk_in k 24 hk, nm_r (e' := upd s k (a12 k)) (by rw [lc_cl (by omega)]) (nm_r (nI_1 k) (hw _ (lc_fill hs rfl)))⟩))
theorem lc_rs63 {J : Int32 → Int32 → Int32 → lc_JA} {x1 : Int32} (K : ∀ f, (∀ k, k < 24 → f k = -1000) → ∃ n, wX_rankSums_86 post J x1 n 0 f0 f1 a1 a2 a3 a4 a5 a6 a7 a8 a9 a10 a11 f a13 a14) : ∃ n, wX_rankSums_63 post J x1 f0 f1 n 0 a1 a2 a3 a4 a5 a6 a7 a8 a9 a10 a11 a12 a13 a14 :=
  pk_loop (fun n k s => wX_rankSums_63 post J x1 f0 f1 n (nI k) a1 a2 a3 a4 a5 a6 a7 a8 a9 a10 a11 s a13 a14) (fun k s => ∀ j, j < k → s j = -1000) 24 0 a12 (by omega) (fun j hj => absurd hj (by omega))
    (fun n s hs => pk_le 24 24 (fun _ => K s hs) (fun z => absurd z (by omega)))
    (fun n k s hk hs hw => pk_le 24 k (fun z => absurd z (by omega)) (fun _ => ⟨pk_in k 24 (by omega), nm_r (e' := upd s k (-1000)) (by rw [lc_cl (by omega)]) (nm_r (nI_1 k) (hw _ (lc_fill (f := fun _ => -1000) hs rfl)))⟩))
theorem lc_rs86 {J : Int32 → Int32 → Int32 → lc_JA} {i h l : Nat} {u v ω : Nat → Nat} (hi : i < 6) (hl : l ≤ h) (hh : ∀ t, t < 3 → h + (1 + ω t) < 1000) (h2 : ∀ t, t < 3 → a2 (3 * i + t) = 0)
    (h4 : ∀ k, k < 9 → a4 k = 0) (h3 : ∀ k, k < 9 → a3 k = 1) (e1 : ∀ t, t < 3 → a1 (3 * i + t) = nI (ω t)) (hS : ∀ b, b < 3 → lc_Bk a11 b h l (u b) (v b))
    (hT : ∀ t, t < 3 → lc_Bk a12 t (h + (1 + ω t)) (l + (1 + ω t)) 0 0)
    (K : ∀ f, (∀ t, t < 3 → lc_Bk f t (h + (1 + ω t)) (l + (1 + ω t)) (u 0 + u 1 + u 2) (v 0 + v 1 + v 2)) → ∃ n, wX_rankSums_111 post J (nI i) f0 f1 n 0 a1 a2 a3 a4 a5 a6 a7 a8 a9 a10 a11 f a13 a14) :
    ∃ n, wX_rankSums_86 post J (nI i) n 0 f0 f1 a1 a2 a3 a4 a5 a6 a7 a8 a9 a10 a11 a12 a13 a14 := by
  refine pk_loop (fun n c s => wX_rankSums_86 post J (nI i) n (nI c) f0 f1 a1 a2 a3 a4 a5 a6 a7 a8 a9 a10 a11 s a13 a14) (fun c s => ∀ t, t < 3 → lc_Bk s t (h + (1 + ω t)) (l + (1 + ω t)) (lc_ps u c t) (lc_ps v c t)) 9 0 a12 (by omega) ?_ ?_ ?_
  · intro t ht
    rw [lc_ps0, lc_ps0]
    exact hT t ht
  · intro n s hs
    refine pk_le 9 9 (fun _ => K s (fun t ht => ?_)) (fun z => absurd z (by omega))
    have := hs t ht
    rw [lc_ps9 ht, lc_ps9 ht] at this
    exact this
  · intro n c s hc hs hw
    obtain ⟨b, t, hb, ht, rfl⟩ : ∃ b t, b < 3 ∧ t < 3 ∧ c = 3 * b + t := ⟨c / 3, c % 3, by omega, by omega, by omega⟩
    have d1 : nI (3 * b + t) / 3 = nI b := by
      rw [show (3 : Int32) = nI 3 from rfl, pk_div (by omega) (by omega) (by omega), show (3 * b + t) / 3 = b by omega]
    have d2 : nI (3 * b + t) - nI (3 * b + t) / 3 * 3 = nI t := by
      rw [show (3 : Int32) = nI 3 from rfl, pk_rem (by omega) (by omega) (by omega), show (3 * b + t) % 3 = t by omega]
    refine pk_le 9 (3 * b + t) (fun z => absurd z (by omega)) (fun _ => ⟨by decide, by decide, ?_⟩)
    rw [d2, d1]
    refine lc_rc (ω := ω t) hi hb ht hl (hh t ht) (h2 t ht) h4 h3 (e1 t ht) (hS b hb) (hs t ht) (fun f hf ho => nm_r (nI_1 _) (hw f (fun t' ht' => ?_)))
    by_cases e : t' = t
    · subst e
      exact lc_BkE hf rfl rfl (lc_psA hb ht).symm (lc_psA hb ht).symm
    · rw [lc_psB hb ht ht' e, lc_psB hb ht ht' e]
      intro k hk
      rw [ho (8 * t' + k) (by omega)]
      exact hs t' ht' k hk
end
end
section
/-! rankSums whole, greatestSum, choose -/
section
variable {post : St2 → Prop} {f0 f1 : Int32} {a1 a2 a3 a4 a5 a6 a7 a8 : Nat → Int32} {a9 a10 : Nat → Int64} {a11 a12 a13 a14 : Nat → Int32}
theorem lc_rs53 {N q a w : Nat} (hN1 : 1 ≤ N) (hN : N ≤ 6) (ha : a < 3) (hw : w ≤ 9) (h2 : ∀ j b, b < 3 → j < N → a2 (3 * j + b) = 0)
    (h4 : ∀ k, k < 9 → a4 k = 0) (h3 : ∀ k, k < 9 → a3 k = 1) (e1 : ∀ j b, b < 3 → j < N → a1 (3 * j + b) = nI (lc_w q a w j b))
    (hS : ∀ b, b < 3 → lc_Bk a11 b (lc_h q w 0) (lc_l q w 0) (lc_u q a w 0 b) (lc_v q a w 0 b))
    (K : ∀ f11 f12, (∀ b, b < 3 → lc_Bk f11 b (lc_h q w (N - 1)) (lc_l q w (N - 1)) (lc_u q a w (N - 1) b) (lc_v q a w (N - 1) b)) → ∃ n, wX_rankSums_143 post (nI N) f1 n 0 a1 a2 a3 a4 a5 a6 a7 a8 a9 a10 f11 f12 a13 a14) :
    ∃ n, wX_rankSums_53 post n 1 (nI N) f1 a1 a2 a3 a4 a5 a6 a7 a8 a9 a10 a11 a12 a13 a14 := by
  refine pk_loop (σ := (Nat → Int32) × (Nat → Int32)) (fun n i s => wX_rankSums_53 post n (nI i) (nI N) f1 a1 a2 a3 a4 a5 a6 a7 a8 a9 a10 s.1 s.2 a13 a14)
    (fun i s => 1 ≤ i ∧ ∀ b, b < 3 → lc_Bk s.1 b (lc_h q w (i - 1)) (lc_l q w (i - 1)) (lc_u q a w (i - 1) b) (lc_v q a w (i - 1) b)) N 1 (a11, a12) hN1 ⟨Nat.le_refl 1, hS⟩ ?_ ?_
  · intro n s hs
    exact pk_le N N (fun _ => K s.1 s.2 hs.2) (fun z => absurd z (by omega))
  · intro n i s hi hs hk
    obtain ⟨j, rfl⟩ : ∃ j, i = j + 1 := ⟨i - 1, by have := hs.1; omega⟩
    have hb := lc_hb (q := q) (w := w) (j := j) hw (by omega)
    have hs2 := hs.2
    rw [show j + 1 - 1 = j by omega] at hs2
    refine pk_le N (j + 1) (fun z => absurd z (by omega)) (fun _ => lc_rs63 (fun f hf => lc_rs86 (h := lc_h q w j) (l := lc_l q w j) (u := lc_u q a w j) (v := lc_v q a w j) (ω := lc_w q a w (j + 1)) (by omega) lc_lh (fun t ht => ?_) (fun t ht => h2 _ t ht hi) h4 h3 (fun t ht => e1 _ t ht hi) hs2 (fun t ht k hk8 => ?_) (fun f' hf' => lc_rs111 (fun g hg => ?_))))
    · have := lc_w9 (q := q) (a := a) (j := j + 1) (b := t) hw
      omega
    · rw [hf _ (by omega), lc_bk3 (by omega)]
    · rw [nI_1]
      refine hk (g, f') ⟨by omega, fun b hb3 k hk8 => ?_⟩
      show g (8 * b + k) = _
      rw [hg _ (by omega)]
      exact lc_tr ha (hf' b hb3) k hk8
theorem lc_rs25 {q a w : Nat} (h5 : ∀ b, b < 3 → a5 b = nI (lc_fs q a w 0 b)) (h11 : ∀ k, k < 24 → a11 k = -1000)
    (K : ∀ f, (∀ b, b < 3 → lc_Bk f b (lc_h q w 0) (lc_l q w 0) (lc_u q a w 0 b) (lc_v q a w 0 b)) → ∃ n, wX_rankSums_53 post n 1 f0 f1 a1 a2 a3 a4 a5 a6 a7 a8 a9 a10 f a12 a13 a14) :
    ∃ n, wX_rankSums_25 post f0 f1 n 0 a1 a2 a3 a4 a5 a6 a7 a8 a9 a10 a11 a12 a13 a14 := by
  refine pk_loop (fun n b s => wX_rankSums_25 post f0 f1 n (nI b) a1 a2 a3 a4 a5 a6 a7 a8 a9 a10 s a12 a13 a14) (fun b s => (∀ b', b' < b → s (8 * b') = a5 b') ∧ (∀ k, k < 24 → k % 8 ≠ 0 → s k = -1000)) 3 0 a11 (by omega) ⟨fun _ h => absurd h (by omega), fun k hk _ => h11 k hk⟩ ?_ ?_
  · intro n s hs
    refine pk_le 3 3 (fun _ => K s (fun b hb => lc_t0 ?_ ?_)) (fun z => absurd z (by omega))
    · rw [hs.1 b hb, h5 b hb]
    · intro k hk0 hk
      exact hs.2 _ (by omega) (by omega)
  · intro n b s hb hs hk
    refine pk_le 3 b (fun z => absurd z (by omega)) (fun _ => ⟨pk_in b 18 (by omega), pk_in (8 * b) 24 (by omega) (lc_m8 b), nm_r (e' := upd s (8 * b) (a5 b)) (by rw [lc_m8, lc_cl (by omega), lc_cl (by omega)]) (nm_r (nI_1 b) (hk _ ⟨fun b' hb' => ?_, fun k hk24 hk8 => ?_⟩))⟩)
    · by_cases e : b' = b
      · rw [e, pk_us]
      · rw [pk_un (by omega)]
        exact hs.1 b' (by omega)
    · rw [pk_un (by omega)]
      exact hs.2 k hk24 hk8
theorem lc_rs2 (K : ∀ f, (∀ k, k < 24 → f k = -1000) → ∃ n, wX_rankSums_25 post f0 f1 n 0 a1 a2 a3 a4 a5 a6 a7 a8 a9 a10 f a12 a13 a14) : ∃ n, wX_rankSums_2 post f0 f1 n 0 a1 a2 a3 a4 a5 a6 a7 a8 a9 a10 a11 a12 a13 a14 :=
  pk_loop (fun n k s => wX_rankSums_2 post f0 f1 n (nI k) a1 a2 a3 a4 a5 a6 a7 a8 a9 a10 s a12 a13 a14) (fun k s => ∀ j, j < k → s j = -1000) 24 0 a11 (by omega) (fun j hj => absurd hj (by omega))
    (fun n s hs => pk_le 24 24 (fun _ => K s hs) (fun z => absurd z (by omega)))
    (fun n k s hk hs hw => pk_le 24 k (fun z => absurd z (by omega)) (fun _ => ⟨pk_in k 24 (by omega), nm_r (e' := upd s k (-1000)) (by rw [lc_cl (by omega)]) (nm_r (nI_1 k) (hw _ (lc_fill (f := fun _ => -1000) hs rfl)))⟩))
theorem lc_rank {N q a w : Nat} (hN1 : 1 ≤ N) (hN : N ≤ 6) (hq : q < N) (ha : a < 3) (hw : w ≤ 9) (h2 : ∀ j b, b < 3 → j < N → a2 (3 * j + b) = 0)
    (h4 : ∀ k, k < 9 → a4 k = 0) (h3 : ∀ k, k < 9 → a3 k = 1) (e1 : ∀ j b, b < 3 → j < N → a1 (3 * j + b) = nI (lc_w q a w j b))
    (h5 : ∀ b, b < 3 → a5 b = nI (lc_fs q a w 0 b))
    (K : ∀ f11 f12 f13, (∀ k, k < 8 → f13 k = lc_bk (lc_h q w (N - 1)) (lc_l q w (N - 1)) (lc_fb q w N) (3 ^ N - lc_fb q w N) k) → post (nI N, f1, a1, a2, a3, a4, a5, a6, a7, a8, a9, a10, f11, f12, f13, a14)) :
    wpX_rankSums post (nI N, f1, a1, a2, a3, a4, a5, a6, a7, a8, a9, a10, a11, a12, a13, a14) := by
  have hb := lc_hb (q := q) (w := w) (j := N - 1) hw (by omega)
  unfold wpX_rankSums
  dsimp only
  refine lc_rs2 (fun g hg => lc_rs25 h5 hg (fun g2 hg2 => lc_rs53 hN1 hN ha hw h2 h4 h3 e1 hg2 (fun f11 f12 hf => lc_rs143 (fun f hf8 => lc_rs166 (H := lc_h q w (N - 1)) (L := lc_l q w (N - 1)) (u := lc_u q a w (N - 1)) (v := lc_v q a w (N - 1)) lc_lh (by omega) hf (fun k hk => ?_) (fun f' hf' => lc_rs200 (fun f13 h13 => K _ _ _ (fun k hk => ?_)))))))
  · rw [hf8 _ (by omega), lc_bk3 (by omega)]
  · have hu := lc_us (q := q) (a := a) (w := w) (j := N - 1) ha (by omega)
    have hv := lc_vs (q := q) (a := a) (w := w) (j := N - 1)
    rw [hu, show N - 1 + 1 = N by omega] at hv
    rw [show N - 1 + 1 = N by omega] at hu
    rw [hu] at hf'
    have e : lc_v q a w (N - 1) 0 + lc_v q a w (N - 1) 1 + lc_v q a w (N - 1) 2 = 3 ^ N - lc_fb q w N := by omega
    rw [e] at hf'
    rw [h13 k hk]
    have := hf' k hk
    rw [show 8 * 0 + k = k by omega] at this
    exact this
theorem lc_gss {post : Int32 → Prop} {x1 x1' : Int32} {N t n s : Nat} (ht : t < 3) (hN1 : 1 ≤ N) (hN : N ≤ 6) (e5 : a5 (3 * N - 3 + t) = nI s)
    (hv : (x1 < nI s ∧ x1' = nI s) ∨ (nI s ≤ x1 ∧ x1' = x1)) (H : wX_greatestSum_6 post (nI N) f1 a1 a2 a3 a4 a5 a6 a7 a8 a9 a10 a11 a12 a13 a14 n x1' (nI (t + 1))) :
    wX_greatestSum_6 post (nI N) f1 a1 a2 a3 a4 a5 a6 a7 a8 a9 a10 a11 a12 a13 a14 (n + 1) x1 (nI t) := by
  have hx := lc_ixm (j := N) t hN1
  have vg : vp_in (3 * nI N - 3 + nI t) 18 := pk_in (3 * N - 3 + t) 18 (by omega) hx
  refine pk_le 3 t (fun z => absurd z (by omega)) (fun _ => ⟨vg, ?_⟩)
  rw [hx, lc_cl (show 3 * N - 3 + t < 1000 by omega), e5]
  rcases hv with ⟨h1, rfl⟩ | ⟨h1, rfl⟩
  · exact br_f (Int32.not_le.mpr h1) ⟨pk_in (3 * N - 3 + t) 18 (by omega), nm_e (nm_r (nI_1 t) H)⟩
  · exact br_t h1 (nm_r (nI_1 t) H)
theorem lc_mx {m s : Nat} (hm : m < 1000) (hs : s < 1000) : (nI m < nI s ∧ nI (max m s) = nI s) ∨ (nI s ≤ nI m ∧ nI (max m s) = nI m) := by
  by_cases h : m < s
  · exact Or.inl ⟨nI_lt h (by omega), by rw [show max m s = s by omega]⟩
  · exact Or.inr ⟨nI_le (by omega) (by omega), by rw [show max m s = m by omega]⟩
theorem lc_gs {post : Int32 → Prop} {N : Nat} {s : Nat → Nat} (hN1 : 1 ≤ N) (hN : N ≤ 6) (e5 : ∀ t, t < 3 → s t < 1000 ∧ a5 (3 * N - 3 + t) = nI (s t))
    (H : post (nI (max (max (s 0) (s 1)) (s 2)))) : wpX_greatestSum post (nI N, f1, a1, a2, a3, a4, a5, a6, a7, a8, a9, a10, a11, a12, a13, a14) := by
  obtain ⟨p0, q0⟩ := e5 0 (by omega)
  obtain ⟨p1, q1⟩ := e5 1 (by omega)
  obtain ⟨p2, q2⟩ := e5 2 (by omega)
  unfold wpX_greatestSum
  dsimp only
  refine ⟨4, ?_⟩
  refine lc_gss (t := 0) (n := 3) (by omega) hN1 hN q0 (Or.inl ⟨lc_neg (by omega), rfl⟩) ?_
  refine lc_gss (t := 1) (n := 2) (by omega) hN1 hN q1 (lc_mx p0 p1) ?_
  refine lc_gss (t := 2) (n := 1) (by omega) hN1 hN q2 (lc_mx (by omega) p2) ?_
  exact pk_le 3 3 (fun _ => H) (fun z => absurd z (by omega))
theorem lc_reach {post : Int32 → Prop} {i b : Nat} {r : Int32} (hi : i < 6) (hb : b < 3) (h14 : ∀ k, k < i → ∃ v, v < 3 ∧ a14 k = nI v) (H0 : post 0) (H1 : post 1) :
    wpX_reaches post (f0, f1, a1, a2, a3, a4, a5, a6, a7, a8, a9, a10, a11, a12, a13, a14) (nI i) (nI b) r := by
  unfold wpX_reaches
  dsimp only
  rw [lc_ix, lc_cl (show 3 * i + b < 1000 by omega)]
  refine ⟨pk_in (3 * i + b) 18 (by omega), nm_e (br_c (fun _ => pk_eq i 0 (fun _ => br_c (fun _ => H1) (fun _ => H0)) (fun z => ?_)) (fun _ => H0))⟩
  obtain ⟨k, rfl⟩ : ∃ k, i = k + 1 := ⟨i - 1, by omega⟩
  obtain ⟨v, hv, e⟩ := h14 k (by omega)
  rw [nI_pred, lc_cl (show k < 1000 by omega), e, lc_ix]
  have ve : vp_in (nI (3 * v + b)) 9 := vp_in_nI (by omega) (by omega)
  exact ⟨pk_in k 6 (by omega), nm_e ⟨ve, br_c (fun _ => ⟨ve, br_c (fun _ => H1) (fun _ => H0)⟩) (fun _ => H0)⟩⟩
theorem lc_c70 {J : Int32 → Int32 → lc_JA} {x1 : Int32} {i b : Nat} (hi : i < 6) (hb : b < 3) (K : ∀ r, J r (nI (i + 1)) a1 a2 a3 a4 a5 a6 a7 a8 a9 a10 a11 a12 a13 a14) :
    wX_choose_70 post J x1 (nI i) (nI b) f0 f1 a1 a2 a3 a4 a5 a6 a7 a8 a9 a10 a11 a12 a13 a14 := by
  unfold wX_choose_70
  exact ⟨pk_in (3 * i + b) 18 (by omega) (lc_ix i b), nm_e (nm_r (nI_1 i) (K _))⟩
theorem lc_b3 : ∀ b, b < 3 → (nI b).toInt8.toInt32 = nI b := by decide
theorem lc_c38 {J : Int32 → Int32 → lc_JA} {x1 : Int32} {i b : Nat} (hi : i < 6) (hb : b < 3) (h14 : ∀ k, k < i → ∃ v, v < 3 ∧ a14 k = nI v)
    (K : ∀ r f, (∀ k, k < i + 1 → ∃ v, v < 3 ∧ f k = nI v) → J r (nI (i + 1)) a1 a2 a3 a4 a5 a6 a7 a8 a9 a10 a11 a12 a13 f) :
    wX_choose_38 post J x1 (nI i) (nI b) f0 f1 a1 a2 a3 a4 a5 a6 a7 a8 a9 a10 a11 a12 a13 a14 := by
  have hf : ∀ k, k < i + 1 → ∃ v, v < 3 ∧ upd a14 i (nI b) k = nI v := by
    intro k hk
    by_cases e : k = i
    · exact ⟨b, hb, by rw [e, pk_us]⟩
    · rw [pk_un e]
      exact h14 k (by omega)
  unfold wX_choose_38
  rw [lc_cl (show i < 1000 by omega), lc_b3 b hb]
  refine ⟨pk_in i 6 hi, nm_e (pk_le i 0 (fun _ => lc_c70 hi hb (fun r => K r _ hf)) (fun z => ?_))⟩
  obtain ⟨k, rfl⟩ : ∃ k, i = k + 1 := ⟨i - 1, by omega⟩
  obtain ⟨v, hv, e⟩ := hf k (by omega)
  rw [nI_pred, lc_cl (show k < 1000 by omega), e, lc_ix]
  exact ⟨pk_in k 6 (by omega), pk_in (3 * v + b) 9 (by omega), nm_e (lc_c70 hi hb (fun r => K r _ hf))⟩
theorem lc_c17 {J : Int32 → Int32 → lc_JA} {x1 : Int32} {i : Nat} (hi : i < 6) (h14 : ∀ k, k < i → ∃ v, v < 3 ∧ a14 k = nI v)
    (K : ∀ r f, (∀ k, k < i + 1 → ∃ v, v < 3 ∧ f k = nI v) → J r (nI (i + 1)) a1 a2 a3 a4 a5 a6 a7 a8 a9 a10 a11 a12 a13 f) :
    ∃ n, wX_choose_17 post J x1 (nI i) f0 f1 a1 a2 a3 a4 a5 a6 a7 a8 a9 a10 a11 a12 a13 a14 n 0 :=
  pk_loop (σ := Unit) (fun n b _ => wX_choose_17 post J x1 (nI i) f0 f1 a1 a2 a3 a4 a5 a6 a7 a8 a9 a10 a11 a12 a13 a14 n (nI b)) (fun _ _ => True) 2 0 () (by omega) trivial
    (fun n _ _ => pk_le 2 2 (fun _ => lc_c38 hi (by omega) h14 K) (fun z => absurd z (by omega)))
    (fun n b _ hb _ hw => pk_le 2 b (fun z => absurd z (by omega)) (fun _ => lc_reach hi (by omega) h14 (br_t rfl (nm_r (nI_1 b) (hw () trivial))) (br_f (by decide) (lc_c38 hi (by omega) h14 K))))
theorem lc_choose {N : Nat} {s : Nat → Nat} (hN1 : 1 ≤ N) (hN : N ≤ 6) (e5 : ∀ t, t < 3 → s t < 1000 ∧ a5 (3 * N - 3 + t) = nI (s t))
    (K : ∀ f, post (nI N, f1, a1, a2, a3, a4, a5, a6, a7, a8, a9, a10, a11, a12, a13, f)) : wpX_choose post (nI N, f1, a1, a2, a3, a4, a5, a6, a7, a8, a9, a10, a11, a12, a13, a14) := by
  unfold wpX_choose
  dsimp only
  refine lc_gs hN1 hN e5 ?_
  exact pk_loop (σ := Int32 × (Nat → Int32)) (fun n i s => wX_choose_7 post (nI N) f1 n s.1 (nI i) a1 a2 a3 a4 a5 a6 a7 a8 a9 a10 a11 a12 a13 s.2) (fun i s => ∀ k, k < i → ∃ v, v < 3 ∧ s.2 k = nI v) N 0 (_, a14) (by omega) (fun k hk => absurd hk (by omega))
    (fun n s _ => pk_le N N (fun _ => K s.2) (fun z => absurd z (by omega)))
    (fun n i s hi hs hw => pk_le N i (fun z => absurd z (by omega)) (fun _ => lc_c17 (by omega) hs (fun r f hf => hw (r, f) hf)))
end
end
section
/-! fill -/
/-- the back tables hold their pictures from the row i on -/
def lc_R (n q w i : Nat) (a6 : Nat → Int32) (a10 : Nat → Int64) : Prop := ∀ j b, b < 3 → j < n → i ≤ j → a10 (3 * j + b) = lN (lc_bp n q w j) ∧ ∃ v, v ≤ 10 * (n - j) ∧ a6 (3 * j + b) = nI v
theorem lc_RB {n q w i : Nat} {a6 : Nat → Int32} {a10 : Nat → Int64} (h : lc_R n q w (i + 1) a6 a10) : lc_B n q w i 0 a6 a10 :=
  fun j b hb hj hlt => h j b hb hj (by omega)
theorem lc_BR {n q w i : Nat} {a6 : Nat → Int32} {a10 : Nat → Int64} (h : lc_B n q w i 3 a6 a10) : lc_R n q w i a6 a10 :=
  fun j b hb hj hlt => h j b hb hj (by omega)
/-- what the given tables hold -/
def lc_G (N q a w : Nat) (a1 a2 a3 a4 : Nat → Int32) : Prop := (∀ j b, b < 3 → j < N → a1 (3 * j + b) = nI (lc_w q a w j b)) ∧ (∀ j b, b < 3 → j < N → a2 (3 * j + b) = 0) ∧ (∀ k, k < 9 → a3 k = 1) ∧ (∀ k, k < 9 → a4 k = 0)
/-- what the filled tables hold -/
def lc_D (N q a w : Nat) (a5 a6 a7 a8 : Nat → Int32) (a9 a10 : Nat → Int64) (a13 : Nat → Int32) : Prop := lc_F q a w (3 * N) a5 a7 a8 a9 ∧ lc_R N q w 0 a6 a10 ∧ ∀ k, k < 8 → a13 k = lc_bk (lc_h q w (N - 1)) (lc_l q w (N - 1)) (lc_fb q w N) (3 ^ N - lc_fb q w N) k
theorem lc_F5 {N q a w : Nat} {a5 a7 a8 : Nat → Int32} {a9 : Nat → Int64} (hN1 : 1 ≤ N) (hN : N ≤ 6) (hw : w ≤ 9) (h : lc_F q a w (3 * N) a5 a7 a8 a9) : ∀ t, t < 3 → lc_fs q a w (N - 1) t < 1000 ∧ a5 (3 * N - 3 + t) = nI (lc_fs q a w (N - 1) t) := by
  intro t ht
  have hb := lc_fs_b (q := q) (a := a) (b := t) hw (show N - 1 < 6 by omega)
  have := (h (N - 1) t ht (by omega)).1
  rw [show 3 * (N - 1) + t = 3 * N - 3 + t by omega] at this
  exact ⟨by omega, this⟩
section
variable {post : St2 → Prop} {f0 f1 : Int32} {a1 a2 a3 a4 a5 a6 a7 a8 : Nat → Int32} {a9 a10 : Nat → Int64} {a11 a12 a13 a14 : Nat → Int32}
theorem lc_f79 {J : Int32 → Int32 → Int32 → lc_JA} {N q a w i : Nat} (hN : N ≤ 6) (hq : q < N) (hi : i < N) (ha : a < 3) (hw : w ≤ 9) (hG : lc_G N q a w a1 a2 a3 a4) (hR : lc_R N q w (i + 1) a6 a10)
    (K : ∀ b6 b10, lc_R N q w i b6 b10 → J (nI i - 1) (nI N) f1 a1 a2 a3 a4 a5 b6 a7 a8 a9 b10 a11 a12 a13 a14) :
    ∃ n, wX_fill_79 post J (nI i) n 0 (nI N) f1 a1 a2 a3 a4 a5 a6 a7 a8 a9 a10 a11 a12 a13 a14 := by
  obtain ⟨g1, g2, g3, g4⟩ := hG
  refine pk_loop (σ := (Nat → Int32) × (Nat → Int64)) (fun n t s => wX_fill_79 post J (nI i) n (nI t) (nI N) f1 a1 a2 a3 a4 a5 s.1 a7 a8 a9 s.2 a11 a12 a13 a14) (fun t s => lc_B N q w i t s.1 s.2) 3 0 (a6, a10) (by omega) (lc_RB hR) ?_ ?_
  · intro n s hs
    exact pk_le 3 3 (fun _ => nm_r (Int32.sub_eq_add_neg (nI i) 1).symm (K s.1 s.2 (lc_BR hs))) (fun z => absurd z (by omega))
  · intro n t s ht hs hk
    exact pk_le 3 t (fun z => absurd z (by omega)) (fun _ => lc_backF hN hq hi ht ha hw (g2 i t ht hi) g4 g3 g1 hs (fun b6 b10 hb => nm_r (nI_1 t) (hk (b6, b10) hb)))
theorem lc_f73 {N q a w : Nat} (hN1 : 1 ≤ N) (hN : N ≤ 6) (hq : q < N) (ha : a < 3) (hw : w ≤ 9) (hG : lc_G N q a w a1 a2 a3 a4) (hF : lc_F q a w (3 * N) a5 a7 a8 a9)
    (K : ∀ b6 b10 b11 b12 b13 b14, lc_D N q a w a5 b6 a7 a8 a9 b10 b13 → post (nI N, f1, a1, a2, a3, a4, a5, b6, a7, a8, a9, b10, b11, b12, b13, b14)) :
    ∃ n, wX_fill_73 post n (nI N - 1) (nI N) f1 a1 a2 a3 a4 a5 a6 a7 a8 a9 a10 a11 a12 a13 a14 := by
  obtain ⟨g1, g2, g3, g4⟩ := hG
  refine ⟨N + 1, pk_loopD (σ := (Nat → Int32) × (Nat → Int64)) (fun n i s => wX_fill_73 post n (nI i - 1) (nI N) f1 a1 a2 a3 a4 a5 s.1 a7 a8 a9 s.2 a11 a12 a13 a14) (fun i s => i ≤ N ∧ lc_R N q w i s.1 s.2) ?_ ?_ N (a6, a10) ⟨Nat.le_refl _, fun j b hb hj hlt => absurd hlt (by omega)⟩⟩
  · intro n s hs
    refine br_t (by decide) ?_
    refine lc_rank hN1 hN hq ha hw g2 g4 g3 g1 (fun b hb => ?_) (fun f11 f12 f13 h13 => ?_)
    · have := (hF 0 b hb (by omega)).1
      rw [show 3 * 0 + b = b by omega] at this
      exact this
    · have h5 := lc_F5 hN1 hN hw hF
      refine lc_gs hN1 hN h5 ?_
      obtain ⟨p0, _⟩ := h5 0 (by omega)
      obtain ⟨p1, _⟩ := h5 1 (by omega)
      obtain ⟨p2, _⟩ := h5 2 (by omega)
      refine br_f (nI_pos (by omega)) (lc_choose hN1 hN h5 (fun f14 => ?_))
      exact K s.1 s.2 f11 f12 f13 f14 ⟨hF, hs.2, h13⟩
  · intro n i s hs hk
    have main : ∀ x, x = nI i → wX_fill_73 post (n + 1) x (nI N) f1 a1 a2 a3 a4 a5 s.1 a7 a8 a9 s.2 a11 a12 a13 a14 := by
      intro x hx
      subst hx
      exact br_f (nI_pos (by omega)) (lc_f79 hN hq (by omega) ha hw ⟨g1, g2, g3, g4⟩ hs.2 (fun b6 b10 hb => hk (b6, b10) ⟨by omega, hb⟩))
    exact main _ (nI_pred i)
theorem lc_f33 {N q a w : Nat} (hN1 : 1 ≤ N) (hN : N ≤ 6) (ha : a < 3) (hw : w ≤ 9) (hG : lc_G N q a w a1 a2 a3 a4) (hF : lc_F q a w 3 a5 a7 a8 a9)
    (K : ∀ b5 b7 b8 b9, lc_F q a w (3 * N) b5 b7 b8 b9 → ∃ n, wX_fill_73 post n (nI N - 1) (nI N) f1 a1 a2 a3 a4 b5 a6 b7 b8 b9 a10 a11 a12 a13 a14) :
    ∃ n, wX_fill_33 post n 1 (nI N) f1 a1 a2 a3 a4 a5 a6 a7 a8 a9 a10 a11 a12 a13 a14 := by
  obtain ⟨g1, g2, g3, g4⟩ := hG
  refine pk_loop (σ := (Nat → Int32) × (Nat → Int32) × (Nat → Int32) × (Nat → Int64)) (fun n i s => wX_fill_33 post n (nI i) (nI N) f1 a1 a2 a3 a4 s.1 a6 s.2.1 s.2.2.1 s.2.2.2 a10 a11 a12 a13 a14) (fun i s => 1 ≤ i ∧ lc_F q a w (3 * i) s.1 s.2.1 s.2.2.1 s.2.2.2) N 1 (a5, a7, a8, a9) hN1 ⟨Nat.le_refl 1, hF⟩ ?_ ?_
  · intro n s hs
    exact pk_le N N (fun _ => nm_e (K _ _ _ _ hs.2)) (fun z => absurd z (by omega))
  · intro n i s hi hs hk
    refine pk_le N i (fun z => absurd z (by omega)) (fun _ => ?_)
    refine pk_loop (σ := (Nat → Int32) × (Nat → Int32) × (Nat → Int32) × (Nat → Int64)) (fun m t r => wX_fill_43 post (wX_fill_33 post n) (nI i) m (nI t) (nI N) f1 a1 a2 a3 a4 r.1 a6 r.2.1 r.2.2.1 r.2.2.2 a10 a11 a12 a13 a14) (fun t r => lc_F q a w (3 * i + t) r.1 r.2.1 r.2.2.1 r.2.2.2) 3 0 s (by omega) hs.2 ?_ ?_
    · intro m r hr
      exact pk_le 3 3 (fun _ => nm_r (nI_1 i) (hk r ⟨by omega, hr⟩)) (fun z => absurd z (by omega))
    · intro m t r ht hr hw'
      exact pk_le 3 t (fun z => absurd z (by omega)) (fun _ => lc_frontF hs.1 (by omega) ht ha hw (g2 i t ht hi) g4 g3 (g1 i t ht hi) hr (fun b5 b7 b8 b9 hb => nm_r (nI_1 t) (hw' (b5, b7, b8, b9) hb)))
theorem lc_fill0 {N q a w : Nat} (hN1 : 1 ≤ N) (hN : N ≤ 6) (hq : q < N) (ha : a < 3) (hw : w ≤ 9) (hG : lc_G N q a w a1 a2 a3 a4)
    (K : ∀ b5 b6 b7 b8 b9 b10 b11 b12 b13 b14, lc_D N q a w b5 b6 b7 b8 b9 b10 b13 → post (nI N, 1, a1, a2, a3, a4, b5, b6, b7, b8, b9, b10, b11, b12, b13, b14)) :
    wpX_fill post (nI N, 0, a1, a2, a3, a4, a5, a6, a7, a8, a9, a10, a11, a12, a13, a14) := by
  have hG' := hG
  obtain ⟨g1, g2, g3, g4⟩ := hG
  unfold wpX_fill
  dsimp only
  refine br_t rfl ?_
  refine pk_loop (σ := (Nat → Int32) × (Nat → Int32) × (Nat → Int32) × (Nat → Int64)) (fun n t s => wX_fill_15 post n (nI t) (nI N) 1 a1 a2 a3 a4 s.1 a6 s.2.1 s.2.2.1 s.2.2.2 a10 a11 a12 a13 a14) (fun t s => lc_F q a w t s.1 s.2.1 s.2.2.1 s.2.2.2) 3 0 (a5, a7, a8, a9) (by omega) lc_F0 ?_ ?_
  · intro n s hs
    exact pk_le 3 3 (fun _ => lc_f33 hN1 hN ha hw hG' hs (fun b5 b7 b8 b9 hb => lc_f73 hN1 hN hq ha hw hG' hb (fun b6 b10 b11 b12 b13 b14 hD => K _ _ _ _ _ _ _ _ _ _ hD))) (fun z => absurd z (by omega))
  · intro n t s ht hs hk
    have e1 := g1 0 t ht (by omega)
    have e2 := g2 0 t ht (by omega)
    rw [show 3 * 0 + t = t by omega] at e1 e2
    exact pk_le 3 t (fun z => absurd z (by omega)) (fun _ => lc_startF ht hw e2 e1 hs (fun b5 b7 b8 b9 hb => nm_r (nI_1 t) (hk (b5, b7, b8, b9) hb)))
theorem lc_fill1 (H : post (f0, 1, a1, a2, a3, a4, a5, a6, a7, a8, a9, a10, a11, a12, a13, a14)) : wpX_fill post (f0, 1, a1, a2, a3, a4, a5, a6, a7, a8, a9, a10, a11, a12, a13, a14) := by
  unfold wpX_fill
  dsimp only
  exact br_f (by decide) H
end
end
section
/-! the answers -/
theorem lc_max {N q a w : Nat} (hN1 : 1 ≤ N) (hq : q < N) (ha : a < 3) : max (max (lc_fs q a w (N - 1) 0) (lc_fs q a w (N - 1) 1)) (lc_fs q a w (N - 1) 2) = lc_h q w (N - 1) := by
  have h := lc_fs_r (q := q) (w := w) (i := N - 1) (b := 0) ha
  rw [show N - 1 + 1 = N by omega] at h
  have e1 : lc_w q a w N 0 = 1 := by unfold lc_w; rw [if_neg (fun z => by omega)]
  have e2 : lc_fs q a w N 0 = 2 * N + max 1 w := by unfold lc_fs; rw [if_neg (by omega), if_neg (by omega)]
  have e3 : lc_h q w (N - 1) = 2 * (N - 1) + max 1 w := by unfold lc_h; rw [if_neg (by omega)]
  rw [e1, e2] at h
  rw [e3]
  omega
def lc_eq (M s y : Nat) : Nat := if s = M then y else 0
theorem lc_ct_eq (r s t y : Nat) : lc_ct (max r s) (lc_ct r y s y) t y = lc_eq (max (max r s) t) r y + lc_eq (max (max r s) t) s y + lc_eq (max (max r s) t) t y := by
  unfold lc_ct lc_eq
  by_cases h1 : r < s
  · rw [show max r s = s by omega, if_pos h1]
    by_cases h2 : s < t
    · rw [show max s t = t by omega, if_pos h2, if_neg (by omega), if_neg (by omega), if_pos rfl]
      omega
    · rw [show max s t = s by omega, if_neg h2, if_neg (show ¬ r = s by omega), if_pos rfl]
      by_cases h3 : s = t
      · rw [if_pos h3, if_pos h3.symm]
        omega
      · rw [if_neg h3, if_neg (fun z => h3 z.symm)]
        omega
  · rw [show max r s = r by omega, if_neg h1]
    by_cases h2 : r < t
    · rw [show max r t = t by omega, if_pos h2, if_neg (show ¬ r = t by omega), if_neg (show ¬ s = t by omega), if_pos rfl]
      omega
    · rw [show max r t = r by omega, if_neg h2, if_pos (show r = r from rfl)]
      by_cases h3 : r = t
      · rw [if_pos h3, if_pos h3.symm]
        by_cases h4 : r = s
        · rw [if_pos h4, if_pos h4.symm]
        · rw [if_neg h4, if_neg (fun z => h4 z.symm)]
          omega
      · rw [if_neg h3, if_neg (show ¬ t = r from fun z => h3 z.symm)]
        by_cases h4 : r = s
        · rw [if_pos h4, if_pos h4.symm]
          omega
        · rw [if_neg h4, if_neg (fun z => h4 z.symm)]
          omega
section
variable {f0 f1 : Int32} {a1 a2 a3 a4 a5 a6 a7 a8 : Nat → Int32} {a9 a10 : Nat → Int64} {a11 a12 a13 a14 : Nat → Int32}
theorem lc_best {post : Int32 → St2 → Prop} {N q a w : Nat} (hN1 : 1 ≤ N) (hN : N ≤ 6) (hq : q < N) (ha : a < 3) (hw : w ≤ 9) (hG : lc_G N q a w a1 a2 a3 a4)
    (K : ∀ b5 b6 b7 b8 b9 b10 b11 b12 b13 b14, lc_D N q a w b5 b6 b7 b8 b9 b10 b13 → post (nI (lc_h q w (N - 1))) (nI N, 1, a1, a2, a3, a4, b5, b6, b7, b8, b9, b10, b11, b12, b13, b14)) :
    wpX_best post (nI N, 0, a1, a2, a3, a4, a5, a6, a7, a8, a9, a10, a11, a12, a13, a14) := by
  unfold wpX_best
  dsimp only
  refine lc_fill0 hN1 hN hq ha hw hG (fun b5 b6 b7 b8 b9 b10 b11 b12 b13 b14 hD => ?_)
  have hb := lc_hb (q := q) (w := w) (j := N - 1) hw (by omega)
  refine lc_gs hN1 hN (lc_F5 hN1 hN hw hD.1) ?_
  rw [lc_max hN1 hq ha]
  exact br_t (nI_pos' (by omega)) (K _ _ _ _ _ _ _ _ _ _ hD)
theorem lc_bcs {post : Int32 → St2 → Prop} {N t n m M s y : Nat} (hN1 : 1 ≤ N) (hN : N ≤ 6) (ht : t < 3) (hs : s < 1000) (hM : M < 1000) (e5 : a5 (3 * N - 3 + t) = nI s) (e8 : a8 (3 * N - 3 + t) = nI y)
    (H : wX_bestCount_19 post (nI M) (nI N) f1 a1 a2 a3 a4 a5 a6 a7 a8 a9 a10 a11 a12 a13 a14 n (nI (m + lc_eq M s y)) (nI (t + 1))) :
    wX_bestCount_19 post (nI M) (nI N) f1 a1 a2 a3 a4 a5 a6 a7 a8 a9 a10 a11 a12 a13 a14 (n + 1) (nI m) (nI t) := by
  have hx := lc_ixm (j := N) t hN1
  have vg : vp_in (3 * nI N - 3 + nI t) 18 := pk_in (3 * N - 3 + t) 18 (by omega) hx
  refine pk_le 3 t (fun z => absurd z (by omega)) (fun _ => ⟨vg, ?_⟩)
  rw [hx, lc_cl (show 3 * N - 3 + t < 1000 by omega), e5, e8]
  unfold lc_eq at H
  refine pk_eq s M (fun z => ?_) (fun z => ?_)
  · rw [if_pos z] at H
    exact ⟨pk_in (3 * N - 3 + t) 18 (by omega), nm_r (nI_add m y) (nm_r (nI_1 t) H)⟩
  · rw [if_neg z] at H
    exact nm_r (nI_1 t) H
theorem lc_bestCount {post : Int32 → St2 → Prop} {N q a w : Nat} (hN1 : 1 ≤ N) (hN : N ≤ 6) (hq : q < N) (ha : a < 3) (hw : w ≤ 9) (hD : lc_D N q a w a5 a6 a7 a8 a9 a10 a13)
    (K : post (nI (lc_fb q w N)) (nI N, 1, a1, a2, a3, a4, a5, a6, a7, a8, a9, a10, a11, a12, a13, a14)) : wpX_bestCount post (nI N, 1, a1, a2, a3, a4, a5, a6, a7, a8, a9, a10, a11, a12, a13, a14) := by
  unfold wpX_bestCount
  dsimp only
  refine lc_fill1 ?_
  have hb := lc_hb (q := q) (w := w) (j := N - 1) hw (by omega)
  have h5 := lc_F5 hN1 hN hw hD.1
  have h8 : ∀ t, t < 3 → a8 (3 * N - 3 + t) = nI (lc_fb q w (N - 1)) := by
    intro t ht
    have := (hD.1 (N - 1) t ht (by omega)).2.2.1
    rw [show 3 * (N - 1) + t = 3 * N - 3 + t by omega] at this
    exact this
  refine lc_gs hN1 hN h5 ?_
  rw [lc_max hN1 hq ha]
  refine br_t (nI_pos' (by omega)) ⟨4, ?_⟩
  obtain ⟨p0, q0⟩ := h5 0 (by omega)
  obtain ⟨p1, q1⟩ := h5 1 (by omega)
  obtain ⟨p2, q2⟩ := h5 2 (by omega)
  refine lc_bcs (t := 0) (n := 3) (m := 0) hN1 hN (by omega) p0 (by omega) q0 (h8 0 (by omega)) ?_
  refine lc_bcs (t := 1) (n := 2) hN1 hN (by omega) p1 (by omega) q1 (h8 1 (by omega)) ?_
  refine lc_bcs (t := 2) (n := 1) hN1 hN (by omega) p2 (by omega) q2 (h8 2 (by omega)) ?_
  refine pk_le 3 3 (fun _ => ?_) (fun z => absurd z (by omega))
  have e := lc_ct_eq (lc_fs q a w (N - 1) 0) (lc_fs q a w (N - 1) 1) (lc_fs q a w (N - 1) 2) (lc_fb q w (N - 1))
  rw [lc_fb_r ha, lc_max hN1 hq ha, show N - 1 + 1 = N by omega] at e
  rw [Nat.zero_add, ← e]
  exact K
theorem lc_total {post : Int64 → St2 → Prop} {N q a w : Nat} (hN1 : 1 ≤ N) (hN : N ≤ 6) (hq : q < N) (ha : a < 3) (hD : lc_D N q a w a5 a6 a7 a8 a9 a10 a13)
    (K : post (lN (3 ^ (N - 1) * (2 + w))) (nI N, 1, a1, a2, a3, a4, a5, a6, a7, a8, a9, a10, a11, a12, a13, a14)) : wpX_total post (nI N, 1, a1, a2, a3, a4, a5, a6, a7, a8, a9, a10, a11, a12, a13, a14) := by
  unfold wpX_total
  dsimp only
  refine lc_fill1 ?_
  dsimp only
  have hx : 3 * nI N - 3 = nI (3 * N - 3) := by
    rw [show (3 : Int32) = nI 3 from rfl, pk_mul, pk_sub (by omega)]
  have h9 : ∀ t, t < 3 → a9 (3 * N - 3 + t) = lN (lc_fp q a w (N - 1) t) := by
    intro t ht
    have := (hD.1 (N - 1) t ht (by omega)).2.2.2
    rw [show 3 * (N - 1) + t = 3 * N - 3 + t by omega] at this
    exact this
  refine nm_r hx ?_
  have x1 : nI (3 * N - 3) + 1 = nI (3 * N - 3 + 1) := nI_1 _
  have x2 : nI (3 * N - 3) + 2 = nI (3 * N - 3 + 2) := nI_add _ 2
  rw [x1, x2, lc_cl (show 3 * N - 3 < 1000 by omega), lc_cl (show 3 * N - 3 + 1 < 1000 by omega), lc_cl (show 3 * N - 3 + 2 < 1000 by omega)]
  refine ⟨pk_in (3 * N - 3) 18 (by omega), pk_in (3 * N - 3 + 1) 18 (by omega), pk_in (3 * N - 3 + 2) 18 (by omega), ?_⟩
  have e0 : a9 (3 * N - 3) = _ := h9 0 (by omega)
  have h := lc_fp_r (q := q) (w := w) (i := N - 1) (b := 0) ha
  rw [show N - 1 + 1 = N by omega] at h
  have w1 : lc_w q a w N 0 = 1 := by unfold lc_w; rw [if_neg (fun z => by omega)]
  have w2 : lc_fp q a w N 0 = 3 ^ (N - 1) * (2 + w) := by unfold lc_fp; rw [if_neg (by omega), if_neg (by omega)]
  rw [w1, w2, Nat.mul_one] at h
  rw [e0, h9 1 (by omega), h9 2 (by omega), lN_add, lN_add, h]
  exact K
/-- the ints name no place -/
def lc_NP (N : Nat) (x1 x2 : Int32) : Prop := x1 < 0 ∨ nI N ≤ x1 ∨ x2 < 0 ∨ 2 < x2
theorem lc_placeY {post : Int32 → Prop} {N q a : Nat} (hN : N ≤ 6) (hq : q < N) (ha : a < 3) (K : post 1) : wpX_isPlace post (nI N, f1, a1, a2, a3, a4, a5, a6, a7, a8, a9, a10, a11, a12, a13, a14) (nI q) (nI a) := by
  unfold wpX_isPlace
  dsimp only
  refine br_f (nI_pos (by omega)) (pk_le N q (fun z => absurd z (by omega)) (fun _ => ?_))
  unfold wpX_isLabel
  dsimp only
  exact br_f (nI_pos (by omega)) (pk_lt 2 a (fun z => absurd z (by omega)) (fun _ => br_f (by decide) K))
theorem lc_placeN {post : Int32 → Prop} {N : Nat} {x1 x2 : Int32} (h : lc_NP N x1 x2) (K : post 0) : wpX_isPlace post (nI N, f1, a1, a2, a3, a4, a5, a6, a7, a8, a9, a10, a11, a12, a13, a14) x1 x2 := by
  unfold wpX_isPlace
  dsimp only
  refine br_c (fun _ => K) (fun h1 => br_c (fun _ => K) (fun h2 => ?_))
  unfold wpX_isLabel
  dsimp only
  refine br_c (fun _ => br_t rfl K) (fun h3 => br_c (fun _ => br_t rfl K) (fun h4 => ?_))
  rcases h with h | h | h | h
  · exact absurd h h1
  · exact absurd h h2
  · exact absurd h h3
  · exact absurd h h4
theorem lc_throughN {post : Int64 → St2 → Prop} {N : Nat} {x1 x2 : Int32} (h : lc_NP N x1 x2) (K : post 0 (nI N, f1, a1, a2, a3, a4, a5, a6, a7, a8, a9, a10, a11, a12, a13, a14)) : wpX_through post (nI N, f1, a1, a2, a3, a4, a5, a6, a7, a8, a9, a10, a11, a12, a13, a14) x1 x2 := by
  unfold wpX_through
  dsimp only
  exact lc_placeN h (br_t rfl K)
theorem lc_throughY {post : Int64 → St2 → Prop} {N q a w : Nat} (hN : N ≤ 6) (hq : q < N) (ha : a < 3) (hD : lc_D N q a w a5 a6 a7 a8 a9 a10 a13)
    (K : post (lN (3 ^ (N - 1) * w)) (nI N, 1, a1, a2, a3, a4, a5, a6, a7, a8, a9, a10, a11, a12, a13, a14)) : wpX_through post (nI N, 1, a1, a2, a3, a4, a5, a6, a7, a8, a9, a10, a11, a12, a13, a14) (nI q) (nI a) := by
  unfold wpX_through
  dsimp only
  refine lc_placeY hN hq ha (br_f (by decide) (lc_fill1 ?_))
  dsimp only
  have e9 := (hD.1 q a ha (by omega)).2.2.2
  have e10 := (hD.2.1 q a ha hq (by omega)).1
  rw [lc_ix, lc_cl (show 3 * q + a < 1000 by omega)]
  refine ⟨pk_in (3 * q + a) 18 (by omega), pk_in (3 * q + a) 18 (by omega), ?_⟩
  have w1 : lc_fp q a w q a = 3 ^ q * w := by
    unfold lc_fp lc_w
    rw [if_neg (by omega), if_pos rfl, if_pos ⟨rfl, rfl⟩]
  have w2 : lc_bp N q w q = 3 ^ (N - 1 - q) := by
    unfold lc_bp
    rw [if_neg (by omega)]
  have w3 : 3 ^ q * w * 3 ^ (N - 1 - q) = 3 ^ (N - 1) * w := by
    rw [Nat.mul_right_comm, ← Nat.pow_add, show q + (N - 1 - q) = N - 1 by omega]
  rw [e9, e10, w1, w2, lN_mul, w3]
  exact K
theorem lc_rankedN {post : Int32 → St2 → Prop} {k : Int32} (h : k < 0 ∨ ¬ k ≤ 7) (K : post (-1) (f0, f1, a1, a2, a3, a4, a5, a6, a7, a8, a9, a10, a11, a12, a13, a14)) : wpX_ranked post (f0, f1, a1, a2, a3, a4, a5, a6, a7, a8, a9, a10, a11, a12, a13, a14) k := by
  unfold wpX_ranked
  dsimp only
  refine br_c (fun _ => K) (fun h1 => br_c (fun h2 => ?_) (fun _ => K))
  rcases h with h | h
  · exact absurd h h1
  · exact absurd h2 h
theorem lc_rankedY {post : Int32 → St2 → Prop} {N q a w k : Nat} (hN : N ≤ 6) (hw : w ≤ 9) (hD : lc_D N q a w a5 a6 a7 a8 a9 a10 a13) (hk : k ≤ 7)
    (K1 : k < lc_fb q w N → post (nI (lc_h q w (N - 1))) (nI N, 1, a1, a2, a3, a4, a5, a6, a7, a8, a9, a10, a11, a12, a13, a14))
    (K2 : lc_fb q w N ≤ k → k < 3 ^ N → post (nI (lc_l q w (N - 1))) (nI N, 1, a1, a2, a3, a4, a5, a6, a7, a8, a9, a10, a11, a12, a13, a14))
    (K3 : 3 ^ N ≤ k → post (-2) (nI N, 1, a1, a2, a3, a4, a5, a6, a7, a8, a9, a10, a11, a12, a13, a14)) : wpX_ranked post (nI N, 1, a1, a2, a3, a4, a5, a6, a7, a8, a9, a10, a11, a12, a13, a14) (nI k) := by
  unfold wpX_ranked
  dsimp only
  have hb := lc_hb (q := q) (w := w) (j := N - 1) hw (by omega)
  have hl := lc_lh (q := q) (w := w) (j := N - 1)
  have hm := lc_fb_le (q := q) (w := w) (j := N)
  have e := hD.2.2 k (by omega)
  refine br_f (nI_pos (by omega)) (pk_le k 7 (fun _ => lc_fill1 ?_) (fun z => absurd z (by omega)))
  dsimp only
  rw [lc_cl (show k < 1000 by omega), e]
  refine ⟨pk_in k 8 (by omega), ?_⟩
  by_cases c1 : k < lc_fb q w N
  · rw [lc_bk1 c1]
    exact br_t (nI_pos' (by omega)) ⟨pk_in k 8 (by omega), K1 c1⟩
  · by_cases c2 : k < 3 ^ N
    · rw [lc_bk2 (by omega) (by omega)]
      exact br_t (nI_pos' (by omega)) ⟨pk_in k 8 (by omega), K2 (by omega) c2⟩
    · rw [lc_bk3 (by omega)]
      exact br_f (by decide) (K3 (by omega))
end
end
section
/-! the constructor, weigh -/
/-- the int p0, held to 1..6, is N -/
def lc_P6 (p0 : Int32) (N : Nat) : Prop := (1 ≤ p0 ∧ p0 ≤ 6 ∧ p0 = nI N) ∨ (1 ≤ p0 ∧ ¬ p0 ≤ 6 ∧ N = 6) ∨ (¬ 1 ≤ p0 ∧ N = 1)
theorem lc_b10 : ∀ b, b < 10 → (nI b).toInt8.toInt32 = nI b := by decide
section
variable {f0 f1 : Int32} {a1 a2 a3 a4 a5 a6 a7 a8 : Nat → Int32} {a9 a10 : Nat → Int64} {a11 a12 a13 a14 : Nat → Int32}
theorem lc_i164 {post : St2 → Prop} {mc ms kc ks : Nat} (K : ∀ b3, (∀ k, k < 9 → b3 k = 1) → post (f0, f1, a1, a2, b3, a4, a5, a6, a7, a8, a9, a10, a11, a12, a13, a14)) : ∃ n, wX_init_164 post mc ms kc ks f0 f1 n 0 a1 a2 a3 a4 a5 a6 a7 a8 a9 a10 a11 a12 a13 a14 :=
  pk_loop (fun n k s => wX_init_164 post mc ms kc ks f0 f1 n (nI k) a1 a2 s a4 a5 a6 a7 a8 a9 a10 a11 a12 a13 a14) (fun k s => ∀ j, j < k → s j = 1) 9 0 a3 (by omega) (fun j hj => absurd hj (by omega))
    (fun n s hs => pk_le 9 9 (fun _ => K s hs) (fun z => absurd z (by omega)))
    (fun n k s hk hs hw => pk_le 9 k (fun z => absurd z (by omega)) (fun _ => ⟨pk_in k 9 (by omega), nm_r (e' := upd s k 1) (by rw [lc_cl (by omega)]) (nm_r (nI_1 k) (hw _ (lc_fill (f := fun _ => 1) hs rfl)))⟩))
theorem lc_i143 {post : St2 → Prop} {mc ms kc ks : Nat} (K : ∀ b1 b3, (∀ k, k < 18 → b1 k = 1) → (∀ k, k < 9 → b3 k = 1) → post (f0, f1, b1, a2, b3, a4, a5, a6, a7, a8, a9, a10, a11, a12, a13, a14)) : ∃ n, wX_init_143 post mc ms kc ks f0 f1 n 0 a1 a2 a3 a4 a5 a6 a7 a8 a9 a10 a11 a12 a13 a14 :=
  pk_loop (fun n k s => wX_init_143 post mc ms kc ks f0 f1 n (nI k) s a2 a3 a4 a5 a6 a7 a8 a9 a10 a11 a12 a13 a14) (fun k s => ∀ j, j < k → s j = 1) 18 0 a1 (by omega) (fun j hj => absurd hj (by omega))
    (fun n s hs => pk_le 18 18 (fun _ => lc_i164 (fun b3 h3 => K s b3 hs h3)) (fun z => absurd z (by omega)))
    (fun n k s hk hs hw => pk_le 18 k (fun z => absurd z (by omega)) (fun _ => ⟨pk_in k 18 (by omega), nm_r (e' := upd s k 1) (by rw [lc_cl (by omega)]) (nm_r (nI_1 k) (hw _ (lc_fill (f := fun _ => 1) hs rfl)))⟩))
theorem lc_init {post : St2 → Prop} {p0 : Int32} {N : Nat} (h : lc_P6 p0 N)
    (K : ∀ b1 b3, (∀ k, k < 18 → b1 k = 1) → (∀ k, k < 9 → b3 k = 1) → post (nI N, f1, b1, fun _ => 0, b3, fun _ => 0, fun _ => 0, fun _ => 0, fun _ => 0, fun _ => 0, fun _ => 0, fun _ => 0, fun _ => 0, fun _ => 0, fun _ => 0, fun _ => 0)) :
    wpX_init post 14 224 (f0, f1) p0 := by
  unfold wpX_init
  dsimp only
  refine ⟨by decide, by decide, by decide, by decide, by decide, by decide, by decide, by decide, by decide, by decide, by decide, by decide, by decide, by decide, by decide, by decide, by decide, by decide, by decide, by decide, by decide, by decide, by decide, by decide, by decide, by decide, by decide, by decide, ?_⟩
  rcases h with ⟨h1, h2, h3⟩ | ⟨h1, h2, h3⟩ | ⟨h1, h3⟩
  · subst h3
    exact br_t h1 (br_t h2 (lc_i143 K))
  · subst h3
    exact br_t h1 (br_f h2 (lc_i143 K))
  · subst h3
    exact br_f h1 (lc_i143 K)
theorem lc_weighY {post : Int32 → St2 → Prop} {N q a w : Nat} (hN : N ≤ 6) (hq : q < N) (ha : a < 3) (hw : w ≤ 9)
    (K : post 1 (nI N, 0, upd a1 (3 * q + a) (nI w), a2, a3, a4, a5, a6, a7, a8, a9, a10, a11, a12, a13, a14)) : wpX_weigh post (nI N, f1, a1, a2, a3, a4, a5, a6, a7, a8, a9, a10, a11, a12, a13, a14) (nI q) (nI a) (nI w) := by
  unfold wpX_weigh
  dsimp only
  rw [lc_ix, lc_cl (show 3 * q + a < 1000 by omega), lc_b10 w (by omega)]
  exact lc_placeY hN hq ha (br_f (by decide) (br_f (nI_pos (by omega)) (pk_le w 9 (fun _ => ⟨pk_in (3 * q + a) 18 (by omega), nm_e K⟩) (fun z => absurd z (by omega)))))
theorem lc_weighN {post : Int32 → St2 → Prop} {N q a : Nat} {x1 x2 x3 : Int32} (hN : N ≤ 6) (hq : q < N) (ha : a < 3) (h : lc_NP N x1 x2 ∨ (x1 = nI q ∧ x2 = nI a ∧ (x3 < 0 ∨ 9 < x3)))
    (K : post 0 (nI N, f1, a1, a2, a3, a4, a5, a6, a7, a8, a9, a10, a11, a12, a13, a14)) : wpX_weigh post (nI N, f1, a1, a2, a3, a4, a5, a6, a7, a8, a9, a10, a11, a12, a13, a14) x1 x2 x3 := by
  unfold wpX_weigh
  dsimp only
  rcases h with h | ⟨rfl, rfl, h⟩
  · exact lc_placeN h (br_t rfl K)
  · refine lc_placeY hN hq ha (br_f (by decide) (br_c (fun _ => K) (fun h1 => ?_)))
    rcases h with h | h
    · exact absurd h h1
    · exact br_f (Int32.not_le.mpr h) K
end
end
section
/-! the law -/
theorem lc_fb1 {N q w : Nat} (hq : q < N) (h : 1 < w) : lc_fb q w N = 3 ^ (N - 1) := by
  unfold lc_fb
  rw [if_neg (by omega), if_pos h]
theorem lc_fb2 {N q w : Nat} (hq : q < N) (h : w = 1) : lc_fb q w N = 3 * 3 ^ (N - 1) := by
  unfold lc_fb
  rw [if_neg (by omega), if_neg (by omega), if_pos h, ← lc_pws, show N - 1 + 1 = N by omega]
theorem lc_fb3 {N q w : Nat} (hq : q < N) (h : w = 0) : lc_fb q w N = 2 * 3 ^ (N - 1) := by
  unfold lc_fb
  rw [if_neg (by omega), if_neg (by omega), if_neg (by omega)]
theorem lc_m3 (T : Nat) : 3 * nI T = nI (3 * T) := by
  rw [show (3 : Int32) = nI 3 from rfl, pk_mul]
theorem lc_m2 (T : Nat) : 2 * nI T = nI (2 * T) := by
  rw [show (2 : Int32) = nI 2 from rfl, pk_mul]
/-- put: the ints weigh the place (q, a) with w; or they weigh nothing, w = 1, and they name (q, a) or no place -/
def lc_Put (N q a w : Nat) (x1 x2 x3 x6 : Int32) : Prop := (x6 = 1 ∧ x1 = nI q ∧ x2 = nI a ∧ x3 = nI w) ∨ (x6 = 0 ∧ w = 1 ∧ (lc_NP N x1 x2 ∨ (x1 = nI q ∧ x2 = nI a ∧ (x3 < 0 ∨ 9 < x3))))
section
variable {a1 a2 a3 a4 a5 a6 a7 a8 : Nat → Int32} {a9 a10 : Nat → Int64} {a11 a12 a13 a14 : Nat → Int32} {post : Int32 → St0 → Prop} {mc ms kc ks N q a w : Nat} {x4 : Int32}
theorem lc_343 {z0 : Int32} (hN1 : 1 ≤ N) (hN : N ≤ 6) (hw : w ≤ 9) (hD : lc_D N q a w a5 a6 a7 a8 a9 a10 a13) (hp : post 1 ()) {x12 : Int32} (h12 : x12 = nI (lc_fb q w N)) (hz : z0 = nI (lc_l q w (N - 1))) :
    wL_lawOf_343 post mc ms x4 (nI (3 ^ (N - 1))) (nI (lc_h q w (N - 1))) x12 z0 kc ks (nI N) 1 a1 a2 a3 a4 a5 a6 a7 a8 a9 a10 a11 a12 a13 a14 := by
  subst h12 hz
  unfold wL_lawOf_343
  by_cases h1 : x4 < 0
  · refine lc_rankedN (Or.inl h1) ?_
    exact br_t h1 (br_t rfl hp)
  · by_cases h2 : x4 ≤ 7
    · obtain ⟨k, hk, rfl⟩ := nI_of2 (M := 7) (n := 7) (by decide) h1 h2
      have e3 : 3 * nI (3 ^ (N - 1)) = nI (3 ^ N) := by
        rw [lc_m3, ← lc_pws, show N - 1 + 1 = N by omega]
      have b1 := lc_fb_le (q := q) (w := w) (j := N)
      have b2 := lc_pw (j := N) (by omega)
      refine lc_rankedY hN hw hD hk (fun c => ?_) (fun c d => ?_) (fun c => ?_)
      · exact br_f h1 (br_t h2 (pk_le (lc_fb q w N) k (fun z => absurd z (by omega)) (fun _ => br_t rfl hp)))
      · exact br_f h1 (br_t h2 (pk_le (lc_fb q w N) k (fun _ => pk_le (3 ^ N) k (fun z => absurd z (by omega)) (fun _ => br_t rfl hp) e3) (fun z => absurd z (by omega))))
      · exact br_f h1 (br_t h2 (pk_le (lc_fb q w N) k (fun _ => pk_le (3 ^ N) k (fun _ => br_t rfl hp) (fun z => absurd z (by omega)) e3) (fun z => absurd z (by omega))))
    · refine lc_rankedN (Or.inr h2) ?_
      exact br_f h1 (br_f h2 (br_t rfl hp))
theorem lc_323 (hN1 : 1 ≤ N) (hN : N ≤ 6) (hq : q < N) (hw : w ≤ 9) (hD : lc_D N q a w a5 a6 a7 a8 a9 a10 a13) (hp : post 1 ()) {x12 : Int32} (h12 : x12 = nI (lc_fb q w N)) :
    wL_lawOf_323 post mc ms x4 (nI (3 ^ (N - 1))) (nI (2 * N - 1)) (nI w) (nI (lc_h q w (N - 1))) x12 kc ks (nI N) 1 a1 a2 a3 a4 a5 a6 a7 a8 a9 a10 a11 a12 a13 a14 := by
  have hl : lc_l q w (N - 1) = 2 * (N - 1) + min 1 w := by unfold lc_l; rw [if_neg (by omega)]
  unfold wL_lawOf_323
  refine pk_le w 1 (fun z => lc_343 hN1 hN hw hD hp h12 ?_) (fun z => lc_343 hN1 hN hw hD hp h12 ?_)
  · rw [lc_i1, pk_sub (by omega), nI_add, hl]
    congr 1
    omega
  · rw [hl]
    congr 1
    omega
theorem lc_289 (hN1 : 1 ≤ N) (hN : N ≤ 6) (hq : q < N) (hw : w ≤ 9) (hD : lc_D N q a w a5 a6 a7 a8 a9 a10 a13) (hp : post 1 ()) {z0 z1 : Int64} (hz : z1 = z0) :
    wL_lawOf_289 post mc ms x4 (nI (3 ^ (N - 1))) (nI (2 * N - 1)) (nI w) (nI (lc_h q w (N - 1))) z0 z1 kc ks (nI N) 1 a1 a2 a3 a4 a5 a6 a7 a8 a9 a10 a11 a12 a13 a14 := by
  unfold wL_lawOf_289
  refine br_t hz (pk_le w 1 (fun c => pk_eq w 1 (fun d => lc_323 hN1 hN hq hw hD hp ?_) (fun d => lc_323 hN1 hN hq hw hD hp ?_)) (fun c => lc_323 hN1 hN hq hw hD hp ?_))
  · rw [lc_fb2 hq d, lc_m3]
  · rw [lc_fb3 hq (by omega), lc_m2]
  · rw [lc_fb1 hq c]
theorem lc_227 {x1 x2 z0 z1 : Int32} (hN1 : 1 ≤ N) (hN : N ≤ 6) (hq : q < N) (ha : a < 3) (hw : w ≤ 9) (hD : lc_D N q a w a5 a6 a7 a8 a9 a10 a13) (hp : post 1 ()) (hz : z1 = z0)
    (hpl : (x1 = nI q ∧ x2 = nI a) ∨ lc_NP N x1 x2) :
    wL_lawOf_227 post mc ms x1 x2 x4 (nI N) (nI (3 ^ (N - 1))) (nI (2 * N - 1)) (nI w) (nI (lc_h q w (N - 1))) z0 z1 kc ks (nI N) 1 a1 a2 a3 a4 a5 a6 a7 a8 a9 a10 a11 a12 a13 a14 := by
  have hT := lc_pw (j := N - 1) (by omega)
  unfold wL_lawOf_227
  refine br_t hz (lc_total hN1 hN hq ha hD (br_t ?_ ?_))
  · rw [show (2 : Int32) = nI 2 from rfl, nI_add, nI_l (by omega), nI_l (by omega), lN_mul]
  · rcases hpl with ⟨rfl, rfl⟩ | hn
    · refine lc_throughY hN hq ha hD (br_f (nI_pos (by omega)) (pk_le N q (fun z => absurd z (by omega)) (fun _ => br_f (nI_pos (by omega)) (pk_lt 2 a (fun z => absurd z (by omega)) (fun _ => lc_289 hN1 hN hq hw hD hp ?_)))))
      rw [nI_l (by omega), nI_l (by omega), lN_mul]
    · refine lc_throughN hn (br_c (fun _ => lc_289 hN1 hN hq hw hD hp rfl) (fun h1 => br_c (fun _ => lc_289 hN1 hN hq hw hD hp rfl) (fun h2 => br_c (fun _ => lc_289 hN1 hN hq hw hD hp rfl) (fun h3 => br_c (fun _ => lc_289 hN1 hN hq hw hD hp rfl) (fun h4 => ?_)))))
      rcases hn with h | h | h | h
      · exact absurd h h1
      · exact absurd h h2
      · exact absurd h h3
      · exact absurd h h4
theorem lc_GY {b1 b3 : Nat → Int32} (hN : N ≤ 6) (ha : a < 3) (h1 : ∀ k, k < 18 → b1 k = 1) (h3 : ∀ k, k < 9 → b3 k = 1) : lc_G N q a w (upd b1 (3 * q + a) (nI w)) (fun _ => 0) b3 (fun _ => 0) := by
  refine ⟨fun j b hb hj => ?_, fun _ _ _ _ => rfl, h3, fun _ _ => rfl⟩
  unfold lc_w
  by_cases e : 3 * j + b = 3 * q + a
  · rw [e, pk_us, if_pos (by omega)]
  · rw [pk_un e, if_neg (by omega), h1 _ (by omega)]
    rfl
theorem lc_GN {b1 b3 : Nat → Int32} (hN : N ≤ 6) (h1 : ∀ k, k < 18 → b1 k = 1) (h3 : ∀ k, k < 9 → b3 k = 1) : lc_G N q a 1 b1 (fun _ => 0) b3 (fun _ => 0) := by
  refine ⟨fun j b hb hj => ?_, fun _ _ _ _ => rfl, h3, fun _ _ => rfl⟩
  have e : lc_w q a 1 j b = 1 := by
    unfold lc_w
    split <;> rfl
  rw [e, h1 _ (by omega)]
  rfl
theorem lc_155 {x0 x1 x2 x3 x6 z0 : Int32} (hN1 : 1 ≤ N) (hN : N ≤ 6) (hq : q < N) (ha : a < 3) (hw : w ≤ 9) (hp : post 1 ()) (h6 : lc_P6 x0 N) (hput : lc_Put N q a w x1 x2 x3 x6) (hz : z0 = nI (lc_h q w (N - 1))) :
    wL_lawOf_155 post 150 2384 x0 x1 x2 x3 x4 (nI N) x6 (nI (3 ^ (N - 1))) (nI (2 * N - 1)) (nI w) z0 0 0 := by
  subst hz
  unfold wL_lawOf_155
  refine ⟨by decide, by decide, 14, 224, by decide, by decide, lc_init h6 (fun b1 b3 h1 h3 => ?_)⟩
  rcases hput with ⟨rfl, rfl, rfl, rfl⟩ | ⟨rfl, rfl, hn⟩
  · refine lc_weighY hN hq ha hw (br_t rfl (lc_best hN1 hN hq ha hw (lc_GY hN ha h1 h3) (fun b5 b6 b7 b8 b9 b10 b11 b12 b13 b14 hD => br_t rfl (lc_bestCount hN1 hN hq ha hw hD ?_))))
    refine pk_le w 1 (fun c => pk_eq w 1 (fun d => lc_227 hN1 hN hq ha hw hD hp ?_ (Or.inl ⟨rfl, rfl⟩)) (fun d => lc_227 hN1 hN hq ha hw hD hp ?_ (Or.inl ⟨rfl, rfl⟩))) (fun c => lc_227 hN1 hN hq ha hw hD hp ?_ (Or.inl ⟨rfl, rfl⟩))
    · rw [lc_fb2 hq d, lc_m3]
    · rw [lc_fb3 hq (by omega), lc_m2]
    · rw [lc_fb1 hq c]
  · have hpl : (x1 = nI q ∧ x2 = nI a) ∨ lc_NP N x1 x2 := by
      rcases hn with h | ⟨h, h', _⟩
      · exact Or.inr h
      · exact Or.inl ⟨h, h'⟩
    refine lc_weighN hN hq ha hn (br_t rfl (lc_best hN1 hN hq ha hw (lc_GN hN h1 h3) (fun b5 b6 b7 b8 b9 b10 b11 b12 b13 b14 hD => br_t rfl (lc_bestCount hN1 hN hq ha hw hD ?_))))
    refine pk_le 1 1 (fun c => pk_eq 1 1 (fun d => lc_227 hN1 hN hq ha hw hD hp ?_ hpl) (fun d => absurd rfl d)) (fun c => absurd c (by omega))
    rw [lc_fb2 hq rfl, lc_m3]
theorem lc_115 {x0 x1 x2 x3 x6 z0 : Int32} (hN1 : 1 ≤ N) (hN : N ≤ 6) (hq : q < N) (ha : a < 3) (hw : w ≤ 9) (hp : post 1 ()) (h6 : lc_P6 x0 N) (hput : lc_Put N q a w x1 x2 x3 x6) (hz : z0 = nI (3 ^ (N - 1))) :
    wL_lawOf_115 post 150 2384 x0 x1 x2 x3 x4 (nI N) x6 z0 0 0 := by
  subst hz
  have hh : lc_h q w (N - 1) = 2 * (N - 1) + max 1 w := by unfold lc_h; rw [if_neg (by omega)]
  have K : ∀ y, y = nI w → wL_lawOf_135 post 150 2384 x0 x1 x2 x3 x4 (nI N) x6 (nI (3 ^ (N - 1))) (nI (2 * N - 1)) y 0 0 := by
    intro y hy
    subst hy
    unfold wL_lawOf_135
    refine pk_le w 1 (fun c => lc_155 hN1 hN hq ha hw hp h6 hput ?_) (fun c => lc_155 hN1 hN hq ha hw hp h6 hput ?_)
    · rw [hh]
      congr 1
      omega
    · rw [lc_i1, pk_sub (by omega), nI_add, hh]
      congr 1
      omega
  have hx : 2 * nI N - 1 = nI (2 * N - 1) := by
    rw [lc_m2, lc_i1, pk_sub (by omega)]
  unfold wL_lawOf_115
  refine nm_r hx ?_
  rcases hput with ⟨h, _, _, h3⟩ | ⟨h, h1, _⟩
  · exact br_f (by rw [h]; decide) (K _ h3)
  · exact br_t h (K _ (by rw [h1]; rfl))
theorem lc_57 {x0 x1 x2 x3 x6 : Int32} (hN1 : 1 ≤ N) (hN : N ≤ 6) (hq : q < N) (ha : a < 3) (hw : w ≤ 9) (hp : post 1 ()) (h6 : lc_P6 x0 N) (hput : lc_Put N q a w x1 x2 x3 x6) :
    wL_lawOf_57 post 150 2384 x0 x1 x2 x3 x4 (nI N) x6 0 0 := by
  unfold wL_lawOf_57
  refine pk_eq N 1 (fun e => lc_115 hN1 hN hq ha hw hp h6 hput (by subst e; rfl)) (fun e1 => ?_)
  refine pk_eq N 2 (fun e => lc_115 hN1 hN hq ha hw hp h6 hput (by subst e; rfl)) (fun e2 => ?_)
  refine pk_eq N 3 (fun e => lc_115 hN1 hN hq ha hw hp h6 hput (by subst e; rfl)) (fun e3 => ?_)
  refine pk_eq N 4 (fun e => lc_115 hN1 hN hq ha hw hp h6 hput (by subst e; rfl)) (fun e4 => ?_)
  refine pk_eq N 5 (fun e => lc_115 hN1 hN hq ha hw hp h6 hput (by subst e; rfl)) (fun e5 => ?_)
  have e : N = 6 := by omega
  exact lc_115 hN1 hN hq ha hw hp h6 hput (by subst e; rfl)
theorem lc_21 {x0 x1 x2 x3 : Int32} (hN1 : 1 ≤ N) (hN : N ≤ 6) (hp : post 1 ()) (h6 : lc_P6 x0 N) : wL_lawOf_21 post 150 2384 x0 x1 x2 x3 x4 (nI N) 0 0 := by
  have K0 : lc_NP N x1 x2 → wL_lawOf_56 post 150 2384 x0 x1 x2 x3 x4 (nI N) 0 0 := fun h =>
    lc_57 (q := 0) (a := 0) (w := 1) hN1 hN (by omega) (by omega) (by omega) hp h6 (Or.inr ⟨rfl, rfl, Or.inl h⟩)
  unfold wL_lawOf_21
  refine br_c (fun h => K0 (Or.inl h)) (fun h1 => br_c (fun h => K0 (Or.inr (Or.inl h))) (fun h2 => br_c (fun h => K0 (Or.inr (Or.inr (Or.inl h)))) (fun h3 => br_c (fun h => K0 (Or.inr (Or.inr (Or.inr h)))) (fun h4 => ?_))))
  obtain ⟨q, hq31, rfl⟩ := nI_of h1
  have hq : q < N := by
    rcases Nat.lt_or_ge q N with z | z
    · exact z
    · exact absurd (nI_le z hq31) h2
  obtain ⟨a, ha, rfl⟩ := nI_of2 (M := 2) (n := 2) (by decide) h3 (Int32.not_lt.mp h4)
  refine br_c (fun h => lc_57 (q := q) (a := a) (w := 1) hN1 hN hq (by omega) (by omega) hp h6 (Or.inr ⟨rfl, rfl, Or.inr ⟨rfl, rfl, Or.inl h⟩⟩)) (fun h5 => br_c (fun h => lc_57 (q := q) (a := a) (w := 1) hN1 hN hq (by omega) (by omega) hp h6 (Or.inr ⟨rfl, rfl, Or.inr ⟨rfl, rfl, Or.inr h⟩⟩)) (fun h7 => ?_))
  obtain ⟨w, hw, rfl⟩ := nI_of2 (M := 9) (n := 9) (by decide) h5 (Int32.not_lt.mp h7)
  exact lc_57 hN1 hN hq (by omega) hw hp h6 (Or.inl ⟨rfl, rfl, rfl, rfl⟩)
theorem lc_lawOf {p0 p1 p2 p3 p4 : Int32} (hp : post 1 ()) : wpL_lawOf post 150 2384 () p0 p1 p2 p3 p4 := by
  unfold wpL_lawOf
  refine br_c (fun h1 => br_c (fun h2 => ?_) (fun h2 => ?_)) (fun h1 => ?_)
  · have h0 : ¬ p0 < 0 := by
      intro z
      have e1 : (1 : Int32).toInt = 1 := by decide
      have e0 : (0 : Int32).toInt = 0 := by decide
      rw [Int32.lt_iff_toInt_lt, e0] at z
      rw [Int32.le_iff_toInt_le, e1] at h1
      omega
    obtain ⟨N, hN, rfl⟩ := nI_of2 (M := 6) (n := 6) (by decide) h0 h2
    have hN1 : 1 ≤ N := by
      rcases Nat.lt_or_ge N 1 with z | z
      · exact absurd h1 (nI_ge (b := 1) z (by decide))
      · exact z
    exact lc_21 hN1 hN hp (Or.inl ⟨h1, h2, rfl⟩)
  · exact lc_21 (N := 6) (by omega) (by omega) hp (Or.inr (Or.inl ⟨h1, h2, rfl⟩))
  · exact lc_21 (N := 1) (by omega) (by omega) hp (Or.inr (Or.inr ⟨h1, rfl⟩))
end
theorem lc_cell {post : Int32 → Prop} {xs : Nat → Int32} {L : Nat} (hL : L ≤ 5) (c : Nat) (hc : c ≤ 4) (H : ∀ x, post x) : wpL_cellAt post L xs () (nI c) := by
  unfold wpL_cellAt
  exact pk_le L c (fun _ => H 0) (fun z => ⟨pk_in c L z, H _⟩)
theorem i_vc (xs : Nat → Int32) (L : Nat) (hL : L ≤ 5) : wpL_law (fun r => r = 1) L xs := by
  unfold wpL_law
  exact lc_cell hL 0 (by omega) (fun r1 => lc_cell hL 1 (by omega) (fun r2 => lc_cell hL 2 (by omega) (fun r3 => lc_cell hL 3 (by omega) (fun r4 => lc_cell hL 4 (by omega) (fun r5 => ⟨150, 2384, by omega, by omega, lc_lawOf rfl⟩)))))
end
