section
/-! plain rows: fills of an array, small ints -/
def tl_fl (a : Nat → Int32) (s n : Nat) (v : Nat → Int32) : Nat → Int32 := fun j => if s ≤ j ∧ j < s + n then v (j - s) else a j
theorem tl_fl0 (a : Nat → Int32) (s : Nat) (v : Nat → Int32) : tl_fl a s 0 v = a := by
  funext j
  exact if_neg (fun h => by omega)
theorem tl_fl_in {a v : Nat → Int32} {s n j : Nat} (h : s ≤ j) (h2 : j < s + n) : tl_fl a s n v j = v (j - s) := if_pos ⟨h, h2⟩
theorem tl_fl_at {a v : Nat → Int32} {s n k : Nat} (h : k < n) : tl_fl a s n v (s + k) = v k := by
  rw [tl_fl_in (by omega) (by omega), Nat.add_sub_cancel_left]
theorem tl_fl_out {a v : Nat → Int32} {s n j : Nat} (h : j < s ∨ s + n ≤ j) : tl_fl a s n v j = a j := if_neg (fun q => by omega)
theorem tl_fl_up {a v : Nat → Int32} {s n k : Nat} {x : Int32} (hk : k = s + n) (hx : x = v n) : upd (tl_fl a s n v) k x = tl_fl a s (n + 1) v := by
  subst hk hx
  funext j
  by_cases e : j = s + n
  · subst e
    rw [pk_us, tl_fl_at (by omega)]
  · rw [pk_un e]
    by_cases h : s ≤ j ∧ j < s + n
    · rw [tl_fl_in h.1 h.2, tl_fl_in h.1 (by omega)]
    · rw [tl_fl_out (by omega), tl_fl_out (by omega)]
theorem tl_fl_keep {a v : Nat → Int32} {s n : Nat} (h : a (s + n) = v n) : tl_fl a s n v = tl_fl a s (n + 1) v := by
  funext j
  by_cases e : j = s + n
  · subst e
    rw [tl_fl_out (by omega), tl_fl_at (by omega), h]
  · by_cases h : s ≤ j ∧ j < s + n
    · rw [tl_fl_in h.1 h.2, tl_fl_in h.1 (by omega)]
    · rw [tl_fl_out (by omega), tl_fl_out (by omega)]
theorem tl_fl_cm {a v : Nat → Int32} {s n k : Nat} {x : Int32} (h : k < s ∨ s + n ≤ k) : upd (tl_fl a s n v) k x = tl_fl (upd a k x) s n v := by
  funext j
  by_cases e : j = k
  · subst e
    rw [pk_us, tl_fl_out h, pk_us]
  · rw [pk_un e]
    by_cases h : s ≤ j ∧ j < s + n
    · rw [tl_fl_in h.1 h.2, tl_fl_in h.1 h.2]
    · rw [tl_fl_out (by omega), tl_fl_out (by omega), pk_un e]
theorem tl_nc {x : Int32} (h : 0 ≤ x) : nI x.toNatClampNeg = x := by
  obtain ⟨j, hj, e⟩ := nI_of (Int32.not_lt.mpr h)
  rw [e, nI_clamp hj]
theorem tl_m2 (a : Nat) : (2 : Int32) * nI a = nI (2 * a) := pk_mul 2 a
theorem tl_m4 (a : Nat) : (4 : Int32) * nI a = nI (4 * a) := pk_mul 4 a
theorem tl_m8 (a : Nat) : (8 : Int32) * nI a = nI (8 * a) := pk_mul 8 a
theorem tl_m16 (a : Nat) : (16 : Int32) * nI a = nI (16 * a) := pk_mul 16 a
theorem tl_m64 (a : Nat) : (64 : Int32) * nI a = nI (64 * a) := pk_mul 64 a
theorem tl_s1 {n : Nat} (h : n < 2 ^ 31) : nI n >>> ((1 : Int32) &&& 31) = nI (n / 2) := pk_shrN h _ 1 (by decide)
theorem tl_s2 {n : Nat} (h : n < 2 ^ 31) : nI n >>> ((2 : Int32) &&& 31) = nI (n / 4) := pk_shrN h _ 2 (by decide)
theorem tl_s3 {n : Nat} (h : n < 2 ^ 31) : nI n >>> ((3 : Int32) &&& 31) = nI (n / 8) := pk_shrN h _ 3 (by decide)
theorem tl_s5 {n : Nat} (h : n < 2 ^ 31) : nI n >>> ((5 : Int32) &&& 31) = nI (n / 32) := pk_shrN h _ 5 (by decide)
theorem tl_a1 {n : Nat} (h : n < 2 ^ 32) : nI n &&& 1 = nI (n % 2) := pk_andN h (m := 1) 1 (by decide)
theorem tl_a3 {n : Nat} (h : n < 2 ^ 32) : nI n &&& 3 = nI (n % 4) := pk_andN h (m := 3) 2 (by decide)
theorem tl_a7 {n : Nat} (h : n < 2 ^ 32) : nI n &&& 7 = nI (n % 8) := pk_andN h (m := 7) 3 (by decide)
theorem tl_a31 {n : Nat} (h : n < 2 ^ 32) : nI n &&& 31 = nI (n % 32) := pk_andN h (m := 31) 5 (by decide)
theorem tl_i64 (f k : Nat) : 64 * nI f + nI k = nI (64 * f + k) := by rw [tl_m64, nI_add]
theorem tl_i648 (f y x : Nat) : ((64 * nI f) + (8 * nI y)) + nI x = nI (64 * f + 8 * y + x) := by rw [tl_m64, tl_m8, nI_add, nI_add]
theorem tl_i4 (l k : Nat) : 4 * nI l + nI k = nI (4 * l + k) := by rw [tl_m4, nI_add]
/-- the clamp to 0 .. 7 -/
def tl_lm (x : Int32) : Nat := if 0 ≤ x then (if x ≤ 7 then x.toNatClampNeg else 7) else 0
theorem tl_lm_le (x : Int32) : tl_lm x ≤ 7 := by
  unfold tl_lm
  split
  · rename_i h
    split
    · rename_i h7
      obtain ⟨j, hj, e⟩ := nI_of (Int32.not_lt.mpr h)
      subst e
      rw [nI_clamp hj]
      exact (nI_leI (b := 7) hj (by omega)).mp h7
    · omega
  · omega
theorem tl_lim {post : Int32 → Prop} {x : Int32} (hp : post (nI (tl_lm x))) : wpX_limited post () x := by
  unfold wpX_limited
  unfold tl_lm at hp
  refine ⟨fun h => ⟨fun h7 => ?_, fun h7 => ?_⟩, fun h => ?_⟩
  · rw [if_pos h, if_pos h7, tl_nc h] at hp
    exact hp
  · rw [if_pos h, if_neg h7] at hp
    exact hp
  · rw [if_neg h] at hp
    exact hp
theorem tl_near {post : Int32 → Prop} {x : Int32} (hp : post (nI (tl_lm x))) : wpL_near post () x := by
  unfold wpL_near
  unfold tl_lm at hp
  refine ⟨fun h => ⟨fun h7 => ?_, fun h7 => ?_⟩, fun h => ?_⟩
  · rw [if_pos h, if_pos h7, tl_nc h] at hp
    exact hp
  · rw [if_pos h, if_neg h7] at hp
    exact hp
  · rw [if_neg h] at hp
    exact hp
theorem tl_limA {post : Int32 → Prop} {x : Int32} (hp : ∀ r, r ≤ 7 → post (nI r)) : wpX_limited post () x := tl_lim (hp _ (tl_lm_le x))
theorem tl_isFrame {post : Int32 → Prop} {f : Nat} (hf : f ≤ 3) (hp : post 1) : wpX_isFrame post () (nI f) := by
  unfold wpX_isFrame
  exact ⟨fun h => absurd h (nI_pos (by omega)), fun _ => pk_lt 3 f (fun z => absurd z (by omega)) (fun _ => hp)⟩
theorem tl_isLink {post : Int32 → Prop} {f : Nat} (hf : f ≤ 2) (hp : post 1) : wpX_isLink post () (nI f) := by
  unfold wpX_isLink
  exact ⟨fun h => absurd h (nI_pos (by omega)), fun _ => pk_lt 2 f (fun z => absurd z (by omega)) (fun _ => hp)⟩
theorem tl_isBlock {post : Int32 → Prop} {f : Nat} (hf : f ≤ 3) (hp : post 1) : wpX_isBlock post () (nI f) := by
  unfold wpX_isBlock
  exact ⟨fun h => absurd h (nI_pos (by omega)), fun _ => pk_lt 3 f (fun z => absurd z (by omega)) (fun _ => hp)⟩
theorem tl_isStep {post : Int32 → Prop} {f : Nat} (hf : f ≤ 24) (hp : post 1) : wpX_isStep post () (nI f) := by
  unfold wpX_isStep
  exact ⟨fun h => absurd h (nI_pos (by omega)), fun _ => pk_lt 24 f (fun z => absurd z (by omega)) (fun _ => hp)⟩
theorem tl_isInside {post : Int32 → Prop} {x y : Nat} (hx : x ≤ 7) (hy : y ≤ 7) (hp : post 1) : wpX_isInside post () (nI x) (nI y) := by
  unfold wpX_isInside
  exact ⟨fun h => absurd h (nI_pos (by omega)), fun _ => pk_lt 7 x (fun z => absurd z (by omega)) (fun _ => ⟨fun h => absurd h (nI_pos (by omega)), fun _ => pk_lt 7 y (fun z => absurd z (by omega)) (fun _ => hp)⟩)⟩
theorem tl_isSlot {post : Int32 → Prop} (hp : post 1) : wpX_isSlot post () 0 := by
  unfold wpX_isSlot
  exact br_t rfl hp
/-! the small methods -/
def tl_Z : Nat → Int32 := fun _ => 0
def tl_12 (a : Nat → Int32) : Nat → Int32 := tl_fl a 0 12 (fun _ => 12)
theorem tl_init {post : St2 → Prop} {b p : Int32} (hp : post (b, p, tl_Z, tl_Z, tl_12 tl_Z, tl_12 tl_Z, tl_Z, tl_Z, tl_Z, tl_Z, tl_Z, tl_Z, tl_Z, tl_Z)) : wpX_init post 12 1958 (b, p) := by
  unfold wpX_init
  dsimp only
  refine ⟨by decide, by decide, by decide, by decide, by decide, by decide, by decide, by decide, by decide, by decide, by decide, by decide, by decide, by decide, by decide, by decide, by decide, by decide, by decide, by decide, by decide, by decide, by decide, by decide, ?_⟩
  refine pk_loop (fun n i (s : (Nat → Int32) × (Nat → Int32)) => wX_init_108 post 12 1958 12 1958 b p n (nI i) tl_Z tl_Z s.1 s.2 tl_Z tl_Z tl_Z tl_Z tl_Z tl_Z tl_Z tl_Z)
    (fun i s => s.1 = tl_fl tl_Z 0 i (fun _ => 12) ∧ s.2 = tl_fl tl_Z 0 i (fun _ => 12)) 12 0 (tl_Z, tl_Z) (by omega) ⟨(tl_fl0 _ _ _).symm, (tl_fl0 _ _ _).symm⟩ ?_ ?_
  · rintro n ⟨s1, s2⟩ ⟨h1, h2⟩
    dsimp only at h1 h2
    subst h1 h2
    exact pk_le 12 12 (fun _ => hp) (fun z => absurd z (by omega))
  · rintro n i ⟨s1, s2⟩ hi ⟨h1, h2⟩ hw
    dsimp only at h1 h2
    subst h1 h2
    have hk : (nI i).toNatClampNeg = 0 + i := by rw [nI_clamp (by omega), Nat.zero_add]
    have u1 : upd (tl_fl tl_Z 0 i (fun _ => 12)) (nI i).toNatClampNeg 12 = tl_fl tl_Z 0 (i + 1) (fun _ => 12) := tl_fl_up hk rfl
    exact pk_le 12 i (fun z => absurd z (by omega)) (fun _ => ⟨pk_in i 12 hi, nm_r u1 ⟨pk_in i 12 hi, nm_r u1 (nm_r (nI_1 i) (hw (tl_fl tl_Z 0 (i + 1) (fun _ => 12), tl_fl tl_Z 0 (i + 1) (fun _ => 12)) ⟨rfl, rfl⟩))⟩⟩)
def tl_rv (x y z : Int32) (k : Nat) : Int32 := (((x * nI (k % 8)) + (y * nI (k / 8))) + z) &&& 255
theorem tl_ramp {post : Int32 → St2 → Prop} {b p : Int32} {a1 a2 a3 a4 a5 a6 a7 a8 a9 a10 a11 a12 : Nat → Int32} {f : Nat} (hf : f ≤ 3) {x y z : Int32} (hp : ∀ r, post r (b, p, tl_fl a1 (64 * f) 64 (tl_rv x y z), a2, a3, a4, a5, a6, a7, a8, a9, a10, a11, a12)) : wpX_ramp post (b, p, a1, a2, a3, a4, a5, a6, a7, a8, a9, a10, a11, a12) (nI f) x y z := by
  unfold wpX_ramp
  dsimp only
  refine tl_isFrame hf (br_f (by decide) ?_)
  refine pk_loop (fun n i s => wX_ramp_12 post (nI f) x y z b p n (nI i) s a2 a3 a4 a5 a6 a7 a8 a9 a10 a11 a12) (fun i s => s = tl_fl a1 (64 * f) i (tl_rv x y z)) 64 0 a1 (by omega) (tl_fl0 _ _ _).symm ?_ ?_
  · intro n s hs
    subst hs
    exact pk_le 64 64 (fun _ => ⟨pk_in (64 * f + 63) 256 (by omega) (tl_i64 f 63), hp _⟩) (fun z => absurd z (by omega))
  · intro n i s hi hs hw
    subst hs
    refine pk_le 64 i (fun z => absurd z (by omega)) (fun _ => ⟨pk_in (64 * f + i) 256 (by omega) (tl_i64 f i), nm_r (tl_fl_up (pk_cl (64 * f + i) (tl_i64 f i)) ?_) (nm_r (nI_1 i) (hw _ rfl))⟩)
    rw [tl_a7 (by omega), tl_s3 (by omega)]
    rfl
def tl_dv (a : Nat → Int32) (f : Nat) (x y : Int32) (k : Nat) : Int32 := a (64 * f - 64 + 8 * tl_lm (nI (k / 8) - y) + tl_lm (nI (k % 8) - x))
theorem tl_i64m {f : Nat} (h : 1 ≤ f) (y x : Nat) : (((64 * nI f) - 64) + (8 * nI y)) + nI x = nI (64 * f - 64 + 8 * y + x) := by
  rw [tl_m64, show nI (64 * f) - 64 = nI (64 * f - 64) from pk_sub (a := 64 * f) (b := 64) (by omega), tl_m8, nI_add, nI_add]
theorem tl_drift {post : Int32 → St2 → Prop} {b p : Int32} {a1 a2 a3 a4 a5 a6 a7 a8 a9 a10 a11 a12 : Nat → Int32} {f : Nat} (h1 : 1 ≤ f) (hf : f ≤ 3) {x y : Int32} (hx1 : ¬ x < (-8)) (hx2 : ¬ 8 < x) (hy1 : ¬ y < (-8)) (hy2 : y ≤ 8)
    (hp : ∀ r, post r (b, p, tl_fl a1 (64 * f) 64 (tl_dv a1 f x y), a2, a3, a4, a5, a6, a7, a8, a9, a10, a11, a12)) : wpX_drift post (b, p, a1, a2, a3, a4, a5, a6, a7, a8, a9, a10, a11, a12) (nI f) x y := by
  unfold wpX_drift
  dsimp only
  refine pk_lt f 1 (fun z => absurd z (by omega)) (fun _ => pk_le f 3 (fun _ => br_f hx1 (br_f hx2 (br_f hy1 (br_t hy2 ?_)))) (fun z => absurd z (by omega)))
  refine pk_loop (fun n i s => wX_drift_42 post (nI f) x y b p n (nI i) s a2 a3 a4 a5 a6 a7 a8 a9 a10 a11 a12) (fun i s => s = tl_fl a1 (64 * f) i (tl_dv a1 f x y)) 64 0 a1 (by omega) (tl_fl0 _ _ _).symm ?_ ?_
  · intro n s hs
    subst hs
    exact pk_le 64 64 (fun _ => ⟨pk_in (64 * f) 256 (by omega) (tl_m64 f), hp _⟩) (fun z => absurd z (by omega))
  · intro n i s hi hs hw
    subst hs
    refine pk_le 64 i (fun z => absurd z (by omega)) (fun _ => ?_)
    rw [tl_a7 (by omega), tl_s3 (by omega)]
    have l1 := tl_lm_le (nI (i % 8) - x)
    have l2 := tl_lm_le (nI (i / 8) - y)
    refine tl_lim (tl_lim ⟨pk_in _ 256 (by omega) (tl_i64m h1 _ _), pk_in (64 * f + i) 256 (by omega) (tl_i64 f i), nm_r (tl_fl_up (pk_cl (64 * f + i) (tl_i64 f i)) ?_) (nm_r (nI_1 i) (hw _ rfl))⟩)
    rw [pk_cl _ (tl_i64m h1 _ _), tl_fl_out (by omega)]
    rfl
def tl_gv (a : Nat → Int32) (f : Nat) (x : Int32) (k : Nat) : Int32 := ((a (64 * f + k)) + ((x * (nI k + 1)) &&& 15)) &&& 255
theorem tl_roughen {post : Int32 → St2 → Prop} {b p : Int32} {a1 a2 a3 a4 a5 a6 a7 a8 a9 a10 a11 a12 : Nat → Int32} {f : Nat} (hf : f ≤ 3) {x : Int32} (hp : ∀ r, post r (b, p, tl_fl a1 (64 * f) 64 (tl_gv a1 f x), a2, a3, a4, a5, a6, a7, a8, a9, a10, a11, a12)) : wpX_roughen post (b, p, a1, a2, a3, a4, a5, a6, a7, a8, a9, a10, a11, a12) (nI f) x := by
  unfold wpX_roughen
  dsimp only
  refine tl_isFrame hf (br_f (by decide) ?_)
  refine pk_loop (fun n i s => wX_roughen_11 post (nI f) x b p n (nI i) s a2 a3 a4 a5 a6 a7 a8 a9 a10 a11 a12) (fun i s => s = tl_fl a1 (64 * f) i (tl_gv a1 f x)) 64 0 a1 (by omega) (tl_fl0 _ _ _).symm ?_ ?_
  · intro n s hs
    subst hs
    exact pk_le 64 64 (fun _ => ⟨pk_in (64 * f + 63) 256 (by omega) (tl_i64 f 63), hp _⟩) (fun z => absurd z (by omega))
  · intro n i s hi hs hw
    subst hs
    refine pk_le 64 i (fun z => absurd z (by omega)) (fun _ => nm_e ⟨pk_in (64 * f + i) 256 (by omega) (tl_i64 f i), pk_in (64 * f + i) 256 (by omega) (tl_i64 f i), nm_r (tl_fl_up (pk_cl (64 * f + i) (tl_i64 f i)) ?_) (nm_r (nI_1 i) (hw _ rfl))⟩)
    rw [pk_cl (64 * f + i) (tl_i64 f i), tl_fl_out (by omega)]
    rfl
theorem tl_setVector {post : Int32 → St2 → Prop} {b p : Int32} {a1 a2 a3 a4 a5 a6 a7 a8 a9 a10 a11 a12 : Nat → Int32} {l k s : Nat} (hl : l ≤ 2) (hk : k ≤ 3) (hs : s ≤ 24) (hp : post (a3 (4 * l + k)) (b, p, a1, a2, upd a3 (4 * l + k) (nI s), a4, a5, a6, a7, a8, a9, a10, a11, a12)) : wpX_setVector post (b, p, a1, a2, a3, a4, a5, a6, a7, a8, a9, a10, a11, a12) (nI l) (nI k) (nI s) := by
  unfold wpX_setVector
  dsimp only
  refine tl_isLink hl (br_f (by decide) (tl_isBlock hk (br_f (by decide) (tl_isStep hs (br_f (by decide) ?_)))))
  rw [pk_cl (4 * l + k) (tl_i4 l k)]
  exact ⟨pk_in (4 * l + k) 12 (by omega) (tl_i4 l k), nm_e ⟨pk_in (4 * l + k) 12 (by omega) (tl_i4 l k), nm_e hp⟩⟩
theorem tl_outVector {post : Int32 → Prop} {b p : Int32} {a1 a2 a3 a4 a5 a6 a7 a8 a9 a10 a11 a12 : Nat → Int32} {l k : Nat} (hl : l ≤ 2) (hk : k ≤ 3) (hp : post (a4 (4 * l + k))) : wpX_outVector post (b, p, a1, a2, a3, a4, a5, a6, a7, a8, a9, a10, a11, a12) (nI l) (nI k) := by
  unfold wpX_outVector
  dsimp only
  refine tl_isLink hl (br_f (by decide) (tl_isBlock hk (br_f (by decide) ?_)))
  rw [pk_cl (4 * l + k) (tl_i4 l k)]
  exact ⟨pk_in (4 * l + k) 12 (by omega) (tl_i4 l k), hp⟩
theorem tl_out {post : Int32 → Prop} {b p : Int32} {a1 a2 a3 a4 a5 a6 a7 a8 a9 a10 a11 a12 : Nat → Int32} {f x y : Nat} (hf : f ≤ 3) (hx : x ≤ 7) (hy : y ≤ 7) (hp : post (a2 (64 * f + 8 * y + x))) : wpX_out post (b, p, a1, a2, a3, a4, a5, a6, a7, a8, a9, a10, a11, a12) (nI f) (nI x) (nI y) := by
  unfold wpX_out
  dsimp only
  refine tl_isFrame hf (br_f (by decide) (tl_isInside hx hy (br_f (by decide) ?_)))
  rw [pk_cl (64 * f + 8 * y + x) (tl_i648 f y x)]
  exact ⟨pk_in (64 * f + 8 * y + x) 256 (by omega) (tl_i648 f y x), hp⟩
end
section
/-! invert at the law's own place -/
def tl_iv (a : Nat → Int32) (y : Nat) : Nat → Int32 := tl_fl a (64 * 3 + 8 * y + 2) 3 (fun k => 255 - a (64 * 3 + 8 * y + 2 + k))
def tl_ivs (a : Nat → Int32) : Nat → Nat → Int32
  | 0 => a
  | i + 1 => tl_iv (tl_ivs a i) (6 + i)
theorem tl_inv44 {post : Int32 → St2 → Prop} {b p : Int32} {a1 a2 a3 a4 a5 a6 a7 a8 a9 a10 a11 a12 : Nat → Int32} {J : Int32 → Int32 → (Nat → Int32) → (Nat → Int32) → (Nat → Int32) → (Nat → Int32) → (Nat → Int32) → (Nat → Int32) → (Nat → Int32) → (Nat → Int32) → (Nat → Int32) → (Nat → Int32) → (Nat → Int32) → (Nat → Int32) → Prop} {y c : Nat} (hy : y ≤ 7) (hc : c ≤ 10)
    (hJ : J (nI (c + 3)) (nI (y + 1)) (tl_iv a1 y) a2 a3 a4 a5 a6 a7 a8 a9 a10 a11 a12) : ∃ fu, wX_invert_44 post J 3 2 6 (nI y) b p fu (nI c) 2 a1 a2 a3 a4 a5 a6 a7 a8 a9 a10 a11 a12 := by
  refine pk_loop (fun n i s => wX_invert_44 post J 3 2 6 (nI y) b p n (nI (c + i)) (nI (2 + i)) s a2 a3 a4 a5 a6 a7 a8 a9 a10 a11 a12) (fun i s => s = tl_fl a1 (64 * 3 + 8 * y + 2) i (fun k => 255 - a1 (64 * 3 + 8 * y + 2 + k))) 3 0 a1 (by omega) (tl_fl0 _ _ _).symm ?_ ?_
  · intro n s hs
    subst hs
    exact pk_lt 4 (2 + 3) (fun _ => nm_r (nI_1 y) hJ) (fun z => absurd z (by omega))
  · intro n i s hi hs hw
    subst hs
    have E : ((64 * 3) + (8 * nI y)) + nI (2 + i) = nI (64 * 3 + 8 * y + 2 + i) := by
      rw [show (64 * 3 : Int32) = 64 * nI 3 from rfl, tl_i648]
      congr 1
      omega
    refine pk_lt 4 (2 + i) (fun z => absurd z (by omega)) (fun _ => pk_le 8 (2 + i) (fun z => absurd z (by omega)) (fun _ => nm_r E ⟨pk_in (64 * 3 + 8 * y + 2 + i) 256 (by omega), pk_in (64 * 3 + 8 * y + 2 + i) 256 (by omega), nm_r (tl_fl_up (nI_clamp (by omega)) ?_) (nm_r (nI_1 (c + i)) (nm_r (nI_1 (2 + i)) (hw _ rfl)))⟩))
    rw [nI_clamp (by omega), tl_fl_out (by omega)]
theorem tl_invert {post : Int32 → St2 → Prop} {b p : Int32} {a1 a2 a3 a4 a5 a6 a7 a8 a9 a10 a11 a12 : Nat → Int32} (hp : post 6 (b, p, tl_ivs a1 2, a2, a3, a4, a5, a6, a7, a8, a9, a10, a11, a12)) : wpX_invert post (b, p, a1, a2, a3, a4, a5, a6, a7, a8, a9, a10, a11, a12) 3 2 6 := by
  unfold wpX_invert
  dsimp only
  refine tl_isFrame (f := 3) (by omega) (br_f (by decide) (tl_isInside (x := 2) (y := 6) (by omega) (by omega) (br_f (by decide) ?_)))
  refine pk_loop (fun n i s => wX_invert_26 post 3 2 6 b p n (nI (3 * i)) (nI (6 + i)) s a2 a3 a4 a5 a6 a7 a8 a9 a10 a11 a12) (fun i s => s = tl_ivs a1 i) 2 0 a1 (by omega) rfl ?_ ?_
  · intro n s hs
    subst hs
    exact pk_lt 8 8 (fun z => absurd z (by omega)) (fun _ => pk_le 8 8 (fun _ => hp) (fun z => absurd z (by omega)))
  · intro n i s hi hs hw
    subst hs
    exact pk_lt 8 (6 + i) (fun z => absurd z (by omega)) (fun _ => pk_le 8 (6 + i) (fun z => absurd z (by omega)) (fun _ => tl_inv44 (by omega) (by omega) (hw _ rfl)))
/-! search: any answer, any vectors -/
theorem tl_mt48 {post : Int32 → Prop} {b p : Int32} {a1 a2 a3 a4 a5 a6 a7 a8 a9 a10 a11 a12 : Nat → Int32} {k t so : Nat} {x y tI soI : Int32} (hk : k ≤ 3) (ht : t ≤ 192) (hso : so ≤ 128) (hp : ∀ r, post r) (et : tI = nI t) (es : soI = nI so) : ∃ fu, wX_matching_48 post (nI k) x y tI soI b p a1 a2 a3 a4 a5 a6 a7 a8 a9 a10 a11 a12 fu 0 0 := by
  subst et es
  refine pk_loop (fun n i s => wX_matching_48 post (nI k) x y (nI t) (nI so) b p a1 a2 a3 a4 a5 a6 a7 a8 a9 a10 a11 a12 n s (nI i)) (fun _ _ => True) 16 0 0 (by omega) trivial ?_ ?_
  · intro n s _
    exact pk_le 16 16 (fun _ => hp _) (fun z => absurd z (by omega))
  · intro n i s hi _ hw
    have e1 : (4 * (nI k &&& 1)) + (nI i &&& 3) = nI (4 * (k % 2) + i % 4) := by rw [tl_a1 (by omega), tl_a3 (by omega), tl_i4]
    have e2 : (4 * (nI k >>> ((1 : Int32) &&& 31))) + (nI i >>> ((2 : Int32) &&& 31)) = nI (4 * (k / 2) + i / 4) := by rw [tl_s1 (by omega), tl_s2 (by omega), tl_i4]
    have e3 : ∀ t u v : Nat, (nI t + 8 * nI u) + nI v = nI (t + 8 * u + v) := fun t u v => by rw [tl_m8, nI_add, nI_add]
    refine pk_le 16 i (fun z => absurd z (by omega)) (fun _ => nm_r e1 (nm_r e2 (tl_limA (fun r hr => tl_limA (fun r' hr' => ⟨pk_in _ 256 (by omega) (e3 _ _ _), pk_in _ 256 (by omega) (e3 _ _ _), nm_e ⟨fun _ => nm_e (nm_r (nI_1 i) (hw _ trivial)), fun _ => nm_e (nm_r (nI_1 i) (hw _ trivial))⟩⟩)))))
theorem tl_mt27 {post : Int32 → Prop} {b p : Int32} {a1 a2 a3 a4 a5 a6 a7 a8 a9 a10 a11 a12 : Nat → Int32} {l k t : Nat} {x y tI : Int32} (hl : l ≤ 2) (hk : k ≤ 3) (ht : t ≤ 192) (hp : ∀ r, post r) (et : tI = nI t) : wX_matching_27 post (nI l) (nI k) x y tI b p a1 a2 a3 a4 a5 a6 a7 a8 a9 a10 a11 a12 := by
  unfold wX_matching_27
  exact ⟨fun _ => tl_mt48 (so := 0) hk ht (by omega) hp et rfl, fun _ => tl_mt48 (so := 128) hk ht (by omega) hp et rfl⟩
theorem tl_matching {post : Int32 → Prop} {b p : Int32} {a1 a2 a3 a4 a5 a6 a7 a8 a9 a10 a11 a12 : Nat → Int32} {l k : Nat} {x : Int32} (hl : l ≤ 2) (hk : k ≤ 3) (hp : ∀ r, post r) : wpX_matching post (b, p, a1, a2, a3, a4, a5, a6, a7, a8, a9, a10, a11, a12) (nI l) (nI k) x := by
  unfold wpX_matching
  dsimp only
  exact ⟨by decide, nm_e ⟨by decide, nm_e ⟨fun _ => tl_mt27 (t := 192) hl hk (by omega) hp rfl, fun _ => tl_mt27 (t := 64) hl hk (by omega) hp rfl⟩⟩⟩
theorem tl_b105 {post : Int32 → St2 → Prop} {b p : Int32} {a1 a2 a3 a4 a5 a6 a7 a8 a9 a10 a11 a12 : Nat → Int32} {J : Int32 → Int32 → (Nat → Int32) → (Nat → Int32) → (Nat → Int32) → (Nat → Int32) → (Nat → Int32) → (Nat → Int32) → (Nat → Int32) → (Nat → Int32) → (Nat → Int32) → (Nat → Int32) → (Nat → Int32) → (Nat → Int32) → Prop} {l k i : Nat} {x9 : Int32} (hl : l ≤ 2) (hk : k ≤ 3)
    (hJ : ∀ x v, J x (nI (i + 1)) a1 a2 v a4 a5 a6 a7 a8 a9 a10 a11 a12) : wX_best_105 post J (nI l) (nI k) (nI i) x9 b p a1 a2 a3 a4 a5 a6 a7 a8 a9 a10 a11 a12 := by
  unfold wX_best_105
  exact ⟨pk_in (4 * l + k) 12 (by omega) (tl_i4 l k), nm_e (nm_r (nI_1 i) (hJ _ _))⟩
theorem tl_b54 {post : Int32 → St2 → Prop} {b p : Int32} {a1 a2 a3 a4 a5 a6 a7 a8 a9 a10 a11 a12 : Nat → Int32} {J : Int32 → Int32 → (Nat → Int32) → (Nat → Int32) → (Nat → Int32) → (Nat → Int32) → (Nat → Int32) → (Nat → Int32) → (Nat → Int32) → (Nat → Int32) → (Nat → Int32) → (Nat → Int32) → (Nat → Int32) → (Nat → Int32) → Prop} {l k i : Nat} {x3 x5 x6 z0 z1 : Int32} (hl : l ≤ 2) (hk : k ≤ 3)
    (hJ : ∀ x v, J x (nI (i + 1)) a1 a2 v a4 a5 a6 a7 a8 a9 a10 a11 a12) : wX_best_54 post J (nI l) (nI k) x3 (nI i) x5 x6 z0 z1 b p a1 a2 a3 a4 a5 a6 a7 a8 a9 a10 a11 a12 := by
  unfold wX_best_54
  refine nm_e (tl_matching hl hk (fun r => nm_e ⟨fun _ => tl_b105 hl hk hJ, fun _ => ⟨fun _ => nm_r (nI_1 i) (hJ _ _), fun _ => tl_b105 hl hk hJ⟩⟩))
theorem tl_b41 {post : Int32 → St2 → Prop} {b p : Int32} {a1 a2 a3 a4 a5 a6 a7 a8 a9 a10 a11 a12 : Nat → Int32} {J : Int32 → Int32 → (Nat → Int32) → (Nat → Int32) → (Nat → Int32) → (Nat → Int32) → (Nat → Int32) → (Nat → Int32) → (Nat → Int32) → (Nat → Int32) → (Nat → Int32) → (Nat → Int32) → (Nat → Int32) → (Nat → Int32) → Prop} {l k i : Nat} {x3 x5 x6 z0 : Int32} (hl : l ≤ 2) (hk : k ≤ 3)
    (hJ : ∀ x v, J x (nI (i + 1)) a1 a2 v a4 a5 a6 a7 a8 a9 a10 a11 a12) : wX_best_41 post J (nI l) (nI k) x3 (nI i) x5 x6 z0 b p a1 a2 a3 a4 a5 a6 a7 a8 a9 a10 a11 a12 := by
  unfold wX_best_41
  exact ⟨fun _ => tl_b54 hl hk hJ, fun _ => tl_b54 hl hk hJ⟩
theorem tl_best {post : Int32 → St2 → Prop} {b p : Int32} {a1 a2 a3 a4 a5 a6 a7 a8 a9 a10 a11 a12 : Nat → Int32} {l k : Nat} (hl : l ≤ 2) (hk : k ≤ 3) (hp : ∀ r v, post r (b, p, a1, a2, v, a4, a5, a6, a7, a8, a9, a10, a11, a12)) : wpX_best post (b, p, a1, a2, a3, a4, a5, a6, a7, a8, a9, a10, a11, a12) (nI l) (nI k) := by
  unfold wpX_best
  dsimp only
  refine pk_loop (fun n i (s : Int32 × (Nat → Int32)) => wX_best_5 post (nI l) (nI k) b p n s.1 (nI i) a1 a2 s.2 a4 a5 a6 a7 a8 a9 a10 a11 a12) (fun _ _ => True) 25 0 (0, a3) (by omega) trivial ?_ ?_
  · intro n s _
    exact pk_le 25 25 (fun _ => ⟨by decide, hp _ _⟩) (fun z => absurd z (by omega))
  · intro n i s hi _ hw
    exact pk_le 25 i (fun z => absurd z (by omega)) (fun _ => ⟨by decide, nm_e ⟨by decide, nm_e ⟨fun _ => tl_b41 hl hk (fun x v => hw (x, v) trivial), fun _ => tl_b41 hl hk (fun x v => hw (x, v) trivial)⟩⟩⟩)
theorem tl_search {post : Int32 → St2 → Prop} {b p : Int32} {a1 a2 a3 a4 a5 a6 a7 a8 a9 a10 a11 a12 : Nat → Int32} (hp : ∀ r v, post r (b, p, a1, a2, v, a4, a5, a6, a7, a8, a9, a10, a11, a12)) : wpX_search post (b, p, a1, a2, a3, a4, a5, a6, a7, a8, a9, a10, a11, a12) := by
  unfold wpX_search
  dsimp only
  refine pk_loop (fun n i (s : Int32 × (Nat → Int32)) => wX_search_4 post n s.1 (nI i) b p a1 a2 s.2 a4 a5 a6 a7 a8 a9 a10 a11 a12) (fun _ _ => True) 12 0 (0, a3) (by omega) trivial ?_ ?_
  · intro n s _
    exact pk_le 12 12 (fun _ => hp _ _) (fun z => absurd z (by omega))
  · intro n i s hi _ hw
    refine pk_le 12 i (fun z => absurd z (by omega)) (fun _ => ?_)
    rw [tl_s2 (by omega), tl_a3 (by omega)]
    exact tl_best (by omega) (by omega) (fun r v => nm_e (nm_r (nI_1 i) (hw (_, v) trivial)))
end
section
/-! along, predict, adjust -/
def tl_pi (l k : Nat) : Nat := 4 * l + 2 * (k / 8 / 4) + k % 8 / 4
def tl_ix (v : Nat → Int32) (fr l k : Nat) (sg : Int32) : Nat := 64 * fr + 8 * tl_lm (nI (k / 8) + (sg * ((v (tl_pi l k) - v (tl_pi l k) / 5 * 5) - 2))) + tl_lm (nI (k % 8) + (sg * ((v (tl_pi l k) / 5) - 2)))
theorem tl_ix_in (v : Nat → Int32) (fr l k : Nat) (sg : Int32) : 64 * fr ≤ tl_ix v fr l k sg ∧ tl_ix v fr l k sg < 64 * fr + 64 := by
  unfold tl_ix
  have l1 := tl_lm_le (nI (k / 8) + (sg * ((v (tl_pi l k) - v (tl_pi l k) / 5 * 5) - 2)))
  have l2 := tl_lm_le (nI (k % 8) + (sg * ((v (tl_pi l k) / 5) - 2)))
  omega
theorem tl_along {post : Int32 → Prop} {b p : Int32} {a1 a2 a3 a4 a5 a6 a7 a8 a9 a10 a11 a12 : Nat → Int32} {fr l k : Nat} {sg : Int32} (hf : fr ≤ 3) (hl : l ≤ 2) (hk : k < 64) (hp : post (a7 (tl_ix a8 fr l k sg))) : wpX_along post (b, p, a1, a2, a3, a4, a5, a6, a7, a8, a9, a10, a11, a12) (nI fr) (nI l) (nI k) sg := by
  unfold wpX_along
  dsimp only
  have hi : tl_pi l k < 12 := by
    unfold tl_pi
    omega
  have E : ((4 * nI l) + (2 * (nI (k / 8) >>> ((2 : Int32) &&& 31)))) + (nI (k % 8) >>> ((2 : Int32) &&& 31)) = nI (tl_pi l k) := by
    rw [tl_s2 (by omega), tl_s2 (by omega), tl_m4, tl_m2, nI_add, nI_add]
    rfl
  have hx := tl_ix_in a8 fr l k sg
  refine nm_r (tl_a7 (by omega)) (nm_r (tl_s3 (by omega)) ⟨pk_in (tl_pi l k) 12 hi E, nm_r (e' := a8 (tl_pi l k)) (by rw [pk_cl (tl_pi l k) E]) ⟨by decide, tl_lim ⟨by decide, tl_lim ?_⟩⟩⟩)
  have E2 := tl_i648 fr (tl_lm (nI (k / 8) + (sg * ((a8 (tl_pi l k) - a8 (tl_pi l k) / 5 * 5) - 2)))) (tl_lm (nI (k % 8) + (sg * ((a8 (tl_pi l k) / 5) - 2))))
  rw [pk_cl _ E2 (by unfold tl_ix at hx; omega)]
  exact ⟨pk_in _ 256 (by unfold tl_ix at hx; omega) E2, hp⟩
def tl_pv1 (v c : Nat → Int32) (sg : Int32) (k : Nat) : Int32 := (c (64 + k)) + (sg * ((c (tl_ix v 0 0 k 1) + c (tl_ix v 2 1 k 1)) >>> ((1 : Int32) &&& 31)))
def tl_pv2 (v c : Nat → Int32) (sg : Int32) (k : Nat) : Int32 := (c (192 + k)) + (sg * c (tl_ix v 2 2 k 1))
def tl_pd (v c : Nat → Int32) (sg : Int32) (i : Nat) : Nat → Int32 := tl_fl (tl_fl c 64 i (tl_pv1 v c sg)) 192 i (tl_pv2 v c sg)
theorem tl_pd_o {v c : Nat → Int32} {sg : Int32} {i j : Nat} (hi : i ≤ 64) (h : j < 64 ∨ (128 ≤ j ∧ j < 192) ∨ 256 ≤ j) : tl_pd v c sg i j = c j := by
  unfold tl_pd
  rw [tl_fl_out (by omega), tl_fl_out (by omega)]
theorem tl_pd_1 {v c : Nat → Int32} {sg : Int32} {k : Nat} (h : k < 64) : tl_pd v c sg 64 (64 + k) = tl_pv1 v c sg k := by
  unfold tl_pd
  rw [tl_fl_out (by omega), tl_fl_at h]
theorem tl_pd_3 {v c : Nat → Int32} {sg : Int32} {k : Nat} (h : k < 64) : tl_pd v c sg 64 (192 + k) = tl_pv2 v c sg k := by
  unfold tl_pd
  rw [tl_fl_at h]
theorem tl_predict {post : St2 → Prop} {b p : Int32} {a1 a2 a3 a4 a5 a6 a7 a8 a9 a10 a11 a12 : Nat → Int32} {sg : Int32} (hp : post (b, p, a1, a2, a3, a4, a5, a6, tl_pd a8 a7 sg 64, a8, a9, a10, a11, a12)) : wpX_predict post (b, p, a1, a2, a3, a4, a5, a6, a7, a8, a9, a10, a11, a12) sg := by
  unfold wpX_predict
  dsimp only
  refine pk_loop (fun n i s => wX_predict_2 post sg b p n (nI i) a1 a2 a3 a4 a5 a6 s a8 a9 a10 a11 a12) (fun i s => s = tl_pd a8 a7 sg i) 64 0 a7 (by omega) (by unfold tl_pd; rw [tl_fl0, tl_fl0]) ?_ ?_
  · intro n s hs
    subst hs
    exact pk_le 64 64 (fun _ => hp) (fun z => absurd z (by omega))
  · intro n i s hi hs hw
    subst hs
    have e64 : 64 + nI i = nI (64 + i) := nI_add 64 i
    have e192 : 192 + nI i = nI (192 + i) := nI_add 192 i
    have x1 := tl_ix_in a8 0 0 i 1
    have x2 := tl_ix_in a8 2 1 i 1
    have x3 := tl_ix_in a8 2 2 i 1
    refine pk_le 64 i (fun z => absurd z (by omega)) (fun _ => tl_along (fr := 0) (l := 0) (by omega) (by omega) hi (tl_along (fr := 2) (l := 1) (by omega) (by omega) hi (tl_along (fr := 2) (l := 2) (by omega) (by omega) hi ?_)))
    have r1 : tl_pd a8 a7 sg i (tl_ix a8 0 0 i 1) = a7 (tl_ix a8 0 0 i 1) := tl_pd_o (by omega) (by omega)
    have r2 : tl_pd a8 a7 sg i (tl_ix a8 2 1 i 1) = a7 (tl_ix a8 2 1 i 1) := tl_pd_o (by omega) (by omega)
    have r3 : tl_pd a8 a7 sg i (tl_ix a8 2 2 i 1) = a7 (tl_ix a8 2 2 i 1) := tl_pd_o (by omega) (by omega)
    rw [r1, r2, r3]
    refine ⟨pk_in (64 + i) 256 (by omega) e64, pk_in (64 + i) 256 (by omega) e64, nm_r (e' := tl_fl (tl_fl a7 64 (i + 1) (tl_pv1 a8 a7 sg)) 192 i (tl_pv2 a8 a7 sg)) ?_ ⟨pk_in (192 + i) 256 (by omega) e192, pk_in (192 + i) 256 (by omega) e192, nm_r (tl_fl_up (pk_cl (192 + i) e192) ?_) (nm_r (nI_1 i) (hw _ rfl))⟩⟩
    · rw [pk_cl (64 + i) e64]
      unfold tl_pd
      rw [tl_fl_cm (by omega), tl_fl_up rfl ?_]
      rw [tl_fl_out (by omega), tl_fl_out (by omega)]
      rfl
    · rw [pk_cl (192 + i) e192, tl_fl_out (by omega), tl_fl_out (by omega)]
      rfl
def tl_av1 (v c : Nat → Int32) (sg : Int32) (k : Nat) : Int32 := (c (0 + k)) + (sg * (c (tl_ix v 1 0 k (-1)) >>> ((1 : Int32) &&& 31)))
def tl_av2 (v c : Nat → Int32) (sg : Int32) (k : Nat) : Int32 := (c (128 + k)) + (sg * (((c (tl_ix v 1 1 k (-1)) + c (tl_ix v 3 2 k (-1))) + 2) >>> ((2 : Int32) &&& 31)))
def tl_ad (v c : Nat → Int32) (sg : Int32) (i : Nat) : Nat → Int32 := tl_fl (tl_fl c 0 i (tl_av1 v c sg)) 128 i (tl_av2 v c sg)
theorem tl_ad_o {v c : Nat → Int32} {sg : Int32} {i j : Nat} (hi : i ≤ 64) (h : (64 ≤ j ∧ j < 128) ∨ 192 ≤ j) : tl_ad v c sg i j = c j := by
  unfold tl_ad
  rw [tl_fl_out (by omega), tl_fl_out (by omega)]
theorem tl_ad_0 {v c : Nat → Int32} {sg : Int32} {k : Nat} (h : k < 64) : tl_ad v c sg 64 (0 + k) = tl_av1 v c sg k := by
  unfold tl_ad
  rw [tl_fl_out (by omega), tl_fl_at h]
theorem tl_ad_2 {v c : Nat → Int32} {sg : Int32} {k : Nat} (h : k < 64) : tl_ad v c sg 64 (128 + k) = tl_av2 v c sg k := by
  unfold tl_ad
  rw [tl_fl_at h]
theorem tl_adjust {post : St2 → Prop} {b p : Int32} {a1 a2 a3 a4 a5 a6 a7 a8 a9 a10 a11 a12 : Nat → Int32} {sg : Int32} (hp : post (b, p, a1, a2, a3, a4, a5, a6, tl_ad a8 a7 sg 64, a8, a9, a10, a11, a12)) : wpX_adjust post (b, p, a1, a2, a3, a4, a5, a6, a7, a8, a9, a10, a11, a12) sg := by
  unfold wpX_adjust
  dsimp only
  refine pk_loop (fun n i s => wX_adjust_2 post sg b p n (nI i) a1 a2 a3 a4 a5 a6 s a8 a9 a10 a11 a12) (fun i s => s = tl_ad a8 a7 sg i) 64 0 a7 (by omega) (by unfold tl_ad; rw [tl_fl0, tl_fl0]) ?_ ?_
  · intro n s hs
    subst hs
    exact pk_le 64 64 (fun _ => hp) (fun z => absurd z (by omega))
  · intro n i s hi hs hw
    subst hs
    have e0 : nI i = nI (0 + i) := by rw [Nat.zero_add]
    have e128 : 128 + nI i = nI (128 + i) := nI_add 128 i
    have x1 := tl_ix_in a8 1 0 i (-1)
    have x2 := tl_ix_in a8 1 1 i (-1)
    have x3 := tl_ix_in a8 3 2 i (-1)
    refine pk_le 64 i (fun z => absurd z (by omega)) (fun _ => tl_along (fr := 1) (l := 0) (by omega) (by omega) hi (tl_along (fr := 1) (l := 1) (by omega) (by omega) hi (tl_along (fr := 3) (l := 2) (by omega) (by omega) hi ?_)))
    have r1 : tl_ad a8 a7 sg i (tl_ix a8 1 0 i (-1)) = a7 (tl_ix a8 1 0 i (-1)) := tl_ad_o (by omega) (by omega)
    have r2 : tl_ad a8 a7 sg i (tl_ix a8 1 1 i (-1)) = a7 (tl_ix a8 1 1 i (-1)) := tl_ad_o (by omega) (by omega)
    have r3 : tl_ad a8 a7 sg i (tl_ix a8 3 2 i (-1)) = a7 (tl_ix a8 3 2 i (-1)) := tl_ad_o (by omega) (by omega)
    rw [r1, r2, r3]
    refine ⟨pk_in i 256 (by omega), pk_in i 256 (by omega), nm_r (e' := tl_fl (tl_fl a7 0 (i + 1) (tl_av1 a8 a7 sg)) 128 i (tl_av2 a8 a7 sg)) ?_ ⟨pk_in (128 + i) 256 (by omega) e128, pk_in (128 + i) 256 (by omega) e128, nm_r (tl_fl_up (pk_cl (128 + i) e128) ?_) (nm_r (nI_1 i) (hw _ rfl))⟩⟩
    · rw [pk_cl (0 + i) e0]
      unfold tl_ad
      rw [tl_fl_cm (by omega), tl_fl_up rfl ?_]
      rw [tl_fl_out (by omega), tl_fl_out (by omega)]
      rfl
    · rw [pk_cl (128 + i) e128, tl_fl_out (by omega), tl_fl_out (by omega)]
      rfl
/-! the plain law of the two: each undoes itself with the other sign -/
theorem tl_r1 (x y : Int32) : (x + (-1) * y) + 1 * y = x := by grind
theorem tl_r2 (x y : Int32) : (x + 1 * y) + (-1) * y = x := by grind
theorem tl_pd_inv (v c : Nat → Int32) : tl_pd v (tl_pd v c (-1) 64) 1 64 = c := by
  funext j
  by_cases h1 : 64 ≤ j ∧ j < 128
  · obtain ⟨k, rfl⟩ : ∃ k, j = 64 + k := ⟨j - 64, by omega⟩
    have x1 := tl_ix_in v 0 0 k 1
    have x2 := tl_ix_in v 2 1 k 1
    rw [tl_pd_1 (by omega)]
    unfold tl_pv1
    rw [tl_pd_1 (by omega), tl_pd_o (by omega) (by omega), tl_pd_o (by omega) (by omega)]
    exact tl_r1 _ _
  · by_cases h3 : 192 ≤ j ∧ j < 256
    · obtain ⟨k, rfl⟩ : ∃ k, j = 192 + k := ⟨j - 192, by omega⟩
      have x3 := tl_ix_in v 2 2 k 1
      rw [tl_pd_3 (by omega)]
      unfold tl_pv2
      rw [tl_pd_3 (by omega), tl_pd_o (by omega) (by omega)]
      exact tl_r1 _ _
    · rw [tl_pd_o (by omega) (by omega), tl_pd_o (by omega) (by omega)]
theorem tl_ad_inv (v c : Nat → Int32) : tl_ad v (tl_ad v c 1 64) (-1) 64 = c := by
  funext j
  by_cases h1 : j < 64
  · obtain ⟨k, rfl⟩ : ∃ k, j = 0 + k := ⟨j, by omega⟩
    have x1 := tl_ix_in v 1 0 k (-1)
    rw [tl_ad_0 (by omega)]
    unfold tl_av1
    rw [tl_ad_0 (by omega), tl_ad_o (by omega) (by omega)]
    exact tl_r2 _ _
  · by_cases h3 : 128 ≤ j ∧ j < 192
    · obtain ⟨k, rfl⟩ : ∃ k, j = 128 + k := ⟨j - 128, by omega⟩
      have x2 := tl_ix_in v 1 1 k (-1)
      have x3 := tl_ix_in v 3 2 k (-1)
      rw [tl_ad_2 (by omega)]
      unfold tl_av2
      rw [tl_ad_2 (by omega), tl_ad_o (by omega) (by omega), tl_ad_o (by omega) (by omega)]
      exact tl_r2 _ _
    · rw [tl_ad_o (by omega) (by omega), tl_ad_o (by omega) (by omega)]
/-! bounds -/
def tl_B (M : Int) (x : Int32) : Prop := -M ≤ x.toInt ∧ x.toInt ≤ M
theorem tl_addI {x y : Int32} {M N : Int} (hx : tl_B M x) (hy : tl_B N y) (hM : M ≤ 100000) (hN : N ≤ 100000) : (x + y).toInt = x.toInt + y.toInt := by
  unfold tl_B at hx hy
  rw [Int32.toInt_add]
  exact Int.bmod_eq_of_le (by omega) (by omega)
theorem tl_subI {x y : Int32} {M N : Int} (hx : tl_B M x) (hy : tl_B N y) (hM : M ≤ 100000) (hN : N ≤ 100000) : (x - y).toInt = x.toInt - y.toInt := by
  unfold tl_B at hx hy
  rw [Int32.toInt_sub]
  exact Int.bmod_eq_of_le (by omega) (by omega)
theorem tl_sh1 (x : Int32) : (x >>> ((1 : Int32) &&& 31)).toInt = x.toInt / 2 := by
  rw [pk_shr _ _ 1 (by decide), Int.shiftRight_eq_div_pow]
  rfl
theorem tl_sh2 (x : Int32) : (x >>> ((2 : Int32) &&& 31)).toInt = x.toInt / 4 := by
  rw [pk_shr _ _ 2 (by decide), Int.shiftRight_eq_div_pow]
  rfl
/-- a half of two -/
theorem tl_Bh {x y : Int32} {M : Int} (hx : tl_B M x) (hy : tl_B M y) (hM : M ≤ 50000) : tl_B M ((x + y) >>> ((1 : Int32) &&& 31)) := by
  have e := tl_addI hx hy (by omega) (by omega)
  unfold tl_B at *
  rw [tl_sh1, e]
  omega
theorem tl_Bh1 {x : Int32} {M : Int} (hx : tl_B (2 * M) x) : tl_B M (x >>> ((1 : Int32) &&& 31)) := by
  unfold tl_B at *
  rw [tl_sh1]
  omega
/-- a quarter of two, rounded -/
theorem tl_Bq {x y : Int32} {M : Int} (hx : tl_B (2 * M) x) (hy : tl_B (2 * M) y) (h0 : 0 ≤ M) (hM : M ≤ 20000) : tl_B M (((x + y) + 2) >>> ((2 : Int32) &&& 31)) := by
  have e := tl_addI hx hy (by omega) (by omega)
  have e2 : tl_B (4 * M) (x + y) := by
    unfold tl_B at *
    rw [e]
    omega
  have e3 := tl_addI e2 (y := 2) (N := 2) (by unfold tl_B; decide) (by omega) (by omega)
  have e4 : (2 : Int32).toInt = 2 := by decide
  unfold tl_B at *
  rw [tl_sh2, e3, e, e4]
  omega
theorem tl_Ba {x y : Int32} {M : Int} (hx : tl_B M x) (hy : tl_B M y) (hM : M ≤ 50000) : tl_B (2 * M) (x + y) := by
  have e := tl_addI hx hy (by omega) (by omega)
  unfold tl_B at *
  rw [e]
  omega
theorem tl_Bs {x y : Int32} {M : Int} (hx : tl_B M x) (hy : tl_B M y) (hM : M ≤ 50000) : tl_B (2 * M) (x - y) := by
  have e := tl_subI hx hy (by omega) (by omega)
  unfold tl_B at *
  rw [e]
  omega
theorem tl_Bw {x : Int32} {M N : Int} (hx : tl_B M x) (h : M ≤ N) : tl_B N x := by
  unfold tl_B at *
  omega
theorem tl_m1s (x y : Int32) : x + (-1) * y = x - y := by grind
theorem tl_p1s (x y : Int32) : x + 1 * y = x + y := by grind
theorem tl_pd_B {v c : Nat → Int32} {M : Int} (h : ∀ j, tl_B M (c j)) (h0 : 0 ≤ M) (hM : M ≤ 20000) : (∀ j, tl_B (2 * M) (tl_pd v c (-1) 64 j)) ∧ (∀ j, j < 64 ∨ (128 ≤ j ∧ j < 192) → tl_B M (tl_pd v c (-1) 64 j)) := by
  constructor
  · intro j
    by_cases h1 : 64 ≤ j ∧ j < 128
    · obtain ⟨k, rfl⟩ : ∃ k, j = 64 + k := ⟨j - 64, by omega⟩
      rw [tl_pd_1 (by omega)]
      unfold tl_pv1
      rw [tl_m1s]
      exact tl_Bs (h _) (tl_Bh (h _) (h _) (by omega)) (by omega)
    · by_cases h3 : 192 ≤ j ∧ j < 256
      · obtain ⟨k, rfl⟩ : ∃ k, j = 192 + k := ⟨j - 192, by omega⟩
        rw [tl_pd_3 (by omega)]
        unfold tl_pv2
        rw [tl_m1s]
        exact tl_Bs (h _) (h _) (by omega)
      · rw [tl_pd_o (by omega) (by omega)]
        exact tl_Bw (h j) (by omega)
  · intro j hj
    rw [tl_pd_o (by omega) (by omega)]
    exact h j
theorem tl_ad_B {v c : Nat → Int32} {M : Int} (h : ∀ j, tl_B (2 * M) (c j)) (h' : ∀ j, j < 64 ∨ (128 ≤ j ∧ j < 192) → tl_B M (c j)) (h0 : 0 ≤ M) (hM : M ≤ 20000) : ∀ j, tl_B (2 * M) (tl_ad v c 1 64 j) := by
  intro j
  by_cases h1 : j < 64
  · obtain ⟨k, rfl⟩ : ∃ k, j = 0 + k := ⟨j, by omega⟩
    rw [tl_ad_0 (by omega)]
    unfold tl_av1
    rw [tl_p1s]
    exact tl_Ba (h' _ (by omega)) (tl_Bh1 (h _)) (by omega)
  · by_cases h3 : 128 ≤ j ∧ j < 192
    · obtain ⟨k, rfl⟩ : ∃ k, j = 128 + k := ⟨j - 128, by omega⟩
      rw [tl_ad_2 (by omega)]
      unfold tl_av2
      rw [tl_p1s]
      exact tl_Ba (h' _ (by omega)) (tl_Bq (h _) (h _) h0 hM) (by omega)
    · rw [tl_ad_o (by omega) (by omega)]
      exact h j
end
section
/-! one line of lifting: the two passes as plain functions of the whole array -/
def tl_Op (q : Int32 → Int32 → Int32) (od la : Nat → Bool) (g : Nat) (c : Nat → Int32) : Nat → Int32 := fun j => if od j = true then q (c j) ((c (j - g) + c (if la j = true then j - g else j + g)) >>> ((1 : Int32) &&& 31)) else c j
def tl_Ep (q : Int32 → Int32 → Int32) (ev fi : Nat → Bool) (g : Nat) (c : Nat → Int32) : Nat → Int32 := fun j => if ev j = true then q (c j) (((c (if fi j = true then j + g else j - g) + c (j + g)) + 2) >>> ((2 : Int32) &&& 31)) else c j
def tl_ad' (x y : Int32) : Int32 := x + y
def tl_su' (x y : Int32) : Int32 := x - y
/-- a line: the cells s, s + g, .., of which 'on' says which they are and 'ix' which place each has -/
def tl_Ln (on : Nat → Bool) (ix : Nat → Nat) (od la ev fi : Nat → Bool) (s g n : Nat) : Prop :=
  (∀ i, i < n → on (s + i * g) = true ∧ ix (s + i * g) = i ∧ s + i * g < 256) ∧
  (∀ j, on j = true → ix j < n ∧ j = s + ix j * g) ∧
  (∀ j, on j = true → (od j = true ↔ ix j % 2 = 1) ∧ (ev j = true ↔ ix j % 2 = 0) ∧ (la j = true ↔ ix j + 1 = n) ∧ (fi j = true ↔ ix j = 0))
def tl_mx (on : Nat → Bool) (ix : Nat → Nat) (k : Nat) (x c : Nat → Int32) : Nat → Int32 := fun j => if on j = true ∧ ix j < k then x j else c j
def tl_sel (on : Nat → Bool) (x c : Nat → Int32) : Nat → Int32 := fun j => if on j = true then x j else c j
theorem tl_ps1 (s g i : Nat) : s + (i + 1) * g = s + i * g + g := by rw [Nat.succ_mul, Nat.add_assoc]
theorem tl_mx0 (on : Nat → Bool) (ix : Nat → Nat) (x c : Nat → Int32) : tl_mx on ix 0 x c = c := by
  funext j
  exact if_neg (fun h => by omega)
theorem tl_mx_in {on : Nat → Bool} {ix : Nat → Nat} {k j : Nat} {x c : Nat → Int32} (h : on j = true) (h2 : ix j < k) : tl_mx on ix k x c j = x j := if_pos ⟨h, h2⟩
theorem tl_mx_ge {on : Nat → Bool} {ix : Nat → Nat} {k j : Nat} {x c : Nat → Int32} (h2 : k ≤ ix j) : tl_mx on ix k x c j = c j := if_neg (fun q => by omega)
theorem tl_mx_off {on : Nat → Bool} {ix : Nat → Nat} {k j : Nat} {x c : Nat → Int32} (h : ¬ on j = true) : tl_mx on ix k x c j = c j := if_neg (fun q => h q.1)
theorem tl_mx_up {on : Nat → Bool} {ix : Nat → Nat} {od la ev fi : Nat → Bool} {s g n k k' i : Nat} {x c : Nat → Int32} {v : Int32} (L : tl_Ln on ix od la ev fi s g n) (hi : i < n) (h1 : k ≤ i) (h2 : i < k') (hv : v = x (s + i * g))
    (ho : ∀ j, on j = true → k ≤ ix j → ix j < k' → ix j ≠ i → x j = c j) : upd (tl_mx on ix k x c) (s + i * g) v = tl_mx on ix k' x c := by
  obtain ⟨L1, L2, _⟩ := L
  obtain ⟨p1, p2, _⟩ := L1 i hi
  funext j
  by_cases e : j = s + i * g
  · subst e
    rw [pk_us, hv, tl_mx_in p1 (by omega)]
  · rw [pk_un e]
    by_cases h : on j = true
    · by_cases hk : ix j < k
      · rw [tl_mx_in h hk, tl_mx_in h (by omega)]
      · rw [tl_mx_ge (by omega)]
        by_cases hk' : ix j < k'
        · rw [tl_mx_in h hk']
          refine (ho j h (by omega) hk' (fun z => e ?_)).symm
          rw [← z]
          exact (L2 j h).2
        · rw [tl_mx_ge (by omega)]
    · rw [tl_mx_off h, tl_mx_off h]
theorem tl_mx_all {on : Nat → Bool} {ix : Nat → Nat} {od la ev fi : Nat → Bool} {s g n : Nat} {x y c : Nat → Int32} (L : tl_Ln on ix od la ev fi s g n) : tl_mx on ix n x (tl_mx on ix n y c) = tl_sel on x c := by
  funext j
  by_cases h : on j = true
  · rw [tl_mx_in h (L.2.1 j h).1]
    exact (if_pos h).symm
  · rw [tl_mx_off h, tl_mx_off h]
    exact (if_neg h).symm
theorem tl_oS {on : Nat → Bool} {ix : Nat → Nat} {od la ev fi : Nat → Bool} {s g h k : Nat} {q : Int32 → Int32 → Int32} {c c0 : Nat → Int32} (L : tl_Ln on ix od la ev fi s g (2 * h)) (hc : ∀ j, on j = true → c j = c0 j) (hk : k < h) {S : Nat → Int32} (hS : S = tl_mx on ix (2 * k) (tl_Op q od la g c0) c) {r : Nat} (hr : r = if 2 * k + 1 + 1 = 2 * h then s + (2 * k + 1) * g - g else s + (2 * k + 1) * g + g) :
    upd S (s + (2 * k + 1) * g) (q (S (s + (2 * k + 1) * g)) ((S (s + (2 * k + 1) * g - g) + S r) >>> ((1 : Int32) &&& 31))) = tl_mx on ix (2 * (k + 1)) (tl_Op q od la g c0) c := by
  have L' := L
  obtain ⟨L1, L2, L3⟩ := L'
  obtain ⟨p1, p2, _⟩ := L1 (2 * k + 1) (by omega)
  obtain ⟨q1, q2, _⟩ := L1 (2 * k) (by omega)
  have eP : s + (2 * k + 1) * g - g = s + 2 * k * g := by rw [tl_ps1]; omega
  have s1 : S (s + (2 * k + 1) * g) = c0 (s + (2 * k + 1) * g) := by rw [hS, tl_mx_ge (by omega), hc _ p1]
  have s0 : S (s + 2 * k * g) = c0 (s + 2 * k * g) := by rw [hS, tl_mx_ge (by omega), hc _ q1]
  have t1 := (L3 _ p1).1.mpr (by omega)
  have s2 : S r = c0 (if la (s + (2 * k + 1) * g) = true then s + (2 * k + 1) * g - g else s + (2 * k + 1) * g + g) := by
    by_cases hz : 2 * k + 1 + 1 = 2 * h
    · rw [if_pos hz] at hr
      rw [if_pos ((L3 _ p1).2.2.1.mpr (by omega)), hr, eP, s0]
    · rw [if_neg hz] at hr
      obtain ⟨w1, w2, _⟩ := L1 (2 * k + 1 + 1) (by omega)
      rw [tl_ps1 s g (2 * k + 1)] at w1 w2
      rw [if_neg (fun z => hz (by have := (L3 _ p1).2.2.1.mp z; omega)), hr, hS, tl_mx_ge (by omega), hc _ w1]
  rw [s1, s2, eP, s0, hS]
  refine tl_mx_up L (by omega) (by omega) (by omega) ?_ ?_
  · unfold tl_Op
    rw [if_pos t1, eP]
  · intro j hj h1 h2 h3
    unfold tl_Op
    rw [if_neg (fun z => by have := (L3 j hj).1.mp z; omega), hc j hj]
theorem tl_eS {on : Nat → Bool} {ix : Nat → Nat} {od la ev fi : Nat → Bool} {s g h k : Nat} {q : Int32 → Int32 → Int32} {c c0 : Nat → Int32} (L : tl_Ln on ix od la ev fi s g (2 * h)) (hc : ∀ j, on j = true → c j = c0 j) (hk : k < h) {S : Nat → Int32} (hS : S = tl_mx on ix (2 * k) (tl_Ep q ev fi g c0) c) {r : Nat} (hr : r = if k = 0 then s + 2 * k * g + g else s + 2 * k * g - g) :
    upd S (s + 2 * k * g) (q (S (s + 2 * k * g)) (((S r + S (s + 2 * k * g + g)) + 2) >>> ((2 : Int32) &&& 31))) = tl_mx on ix (2 * (k + 1)) (tl_Ep q ev fi g c0) c := by
  have L' := L
  obtain ⟨L1, L2, L3⟩ := L'
  obtain ⟨p1, p2, _⟩ := L1 (2 * k) (by omega)
  obtain ⟨q1, q2, _⟩ := L1 (2 * k + 1) (by omega)
  rw [tl_ps1] at q1 q2
  have s1 : S (s + 2 * k * g) = c0 (s + 2 * k * g) := by rw [hS, tl_mx_ge (by omega), hc _ p1]
  have s0 : S (s + 2 * k * g + g) = c0 (s + 2 * k * g + g) := by rw [hS, tl_mx_ge (by omega), hc _ q1]
  have t1 := (L3 _ p1).2.1.mpr (by omega)
  have s2 : S r = c0 (if fi (s + 2 * k * g) = true then s + 2 * k * g + g else s + 2 * k * g - g) := by
    by_cases hz : k = 0
    · rw [if_pos hz] at hr
      rw [if_pos ((L3 _ p1).2.2.2.mpr (by omega)), hr, s0]
    · rw [if_neg hz] at hr
      obtain ⟨w1, w2, _⟩ := L1 (2 * k - 1) (by omega)
      have e : s + 2 * k * g - g = s + (2 * k - 1) * g := by
        have := tl_ps1 s g (2 * k - 1)
        rw [show 2 * k - 1 + 1 = 2 * k by omega] at this
        omega
      rw [if_neg (fun z => hz (by have := (L3 _ p1).2.2.2.mp z; omega)), hr, e, hS, tl_mx_in w1 (by omega)]
      unfold tl_Ep
      rw [if_neg (fun z => by have := (L3 _ w1).2.1.mp z; omega)]
  rw [s1, s2, s0, hS]
  refine tl_mx_up L (by omega) (by omega) (by omega) ?_ ?_
  · unfold tl_Ep
    rw [if_pos t1]
  · intro j hj h1 h2 h3
    unfold tl_Ep
    rw [if_neg (fun z => by have := (L3 j hj).2.1.mp z; omega), hc j hj]
/-! the walk over lift and unlift -/
theorem tl_ip (s i g : Nat) : nI s + nI i * nI g = nI (s + i * g) := by rw [pk_mul, nI_add]
theorem tl_l46 {post : St2 → Prop} {b p : Int32} {a1 a2 a3 a4 a5 a6 a7 a8 a9 a10 a11 a12 : Nat → Int32} {J : Int32 → (Nat → Int32) → (Nat → Int32) → (Nat → Int32) → (Nat → Int32) → (Nat → Int32) → (Nat → Int32) → (Nat → Int32) → (Nat → Int32) → (Nat → Int32) → (Nat → Int32) → (Nat → Int32) → (Nat → Int32) → Prop} {x1 x3 z0 : Int32} {g i P : Nat} (hg : g ≤ P) (hP : P < 256)
    (hJ : J (nI (i + 2)) a1 a2 a3 a4 a5 a6 (upd a7 P (tl_su' (a7 P) ((a7 (P - g) + z0) >>> ((1 : Int32) &&& 31)))) a8 a9 a10 a11 a12) : wX_lift_46 post J x1 (nI g) x3 (nI i) (nI P) z0 b p a1 a2 a3 a4 a5 a6 a7 a8 a9 a10 a11 a12 := by
  unfold wX_lift_46
  have e := pk_sub hg
  rw [e, nI_clamp (show P < 2 ^ 31 by omega), nI_clamp (show P - g < 2 ^ 31 by omega)]
  exact ⟨pk_in P 256 hP, pk_in (P - g) 256 (by omega), pk_in P 256 hP, nm_e (nm_r (nI_add i 2) hJ)⟩
theorem tl_l121 {post : St2 → Prop} {b p : Int32} {a1 a2 a3 a4 a5 a6 a7 a8 a9 a10 a11 a12 : Nat → Int32} {J : Int32 → (Nat → Int32) → (Nat → Int32) → (Nat → Int32) → (Nat → Int32) → (Nat → Int32) → (Nat → Int32) → (Nat → Int32) → (Nat → Int32) → (Nat → Int32) → (Nat → Int32) → (Nat → Int32) → (Nat → Int32) → Prop} {x1 x3 z0 : Int32} {g i P : Nat} (hP : P + g < 256)
    (hJ : J (nI (i + 2)) a1 a2 a3 a4 a5 a6 (upd a7 P (tl_ad' (a7 P) (((z0 + a7 (P + g)) + 2) >>> ((2 : Int32) &&& 31)))) a8 a9 a10 a11 a12) : wX_lift_121 post J x1 (nI g) x3 (nI i) (nI P) z0 b p a1 a2 a3 a4 a5 a6 a7 a8 a9 a10 a11 a12 := by
  unfold wX_lift_121
  rw [nI_add P g, nI_clamp (show P < 2 ^ 31 by omega), nI_clamp (show P + g < 2 ^ 31 by omega)]
  exact ⟨pk_in P 256 (by omega), pk_in (P + g) 256 hP, pk_in P 256 (by omega), nm_e (nm_r (nI_add i 2) hJ)⟩
theorem tl_u43 {post : St2 → Prop} {b p : Int32} {a1 a2 a3 a4 a5 a6 a7 a8 a9 a10 a11 a12 : Nat → Int32} {J : Int32 → (Nat → Int32) → (Nat → Int32) → (Nat → Int32) → (Nat → Int32) → (Nat → Int32) → (Nat → Int32) → (Nat → Int32) → (Nat → Int32) → (Nat → Int32) → (Nat → Int32) → (Nat → Int32) → (Nat → Int32) → Prop} {x1 x3 z0 : Int32} {g i P : Nat} (hP : P + g < 256)
    (hJ : J (nI (i + 2)) a1 a2 a3 a4 a5 a6 (upd a7 P (tl_su' (a7 P) (((z0 + a7 (P + g)) + 2) >>> ((2 : Int32) &&& 31)))) a8 a9 a10 a11 a12) : wX_unlift_43 post J x1 (nI g) x3 (nI i) (nI P) z0 b p a1 a2 a3 a4 a5 a6 a7 a8 a9 a10 a11 a12 := by
  unfold wX_unlift_43
  rw [nI_add P g, nI_clamp (show P < 2 ^ 31 by omega), nI_clamp (show P + g < 2 ^ 31 by omega)]
  exact ⟨pk_in P 256 (by omega), pk_in (P + g) 256 hP, pk_in P 256 (by omega), nm_e (nm_r (nI_add i 2) hJ)⟩
theorem tl_u123 {post : St2 → Prop} {b p : Int32} {a1 a2 a3 a4 a5 a6 a7 a8 a9 a10 a11 a12 : Nat → Int32} {J : Int32 → (Nat → Int32) → (Nat → Int32) → (Nat → Int32) → (Nat → Int32) → (Nat → Int32) → (Nat → Int32) → (Nat → Int32) → (Nat → Int32) → (Nat → Int32) → (Nat → Int32) → (Nat → Int32) → (Nat → Int32) → Prop} {x1 x3 z0 : Int32} {g i P : Nat} (hg : g ≤ P) (hP : P < 256)
    (hJ : J (nI (i + 2)) a1 a2 a3 a4 a5 a6 (upd a7 P (tl_ad' (a7 P) ((a7 (P - g) + z0) >>> ((1 : Int32) &&& 31)))) a8 a9 a10 a11 a12) : wX_unlift_123 post J x1 (nI g) x3 (nI i) (nI P) z0 b p a1 a2 a3 a4 a5 a6 a7 a8 a9 a10 a11 a12 := by
  unfold wX_unlift_123
  have e := pk_sub hg
  rw [e, nI_clamp (show P < 2 ^ 31 by omega), nI_clamp (show P - g < 2 ^ 31 by omega)]
  exact ⟨pk_in P 256 hP, pk_in (P - g) 256 (by omega), pk_in P 256 hP, nm_e (nm_r (nI_add i 2) hJ)⟩
theorem tl_lift81 {post : St2 → Prop} {b p : Int32} {a1 a2 a3 a4 a5 a6 a7 a8 a9 a10 a11 a12 : Nat → Int32} {on : Nat → Bool} {ix : Nat → Nat} {od la ev fi : Nat → Bool} {s g h : Nat} {c0 : Nat → Int32} (L : tl_Ln on ix od la ev fi s g (2 * h)) (hh : h ≤ 4) (hc : ∀ j, on j = true → a7 j = c0 j)
    (hp : post (b, p, a1, a2, a3, a4, a5, a6, tl_mx on ix (2 * h) (tl_Ep tl_ad' ev fi g c0) a7, a8, a9, a10, a11, a12)) : ∃ fu, wX_lift_81 post (nI s) (nI g) (nI (2 * h)) b p fu 0 a1 a2 a3 a4 a5 a6 a7 a8 a9 a10 a11 a12 := by
  refine pk_loop (fun n k S => wX_lift_81 post (nI s) (nI g) (nI (2 * h)) b p n (nI (2 * k)) a1 a2 a3 a4 a5 a6 S a8 a9 a10 a11 a12) (fun k S => S = tl_mx on ix (2 * k) (tl_Ep tl_ad' ev fi g c0) a7) h 0 a7 (by omega) (tl_mx0 _ _ _ _).symm ?_ ?_
  · intro n S hS
    subst hS
    exact pk_le (2 * h) (2 * h) (fun _ => hp) (fun z => absurd z (by omega))
  · intro n k S hk hS hw
    have b1 := (L.1 (2 * k + 1) (by omega)).2.2
    rw [tl_ps1] at b1
    have key := fun (r : Nat) (hr : r = if k = 0 then s + 2 * k * g + g else s + 2 * k * g - g) => hw _ (tl_eS (q := tl_ad') L hc hk hS hr)
    refine pk_le (2 * h) (2 * k) (fun z => absurd z (by omega)) (fun _ => nm_r (tl_ip s (2 * k) g) (pk_le (2 * k) 0 (fun hz => ?_) (fun hz => ?_)))
    · rw [nI_add, nI_clamp (show s + 2 * k * g + g < 2 ^ 31 by omega)]
      exact ⟨pk_in _ 256 b1, tl_l121 b1 (key _ (if_pos (by omega)).symm)⟩
    · have hg : g ≤ s + 2 * k * g := by
        have := tl_ps1 s g (2 * k - 1)
        rw [show 2 * k - 1 + 1 = 2 * k by omega] at this
        omega
      rw [pk_sub hg, nI_clamp (show s + 2 * k * g - g < 2 ^ 31 by omega)]
      exact ⟨pk_in (s + 2 * k * g - g) 256 (by omega), tl_l121 b1 (key _ (if_neg (by omega)).symm)⟩
theorem tl_lift {post : St2 → Prop} {b p : Int32} {a1 a2 a3 a4 a5 a6 a7 a8 a9 a10 a11 a12 : Nat → Int32} {on : Nat → Bool} {ix : Nat → Nat} {od la ev fi : Nat → Bool} {s g h : Nat} {c0 : Nat → Int32} (L : tl_Ln on ix od la ev fi s g (2 * h)) (hh : h ≤ 4) (hc : ∀ j, on j = true → a7 j = c0 j)
    (hp : post (b, p, a1, a2, a3, a4, a5, a6, tl_sel on (tl_Ep tl_ad' ev fi g (tl_Op tl_su' od la g c0)) a7, a8, a9, a10, a11, a12)) : wpX_lift post (b, p, a1, a2, a3, a4, a5, a6, a7, a8, a9, a10, a11, a12) (nI s) (nI g) (nI (2 * h)) := by
  unfold wpX_lift
  dsimp only
  refine pk_loop (fun n k S => wX_lift_3 post (nI s) (nI g) (nI (2 * h)) b p n (nI (2 * k + 1)) a1 a2 a3 a4 a5 a6 S a8 a9 a10 a11 a12) (fun k S => S = tl_mx on ix (2 * k) (tl_Op tl_su' od la g c0) a7) h 0 a7 (by omega) (tl_mx0 _ _ _ _).symm ?_ ?_
  · intro n S hS
    subst hS
    refine pk_le (2 * h) (2 * h + 1) (fun _ => tl_lift81 (c0 := tl_Op tl_su' od la g c0) L hh (fun j hj => tl_mx_in hj (L.2.1 j hj).1) ?_) (fun z => absurd z (by omega))
    rw [tl_mx_all L]
    exact hp
  · intro n k S hk hS hw
    have b1 := (L.1 (2 * k + 1) (by omega)).2.2
    have hg : g ≤ s + (2 * k + 1) * g := by
      rw [tl_ps1]
      omega
    have key := fun (r : Nat) (hr : r = if 2 * k + 1 + 1 = 2 * h then s + (2 * k + 1) * g - g else s + (2 * k + 1) * g + g) => hw _ (tl_oS (q := tl_su') L hc hk hS hr)
    refine pk_le (2 * h) (2 * k + 1) (fun z => absurd z (by omega)) (fun _ => nm_r (tl_ip s (2 * k + 1) g) (pk_le (2 * h) (2 * k + 1 + 1) (fun hz => ?_) (fun hz => ?_) rfl (nI_1 (2 * k + 1))))
    · rw [pk_sub hg, nI_clamp (show s + (2 * k + 1) * g - g < 2 ^ 31 by omega)]
      exact ⟨pk_in (s + (2 * k + 1) * g - g) 256 (by omega), tl_l46 hg b1 (key _ (if_pos (by omega)).symm)⟩
    · have b2 := (L.1 (2 * k + 1 + 1) (by omega)).2.2
      rw [tl_ps1] at b2
      rw [nI_add, nI_clamp (show s + (2 * k + 1) * g + g < 2 ^ 31 by omega)]
      exact ⟨pk_in _ 256 b2, tl_l46 hg b1 (key _ (if_neg (by omega)).symm)⟩
theorem tl_unlift80 {post : St2 → Prop} {b p : Int32} {a1 a2 a3 a4 a5 a6 a7 a8 a9 a10 a11 a12 : Nat → Int32} {on : Nat → Bool} {ix : Nat → Nat} {od la ev fi : Nat → Bool} {s g h : Nat} {c0 : Nat → Int32} (L : tl_Ln on ix od la ev fi s g (2 * h)) (hh : h ≤ 4) (hc : ∀ j, on j = true → a7 j = c0 j)
    (hp : post (b, p, a1, a2, a3, a4, a5, a6, tl_mx on ix (2 * h) (tl_Op tl_ad' od la g c0) a7, a8, a9, a10, a11, a12)) : ∃ fu, wX_unlift_80 post (nI s) (nI g) (nI (2 * h)) b p fu 1 a1 a2 a3 a4 a5 a6 a7 a8 a9 a10 a11 a12 := by
  refine pk_loop (fun n k S => wX_unlift_80 post (nI s) (nI g) (nI (2 * h)) b p n (nI (2 * k + 1)) a1 a2 a3 a4 a5 a6 S a8 a9 a10 a11 a12) (fun k S => S = tl_mx on ix (2 * k) (tl_Op tl_ad' od la g c0) a7) h 0 a7 (by omega) (tl_mx0 _ _ _ _).symm ?_ ?_
  · intro n S hS
    subst hS
    exact pk_le (2 * h) (2 * h + 1) (fun _ => hp) (fun z => absurd z (by omega))
  · intro n k S hk hS hw
    have b1 := (L.1 (2 * k + 1) (by omega)).2.2
    have hg : g ≤ s + (2 * k + 1) * g := by
      rw [tl_ps1]
      omega
    have key := fun (r : Nat) (hr : r = if 2 * k + 1 + 1 = 2 * h then s + (2 * k + 1) * g - g else s + (2 * k + 1) * g + g) => hw _ (tl_oS (q := tl_ad') L hc hk hS hr)
    refine pk_le (2 * h) (2 * k + 1) (fun z => absurd z (by omega)) (fun _ => nm_r (tl_ip s (2 * k + 1) g) (pk_le (2 * h) (2 * k + 1 + 1) (fun hz => ?_) (fun hz => ?_) rfl (nI_1 (2 * k + 1))))
    · rw [pk_sub hg, nI_clamp (show s + (2 * k + 1) * g - g < 2 ^ 31 by omega)]
      exact ⟨pk_in (s + (2 * k + 1) * g - g) 256 (by omega), tl_u123 hg b1 (key _ (if_pos (by omega)).symm)⟩
    · have b2 := (L.1 (2 * k + 1 + 1) (by omega)).2.2
      rw [tl_ps1] at b2
      rw [nI_add, nI_clamp (show s + (2 * k + 1) * g + g < 2 ^ 31 by omega)]
      exact ⟨pk_in _ 256 b2, tl_u123 hg b1 (key _ (if_neg (by omega)).symm)⟩
theorem tl_unlift {post : St2 → Prop} {b p : Int32} {a1 a2 a3 a4 a5 a6 a7 a8 a9 a10 a11 a12 : Nat → Int32} {on : Nat → Bool} {ix : Nat → Nat} {od la ev fi : Nat → Bool} {s g h : Nat} {c0 : Nat → Int32} (L : tl_Ln on ix od la ev fi s g (2 * h)) (hh : h ≤ 4) (hc : ∀ j, on j = true → a7 j = c0 j)
    (hp : post (b, p, a1, a2, a3, a4, a5, a6, tl_sel on (tl_Op tl_ad' od la g (tl_Ep tl_su' ev fi g c0)) a7, a8, a9, a10, a11, a12)) : wpX_unlift post (b, p, a1, a2, a3, a4, a5, a6, a7, a8, a9, a10, a11, a12) (nI s) (nI g) (nI (2 * h)) := by
  unfold wpX_unlift
  dsimp only
  refine pk_loop (fun n k S => wX_unlift_3 post (nI s) (nI g) (nI (2 * h)) b p n (nI (2 * k)) a1 a2 a3 a4 a5 a6 S a8 a9 a10 a11 a12) (fun k S => S = tl_mx on ix (2 * k) (tl_Ep tl_su' ev fi g c0) a7) h 0 a7 (by omega) (tl_mx0 _ _ _ _).symm ?_ ?_
  · intro n S hS
    subst hS
    refine pk_le (2 * h) (2 * h) (fun _ => tl_unlift80 (c0 := tl_Ep tl_su' ev fi g c0) L hh (fun j hj => tl_mx_in hj (L.2.1 j hj).1) ?_) (fun z => absurd z (by omega))
    rw [tl_mx_all L]
    exact hp
  · intro n k S hk hS hw
    have b1 := (L.1 (2 * k + 1) (by omega)).2.2
    rw [tl_ps1] at b1
    have key := fun (r : Nat) (hr : r = if k = 0 then s + 2 * k * g + g else s + 2 * k * g - g) => hw _ (tl_eS (q := tl_su') L hc hk hS hr)
    refine pk_le (2 * h) (2 * k) (fun z => absurd z (by omega)) (fun _ => nm_r (tl_ip s (2 * k) g) (pk_le (2 * k) 0 (fun hz => ?_) (fun hz => ?_)))
    · rw [nI_add, nI_clamp (show s + 2 * k * g + g < 2 ^ 31 by omega)]
      exact ⟨pk_in _ 256 b1, tl_u43 b1 (key _ (if_pos (by omega)).symm)⟩
    · have hg : g ≤ s + 2 * k * g := by
        have := tl_ps1 s g (2 * k - 1)
        rw [show 2 * k - 1 + 1 = 2 * k by omega] at this
        omega
      rw [pk_sub hg, nI_clamp (show s + 2 * k * g - g < 2 ^ 31 by omega)]
      exact ⟨pk_in (s + 2 * k * g - g) 256 (by omega), tl_u43 b1 (key _ (if_neg (by omega)).symm)⟩
end
section
/-! the four stages of a frame, each over all its lines; a pass undoes the other; bounds -/
def tl_rg (f : Nat) (li : Nat → Nat) (r : Nat) (x c : Nat → Int32) : Nat → Int32 := fun j => if j / 64 = f ∧ li j < r then x j else c j
def tl_fr (f : Nat) (x c : Nat → Int32) : Nat → Int32 := fun j => if j / 64 = f then x j else c j
theorem tl_rg0 (f : Nat) (li : Nat → Nat) (x c : Nat → Int32) : tl_rg f li 0 x c = c := by
  funext j
  exact if_neg (fun h => by omega)
theorem tl_rgN {f n : Nat} {li : Nat → Nat} {x c : Nat → Int32} (h : ∀ j, li j < n) : tl_rg f li n x c = tl_fr f x c := by
  funext j
  unfold tl_rg tl_fr
  by_cases e : j / 64 = f
  · rw [if_pos ⟨e, h j⟩, if_pos e]
  · rw [if_neg (fun z => e z.1), if_neg e]
theorem tl_fr_fr (f : Nat) (x y c : Nat → Int32) : tl_fr f x (tl_fr f y c) = tl_fr f x c := by
  funext j
  unfold tl_fr
  by_cases e : j / 64 = f
  · rw [if_pos e, if_pos e]
  · rw [if_neg e, if_neg e, if_neg e]
theorem tl_rgS {f r : Nat} {li : Nat → Nat} {on : Nat → Bool} {x c : Nat → Int32} (h1 : ∀ j, on j = true → j / 64 = f ∧ li j = r) (h2 : ∀ j, j / 64 = f → li j = r → ¬ on j = true → x j = c j) : tl_sel on x (tl_rg f li r x c) = tl_rg f li (r + 1) x c := by
  funext j
  unfold tl_sel tl_rg
  by_cases e : on j = true
  · have := h1 j e
    rw [if_pos e, if_pos ⟨this.1, by omega⟩]
  · rw [if_neg e]
    by_cases z : j / 64 = f
    · by_cases z1 : li j < r
      · rw [if_pos ⟨z, z1⟩, if_pos ⟨z, by omega⟩]
      · rw [if_neg (fun q => z1 q.2)]
        by_cases z2 : li j = r
        · rw [if_pos ⟨z, by omega⟩, h2 j z z2 e]
        · rw [if_neg (fun q => by omega)]
    · rw [if_neg (fun q => z q.1), if_neg (fun q => z q.1)]
theorem tl_E_inv {ev fi : Nat → Bool} {g : Nat} (H : ∀ j, ev j = true → ¬ ev (j + g) = true ∧ ¬ ev (if fi j = true then j + g else j - g) = true) (c : Nat → Int32) : tl_Ep tl_su' ev fi g (tl_Ep tl_ad' ev fi g c) = c := by
  funext j
  have n : ∀ i, ¬ ev i = true → tl_Ep tl_ad' ev fi g c i = c i := fun i h => if_neg h
  by_cases e : ev j = true
  · have y : tl_Ep tl_ad' ev fi g c j = tl_ad' (c j) (((c (if fi j = true then j + g else j - g) + c (j + g)) + 2) >>> ((2 : Int32) &&& 31)) := if_pos e
    have z : tl_Ep tl_su' ev fi g (tl_Ep tl_ad' ev fi g c) j = tl_su' (tl_Ep tl_ad' ev fi g c j) (((tl_Ep tl_ad' ev fi g c (if fi j = true then j + g else j - g) + tl_Ep tl_ad' ev fi g c (j + g)) + 2) >>> ((2 : Int32) &&& 31)) := if_pos e
    rw [z, y, n _ (H j e).1, n _ (H j e).2]
    exact Int32.add_sub_cancel _ _
  · have z : tl_Ep tl_su' ev fi g (tl_Ep tl_ad' ev fi g c) j = tl_Ep tl_ad' ev fi g c j := if_neg e
    rw [z, n j e]
theorem tl_O_inv {od la : Nat → Bool} {g : Nat} (H : ∀ j, od j = true → ¬ od (j - g) = true ∧ ¬ od (if la j = true then j - g else j + g) = true) (c : Nat → Int32) : tl_Op tl_ad' od la g (tl_Op tl_su' od la g c) = c := by
  funext j
  have n : ∀ i, ¬ od i = true → tl_Op tl_su' od la g c i = c i := fun i h => if_neg h
  by_cases e : od j = true
  · have y : tl_Op tl_su' od la g c j = tl_su' (c j) ((c (j - g) + c (if la j = true then j - g else j + g)) >>> ((1 : Int32) &&& 31)) := if_pos e
    have z : tl_Op tl_ad' od la g (tl_Op tl_su' od la g c) j = tl_ad' (tl_Op tl_su' od la g c j) ((tl_Op tl_su' od la g c (j - g) + tl_Op tl_su' od la g c (if la j = true then j - g else j + g)) >>> ((1 : Int32) &&& 31)) := if_pos e
    rw [z, y, n _ (H j e).1, n _ (H j e).2]
    exact Int32.sub_add_cancel _ _
  · have z : tl_Op tl_ad' od la g (tl_Op tl_su' od la g c) j = tl_Op tl_su' od la g c j := if_neg e
    rw [z, n j e]
theorem tl_st_B {od la ev fi : Nat → Bool} {g : Nat} {c : Nat → Int32} {M : Int} (H : ∀ j, ev j = true → ¬ od j = true) (h : ∀ j, tl_B M (c j)) (h0 : 0 ≤ M) (hM : M ≤ 20000) : ∀ j, tl_B (2 * M) (tl_Ep tl_ad' ev fi g (tl_Op tl_su' od la g c) j) := by
  have o : ∀ j, tl_B (2 * M) (tl_Op tl_su' od la g c j) := by
    intro j
    unfold tl_Op
    split
    · exact tl_Bs (h _) (tl_Bh (h _) (h _) (by omega)) (by omega)
    · exact tl_Bw (h _) (by omega)
  intro j
  by_cases e : ev j = true
  · have z : tl_Ep tl_ad' ev fi g (tl_Op tl_su' od la g c) j = tl_ad' (tl_Op tl_su' od la g c j) (((tl_Op tl_su' od la g c (if fi j = true then j + g else j - g) + tl_Op tl_su' od la g c (j + g)) + 2) >>> ((2 : Int32) &&& 31)) := if_pos e
    have z2 : tl_Op tl_su' od la g c j = c j := if_neg (H j e)
    rw [z, z2]
    exact tl_Ba (h _) (tl_Bq (o _) (o _) h0 hM) (by omega)
  · have z : tl_Ep tl_ad' ev fi g (tl_Op tl_su' od la g c) j = tl_Op tl_su' od la g c j := if_neg e
    rw [z]
    exact o j
def tl_od1 : Nat → Bool := fun j => decide (j % 2 = 1)
def tl_la1 : Nat → Bool := fun j => decide (j % 8 = 7)
def tl_ev1 : Nat → Bool := fun j => decide (j % 2 = 0)
def tl_fi1 : Nat → Bool := fun j => decide (j % 8 = 0)
def tl_on1 (f r : Nat) : Nat → Bool := fun j => decide (j / 8 = 8 * f + r)
def tl_x1 : Nat → Nat := fun j => j % 8
def tl_li1 : Nat → Nat := fun j => j / 8 % 8
def tl_T1 (c : Nat → Int32) : Nat → Int32 := tl_Ep tl_ad' tl_ev1 tl_fi1 1 (tl_Op tl_su' tl_od1 tl_la1 1 c)
def tl_U1 (c : Nat → Int32) : Nat → Int32 := tl_Op tl_ad' tl_od1 tl_la1 1 (tl_Ep tl_su' tl_ev1 tl_fi1 1 c)
theorem tl_Ln1 {f r : Nat} (hf : f ≤ 3) (hr : r < 8) : tl_Ln (tl_on1 f r) tl_x1 tl_od1 tl_la1 tl_ev1 tl_fi1 (64 * f + 8 * r) 1 (2 * 4) := by
  unfold tl_Ln tl_on1 tl_x1 tl_od1 tl_la1 tl_ev1 tl_fi1
  simp only [decide_eq_true_eq]
  exact ⟨fun i hi => by omega, fun j hj => by omega, fun j hj => ⟨by omega, by omega, by omega, by first | trivial | exact Iff.rfl | omega⟩⟩
theorem tl_UT1 (c : Nat → Int32) : tl_U1 (tl_T1 c) = c := by
  unfold tl_U1 tl_T1
  rw [tl_E_inv ?_, tl_O_inv ?_]
  · intro j hj
    unfold tl_od1 tl_la1 at *
    simp only [decide_eq_true_eq] at *
    refine ⟨by omega, ?_⟩
    split <;> omega
  · intro j hj
    unfold tl_ev1 tl_fi1 at *
    simp only [decide_eq_true_eq] at *
    refine ⟨by omega, ?_⟩
    split <;> omega
theorem tl_TB1 {c : Nat → Int32} {M : Int} (h : ∀ j, tl_B M (c j)) (h0 : 0 ≤ M) (hM : M ≤ 20000) : ∀ j, tl_B (2 * M) (tl_T1 c j) := by
  refine tl_st_B ?_ h h0 hM
  intro j
  unfold tl_ev1 tl_od1
  simp only [decide_eq_true_eq]
  omega
theorem tl_an1 {post : St2 → Prop} {b p : Int32} {a1 a2 a3 a4 a5 a6 a7 a8 a9 a10 a11 a12 : Nat → Int32} {f : Nat} (hf : f ≤ 3) {c0 : Nat → Int32} (hc : ∀ j, j / 64 = f → a7 j = c0 j) (hp : ∃ fu, wX_analyse_29 post (nI (64 * f)) fu 0 b p a1 a2 a3 a4 a5 a6 (tl_fr f (tl_T1 c0) a7) a8 a9 a10 a11 a12) : ∃ fu, wX_analyse_2 post (nI (64 * f)) fu 0 b p a1 a2 a3 a4 a5 a6 a7 a8 a9 a10 a11 a12 := by
  refine pk_loop (fun n r S => wX_analyse_2 post (nI (64 * f)) n (nI r) b p a1 a2 a3 a4 a5 a6 S a8 a9 a10 a11 a12) (fun r S => S = tl_rg f tl_li1 r (tl_T1 c0) a7) 8 0 a7 (by omega) (tl_rg0 _ _ _ _).symm ?_ ?_
  · intro n S hS
    rw [tl_rgN (fun j => by unfold tl_li1; omega)] at hS
    subst hS
    exact pk_le 8 8 (fun _ => hp) (fun z => absurd z (by omega))
  · intro n r S hr hS hw
    refine pk_le 8 r (fun z => absurd z (by omega)) (fun _ => ?_)
    rw [show nI (64 * f) + (8 * nI r) = nI (64 * f + 8 * r) by rw [tl_m8, nI_add]]
    have hon : ∀ j, tl_on1 f r j = true → j / 64 = f ∧ tl_li1 j = r := by
      intro j
      unfold tl_on1 tl_li1
      simp only [decide_eq_true_eq]
      omega
    refine tl_lift (h := 4) (g := 1) (c0 := c0) (tl_Ln1 hf hr) (by omega) ?_ (nm_r (nI_1 r) (hw _ ?_))
    · intro j hj
      obtain ⟨h1, h2⟩ := hon j hj
      rw [hS]
      exact (if_neg (fun z => by omega)).trans (hc j h1)
    · rw [hS]
      refine tl_rgS hon (fun j hj hl ho => ?_)
      unfold tl_Ep tl_Op
      simp only [tl_ev1, tl_od1, tl_on1, tl_li1, decide_eq_true_eq] at *
      rw [if_neg (by omega), if_neg (by omega)]
      exact (hc j hj).symm
theorem tl_sy1 {post : St2 → Prop} {b p : Int32} {a1 a2 a3 a4 a5 a6 a7 a8 a9 a10 a11 a12 : Nat → Int32} {f : Nat} (hf : f ≤ 3) {c0 : Nat → Int32} (hc : ∀ j, j / 64 = f → a7 j = c0 j) (hp : post (b, p, a1, a2, a3, a4, a5, a6, tl_fr f (tl_U1 c0) a7, a8, a9, a10, a11, a12)) : ∃ fu, wX_synthesise_77 post (nI (64 * f)) fu 0 b p a1 a2 a3 a4 a5 a6 a7 a8 a9 a10 a11 a12 := by
  refine pk_loop (fun n r S => wX_synthesise_77 post (nI (64 * f)) n (nI r) b p a1 a2 a3 a4 a5 a6 S a8 a9 a10 a11 a12) (fun r S => S = tl_rg f tl_li1 r (tl_U1 c0) a7) 8 0 a7 (by omega) (tl_rg0 _ _ _ _).symm ?_ ?_
  · intro n S hS
    rw [tl_rgN (fun j => by unfold tl_li1; omega)] at hS
    subst hS
    exact pk_le 8 8 (fun _ => hp) (fun z => absurd z (by omega))
  · intro n r S hr hS hw
    refine pk_le 8 r (fun z => absurd z (by omega)) (fun _ => ?_)
    rw [show nI (64 * f) + (8 * nI r) = nI (64 * f + 8 * r) by rw [tl_m8, nI_add]]
    have hon : ∀ j, tl_on1 f r j = true → j / 64 = f ∧ tl_li1 j = r := by
      intro j
      unfold tl_on1 tl_li1
      simp only [decide_eq_true_eq]
      omega
    refine tl_unlift (h := 4) (g := 1) (c0 := c0) (tl_Ln1 hf hr) (by omega) ?_ (nm_r (nI_1 r) (hw _ ?_))
    · intro j hj
      obtain ⟨h1, h2⟩ := hon j hj
      rw [hS]
      exact (if_neg (fun z => by omega)).trans (hc j h1)
    · rw [hS]
      refine tl_rgS hon (fun j hj hl ho => ?_)
      unfold tl_Ep tl_Op
      simp only [tl_ev1, tl_od1, tl_on1, tl_li1, decide_eq_true_eq] at *
      rw [if_neg (by omega), if_neg (by omega)]
      exact (hc j hj).symm
def tl_od2 : Nat → Bool := fun j => decide (j / 8 % 2 = 1)
def tl_la2 : Nat → Bool := fun j => decide (j / 8 % 8 = 7)
def tl_ev2 : Nat → Bool := fun j => decide (j / 8 % 2 = 0)
def tl_fi2 : Nat → Bool := fun j => decide (j / 8 % 8 = 0)
def tl_on2 (f r : Nat) : Nat → Bool := fun j => decide (j / 64 = f ∧ j % 8 = r)
def tl_x2 : Nat → Nat := fun j => j / 8 % 8
def tl_li2 : Nat → Nat := fun j => j % 8
def tl_T2 (c : Nat → Int32) : Nat → Int32 := tl_Ep tl_ad' tl_ev2 tl_fi2 8 (tl_Op tl_su' tl_od2 tl_la2 8 c)
def tl_U2 (c : Nat → Int32) : Nat → Int32 := tl_Op tl_ad' tl_od2 tl_la2 8 (tl_Ep tl_su' tl_ev2 tl_fi2 8 c)
theorem tl_Ln2 {f r : Nat} (hf : f ≤ 3) (hr : r < 8) : tl_Ln (tl_on2 f r) tl_x2 tl_od2 tl_la2 tl_ev2 tl_fi2 (64 * f + r) 8 (2 * 4) := by
  unfold tl_Ln tl_on2 tl_x2 tl_od2 tl_la2 tl_ev2 tl_fi2
  simp only [decide_eq_true_eq]
  exact ⟨fun i hi => by omega, fun j hj => by omega, fun j hj => ⟨by omega, by omega, by omega, by first | trivial | exact Iff.rfl | omega⟩⟩
theorem tl_UT2 (c : Nat → Int32) : tl_U2 (tl_T2 c) = c := by
  unfold tl_U2 tl_T2
  rw [tl_E_inv ?_, tl_O_inv ?_]
  · intro j hj
    unfold tl_od2 tl_la2 at *
    simp only [decide_eq_true_eq] at *
    refine ⟨by omega, ?_⟩
    split <;> omega
  · intro j hj
    unfold tl_ev2 tl_fi2 at *
    simp only [decide_eq_true_eq] at *
    refine ⟨by omega, ?_⟩
    split <;> omega
theorem tl_TB2 {c : Nat → Int32} {M : Int} (h : ∀ j, tl_B M (c j)) (h0 : 0 ≤ M) (hM : M ≤ 20000) : ∀ j, tl_B (2 * M) (tl_T2 c j) := by
  refine tl_st_B ?_ h h0 hM
  intro j
  unfold tl_ev2 tl_od2
  simp only [decide_eq_true_eq]
  omega
theorem tl_an2 {post : St2 → Prop} {b p : Int32} {a1 a2 a3 a4 a5 a6 a7 a8 a9 a10 a11 a12 : Nat → Int32} {f : Nat} (hf : f ≤ 3) {c0 : Nat → Int32} (hc : ∀ j, j / 64 = f → a7 j = c0 j) (hp : ∃ fu, wX_analyse_54 post (nI (64 * f)) fu 0 b p a1 a2 a3 a4 a5 a6 (tl_fr f (tl_T2 c0) a7) a8 a9 a10 a11 a12) : ∃ fu, wX_analyse_29 post (nI (64 * f)) fu 0 b p a1 a2 a3 a4 a5 a6 a7 a8 a9 a10 a11 a12 := by
  refine pk_loop (fun n r S => wX_analyse_29 post (nI (64 * f)) n (nI r) b p a1 a2 a3 a4 a5 a6 S a8 a9 a10 a11 a12) (fun r S => S = tl_rg f tl_li2 r (tl_T2 c0) a7) 8 0 a7 (by omega) (tl_rg0 _ _ _ _).symm ?_ ?_
  · intro n S hS
    rw [tl_rgN (fun j => by unfold tl_li2; omega)] at hS
    subst hS
    exact pk_le 8 8 (fun _ => hp) (fun z => absurd z (by omega))
  · intro n r S hr hS hw
    refine pk_le 8 r (fun z => absurd z (by omega)) (fun _ => ?_)
    rw [show nI (64 * f) + nI r = nI (64 * f + r) by rw [nI_add]]
    have hon : ∀ j, tl_on2 f r j = true → j / 64 = f ∧ tl_li2 j = r := by
      intro j
      unfold tl_on2 tl_li2
      simp only [decide_eq_true_eq]
      omega
    refine tl_lift (h := 4) (g := 8) (c0 := c0) (tl_Ln2 hf hr) (by omega) ?_ (nm_r (nI_1 r) (hw _ ?_))
    · intro j hj
      obtain ⟨h1, h2⟩ := hon j hj
      rw [hS]
      exact (if_neg (fun z => by omega)).trans (hc j h1)
    · rw [hS]
      refine tl_rgS hon (fun j hj hl ho => ?_)
      unfold tl_Ep tl_Op
      simp only [tl_ev2, tl_od2, tl_on2, tl_li2, decide_eq_true_eq] at *
      rw [if_neg (by omega), if_neg (by omega)]
      exact (hc j hj).symm
theorem tl_sy2 {post : St2 → Prop} {b p : Int32} {a1 a2 a3 a4 a5 a6 a7 a8 a9 a10 a11 a12 : Nat → Int32} {f : Nat} (hf : f ≤ 3) {c0 : Nat → Int32} (hc : ∀ j, j / 64 = f → a7 j = c0 j) (hp : ∃ fu, wX_synthesise_77 post (nI (64 * f)) fu 0 b p a1 a2 a3 a4 a5 a6 (tl_fr f (tl_U2 c0) a7) a8 a9 a10 a11 a12) : ∃ fu, wX_synthesise_52 post (nI (64 * f)) fu 0 b p a1 a2 a3 a4 a5 a6 a7 a8 a9 a10 a11 a12 := by
  refine pk_loop (fun n r S => wX_synthesise_52 post (nI (64 * f)) n (nI r) b p a1 a2 a3 a4 a5 a6 S a8 a9 a10 a11 a12) (fun r S => S = tl_rg f tl_li2 r (tl_U2 c0) a7) 8 0 a7 (by omega) (tl_rg0 _ _ _ _).symm ?_ ?_
  · intro n S hS
    rw [tl_rgN (fun j => by unfold tl_li2; omega)] at hS
    subst hS
    exact pk_le 8 8 (fun _ => hp) (fun z => absurd z (by omega))
  · intro n r S hr hS hw
    refine pk_le 8 r (fun z => absurd z (by omega)) (fun _ => ?_)
    rw [show nI (64 * f) + nI r = nI (64 * f + r) by rw [nI_add]]
    have hon : ∀ j, tl_on2 f r j = true → j / 64 = f ∧ tl_li2 j = r := by
      intro j
      unfold tl_on2 tl_li2
      simp only [decide_eq_true_eq]
      omega
    refine tl_unlift (h := 4) (g := 8) (c0 := c0) (tl_Ln2 hf hr) (by omega) ?_ (nm_r (nI_1 r) (hw _ ?_))
    · intro j hj
      obtain ⟨h1, h2⟩ := hon j hj
      rw [hS]
      exact (if_neg (fun z => by omega)).trans (hc j h1)
    · rw [hS]
      refine tl_rgS hon (fun j hj hl ho => ?_)
      unfold tl_Ep tl_Op
      simp only [tl_ev2, tl_od2, tl_on2, tl_li2, decide_eq_true_eq] at *
      rw [if_neg (by omega), if_neg (by omega)]
      exact (hc j hj).symm
def tl_od3 : Nat → Bool := fun j => decide (j / 8 % 2 = 0 ∧ j % 4 = 2)
def tl_la3 : Nat → Bool := fun j => decide (j % 8 = 6)
def tl_ev3 : Nat → Bool := fun j => decide (j / 8 % 2 = 0 ∧ j % 4 = 0)
def tl_fi3 : Nat → Bool := fun j => decide (j % 8 = 0)
def tl_on3 (f r : Nat) : Nat → Bool := fun j => decide (j / 8 = 8 * f + 2 * r ∧ j % 2 = 0)
def tl_x3 : Nat → Nat := fun j => j % 8 / 2
def tl_li3 : Nat → Nat := fun j => j / 16 % 4
def tl_T3 (c : Nat → Int32) : Nat → Int32 := tl_Ep tl_ad' tl_ev3 tl_fi3 2 (tl_Op tl_su' tl_od3 tl_la3 2 c)
def tl_U3 (c : Nat → Int32) : Nat → Int32 := tl_Op tl_ad' tl_od3 tl_la3 2 (tl_Ep tl_su' tl_ev3 tl_fi3 2 c)
theorem tl_Ln3 {f r : Nat} (hf : f ≤ 3) (hr : r < 4) : tl_Ln (tl_on3 f r) tl_x3 tl_od3 tl_la3 tl_ev3 tl_fi3 (64 * f + 16 * r) 2 (2 * 2) := by
  unfold tl_Ln tl_on3 tl_x3 tl_od3 tl_la3 tl_ev3 tl_fi3
  simp only [decide_eq_true_eq]
  exact ⟨fun i hi => by omega, fun j hj => by omega, fun j hj => ⟨by omega, by omega, by omega, by first | trivial | exact Iff.rfl | omega⟩⟩
theorem tl_UT3 (c : Nat → Int32) : tl_U3 (tl_T3 c) = c := by
  unfold tl_U3 tl_T3
  rw [tl_E_inv ?_, tl_O_inv ?_]
  · intro j hj
    unfold tl_od3 tl_la3 at *
    simp only [decide_eq_true_eq] at *
    refine ⟨by omega, ?_⟩
    split <;> omega
  · intro j hj
    unfold tl_ev3 tl_fi3 at *
    simp only [decide_eq_true_eq] at *
    refine ⟨by omega, ?_⟩
    split <;> omega
theorem tl_TB3 {c : Nat → Int32} {M : Int} (h : ∀ j, tl_B M (c j)) (h0 : 0 ≤ M) (hM : M ≤ 20000) : ∀ j, tl_B (2 * M) (tl_T3 c j) := by
  refine tl_st_B ?_ h h0 hM
  intro j
  unfold tl_ev3 tl_od3
  simp only [decide_eq_true_eq]
  omega
theorem tl_an3 {post : St2 → Prop} {b p : Int32} {a1 a2 a3 a4 a5 a6 a7 a8 a9 a10 a11 a12 : Nat → Int32} {f : Nat} (hf : f ≤ 3) {c0 : Nat → Int32} (hc : ∀ j, j / 64 = f → a7 j = c0 j) (hp : ∃ fu, wX_analyse_79 post (nI (64 * f)) fu 0 b p a1 a2 a3 a4 a5 a6 (tl_fr f (tl_T3 c0) a7) a8 a9 a10 a11 a12) : ∃ fu, wX_analyse_54 post (nI (64 * f)) fu 0 b p a1 a2 a3 a4 a5 a6 a7 a8 a9 a10 a11 a12 := by
  refine pk_loop (fun n r S => wX_analyse_54 post (nI (64 * f)) n (nI r) b p a1 a2 a3 a4 a5 a6 S a8 a9 a10 a11 a12) (fun r S => S = tl_rg f tl_li3 r (tl_T3 c0) a7) 4 0 a7 (by omega) (tl_rg0 _ _ _ _).symm ?_ ?_
  · intro n S hS
    rw [tl_rgN (fun j => by unfold tl_li3; omega)] at hS
    subst hS
    exact pk_le 4 4 (fun _ => hp) (fun z => absurd z (by omega))
  · intro n r S hr hS hw
    refine pk_le 4 r (fun z => absurd z (by omega)) (fun _ => ?_)
    rw [show nI (64 * f) + (16 * nI r) = nI (64 * f + 16 * r) by rw [tl_m16, nI_add]]
    have hon : ∀ j, tl_on3 f r j = true → j / 64 = f ∧ tl_li3 j = r := by
      intro j
      unfold tl_on3 tl_li3
      simp only [decide_eq_true_eq]
      omega
    refine tl_lift (h := 2) (g := 2) (c0 := c0) (tl_Ln3 hf hr) (by omega) ?_ (nm_r (nI_1 r) (hw _ ?_))
    · intro j hj
      obtain ⟨h1, h2⟩ := hon j hj
      rw [hS]
      exact (if_neg (fun z => by omega)).trans (hc j h1)
    · rw [hS]
      refine tl_rgS hon (fun j hj hl ho => ?_)
      unfold tl_Ep tl_Op
      simp only [tl_ev3, tl_od3, tl_on3, tl_li3, decide_eq_true_eq] at *
      rw [if_neg (by omega), if_neg (by omega)]
      exact (hc j hj).symm
theorem tl_sy3 {post : St2 → Prop} {b p : Int32} {a1 a2 a3 a4 a5 a6 a7 a8 a9 a10 a11 a12 : Nat → Int32} {f : Nat} (hf : f ≤ 3) {c0 : Nat → Int32} (hc : ∀ j, j / 64 = f → a7 j = c0 j) (hp : ∃ fu, wX_synthesise_52 post (nI (64 * f)) fu 0 b p a1 a2 a3 a4 a5 a6 (tl_fr f (tl_U3 c0) a7) a8 a9 a10 a11 a12) : ∃ fu, wX_synthesise_27 post (nI (64 * f)) fu 0 b p a1 a2 a3 a4 a5 a6 a7 a8 a9 a10 a11 a12 := by
  refine pk_loop (fun n r S => wX_synthesise_27 post (nI (64 * f)) n (nI r) b p a1 a2 a3 a4 a5 a6 S a8 a9 a10 a11 a12) (fun r S => S = tl_rg f tl_li3 r (tl_U3 c0) a7) 4 0 a7 (by omega) (tl_rg0 _ _ _ _).symm ?_ ?_
  · intro n S hS
    rw [tl_rgN (fun j => by unfold tl_li3; omega)] at hS
    subst hS
    exact pk_le 4 4 (fun _ => hp) (fun z => absurd z (by omega))
  · intro n r S hr hS hw
    refine pk_le 4 r (fun z => absurd z (by omega)) (fun _ => ?_)
    rw [show nI (64 * f) + (16 * nI r) = nI (64 * f + 16 * r) by rw [tl_m16, nI_add]]
    have hon : ∀ j, tl_on3 f r j = true → j / 64 = f ∧ tl_li3 j = r := by
      intro j
      unfold tl_on3 tl_li3
      simp only [decide_eq_true_eq]
      omega
    refine tl_unlift (h := 2) (g := 2) (c0 := c0) (tl_Ln3 hf hr) (by omega) ?_ (nm_r (nI_1 r) (hw _ ?_))
    · intro j hj
      obtain ⟨h1, h2⟩ := hon j hj
      rw [hS]
      exact (if_neg (fun z => by omega)).trans (hc j h1)
    · rw [hS]
      refine tl_rgS hon (fun j hj hl ho => ?_)
      unfold tl_Ep tl_Op
      simp only [tl_ev3, tl_od3, tl_on3, tl_li3, decide_eq_true_eq] at *
      rw [if_neg (by omega), if_neg (by omega)]
      exact (hc j hj).symm
def tl_od4 : Nat → Bool := fun j => decide (j % 2 = 0 ∧ j / 8 % 4 = 2)
def tl_la4 : Nat → Bool := fun j => decide (j / 8 % 8 = 6)
def tl_ev4 : Nat → Bool := fun j => decide (j % 2 = 0 ∧ j / 8 % 4 = 0)
def tl_fi4 : Nat → Bool := fun j => decide (j / 8 % 8 = 0)
def tl_on4 (f r : Nat) : Nat → Bool := fun j => decide (j / 64 = f ∧ j % 8 = 2 * r ∧ j / 8 % 2 = 0)
def tl_x4 : Nat → Nat := fun j => j / 16 % 4
def tl_li4 : Nat → Nat := fun j => j % 8 / 2
def tl_T4 (c : Nat → Int32) : Nat → Int32 := tl_Ep tl_ad' tl_ev4 tl_fi4 16 (tl_Op tl_su' tl_od4 tl_la4 16 c)
def tl_U4 (c : Nat → Int32) : Nat → Int32 := tl_Op tl_ad' tl_od4 tl_la4 16 (tl_Ep tl_su' tl_ev4 tl_fi4 16 c)
theorem tl_Ln4 {f r : Nat} (hf : f ≤ 3) (hr : r < 4) : tl_Ln (tl_on4 f r) tl_x4 tl_od4 tl_la4 tl_ev4 tl_fi4 (64 * f + 2 * r) 16 (2 * 2) := by
  unfold tl_Ln tl_on4 tl_x4 tl_od4 tl_la4 tl_ev4 tl_fi4
  simp only [decide_eq_true_eq]
  exact ⟨fun i hi => by omega, fun j hj => by omega, fun j hj => ⟨by omega, by omega, by omega, by first | trivial | exact Iff.rfl | omega⟩⟩
theorem tl_UT4 (c : Nat → Int32) : tl_U4 (tl_T4 c) = c := by
  unfold tl_U4 tl_T4
  rw [tl_E_inv ?_, tl_O_inv ?_]
  · intro j hj
    unfold tl_od4 tl_la4 at *
    simp only [decide_eq_true_eq] at *
    refine ⟨by omega, ?_⟩
    split <;> omega
  · intro j hj
    unfold tl_ev4 tl_fi4 at *
    simp only [decide_eq_true_eq] at *
    refine ⟨by omega, ?_⟩
    split <;> omega
theorem tl_TB4 {c : Nat → Int32} {M : Int} (h : ∀ j, tl_B M (c j)) (h0 : 0 ≤ M) (hM : M ≤ 20000) : ∀ j, tl_B (2 * M) (tl_T4 c j) := by
  refine tl_st_B ?_ h h0 hM
  intro j
  unfold tl_ev4 tl_od4
  simp only [decide_eq_true_eq]
  omega
theorem tl_an4 {post : St2 → Prop} {b p : Int32} {a1 a2 a3 a4 a5 a6 a7 a8 a9 a10 a11 a12 : Nat → Int32} {f : Nat} (hf : f ≤ 3) {c0 : Nat → Int32} (hc : ∀ j, j / 64 = f → a7 j = c0 j) (hp : post (b, p, a1, a2, a3, a4, a5, a6, tl_fr f (tl_T4 c0) a7, a8, a9, a10, a11, a12)) : ∃ fu, wX_analyse_79 post (nI (64 * f)) fu 0 b p a1 a2 a3 a4 a5 a6 a7 a8 a9 a10 a11 a12 := by
  refine pk_loop (fun n r S => wX_analyse_79 post (nI (64 * f)) n (nI r) b p a1 a2 a3 a4 a5 a6 S a8 a9 a10 a11 a12) (fun r S => S = tl_rg f tl_li4 r (tl_T4 c0) a7) 4 0 a7 (by omega) (tl_rg0 _ _ _ _).symm ?_ ?_
  · intro n S hS
    rw [tl_rgN (fun j => by unfold tl_li4; omega)] at hS
    subst hS
    exact pk_le 4 4 (fun _ => hp) (fun z => absurd z (by omega))
  · intro n r S hr hS hw
    refine pk_le 4 r (fun z => absurd z (by omega)) (fun _ => ?_)
    rw [show nI (64 * f) + (2 * nI r) = nI (64 * f + 2 * r) by rw [tl_m2, nI_add]]
    have hon : ∀ j, tl_on4 f r j = true → j / 64 = f ∧ tl_li4 j = r := by
      intro j
      unfold tl_on4 tl_li4
      simp only [decide_eq_true_eq]
      omega
    refine tl_lift (h := 2) (g := 16) (c0 := c0) (tl_Ln4 hf hr) (by omega) ?_ (nm_r (nI_1 r) (hw _ ?_))
    · intro j hj
      obtain ⟨h1, h2⟩ := hon j hj
      rw [hS]
      exact (if_neg (fun z => by omega)).trans (hc j h1)
    · rw [hS]
      refine tl_rgS hon (fun j hj hl ho => ?_)
      unfold tl_Ep tl_Op
      simp only [tl_ev4, tl_od4, tl_on4, tl_li4, decide_eq_true_eq] at *
      rw [if_neg (by omega), if_neg (by omega)]
      exact (hc j hj).symm
theorem tl_sy4 {post : St2 → Prop} {b p : Int32} {a1 a2 a3 a4 a5 a6 a7 a8 a9 a10 a11 a12 : Nat → Int32} {f : Nat} (hf : f ≤ 3) {c0 : Nat → Int32} (hc : ∀ j, j / 64 = f → a7 j = c0 j) (hp : ∃ fu, wX_synthesise_27 post (nI (64 * f)) fu 0 b p a1 a2 a3 a4 a5 a6 (tl_fr f (tl_U4 c0) a7) a8 a9 a10 a11 a12) : ∃ fu, wX_synthesise_2 post (nI (64 * f)) fu 0 b p a1 a2 a3 a4 a5 a6 a7 a8 a9 a10 a11 a12 := by
  refine pk_loop (fun n r S => wX_synthesise_2 post (nI (64 * f)) n (nI r) b p a1 a2 a3 a4 a5 a6 S a8 a9 a10 a11 a12) (fun r S => S = tl_rg f tl_li4 r (tl_U4 c0) a7) 4 0 a7 (by omega) (tl_rg0 _ _ _ _).symm ?_ ?_
  · intro n S hS
    rw [tl_rgN (fun j => by unfold tl_li4; omega)] at hS
    subst hS
    exact pk_le 4 4 (fun _ => hp) (fun z => absurd z (by omega))
  · intro n r S hr hS hw
    refine pk_le 4 r (fun z => absurd z (by omega)) (fun _ => ?_)
    rw [show nI (64 * f) + (2 * nI r) = nI (64 * f + 2 * r) by rw [tl_m2, nI_add]]
    have hon : ∀ j, tl_on4 f r j = true → j / 64 = f ∧ tl_li4 j = r := by
      intro j
      unfold tl_on4 tl_li4
      simp only [decide_eq_true_eq]
      omega
    refine tl_unlift (h := 2) (g := 16) (c0 := c0) (tl_Ln4 hf hr) (by omega) ?_ (nm_r (nI_1 r) (hw _ ?_))
    · intro j hj
      obtain ⟨h1, h2⟩ := hon j hj
      rw [hS]
      exact (if_neg (fun z => by omega)).trans (hc j h1)
    · rw [hS]
      refine tl_rgS hon (fun j hj hl ho => ?_)
      unfold tl_Ep tl_Op
      simp only [tl_ev4, tl_od4, tl_on4, tl_li4, decide_eq_true_eq] at *
      rw [if_neg (by omega), if_neg (by omega)]
      exact (hc j hj).symm
def tl_TT (c : Nat → Int32) : Nat → Int32 := tl_T4 (tl_T3 (tl_T2 (tl_T1 c)))
def tl_UU (c : Nat → Int32) : Nat → Int32 := tl_U1 (tl_U2 (tl_U3 (tl_U4 c)))
theorem tl_UTT (c : Nat → Int32) : tl_UU (tl_TT c) = c := by
  unfold tl_UU tl_TT
  rw [tl_UT4, tl_UT3, tl_UT2, tl_UT1]
theorem tl_TTB {c : Nat → Int32} (h : ∀ j, tl_B 510 (c j)) : ∀ j, tl_B 8160 (tl_TT c j) := tl_TB4 (tl_TB3 (tl_TB2 (tl_TB1 h (by omega) (by omega)) (by omega) (by omega)) (by omega) (by omega)) (by omega) (by omega)
theorem tl_analyse {post : St2 → Prop} {b p : Int32} {a1 a2 a3 a4 a5 a6 a7 a8 a9 a10 a11 a12 : Nat → Int32} {f : Nat} (hf : f ≤ 3) {c0 : Nat → Int32} (hc : ∀ j, j / 64 = f → a7 j = c0 j) (hp : post (b, p, a1, a2, a3, a4, a5, a6, tl_fr f (tl_TT c0) a7, a8, a9, a10, a11, a12)) : wpX_analyse post (b, p, a1, a2, a3, a4, a5, a6, a7, a8, a9, a10, a11, a12) (nI (64 * f)) := by
  unfold wpX_analyse
  dsimp only
  refine tl_an1 hf hc (tl_an2 hf (c0 := tl_T1 c0) (fun j h => if_pos h) (tl_an3 hf (c0 := tl_T2 (tl_T1 c0)) (fun j h => if_pos h) (tl_an4 hf (c0 := tl_T3 (tl_T2 (tl_T1 c0))) (fun j h => if_pos h) ?_)))
  rw [tl_fr_fr, tl_fr_fr, tl_fr_fr]
  exact hp
theorem tl_synth {post : St2 → Prop} {b p : Int32} {a1 a2 a3 a4 a5 a6 a7 a8 a9 a10 a11 a12 : Nat → Int32} {f : Nat} (hf : f ≤ 3) {c0 : Nat → Int32} (hc : ∀ j, j / 64 = f → a7 j = c0 j) (hp : post (b, p, a1, a2, a3, a4, a5, a6, tl_fr f (tl_UU c0) a7, a8, a9, a10, a11, a12)) : wpX_synthesise post (b, p, a1, a2, a3, a4, a5, a6, a7, a8, a9, a10, a11, a12) (nI (64 * f)) := by
  unfold wpX_synthesise
  dsimp only
  refine tl_sy4 hf hc (tl_sy3 hf (c0 := tl_U4 c0) (fun j h => if_pos h) (tl_sy2 hf (c0 := tl_U3 (tl_U4 c0)) (fun j h => if_pos h) (tl_sy1 hf (c0 := tl_U2 (tl_U3 (tl_U4 c0))) (fun j h => if_pos h) ?_)))
  rw [tl_fr_fr, tl_fr_fr, tl_fr_fr]
  exact hp
end
section
/-! bits of an int (turned from the kit's BITS rows) -/
def tl_bt (x : Int32) (i : Nat) : Bool := x.toBitVec.getLsbD i
theorem tl_b_ext {x y : Int32} (h : ∀ i, i < 32 → tl_bt x i = tl_bt y i) : x = y := Int32.toBitVec_inj.mp (BitVec.eq_of_getLsbD_eq (fun i hi => h i hi))
theorem tl_b_or (x y : Int32) (i : Nat) : tl_bt (x ||| y) i = (tl_bt x i || tl_bt y i) := by unfold tl_bt; rw [Int32.toBitVec_or, BitVec.getLsbD_or]
theorem tl_b_and (x y : Int32) (i : Nat) : tl_bt (x &&& y) i = (tl_bt x i && tl_bt y i) := by unfold tl_bt; rw [Int32.toBitVec_and, BitVec.getLsbD_and]
theorem tl_b_0 (i : Nat) : tl_bt 0 i = false := BitVec.getLsbD_zero
theorem tl_s_l : ∀ n, n < 32 → ((nI n &&& 31).toBitVec.smod 32).toNat = n := by decide +kernel
theorem tl_s_u : ∀ n, n < 32 → (((nI n).toUInt32 &&& Int32.toUInt32 31).toBitVec % 32).toNat = n := by decide +kernel
theorem tl_b_shl (n : Nat) (hn : n < 32) (x : Int32) {i : Nat} (hi : i < 32) : tl_bt (x <<< (nI n &&& 31)) i = (decide (n ≤ i) && tl_bt x (i - n)) := by
  unfold tl_bt
  rw [Int32.toBitVec_shiftLeft]
  show (x.toBitVec <<< ((nI n &&& 31).toBitVec.smod 32).toNat).getLsbD i = _
  rw [tl_s_l n hn, BitVec.getLsbD_shiftLeft]
  rcases Nat.lt_or_ge i n with h | h
  · simp [h, Nat.not_le.mpr h]
  · simp [hi, h, Nat.not_lt.mpr h]
theorem tl_b_ushr (n : Nat) (hn : n < 32) (x : Int32) (i : Nat) : tl_bt ((x.toUInt32 >>> ((nI n).toUInt32 &&& Int32.toUInt32 31)).toInt32) i = tl_bt x (n + i) := by
  show (x.toUInt32 >>> ((nI n).toUInt32 &&& Int32.toUInt32 31)).toBitVec.getLsbD i = x.toUInt32.toBitVec.getLsbD (n + i)
  rw [UInt32.toBitVec_shiftRight]
  show (x.toUInt32.toBitVec >>> (((nI n).toUInt32 &&& Int32.toUInt32 31).toBitVec % 32).toNat).getLsbD i = _
  rw [tl_s_u n hn, BitVec.getLsbD_ushiftRight]
theorem tl_bt1 (t : Bool) {k : Nat} (hk : k < 32) : tl_bt (nI t.toNat) k = (decide (k = 0) && t) := by
  cases t
  · rw [Bool.and_false]
    exact tl_b_0 k
  · rw [Bool.and_true]
    exact (by decide +kernel : ∀ k, k < 32 → tl_bt (nI 1) k = decide (k = 0)) k hk
theorem tl_rb (x : Int32) {r : Nat} (hr : r < 32) : ((x.toUInt32 >>> ((nI r).toUInt32 &&& Int32.toUInt32 31)).toInt32) &&& 1 = nI (tl_bt x r).toNat := by
  apply tl_b_ext
  intro i hi
  rw [tl_b_and, tl_b_ushr r hr, tl_bt1 _ hi, show (1 : Int32) = nI (true).toNat from rfl, tl_bt1 true hi]
  by_cases h : i = 0
  · subst h
    rw [Nat.add_zero, decide_eq_true rfl, Bool.and_true, Bool.and_true, Bool.true_and]
  · rw [decide_eq_false h, Bool.and_true, Bool.and_false, Bool.false_and]
theorem tl_tb {v k : Nat} (hv : v < 2 ^ 31) (hk : k < 32) : (nI v >>> (nI k &&& 31)) &&& 1 = nI (v.testBit k).toNat := by
  have h : v / 2 ^ k ≤ v := Nat.div_le_self _ _
  rw [pk_shrN hv (nI k &&& 31) k (tl_s_l k hk), tl_a1 (by omega), Nat.testBit_eq_decide_div_mod_eq]
  rcases Nat.mod_two_eq_zero_or_one (v / 2 ^ k) with e | e
  · rw [e]; rfl
  · rw [e]; rfl
/-! the written stream: the bits so far, nothing behind them -/
def tl_Wr (st : Nat → Int32) (w : List Bool) : Prop := ∀ q, q < 5120 → tl_bt (st (q / 32)) (q % 32) = w.getD q false
def tl_bits (v : Nat) : Nat → List Bool
  | 0 => []
  | k + 1 => v.testBit k :: tl_bits v k
theorem tl_bits_len (v k : Nat) : (tl_bits v k).length = k := by
  induction k with
  | zero => rfl
  | succ k ih => exact congrArg (· + 1) ih
theorem tl_bits1 (t : Bool) : tl_bits t.toNat 1 = [t] := by cases t <;> rfl
theorem tl_gD (w : List Bool) (t : Bool) (q : Nat) : (w ++ [t]).getD q false = if q = w.length then t else w.getD q false := by
  rw [List.getD_eq_getElem?_getD, List.getD_eq_getElem?_getD, List.getElem?_append]
  by_cases h : q = w.length
  · subst h
    rw [if_pos rfl, if_neg (by omega), Nat.sub_self]
    rfl
  · rw [if_neg h]
    by_cases h2 : q < w.length
    · rw [if_pos h2]
    · rw [if_neg h2, List.getElem?_eq_none (show w.length ≤ q by omega), List.getElem?_eq_none (show [t].length ≤ q - w.length by show 1 ≤ _; omega)]
theorem tl_gD_ge (w : List Bool) {q : Nat} (h : w.length ≤ q) : w.getD q false = false := by
  rw [List.getD_eq_getElem?_getD, List.getElem?_eq_none h]
  rfl
theorem tl_Wr_put {st : Nat → Int32} {w : List Bool} (h : tl_Wr st w) (t : Bool) (hl : w.length < 5120) : tl_Wr (upd st (w.length / 32) (st (w.length / 32) ||| (nI t.toNat <<< (nI (w.length % 32) &&& 31)))) (w ++ [t]) := by
  intro q hq
  rw [tl_gD]
  by_cases e : q / 32 = w.length / 32
  · rw [e, pk_us, tl_b_or, tl_b_shl _ (by omega) _ (by omega), tl_bt1 _ (by omega), ← e, h q hq]
    by_cases e2 : q = w.length
    · rw [if_pos e2, tl_gD_ge w (by omega), e2, decide_eq_true (Nat.le_refl _), decide_eq_true (Nat.sub_self _), Bool.true_and, Bool.true_and, Bool.false_or]
    · rw [if_neg e2]
      by_cases e3 : w.length % 32 ≤ q % 32
      · rw [decide_eq_false (show ¬ q % 32 - w.length % 32 = 0 by omega), Bool.false_and, Bool.and_false, Bool.or_false]
      · rw [decide_eq_false e3, Bool.false_and, Bool.or_false]
  · rw [pk_un e, h q hq, if_neg (fun z => e (by rw [z]))]
theorem tl_0add (n : Nat) : (0 : Int32) + nI n = nI n := by rw [show (0 : Int32) = nI 0 from rfl, nI_add, Nat.zero_add]
theorem tl_write {post : St2 → Prop} {a1 a2 a3 a4 a6 a7 a8 a9 a10 a11 a12 : Nat → Int32} {st : Nat → Int32} {w : List Bool} (hw : tl_Wr st w) {v len : Nat} (hv : v < 2 ^ 31) (hl : len ≤ 31) (hb : w.length + len ≤ 5120)
    (hp : ∀ st', tl_Wr st' (w ++ tl_bits v len) → post (0, nI (w ++ tl_bits v len).length, a1, a2, a3, a4, st', a6, a7, a8, a9, a10, a11, a12)) : wpX_write post (0, nI w.length, a1, a2, a3, a4, st, a6, a7, a8, a9, a10, a11, a12) (nI v) (nI len) := by
  unfold wpX_write
  dsimp only
  have key := pk_loopD (fun n e (s : List Bool × (Nat → Int32)) => wX_write_4 post (nI v) 0 n (nI e + (-1)) (nI s.1.length) a1 a2 a3 a4 s.2 a6 a7 a8 a9 a10 a11 a12)
    (fun e s => tl_Wr s.2 s.1 ∧ s.1 ++ tl_bits v e = w ++ tl_bits v len ∧ e ≤ len) ?_ ?_ len (w, st) ⟨hw, rfl, Nat.le_refl _⟩
  · refine nm_r (e' := nI len + (-1)) ?_ ⟨_, key⟩
    grind
  · rintro n ⟨w', st'⟩ ⟨h1, h2, h3⟩
    refine br_t (by decide) ?_
    rw [show w' = w ++ tl_bits v len from (List.append_nil w').symm.trans h2] at h1 ⊢
    exact hp st' h1
  · rintro n i ⟨w', st'⟩ ⟨h1, h2, h3⟩ hW
    have hlen : w'.length + (i + 1) = w.length + len := by
      have := congrArg List.length h2
      rw [List.length_append, List.length_append, tl_bits_len, tl_bits_len] at this
      exact this
    show wX_write_4 post (nI v) 0 (n + 1) (nI (i + 1) + (-1)) (nI w'.length) a1 a2 a3 a4 st' a6 a7 a8 a9 a10 a11 a12
    rw [pk_m1]
    have e0 := tl_0add (w'.length / 32)
    refine br_f (nI_pos (by omega)) (nm_r (tl_s5 (by omega)) (pk_le 160 (w'.length / 32) (fun z => absurd z (by omega)) (fun _ => ?_)))
    rw [e0, nI_clamp (show w'.length / 32 < 2 ^ 31 by omega), tl_a31 (show w'.length < 2 ^ 32 by omega), tl_tb hv (by omega)]
    refine ⟨pk_in (w'.length / 32) 320 (by omega), pk_in (w'.length / 32) 320 (by omega), nm_e ?_⟩
    unfold wX_write_62
    refine nm_r (e' := nI (w' ++ [v.testBit i]).length) (by rw [List.length_append]; exact nI_1 _) (nm_e (hW (w' ++ [v.testBit i], _) ⟨tl_Wr_put (w := w') (st := st') h1 _ (by omega), ?_, by omega⟩))
    show (w' ++ [v.testBit i]) ++ tl_bits v i = _
    rw [List.append_assoc]
    exact h2
theorem tl_write1 {post : St2 → Prop} {a1 a2 a3 a4 a6 a7 a8 a9 a10 a11 a12 : Nat → Int32} {st : Nat → Int32} {w : List Bool} (hw : tl_Wr st w) {t : Bool} (hb : w.length + 1 ≤ 5120)
    (hp : ∀ st', tl_Wr st' (w ++ [t]) → post (0, nI (w ++ [t]).length, a1, a2, a3, a4, st', a6, a7, a8, a9, a10, a11, a12)) : wpX_write post (0, nI w.length, a1, a2, a3, a4, st, a6, a7, a8, a9, a10, a11, a12) (nI t.toNat) 1 :=
  tl_write (len := 1) hw (by cases t <;> decide) (by omega) hb (by rw [tl_bits1]; exact hp)
/-! reading it -/
def tl_Rs (st : Nat → Int32) (q : Nat) (l : List Bool) : Prop := q + l.length ≤ 5120 ∧ ∀ i, i < l.length → tl_bt (st ((q + i) / 32)) ((q + i) % 32) = l.getD i false
theorem tl_Rs_app {st : Nat → Int32} {q : Nat} {l l' : List Bool} (h : tl_Rs st q (l ++ l')) : tl_Rs st q l ∧ tl_Rs st (q + l.length) l' := by
  obtain ⟨h1, h2⟩ := h
  rw [List.length_append] at h1 h2
  refine ⟨⟨by omega, fun i hi => ?_⟩, ⟨by omega, fun i hi => ?_⟩⟩
  · rw [h2 i (by omega), List.getD_eq_getElem?_getD, List.getD_eq_getElem?_getD, List.getElem?_append_left hi]
  · have := h2 (l.length + i) (by omega)
    rw [Nat.add_assoc, this, List.getD_eq_getElem?_getD, List.getD_eq_getElem?_getD, List.getElem?_append_right (by omega), Nat.add_sub_cancel_left]
theorem tl_Rs_W {st : Nat → Int32} {w : List Bool} (h : tl_Wr st w) (hl : w.length ≤ 5120) : tl_Rs st 0 w := ⟨by omega, fun i hi => by rw [Nat.zero_add]; exact h i (by omega)⟩
theorem tl_bits_at (v : Nat) : ∀ (len i : Nat), i < len → (tl_bits v len).getD i false = v.testBit (len - (i + 1)) := by
  intro len
  induction len with
  | zero => intro i hi; omega
  | succ k ih =>
    intro i hi
    cases i with
    | zero => rfl
    | succ i =>
      rw [show k + 1 - (i + 1 + 1) = k - (i + 1) by omega]
      exact ih i (by omega)
theorem tl_dig (v d : Nat) : 2 * (v / 2 ^ (d + 1)) + (v.testBit d).toNat = v / 2 ^ d := by
  rw [Nat.testBit_eq_decide_div_mod_eq, Nat.pow_succ, ← Nat.div_div_eq_div_mul]
  rcases Nat.mod_two_eq_zero_or_one (v / 2 ^ d) with e | e
  · rw [e]
    show 2 * _ + 0 = _
    omega
  · rw [e]
    show 2 * _ + 1 = _
    omega
theorem tl_read {post : Int32 → St2 → Prop} {a1 a2 a3 a4 a5 a6 a7 a8 a9 a10 a11 a12 : Nat → Int32} {q v len : Nat} (hv : v < 2 ^ len) (hl : len ≤ 15) (hR : tl_Rs a5 q (tl_bits v len)) (hp : post (nI v) (0, nI (q + len), a1, a2, a3, a4, a5, a6, a7, a8, a9, a10, a11, a12)) : wpX_read post (0, nI q, a1, a2, a3, a4, a5, a6, a7, a8, a9, a10, a11, a12) (nI len) := by
  unfold wpX_read
  dsimp only
  obtain ⟨hq, hR⟩ := hR
  rw [tl_bits_len] at hq hR
  have hv31 : v < 2 ^ 31 := Nat.lt_of_lt_of_le hv (Nat.pow_le_pow_right (by decide) (by omega))
  have key := pk_loop (fun n i (_ : Unit) => wX_read_4 post (nI len) 0 a1 a2 a3 a4 a5 a6 a7 a8 a9 a10 a11 a12 n (nI (v / 2 ^ (len - i))) (nI i) (nI (q + i))) (fun _ _ => True) len 0 () (by omega) trivial ?_ ?_
  · obtain ⟨n, hn⟩ := key
    have hn' : wX_read_4 post (nI len) 0 a1 a2 a3 a4 a5 a6 a7 a8 a9 a10 a11 a12 n (nI (v / 2 ^ (len - 0))) (nI 0) (nI (q + 0)) := hn
    rw [Nat.sub_zero, Nat.div_eq_of_lt hv] at hn'
    exact ⟨n, hn'⟩
  · intro n _ _
    show wX_read_4 post (nI len) 0 a1 a2 a3 a4 a5 a6 a7 a8 a9 a10 a11 a12 (n + 1) (nI (v / 2 ^ (len - len))) (nI len) (nI (q + len))
    rw [Nat.sub_self, Nat.pow_zero, Nat.div_one]
    exact pk_le len len (fun _ => hp) (fun z => absurd z (by omega))
  · intro n i _ hi _ hw
    have hw' : wX_read_4 post (nI len) 0 a1 a2 a3 a4 a5 a6 a7 a8 a9 a10 a11 a12 n (nI (v / 2 ^ (len - (i + 1)))) (nI (i + 1)) (nI (q + i + 1)) := hw () trivial
    have e0 := tl_0add ((q + i) / 32)
    refine pk_le len i (fun z => absurd z (by omega)) (fun _ => nm_r (tl_s5 (by omega)) (pk_le 160 ((q + i) / 32) (fun z => absurd z (by omega)) (fun _ => ?_)))
    rw [e0, nI_clamp (show (q + i) / 32 < 2 ^ 31 by omega), tl_a31 (show q + i < 2 ^ 32 by omega), tl_rb _ (show (q + i) % 32 < 32 by omega), hR i hi, tl_bits_at v len i hi]
    refine ⟨pk_in ((q + i) / 32) 320 (by omega), ?_⟩
    unfold wX_read_51
    refine nm_r ?_ (nm_r (nI_1 (q + i)) (nm_r (nI_1 i) hw'))
    rw [tl_m2, nI_add, show len - i = len - (i + 1) + 1 by omega, tl_dig]
theorem tl_read1 {post : Int32 → St2 → Prop} {a1 a2 a3 a4 a5 a6 a7 a8 a9 a10 a11 a12 : Nat → Int32} {q : Nat} {t : Bool} (hR : tl_Rs a5 q [t]) (hp : post (nI t.toNat) (0, nI (q + 1), a1, a2, a3, a4, a5, a6, a7, a8, a9, a10, a11, a12)) : wpX_read post (0, nI q, a1, a2, a3, a4, a5, a6, a7, a8, a9, a10, a11, a12) 1 :=
  tl_read (len := 1) (v := t.toNat) (by cases t <;> decide) (by omega) (by rw [tl_bits1]; exact hR) hp
theorem tl_read_2 {post : Int32 → St2 → Prop} {a1 a2 a3 a4 a5 a6 a7 a8 a9 a10 a11 a12 : Nat → Int32} {q v len : Nat} (hv : v < 2 ^ len) (hl : len ≤ 15) (hR : tl_Rs a5 q (tl_bits v len)) (hp : post (nI v) (0, nI (q + len), a1, a2, a3, a4, a5, a6, a7, a8, a9, a10, a11, a12)) : wpX_read_2 post (0, nI q, a1, a2, a3, a4, a5, a6, a7, a8, a9, a10, a11, a12) (nI len) := by
  unfold wpX_read_2
  dsimp only
  obtain ⟨hq, hR⟩ := hR
  rw [tl_bits_len] at hq hR
  have hv31 : v < 2 ^ 31 := Nat.lt_of_lt_of_le hv (Nat.pow_le_pow_right (by decide) (by omega))
  have key := pk_loop (fun n i (_ : Unit) => wX_read_2_4 post (nI len) 0 a1 a2 a3 a4 a5 a6 a7 a8 a9 a10 a11 a12 n (nI (v / 2 ^ (len - i))) (nI i) (nI (q + i))) (fun _ _ => True) len 0 () (by omega) trivial ?_ ?_
  · obtain ⟨n, hn⟩ := key
    have hn' : wX_read_2_4 post (nI len) 0 a1 a2 a3 a4 a5 a6 a7 a8 a9 a10 a11 a12 n (nI (v / 2 ^ (len - 0))) (nI 0) (nI (q + 0)) := hn
    rw [Nat.sub_zero, Nat.div_eq_of_lt hv] at hn'
    exact ⟨n, hn'⟩
  · intro n _ _
    show wX_read_2_4 post (nI len) 0 a1 a2 a3 a4 a5 a6 a7 a8 a9 a10 a11 a12 (n + 1) (nI (v / 2 ^ (len - len))) (nI len) (nI (q + len))
    rw [Nat.sub_self, Nat.pow_zero, Nat.div_one]
    exact pk_le len len (fun _ => hp) (fun z => absurd z (by omega))
  · intro n i _ hi _ hw
    have hw' : wX_read_2_4 post (nI len) 0 a1 a2 a3 a4 a5 a6 a7 a8 a9 a10 a11 a12 n (nI (v / 2 ^ (len - (i + 1)))) (nI (i + 1)) (nI (q + i + 1)) := hw () trivial
    have e0 := tl_0add ((q + i) / 32)
    refine pk_le len i (fun z => absurd z (by omega)) (fun _ => nm_r (tl_s5 (by omega)) (pk_le 160 ((q + i) / 32) (fun z => absurd z (by omega)) (fun _ => ?_)))
    rw [e0, nI_clamp (show (q + i) / 32 < 2 ^ 31 by omega), tl_a31 (show q + i < 2 ^ 32 by omega), tl_rb _ (show (q + i) % 32 < 32 by omega), hR i hi, tl_bits_at v len i hi]
    refine ⟨pk_in ((q + i) / 32) 320 (by omega), ?_⟩
    unfold wX_read_2_51
    refine nm_r ?_ (nm_r (nI_1 (q + i)) (nm_r (nI_1 i) hw'))
    rw [tl_m2, nI_add, show len - i = len - (i + 1) + 1 by omega, tl_dig]
theorem tl_read1_2 {post : Int32 → St2 → Prop} {a1 a2 a3 a4 a5 a6 a7 a8 a9 a10 a11 a12 : Nat → Int32} {q : Nat} {t : Bool} (hR : tl_Rs a5 q [t]) (hp : post (nI t.toNat) (0, nI (q + 1), a1, a2, a3, a4, a5, a6, a7, a8, a9, a10, a11, a12)) : wpX_read_2 post (0, nI q, a1, a2, a3, a4, a5, a6, a7, a8, a9, a10, a11, a12) 1 :=
  tl_read_2 (len := 1) (v := t.toNat) (by cases t <;> decide) (by omega) (by rw [tl_bits1]; exact hR) hp
theorem tl_read_3 {post : Int32 → St2 → Prop} {a1 a2 a3 a4 a5 a6 a7 a8 a9 a10 a11 a12 : Nat → Int32} {q v len : Nat} (hv : v < 2 ^ len) (hl : len ≤ 15) (hR : tl_Rs a5 q (tl_bits v len)) (hp : post (nI v) (0, nI (q + len), a1, a2, a3, a4, a5, a6, a7, a8, a9, a10, a11, a12)) : wpX_read_3 post (0, nI q, a1, a2, a3, a4, a5, a6, a7, a8, a9, a10, a11, a12) (nI len) := by
  unfold wpX_read_3
  dsimp only
  obtain ⟨hq, hR⟩ := hR
  rw [tl_bits_len] at hq hR
  have hv31 : v < 2 ^ 31 := Nat.lt_of_lt_of_le hv (Nat.pow_le_pow_right (by decide) (by omega))
  have key := pk_loop (fun n i (_ : Unit) => wX_read_3_4 post (nI len) 0 a1 a2 a3 a4 a5 a6 a7 a8 a9 a10 a11 a12 n (nI (v / 2 ^ (len - i))) (nI i) (nI (q + i))) (fun _ _ => True) len 0 () (by omega) trivial ?_ ?_
  · obtain ⟨n, hn⟩ := key
    have hn' : wX_read_3_4 post (nI len) 0 a1 a2 a3 a4 a5 a6 a7 a8 a9 a10 a11 a12 n (nI (v / 2 ^ (len - 0))) (nI 0) (nI (q + 0)) := hn
    rw [Nat.sub_zero, Nat.div_eq_of_lt hv] at hn'
    exact ⟨n, hn'⟩
  · intro n _ _
    show wX_read_3_4 post (nI len) 0 a1 a2 a3 a4 a5 a6 a7 a8 a9 a10 a11 a12 (n + 1) (nI (v / 2 ^ (len - len))) (nI len) (nI (q + len))
    rw [Nat.sub_self, Nat.pow_zero, Nat.div_one]
    exact pk_le len len (fun _ => hp) (fun z => absurd z (by omega))
  · intro n i _ hi _ hw
    have hw' : wX_read_3_4 post (nI len) 0 a1 a2 a3 a4 a5 a6 a7 a8 a9 a10 a11 a12 n (nI (v / 2 ^ (len - (i + 1)))) (nI (i + 1)) (nI (q + i + 1)) := hw () trivial
    have e0 := tl_0add ((q + i) / 32)
    refine pk_le len i (fun z => absurd z (by omega)) (fun _ => nm_r (tl_s5 (by omega)) (pk_le 160 ((q + i) / 32) (fun z => absurd z (by omega)) (fun _ => ?_)))
    rw [e0, nI_clamp (show (q + i) / 32 < 2 ^ 31 by omega), tl_a31 (show q + i < 2 ^ 32 by omega), tl_rb _ (show (q + i) % 32 < 32 by omega), hR i hi, tl_bits_at v len i hi]
    refine ⟨pk_in ((q + i) / 32) 320 (by omega), ?_⟩
    unfold wX_read_3_51
    refine nm_r ?_ (nm_r (nI_1 (q + i)) (nm_r (nI_1 i) hw'))
    rw [tl_m2, nI_add, show len - i = len - (i + 1) + 1 by omega, tl_dig]
theorem tl_read1_3 {post : Int32 → St2 → Prop} {a1 a2 a3 a4 a5 a6 a7 a8 a9 a10 a11 a12 : Nat → Int32} {q : Nat} {t : Bool} (hR : tl_Rs a5 q [t]) (hp : post (nI t.toNat) (0, nI (q + 1), a1, a2, a3, a4, a5, a6, a7, a8, a9, a10, a11, a12)) : wpX_read_3 post (0, nI q, a1, a2, a3, a4, a5, a6, a7, a8, a9, a10, a11, a12) 1 :=
  tl_read_3 (len := 1) (v := t.toNat) (by cases t <;> decide) (by omega) (by rw [tl_bits1]; exact hR) hp
theorem tl_read_4 {post : Int32 → St2 → Prop} {a1 a2 a3 a4 a5 a6 a7 a8 a9 a10 a11 a12 : Nat → Int32} {q v len : Nat} (hv : v < 2 ^ len) (hl : len ≤ 15) (hR : tl_Rs a5 q (tl_bits v len)) (hp : post (nI v) (0, nI (q + len), a1, a2, a3, a4, a5, a6, a7, a8, a9, a10, a11, a12)) : wpX_read_4 post (0, nI q, a1, a2, a3, a4, a5, a6, a7, a8, a9, a10, a11, a12) (nI len) := by
  unfold wpX_read_4
  dsimp only
  obtain ⟨hq, hR⟩ := hR
  rw [tl_bits_len] at hq hR
  have hv31 : v < 2 ^ 31 := Nat.lt_of_lt_of_le hv (Nat.pow_le_pow_right (by decide) (by omega))
  have key := pk_loop (fun n i (_ : Unit) => wX_read_4_4 post (nI len) 0 a1 a2 a3 a4 a5 a6 a7 a8 a9 a10 a11 a12 n (nI (v / 2 ^ (len - i))) (nI i) (nI (q + i))) (fun _ _ => True) len 0 () (by omega) trivial ?_ ?_
  · obtain ⟨n, hn⟩ := key
    have hn' : wX_read_4_4 post (nI len) 0 a1 a2 a3 a4 a5 a6 a7 a8 a9 a10 a11 a12 n (nI (v / 2 ^ (len - 0))) (nI 0) (nI (q + 0)) := hn
    rw [Nat.sub_zero, Nat.div_eq_of_lt hv] at hn'
    exact ⟨n, hn'⟩
  · intro n _ _
    show wX_read_4_4 post (nI len) 0 a1 a2 a3 a4 a5 a6 a7 a8 a9 a10 a11 a12 (n + 1) (nI (v / 2 ^ (len - len))) (nI len) (nI (q + len))
    rw [Nat.sub_self, Nat.pow_zero, Nat.div_one]
    exact pk_le len len (fun _ => hp) (fun z => absurd z (by omega))
  · intro n i _ hi _ hw
    have hw' : wX_read_4_4 post (nI len) 0 a1 a2 a3 a4 a5 a6 a7 a8 a9 a10 a11 a12 n (nI (v / 2 ^ (len - (i + 1)))) (nI (i + 1)) (nI (q + i + 1)) := hw () trivial
    have e0 := tl_0add ((q + i) / 32)
    refine pk_le len i (fun z => absurd z (by omega)) (fun _ => nm_r (tl_s5 (by omega)) (pk_le 160 ((q + i) / 32) (fun z => absurd z (by omega)) (fun _ => ?_)))
    rw [e0, nI_clamp (show (q + i) / 32 < 2 ^ 31 by omega), tl_a31 (show q + i < 2 ^ 32 by omega), tl_rb _ (show (q + i) % 32 < 32 by omega), hR i hi, tl_bits_at v len i hi]
    refine ⟨pk_in ((q + i) / 32) 320 (by omega), ?_⟩
    unfold wX_read_4_51
    refine nm_r ?_ (nm_r (nI_1 (q + i)) (nm_r (nI_1 i) hw'))
    rw [tl_m2, nI_add, show len - i = len - (i + 1) + 1 by omega, tl_dig]
theorem tl_read1_4 {post : Int32 → St2 → Prop} {a1 a2 a3 a4 a5 a6 a7 a8 a9 a10 a11 a12 : Nat → Int32} {q : Nat} {t : Bool} (hR : tl_Rs a5 q [t]) (hp : post (nI t.toNat) (0, nI (q + 1), a1, a2, a3, a4, a5, a6, a7, a8, a9, a10, a11, a12)) : wpX_read_4 post (0, nI q, a1, a2, a3, a4, a5, a6, a7, a8, a9, a10, a11, a12) 1 :=
  tl_read_4 (len := 1) (v := t.toNat) (by cases t <;> decide) (by omega) (by rw [tl_bits1]; exact hR) hp
end
section
/-! the plain picture of the coded planes: magnitudes m, signs ng -/
def tl_e (t : Bool) : Int32 := nI t.toNat
theorem tl_e0 : tl_e false = 0 := rfl
theorem tl_e1 : tl_e true = 1 := rfl
def tl_SN (m : Nat → Nat) (k j : Nat) : Bool := decide (2 ^ k ≤ m j)
def tl_GS (m : Nat → Nat) (k g : Nat) : Bool := tl_SN m k (4 * g) || tl_SN m k (4 * g + 1) || tl_SN m k (4 * g + 2) || tl_SN m k (4 * g + 3)
def tl_cb (m : Nat → Nat) (ng : Nat → Bool) (pl j : Nat) : List Bool := [(m j).testBit pl] ++ (if (!tl_SN m (pl + 1) j && (m j).testBit pl) = true then [ng j] else [])
def tl_cbs (m : Nat → Nat) (ng : Nat → Bool) (pl : Nat) : Nat → Nat → List Bool
  | _, 0 => []
  | j, n + 1 => tl_cb m ng pl j ++ tl_cbs m ng pl (j + 1) n
def tl_gh (m : Nat → Nat) (pl g : Nat) : List Bool := if tl_GS m (pl + 1) g = true then [] else [tl_GS m pl g]
def tl_gt (m : Nat → Nat) (ng : Nat → Bool) (pl g : Nat) : List Bool := if tl_GS m pl g = true then tl_cbs m ng pl (4 * g) 4 else []
def tl_gb (m : Nat → Nat) (ng : Nat → Bool) (pl g : Nat) : List Bool := tl_gh m pl g ++ tl_gt m ng pl g
theorem tl_SN_s (m : Nat → Nat) (k j : Nat) : tl_SN m k j = (tl_SN m (k + 1) j || (m j).testBit k) := by
  unfold tl_SN
  by_cases h : 2 ^ (k + 1) ≤ m j
  · have : 2 ^ k ≤ m j := Nat.le_trans (Nat.pow_le_pow_right (by decide) (by omega)) h
    rw [decide_eq_true h, decide_eq_true this, Bool.true_or]
  · rw [decide_eq_false h, Bool.false_or]
    by_cases h2 : 2 ^ k ≤ m j
    · rw [decide_eq_true h2, Nat.testBit_eq_decide_div_mod_eq]
      have h3 : m j / 2 ^ k = 1 := by
        rw [Nat.pow_succ] at h
        have p := Nat.two_pow_pos k
        have l1 : m j / 2 ^ k < 2 := by
          rw [Nat.div_lt_iff_lt_mul p]
          omega
        have l2 : 1 ≤ m j / 2 ^ k := by
          rw [Nat.le_div_iff_mul_le p]
          omega
        omega
      rw [h3]
      rfl
    · rw [decide_eq_false h2, Nat.testBit_lt_two_pow (by omega)]
theorem tl_GS_cell {m : Nat → Nat} {k g : Nat} (h : tl_GS m k g = false) {j : Nat} (h1 : 4 * g ≤ j) (h2 : j < 4 * g + 4) : tl_SN m k j = false := by
  unfold tl_GS at h
  simp only [Bool.or_eq_false_iff] at h
  obtain ⟨⟨⟨q0, q1⟩, q2⟩, q3⟩ := h
  rcases (show j = 4 * g ∨ j = 4 * g + 1 ∨ j = 4 * g + 2 ∨ j = 4 * g + 3 by omega) with e | e | e | e <;> rw [e] <;> assumption
theorem tl_SN_up {m : Nat → Nat} {k j : Nat} (h : tl_SN m k j = false) : tl_SN m (k + 1) j = false := by
  rw [tl_SN_s] at h
  exact (Bool.or_eq_false_iff.mp h).1
def tl_any (m : Nat → Nat) (pl s : Nat) : Nat → Bool
  | 0 => false
  | i + 1 => tl_any m pl s i || (m (s + i)).testBit pl
theorem tl_any_GS {m : Nat → Nat} {pl g : Nat} (h : tl_GS m (pl + 1) g = false) : tl_any m pl (4 * g) 4 = tl_GS m pl g := by
  unfold tl_GS
  rw [tl_SN_s m pl (4 * g), tl_SN_s m pl (4 * g + 1), tl_SN_s m pl (4 * g + 2), tl_SN_s m pl (4 * g + 3), tl_GS_cell h (j := 4 * g) (by omega) (by omega), tl_GS_cell h (j := 4 * g + 1) (by omega) (by omega), tl_GS_cell h (j := 4 * g + 2) (by omega) (by omega), tl_GS_cell h (j := 4 * g + 3) (by omega) (by omega)]
  simp only [tl_any, Bool.false_or, Nat.add_zero]
theorem tl_GS_up {m : Nat → Nat} {k g : Nat} (h : tl_GS m (k + 1) g = true) : tl_GS m k g = true := by
  cases e : tl_GS m k g with
  | true => rfl
  | false =>
    have q : ∀ j, 4 * g ≤ j → j < 4 * g + 4 → tl_SN m (k + 1) j = false := fun j h1 h2 => tl_SN_up (tl_GS_cell e h1 h2)
    unfold tl_GS at h
    rw [q (4 * g) (by omega) (by omega), q (4 * g + 1) (by omega) (by omega), q (4 * g + 2) (by omega) (by omega), q (4 * g + 3) (by omega) (by omega)] at h
    exact absurd h (by decide)
/-- the levels: which planes each group has behind it -/
def tl_Sn (m : Nat → Nat) (lev : Nat → Nat) (s11 s12 : Nat → Int32) : Prop := (∀ j, j < 256 → s11 j = tl_e (tl_SN m (lev (j / 4)) j)) ∧ (∀ g, g < 64 → s12 g = tl_e (tl_GS m (lev g) g))
def tl_lu (lev : Nat → Nat) (g k : Nat) : Nat → Nat := fun x => if x = g then k else lev x
theorem tl_Sn_lu {m lev : Nat → Nat} {s11 s12 r11 r12 : Nat → Int32} {g k : Nat} (h : tl_Sn m lev s11 s12) (h1 : ∀ j, 4 * g ≤ j → j < 4 * g + 4 → r11 j = tl_e (tl_SN m k j)) (h2 : ∀ j, j < 4 * g ∨ 4 * g + 4 ≤ j → r11 j = s11 j) (h3 : r12 g = tl_e (tl_GS m k g)) (h4 : ∀ x, x ≠ g → r12 x = s12 x) : tl_Sn m (tl_lu lev g k) r11 r12 := by
  obtain ⟨a, b⟩ := h
  refine ⟨fun j hj => ?_, fun x hx => ?_⟩
  · unfold tl_lu
    by_cases e : j / 4 = g
    · rw [if_pos e, h1 j (by omega) (by omega)]
    · rw [if_neg e, h2 j (by omega), a j hj]
  · unfold tl_lu
    by_cases e : x = g
    · rw [if_pos e, e, h3]
    · rw [if_neg e, h4 x e, b x hx]
/-! the walk: the cells of a group -/
def tl_sv (m : Nat → Nat) (pl g : Nat) (k : Nat) : Int32 := tl_e (tl_SN m pl (4 * g + k))
theorem tl_wG147 {post : St2 → Prop} {a1 a2 a3 a4 a6 a7 a8 a9 a10 a11 a12 : Nat → Int32} {J : Int32 → Int32 → Int32 → (Nat → Int32) → (Nat → Int32) → (Nat → Int32) → (Nat → Int32) → (Nat → Int32) → (Nat → Int32) → (Nat → Int32) → (Nat → Int32) → (Nat → Int32) → (Nat → Int32) → (Nat → Int32) → (Nat → Int32) → Prop} {x1 x2 z : Int32} {st : Nat → Int32} {w : List Bool} {j : Nat} {t : Bool} (hW : tl_Wr st w) (hb : w.length + 1 ≤ 5120) (hz : z = nI t.toNat)
    (hJ : ∀ st', tl_Wr st' (w ++ [t]) → J (nI (j + 1)) 0 (nI (w ++ [t]).length) a1 a2 a3 a4 st' a6 a7 a8 a9 a10 a11 a12) : wX_writeGroup_147 post J x1 x2 (nI j) z 0 (nI w.length) a1 a2 a3 a4 st a6 a7 a8 a9 a10 a11 a12 := by
  subst hz
  unfold wX_writeGroup_147
  exact tl_write1 hW hb (fun st' h' => nm_r (nI_1 j) (hJ st' h'))
theorem tl_wG82 {post : St2 → Prop} {a1 a2 a3 a4 a6 a7 a8 a9 a10 a11 a12 : Nat → Int32} {m : Nat → Nat} {ng : Nat → Bool} {g pl : Nat} {st : Nat → Int32} {w : List Bool} (hg : g < 64) (hpl : pl ≤ 14) (hm : ∀ j, m j < 2 ^ 15) (h9 : ∀ j, 4 * g ≤ j → j < 4 * g + 4 → a9 j = nI (m j)) (h10 : ∀ j, 4 * g ≤ j → j < 4 * g + 4 → a10 j = tl_e (ng j)) (h11 : ∀ j, 4 * g ≤ j → j < 4 * g + 4 → a11 j = tl_e (tl_SN m (pl + 1) j)) (hW : tl_Wr st w) (hb : w.length + (tl_cbs m ng pl (4 * g) 4).length ≤ 5120)
    (hp : ∀ st', tl_Wr st' (w ++ tl_cbs m ng pl (4 * g) 4) → post (0, nI (w ++ tl_cbs m ng pl (4 * g) 4).length, a1, a2, a3, a4, st', a6, a7, a8, a9, a10, tl_fl a11 (4 * g) 4 (tl_sv m pl g), a12)) : ∃ fu, wX_writeGroup_82 post (nI g) (nI pl) fu (nI (4 * g)) 0 (nI w.length) a1 a2 a3 a4 st a6 a7 a8 a9 a10 a11 a12 := by
  refine pk_loop (fun n i (s : List Bool × (Nat → Int32) × (Nat → Int32)) => wX_writeGroup_82 post (nI g) (nI pl) n (nI (4 * g + i)) 0 (nI s.1.length) a1 a2 a3 a4 s.2.1 a6 a7 a8 a9 a10 s.2.2 a12)
    (fun i s => tl_Wr s.2.1 s.1 ∧ s.2.2 = tl_fl a11 (4 * g) i (tl_sv m pl g) ∧ s.1 ++ tl_cbs m ng pl (4 * g + i) (4 - i) = w ++ tl_cbs m ng pl (4 * g) 4) 4 0 (w, st, a11) (by omega) ⟨hW, (tl_fl0 _ _ _).symm, rfl⟩ ?_ ?_
  · rintro n ⟨w', st', s11⟩ ⟨h1, h2, h3⟩
    dsimp only at h1 h2 h3
    rw [show w' = w ++ tl_cbs m ng pl (4 * g) 4 from (List.append_nil w').symm.trans h3] at h1 ⊢
    subst h2
    exact pk_le (4 * g + 4) (4 * g + 4) (fun _ => hp st' h1) (fun z => absurd z (by omega)) (tl_i4 g 4)
  · rintro n i ⟨w', st', s11⟩ hi ⟨h1, h2, h3⟩ hw
    dsimp only at h1 h2 h3
    have hlen := congrArg List.length h3
    rw [show 4 - i = (4 - (i + 1)) + 1 by omega] at h3 hlen
    have hcb : tl_cbs m ng pl (4 * g + i) ((4 - (i + 1)) + 1) = tl_cb m ng pl (4 * g + i) ++ tl_cbs m ng pl (4 * g + (i + 1)) (4 - (i + 1)) := rfl
    rw [hcb] at h3 hlen
    rw [List.length_append, List.length_append, List.length_append] at hlen
    have hjx : (nI (4 * g + i)).toNatClampNeg = 4 * g + i := nI_clamp (by omega)
    have hbit : (a9 (nI (4 * g + i)).toNatClampNeg >>> (nI pl &&& 31)) &&& 1 = nI ((m (4 * g + i)).testBit pl).toNat := by
      rw [hjx, h9 _ (by omega) (by omega)]
      exact tl_tb (Nat.lt_trans (hm _) (by decide)) (by omega)
    have hs : s11 (4 * g + i) = tl_e (tl_SN m (pl + 1) (4 * g + i)) := by
      rw [h2, tl_fl_out (by omega), h11 _ (by omega) (by omega)]
    have hsn := tl_SN_s m pl (4 * g + i)
    have ha : a11 (4 * g + i) = tl_e (tl_SN m (pl + 1) (4 * g + i)) := h11 _ (by omega) (by omega)
    have hn : a10 (4 * g + i) = tl_e (ng (4 * g + i)) := h10 _ (by omega) (by omega)
    have hin : vp_in (nI (4 * g + i)) 256 := pk_in (4 * g + i) 256 (by omega)
    unfold tl_cb at h3 hlen
    rw [List.length_append] at hlen
    refine pk_le (4 * g + 4) (4 * g + i) (fun z => absurd z (by omega)) (fun _ => ⟨hin, nm_r hbit (tl_write1 h1 (by rw [show [(m (4 * g + i)).testBit pl].length = 1 from rfl] at hlen; show w'.length + 1 ≤ 5120; omega) (fun st2 k1 => ⟨hin, ?_⟩))⟩) (tl_i4 g 4)
    rw [hjx]
    show (s11 (4 * g + i) = 0 → _) ∧ (¬ s11 (4 * g + i) = 0 → _)
    rw [hs]
    generalize tl_SN m (pl + 1) (4 * g + i) = sn at *
    generalize (m (4 * g + i)).testBit pl = t at *
    cases sn with
    | true =>
      refine br_f (by decide) (nm_r (nI_1 (4 * g + i)) (hw (w' ++ [t], st2, s11) ⟨k1, ?_, ?_⟩))
      · dsimp only
        rw [h2]
        refine tl_fl_keep ?_
        unfold tl_sv
        rw [ha, hsn]
        rfl
      · dsimp only
        rw [← h3, List.append_assoc]
        rfl
    | false =>
      refine br_t rfl ?_
      cases t with
      | false =>
        refine br_f (by decide) (nm_r (nI_1 (4 * g + i)) (hw (w' ++ [false], st2, s11) ⟨k1, ?_, ?_⟩))
        · dsimp only
          rw [h2]
          refine tl_fl_keep ?_
          unfold tl_sv
          rw [ha, hsn]
          rfl
        · dsimp only
          rw [← h3, List.append_assoc]
          rfl
      | true =>
        have hb2 : (w' ++ [true]).length + 1 ≤ 5120 := by
          rw [List.length_append]
          rw [show [true].length = 1 from rfl, show ((if (!false && true) = true then [ng (4 * g + i)] else []) : List Bool).length = 1 from rfl] at hlen
          show w'.length + 1 + 1 ≤ 5120
          omega
        have fin : ∀ st3, tl_Wr st3 ((w' ++ [true]) ++ [ng (4 * g + i)]) → wX_writeGroup_82 post (nI g) (nI pl) n (nI (4 * g + i + 1)) 0 (nI ((w' ++ [true]) ++ [ng (4 * g + i)]).length) a1 a2 a3 a4 st3 a6 a7 a8 a9 a10 (upd s11 (4 * g + i) 1) a12 := by
          intro st3 k3
          refine hw ((w' ++ [true]) ++ [ng (4 * g + i)], st3, upd s11 (4 * g + i) 1) ⟨k3, ?_, ?_⟩
          · dsimp only
            rw [h2]
            refine tl_fl_up rfl ?_
            unfold tl_sv
            rw [hsn]
            rfl
          · dsimp only
            rw [← h3, List.append_assoc, List.append_assoc]
            rfl
        refine br_t rfl ⟨hin, nm_e ⟨hin, ?_⟩⟩
        rw [hn]
        generalize ng (4 * g + i) = t2 at *
        cases t2 with
        | true => exact br_f (by decide) (tl_wG147 k1 hb2 rfl fin)
        | false => exact br_t rfl (tl_wG147 k1 hb2 rfl fin)
end
section
/-! a whole group -/
theorem tl_wG68 {post : St2 → Prop} {a1 a2 a3 a4 a6 a7 a8 a9 a10 a11 a12 : Nat → Int32} {m : Nat → Nat} {ng : Nat → Bool} {g pl : Nat} {st : Nat → Int32} {w : List Bool} (hg : g < 64) (hpl : pl ≤ 14) (hm : ∀ j, m j < 2 ^ 15) (h9 : ∀ j, 4 * g ≤ j → j < 4 * g + 4 → a9 j = nI (m j)) (h10 : ∀ j, 4 * g ≤ j → j < 4 * g + 4 → a10 j = tl_e (ng j)) (h11 : ∀ j, 4 * g ≤ j → j < 4 * g + 4 → a11 j = tl_e (tl_SN m (pl + 1) j)) (h12 : a12 g = tl_e (tl_GS m pl g)) (hW : tl_Wr st w) (hb : w.length + (tl_gt m ng pl g).length ≤ 5120)
    (hp : ∀ st' s11, tl_Wr st' (w ++ tl_gt m ng pl g) → (∀ j, 4 * g ≤ j → j < 4 * g + 4 → s11 j = tl_e (tl_SN m pl j)) → (∀ j, j < 4 * g ∨ 4 * g + 4 ≤ j → s11 j = a11 j) → post (0, nI (w ++ tl_gt m ng pl g).length, a1, a2, a3, a4, st', a6, a7, a8, a9, a10, s11, a12)) : wX_writeGroup_68 post (nI g) (nI pl) 0 (nI w.length) a1 a2 a3 a4 st a6 a7 a8 a9 a10 a11 a12 := by
  unfold wX_writeGroup_68
  rw [nI_clamp (show g < 2 ^ 31 by omega), h12]
  refine ⟨pk_in g 64 hg, ?_⟩
  unfold tl_gt at hb hp
  cases e : tl_GS m pl g with
  | false =>
    rw [e] at hb hp
    rw [if_neg (by decide), List.append_nil] at hp
    refine br_t rfl (hp st a11 hW (fun j h1 h2 => ?_) (fun j _ => rfl))
    have q := tl_GS_cell e h1 h2
    rw [h11 j h1 h2, q, tl_SN_up q]
  | true =>
    rw [e] at hb hp
    rw [if_pos rfl] at hb hp
    refine br_f (by decide) (nm_r (tl_m4 g) (tl_wG82 hg hpl hm h9 h10 h11 hW hb (fun st' k => hp st' _ k (fun j h1 h2 => ?_) (fun j h => tl_fl_out (by omega)))))
    rw [tl_fl_in h1 (by omega)]
    unfold tl_sv
    rw [show 4 * g + (j - 4 * g) = j by omega]
theorem tl_or1 (x y : Bool) : tl_e x ||| nI y.toNat = tl_e (x || y) := by cases x <;> cases y <;> decide
theorem tl_narb (t : Bool) : vp_nar .boolean (tl_e t) = tl_e t := by cases t <;> decide
theorem tl_wG {post : St2 → Prop} {a1 a2 a3 a4 a6 a7 a8 a9 a10 a11 a12 : Nat → Int32} {m lev : Nat → Nat} {ng : Nat → Bool} {g pl : Nat} {st : Nat → Int32} {w : List Bool} (hg : g < 64) (hpl : pl ≤ 14) (hm : ∀ j, m j < 2 ^ 15) (h9 : ∀ j, 4 * g ≤ j → j < 4 * g + 4 → a9 j = nI (m j)) (h10 : ∀ j, 4 * g ≤ j → j < 4 * g + 4 → a10 j = tl_e (ng j)) (hS : tl_Sn m lev a11 a12) (hl : lev g = pl + 1) (hW : tl_Wr st w) (hb : w.length + (tl_gb m ng pl g).length ≤ 5120)
    (hp : ∀ st' s11 s12, tl_Wr st' (w ++ tl_gb m ng pl g) → tl_Sn m (tl_lu lev g pl) s11 s12 → post (0, nI (w ++ tl_gb m ng pl g).length, a1, a2, a3, a4, st', a6, a7, a8, a9, a10, s11, s12)) : wpX_writeGroup post (0, nI w.length, a1, a2, a3, a4, st, a6, a7, a8, a9, a10, a11, a12) (nI g) (nI pl) := by
  unfold wpX_writeGroup
  dsimp only
  have h11 : ∀ j, 4 * g ≤ j → j < 4 * g + 4 → a11 j = tl_e (tl_SN m (pl + 1) j) := by
    intro j h1 h2
    rw [hS.1 j (by omega), show j / 4 = g by omega, hl]
  have h12 := hS.2 g hg
  rw [hl] at h12
  unfold tl_gb tl_gh at hb hp
  rw [nI_clamp (show g < 2 ^ 31 by omega), h12]
  refine ⟨pk_in g 64 hg, ?_⟩
  cases e : tl_GS m (pl + 1) g with
  | true =>
    rw [e] at hb hp
    rw [if_pos rfl, List.nil_append] at hb hp
    have e2 := tl_GS_up e
    have h12' : a12 g = tl_e (tl_GS m pl g) := by rw [h12, e, e2]
    exact br_f (by decide) (tl_wG68 hg hpl hm h9 h10 h11 h12' hW hb (fun st' s11 k1 k2 k3 => hp st' s11 a12 k1 (tl_Sn_lu hS k2 k3 h12' (fun _ _ => rfl))))
  | false =>
    rw [e] at hb hp
    rw [if_neg (by decide)] at hb hp
    have e2 := tl_any_GS e
    refine br_t rfl (nm_r (tl_m4 g) ?_)
    refine pk_loop (fun n i (_ : Unit) => wX_writeGroup_16 post (nI g) (nI pl) 0 (nI w.length) a1 a2 a3 a4 st a6 a7 a8 a9 a10 a11 a12 n (tl_e (tl_any m pl (4 * g) i)) (nI (4 * g + i))) (fun _ _ => True) 4 0 () (by omega) trivial ?_ ?_
    · intro n _ _
      rw [e2]
      refine pk_le (4 * g + 4) (4 * g + 4) (fun _ => ?_) (fun z => absurd z (by omega)) (tl_i4 g 4)
      refine tl_write1 (t := tl_GS m pl g) hW (by rw [List.length_append, show [tl_GS m pl g].length = 1 from rfl] at hb; omega) (fun st' k => ?_)
      have fin : ∀ z, z = tl_e (tl_GS m pl g) → wX_writeGroup_67 post (nI g) (nI pl) z (nI g) 0 (nI (w ++ [tl_GS m pl g]).length) a1 a2 a3 a4 st' a6 a7 a8 a9 a10 a11 a12 := by
        intro z hz
        subst hz
        unfold wX_writeGroup_67
        rw [tl_narb, nI_clamp (show g < 2 ^ 31 by omega)]
        refine ⟨pk_in g 64 hg, nm_e (tl_wG68 hg hpl hm h9 h10 h11 pk_us k (by rw [List.length_append] at hb ⊢; omega) (fun st2 s11 k1 k2 k3 => ?_))⟩
        rw [List.append_assoc] at k1 ⊢
        exact hp st2 s11 _ k1 (tl_Sn_lu hS k2 k3 pk_us (fun x hx => pk_un hx))
      cases e3 : tl_GS m pl g with
      | true =>
        rw [e3] at fin
        exact br_t rfl (fin 1 rfl)
      | false =>
        rw [e3] at fin
        exact br_f (by decide) (fin 0 rfl)
    · intro n i _ hi _ hw
      have hjx : (nI (4 * g + i)).toNatClampNeg = 4 * g + i := nI_clamp (by omega)
      refine pk_le (4 * g + 4) (4 * g + i) (fun z => absurd z (by omega)) (fun _ => ⟨pk_in (4 * g + i) 256 (by omega), nm_r ?_ (nm_r (nI_1 (4 * g + i)) (hw () trivial))⟩) (tl_i4 g 4)
      rw [hjx, h9 _ (by omega) (by omega), tl_tb (Nat.lt_trans (hm _) (by decide)) (by omega), tl_or1]
      rfl
/-! a whole frame -/
def tl_gs (m : Nat → Nat) (ng : Nat → Bool) (pl : Nat) : Nat → Nat → List Bool
  | _, 0 => []
  | g, n + 1 => tl_gb m ng pl g ++ tl_gs m ng pl (g + 1) n
def tl_pb (m : Nat → Nat) (ng : Nat → Bool) (f : Nat) : Nat → List Bool
  | 0 => []
  | k + 1 => tl_gs m ng k (16 * f) 16 ++ tl_pb m ng f k
def tl_orN (m : Nat → Nat) (s : Nat) : Nat → Nat
  | 0 => 0
  | k + 1 => tl_orN m s k ||| m (s + k)
def tl_plN (a : Nat) : Nat → Nat
  | 0 => 0
  | k + 1 => if a / 2 ^ k = 0 then tl_plN a k else k + 1
def tl_P (m : Nat → Nat) (f : Nat) : Nat := tl_plN (tl_orN m (64 * f) 64) 15
def tl_fb (m : Nat → Nat) (ng : Nat → Bool) (f : Nat) : List Bool := tl_bits (tl_P m f) 4 ++ tl_pb m ng f (tl_P m f)
def tl_lF (lev : Nat → Nat) (f k : Nat) : Nat → Nat := fun x => if x / 16 = f then k else lev x
def tl_lv (lev : Nat → Nat) (f k i : Nat) : Nat → Nat := fun x => if x / 16 = f then (if x < 16 * f + i then k else k + 1) else lev x
theorem tl_lv0 (lev : Nat → Nat) (f k : Nat) : tl_lv lev f k 0 = tl_lF lev f (k + 1) := by
  funext x
  unfold tl_lv tl_lF
  by_cases e : x / 16 = f
  · rw [if_pos e, if_pos e, if_neg (by omega)]
  · rw [if_neg e, if_neg e]
theorem tl_lv16 (lev : Nat → Nat) (f k : Nat) : tl_lv lev f k 16 = tl_lF lev f k := by
  funext x
  unfold tl_lv tl_lF
  by_cases e : x / 16 = f
  · rw [if_pos e, if_pos e, if_pos (by omega)]
  · rw [if_neg e, if_neg e]
theorem tl_lvS (lev : Nat → Nat) (f k : Nat) {i : Nat} (hi : i < 16) : tl_lu (tl_lv lev f k i) (16 * f + i) k = tl_lv lev f k (i + 1) := by
  funext x
  unfold tl_lv tl_lu
  dsimp only
  by_cases e : x = 16 * f + i
  · rw [if_pos e, if_pos (by omega), if_pos (by omega)]
  · rw [if_neg e]
    by_cases e2 : x / 16 = f
    · rw [if_pos e2, if_pos e2]
      by_cases e3 : x < 16 * f + i
      · rw [if_pos e3, if_pos (by omega)]
      · rw [if_neg e3, if_neg (by omega)]
    · rw [if_neg e2, if_neg e2]
theorem tl_lv_at (lev : Nat → Nat) (f k : Nat) {i : Nat} (hi : i < 16) : tl_lv lev f k i (16 * f + i) = k + 1 := by
  unfold tl_lv
  rw [if_pos (by omega), if_neg (by omega)]
theorem tl_nor (a b : Nat) : nI a ||| nI b = nI (a ||| b) := by
  apply Int32.toBitVec_inj.1
  show BitVec.ofNat 32 a ||| BitVec.ofNat 32 b = BitVec.ofNat 32 (a ||| b)
  apply BitVec.eq_of_getLsbD_eq
  intro i hi
  simp [hi]
theorem tl_plN_le (a : Nat) : ∀ k, tl_plN a k ≤ k := by
  intro k
  induction k with
  | zero => exact Nat.le_refl _
  | succ k ih =>
    unfold tl_plN
    split <;> omega
theorem tl_plN_lt {a : Nat} : ∀ k, a < 2 ^ k → a < 2 ^ tl_plN a k := by
  intro k
  induction k with
  | zero => exact fun h => h
  | succ k ih =>
    intro h
    unfold tl_plN
    split
    · rename_i e
      refine ih ?_
      rcases (Nat.div_eq_zero_iff).mp e with z | z
      · exact absurd z (Nat.pos_iff_ne_zero.mp (Nat.two_pow_pos k))
      · exact z
    · exact h
theorem tl_plN_14 {a : Nat} (h : a < 2 ^ 14) : tl_plN a 15 ≤ 14 := by
  show (if a / 2 ^ 14 = 0 then tl_plN a 14 else 15) ≤ 14
  rw [if_pos (Nat.div_eq_of_lt h)]
  exact tl_plN_le a 14
theorem tl_orN_lt {m : Nat → Nat} {s b : Nat} (h : ∀ j, m j < 2 ^ b) : ∀ k, tl_orN m s k < 2 ^ b := by
  intro k
  induction k with
  | zero => exact Nat.two_pow_pos b
  | succ k ih => exact Nat.or_lt_two_pow ih (h _)
theorem tl_orN_ge {m : Nat → Nat} {s : Nat} : ∀ k i, i < k → m (s + i) ≤ tl_orN m s k := by
  intro k
  induction k with
  | zero => intro i hi; omega
  | succ k ih =>
    intro i hi
    by_cases e : i = k
    · rw [e]
      exact Nat.right_le_or
    · exact Nat.le_trans (ih i (by omega)) Nat.left_le_or
theorem tl_P_le {m : Nat → Nat} (h : ∀ j, m j < 2 ^ 14) (f : Nat) : tl_P m f ≤ 14 := tl_plN_14 (tl_orN_lt h 64)
theorem tl_P_lt {m : Nat → Nat} (h : ∀ j, m j < 2 ^ 14) {j : Nat} : m j < 2 ^ tl_P m (j / 64) := by
  have h1 := tl_orN_ge (m := m) (s := 64 * (j / 64)) 64 (j % 64) (by omega)
  rw [show 64 * (j / 64) + j % 64 = j by omega] at h1
  exact Nat.lt_of_le_of_lt h1 (tl_plN_lt 15 (Nat.lt_trans (tl_orN_lt h 64) (by decide)))
end
section
/-! the walk over a frame that is written -/
/-- the cells as signs and magnitudes -/
def tl_Mg (c : Nat → Int32) (m : Nat → Nat) (ng : Nat → Bool) : Prop := ∀ j, m j < 2 ^ 14 ∧ (ng j = true → ¬ 0 ≤ c j ∧ -(c j) = nI (m j) ∧ -(nI (m j)) = c j) ∧ (ng j = false → 0 ≤ c j ∧ c j = nI (m j))
theorem tl_Mg_of {c : Nat → Int32} (h : ∀ j, tl_B 8160 (c j)) : tl_Mg c (fun j => (c j).toInt.natAbs) (fun j => decide ((c j).toInt < 0)) := by
  intro j
  have hj := h j
  unfold tl_B at hj
  refine ⟨by show (c j).toInt.natAbs < 16384; omega, fun e => ?_, fun e => ?_⟩
  · have e' : (c j).toInt < 0 := of_decide_eq_true e
    have k : -(c j) = nI (c j).toInt.natAbs := by
      apply Int32.toInt_inj.mp
      rw [nI_toInt (by omega), Int32.toInt_neg]
      rw [show Int.bmod (-(c j).toInt) (2 ^ 32) = -(c j).toInt from Int.bmod_eq_of_le (by omega) (by omega)]
      omega
    refine ⟨?_, k, ?_⟩
    · rw [Int32.le_iff_toInt_le]
      show ¬ (0 : Int) ≤ _
      omega
    · show -(nI (c j).toInt.natAbs) = c j
      rw [← k]
      grind
  · have e' : ¬ (c j).toInt < 0 := of_decide_eq_false e
    refine ⟨?_, ?_⟩
    · rw [Int32.le_iff_toInt_le]
      show (0 : Int) ≤ _
      omega
    · apply Int32.toInt_inj.mp
      show (c j).toInt = (nI (c j).toInt.natAbs).toInt
      rw [nI_toInt (by omega)]
      omega
theorem tl_wF136 {post : St2 → Prop} {a1 a2 a3 a4 a6 a7 a8 a9 a10 : Nat → Int32} {J : Int32 → Int32 → Int32 → (Nat → Int32) → (Nat → Int32) → (Nat → Int32) → (Nat → Int32) → (Nat → Int32) → (Nat → Int32) → (Nat → Int32) → (Nat → Int32) → (Nat → Int32) → (Nat → Int32) → (Nat → Int32) → (Nat → Int32) → Prop} {m lev : Nat → Nat} {ng : Nat → Bool} {f k : Nat} {st s11 s12 : Nat → Int32} {w : List Bool} (hf : f ≤ 3) (hk : k ≤ 14) (hm : ∀ j, m j < 2 ^ 15) (h9 : ∀ j, j / 64 = f → a9 j = nI (m j)) (h10 : ∀ j, j / 64 = f → a10 j = tl_e (ng j)) (hS : tl_Sn m (tl_lF lev f (k + 1)) s11 s12) (hW : tl_Wr st w) (hb : w.length + (tl_gs m ng k (16 * f) 16).length ≤ 5120)
    (hJ : ∀ st' r11 r12, tl_Wr st' (w ++ tl_gs m ng k (16 * f) 16) → tl_Sn m (tl_lF lev f k) r11 r12 → J (nI k + (-1)) 0 (nI (w ++ tl_gs m ng k (16 * f) 16).length) a1 a2 a3 a4 st' a6 a7 a8 a9 a10 r11 r12) : ∃ fu, wX_writeFrame_136 post J (nI f) (nI k) fu (nI (16 * f)) 0 (nI w.length) a1 a2 a3 a4 st a6 a7 a8 a9 a10 s11 s12 := by
  refine pk_loop (fun n i (s : List Bool × (Nat → Int32) × (Nat → Int32) × (Nat → Int32)) => wX_writeFrame_136 post J (nI f) (nI k) n (nI (16 * f + i)) 0 (nI s.1.length) a1 a2 a3 a4 s.2.1 a6 a7 a8 a9 a10 s.2.2.1 s.2.2.2)
    (fun i s => tl_Wr s.2.1 s.1 ∧ tl_Sn m (tl_lv lev f k i) s.2.2.1 s.2.2.2 ∧ s.1 ++ tl_gs m ng k (16 * f + i) (16 - i) = w ++ tl_gs m ng k (16 * f) 16) 16 0 (w, st, s11, s12) (by omega) ⟨hW, by rw [tl_lv0]; exact hS, rfl⟩ ?_ ?_
  · rintro n ⟨w', st', r11, r12⟩ ⟨h1, h2, h3⟩
    dsimp only at h1 h2 h3
    rw [show w' = w ++ tl_gs m ng k (16 * f) 16 from (List.append_nil w').symm.trans h3] at h1 ⊢
    rw [tl_lv16] at h2
    exact pk_le (16 * f + 16) (16 * f + 16) (fun _ => nm_e (hJ st' r11 r12 h1 h2)) (fun z => absurd z (by omega)) (by rw [tl_m16]; exact nI_add _ 16)
  · rintro n i ⟨w', st', r11, r12⟩ hi ⟨h1, h2, h3⟩ hw
    dsimp only at h1 h2 h3
    have hlen := congrArg List.length h3
    rw [show 16 - i = (16 - (i + 1)) + 1 by omega] at h3 hlen
    have hgs : tl_gs m ng k (16 * f + i) ((16 - (i + 1)) + 1) = tl_gb m ng k (16 * f + i) ++ tl_gs m ng k (16 * f + (i + 1)) (16 - (i + 1)) := rfl
    rw [hgs] at h3 hlen
    rw [List.length_append, List.length_append, List.length_append] at hlen
    refine pk_le (16 * f + 16) (16 * f + i) (fun z => absurd z (by omega)) (fun _ => ?_) (by rw [tl_m16]; exact nI_add _ 16)
    refine tl_wG (by omega) hk hm (fun j q1 q2 => h9 j (by omega)) (fun j q1 q2 => h10 j (by omega)) h2 (tl_lv_at lev f k hi) h1 (by show w'.length + _ ≤ 5120; omega) (fun st2 t11 t12 k1 k2 => nm_r (nI_1 (16 * f + i)) (hw (w' ++ tl_gb m ng k (16 * f + i), st2, t11, t12) ⟨k1, ?_, ?_⟩))
    · rw [← tl_lvS lev f k hi]
      exact k2
    · dsimp only
      rw [List.append_assoc]
      exact h3
theorem tl_wF125 {post : St2 → Prop} {a1 a2 a3 a4 a6 a7 a8 a9 a10 : Nat → Int32} {m lev : Nat → Nat} {ng : Nat → Bool} {f k : Nat} {st s11 s12 : Nat → Int32} {w : List Bool} (hf : f ≤ 3) (hk : k ≤ 14) (hm : ∀ j, m j < 2 ^ 15) (h9 : ∀ j, j / 64 = f → a9 j = nI (m j)) (h10 : ∀ j, j / 64 = f → a10 j = tl_e (ng j)) (hS : tl_Sn m (tl_lF lev f k) s11 s12) (hW : tl_Wr st w) (hb : w.length + (tl_pb m ng f k).length ≤ 5120)
    (hp : ∀ st' r11 r12, tl_Wr st' (w ++ tl_pb m ng f k) → tl_Sn m (tl_lF lev f 0) r11 r12 → post (0, nI (w ++ tl_pb m ng f k).length, a1, a2, a3, a4, st', a6, a7, a8, a9, a10, r11, r12)) : ∃ fu, wX_writeFrame_125 post (nI f) fu (nI k + (-1)) 0 (nI w.length) a1 a2 a3 a4 st a6 a7 a8 a9 a10 s11 s12 := by
  refine ⟨_, pk_loopD (fun n e (s : List Bool × (Nat → Int32) × (Nat → Int32) × (Nat → Int32)) => wX_writeFrame_125 post (nI f) n (nI e + (-1)) 0 (nI s.1.length) a1 a2 a3 a4 s.2.1 a6 a7 a8 a9 a10 s.2.2.1 s.2.2.2)
    (fun e s => tl_Wr s.2.1 s.1 ∧ tl_Sn m (tl_lF lev f e) s.2.2.1 s.2.2.2 ∧ s.1 ++ tl_pb m ng f e = w ++ tl_pb m ng f k ∧ e ≤ k) ?_ ?_ k (w, st, s11, s12) ⟨hW, hS, rfl, Nat.le_refl _⟩⟩
  · rintro n ⟨w', st', r11, r12⟩ ⟨h1, h2, h3, h4⟩
    dsimp only at h1 h2 h3
    rw [show w' = w ++ tl_pb m ng f k from (List.append_nil w').symm.trans h3] at h1 ⊢
    exact br_t (by decide) (hp st' r11 r12 h1 h2)
  · rintro n e ⟨w', st', r11, r12⟩ ⟨h1, h2, h3, h4⟩ hw
    dsimp only at h1 h2 h3
    have hlen := congrArg List.length h3
    have hpb : tl_pb m ng f (e + 1) = tl_gs m ng e (16 * f) 16 ++ tl_pb m ng f e := rfl
    rw [hpb] at h3 hlen
    rw [List.length_append, List.length_append, List.length_append] at hlen
    show wX_writeFrame_125 post (nI f) (n + 1) (nI (e + 1) + (-1)) 0 (nI w'.length) a1 a2 a3 a4 st' a6 a7 a8 a9 a10 r11 r12
    rw [pk_m1]
    refine br_f (nI_pos (by omega)) (nm_r (tl_m16 f) (tl_wF136 hf (by omega) hm h9 h10 h2 h1 (by omega) (fun st2 t11 t12 k1 k2 => hw (w' ++ tl_gs m ng e (16 * f) 16, st2, t11, t12) ⟨k1, k2, ?_, by omega⟩)))
    dsimp only
    rw [List.append_assoc]
    exact h3
theorem tl_wF89 {post : St2 → Prop} {a1 a2 a3 a4 a6 a7 a8 a9 a10 a11 a12 : Nat → Int32} {m lev : Nat → Nat} {ng : Nat → Bool} {f : Nat} {st : Nat → Int32} {w : List Bool} (hf : f ≤ 3) (hm : ∀ j, m j < 2 ^ 14) (h9 : ∀ j, j / 64 = f → a9 j = nI (m j)) (h10 : ∀ j, j / 64 = f → a10 j = tl_e (ng j)) (hS : tl_Sn m (tl_lF lev f (tl_P m f)) a11 a12) (hW : tl_Wr st w) (hb : w.length + (tl_fb m ng f).length ≤ 5120)
    (hp : ∀ st' r11 r12, tl_Wr st' (w ++ tl_fb m ng f) → tl_Sn m (tl_lF lev f 0) r11 r12 → post (0, nI (w ++ tl_fb m ng f).length, a1, a2, a3, a4, st', a6, a7, a8, a9, a10, r11, r12)) : ∃ fu, wX_writeFrame_89 post (nI f) (nI (tl_orN m (64 * f) 64)) 0 (nI w.length) a1 a2 a3 a4 st a6 a7 a8 a9 a10 a11 a12 fu 0 0 := by
  have hA := tl_orN_lt (s := 64 * f) hm 64
  have hP := tl_P_le hm f
  refine pk_loop (fun n i (_ : Unit) => wX_writeFrame_89 post (nI f) (nI (tl_orN m (64 * f) 64)) 0 (nI w.length) a1 a2 a3 a4 st a6 a7 a8 a9 a10 a11 a12 n (nI (tl_plN (tl_orN m (64 * f) 64) i)) (nI i)) (fun _ _ => True) 15 0 () (by omega) trivial ?_ ?_
  · intro n _ _
    refine pk_le 15 15 (fun _ => ?_) (fun z => absurd z (by omega))
    unfold tl_fb at hb hp
    rw [List.length_append, tl_bits_len] at hb
    refine tl_write (v := tl_P m f) (len := 4) hW (by omega) (by omega) (by omega) (fun st' k => ?_)
    refine nm_r (e' := nI (tl_P m f) + (-1)) (by show nI (tl_P m f) - 1 = _; grind) ?_
    refine tl_wF125 hf hP (fun j => Nat.lt_trans (hm j) (by decide)) h9 h10 hS k (by rw [List.length_append, tl_bits_len]; omega) (fun st2 r11 r12 k1 k2 => ?_)
    rw [List.append_assoc] at k1 ⊢
    exact hp st2 r11 r12 k1 k2
  · intro n i _ hi _ hw
    have hw' : wX_writeFrame_89 post (nI f) (nI (tl_orN m (64 * f) 64)) 0 (nI w.length) a1 a2 a3 a4 st a6 a7 a8 a9 a10 a11 a12 n (nI (if tl_orN m (64 * f) 64 / 2 ^ i = 0 then tl_plN (tl_orN m (64 * f) 64) i else i + 1)) (nI (i + 1)) := hw () trivial
    have hd : tl_orN m (64 * f) 64 / 2 ^ i ≤ tl_orN m (64 * f) 64 := Nat.div_le_self _ _
    refine pk_le 15 i (fun z => absurd z (by omega)) (fun _ => pk_eq (tl_orN m (64 * f) 64 / 2 ^ i) 0 (fun z => ?_) (fun z => ?_) (pk_shrN (by omega) (nI i &&& 31) i (tl_s_l i (by omega))))
    · rw [if_pos z] at hw'
      exact nm_r (nI_1 i) hw'
    · rw [if_neg z] at hw'
      exact nm_r (nI_1 i) (nm_r (nI_1 i) hw')
theorem tl_wF68 {post : St2 → Prop} {b p : Int32} {a1 a2 a3 a4 a5 a6 a7 a8 a9 a10 a11 a12 : Nat → Int32} {J : Int32 → Int32 → (Nat → Int32) → (Nat → Int32) → (Nat → Int32) → (Nat → Int32) → (Nat → Int32) → (Nat → Int32) → (Nat → Int32) → (Nat → Int32) → (Nat → Int32) → (Nat → Int32) → (Nat → Int32) → (Nat → Int32) → Prop} {x1 z : Int32} {A k j : Nat} (hj : j < 256) (hz : z = nI k)
    (hJ : J (nI (A ||| k)) (nI (j + 1)) a1 a2 a3 a4 a5 a6 a7 a8 (upd a9 j (nI k)) a10 a11 a12) : wX_writeFrame_68 post J x1 (nI A) (nI j) z (nI j) b p a1 a2 a3 a4 a5 a6 a7 a8 a9 a10 a11 a12 := by
  subst hz
  unfold wX_writeFrame_68
  rw [nI_clamp (show j < 2 ^ 31 by omega)]
  exact ⟨pk_in j 256 hj, nm_e ⟨pk_in j 256 hj, nm_r (by rw [pk_us, tl_nor]) (nm_r (nI_1 j) hJ)⟩⟩
theorem tl_wF {post : St2 → Prop} {a1 a2 a3 a4 a6 a7 a8 a9 a10 a11 a12 : Nat → Int32} {m lev : Nat → Nat} {ng : Nat → Bool} {f : Nat} {st : Nat → Int32} {w : List Bool} (hf : f ≤ 3) (hM : tl_Mg a7 m ng) (hS : tl_Sn m (tl_lF lev f (tl_P m f)) a11 a12) (hW : tl_Wr st w) (hb : w.length + (tl_fb m ng f).length ≤ 5120)
    (hp : ∀ st' r9 r10 r11 r12, tl_Wr st' (w ++ tl_fb m ng f) → tl_Sn m (tl_lF lev f 0) r11 r12 → post (0, nI (w ++ tl_fb m ng f).length, a1, a2, a3, a4, st', a6, a7, a8, r9, r10, r11, r12)) : wpX_writeFrame post (0, nI w.length, a1, a2, a3, a4, st, a6, a7, a8, a9, a10, a11, a12) (nI f) := by
  unfold wpX_writeFrame
  dsimp only
  refine nm_r (tl_m64 f) ?_
  refine pk_loop (fun n i (s : (Nat → Int32) × (Nat → Int32)) => wX_writeFrame_7 post (nI f) 0 (nI w.length) n (nI (tl_orN m (64 * f) i)) (nI (64 * f + i)) a1 a2 a3 a4 st a6 a7 a8 s.1 s.2 a11 a12)
    (fun i s => s.1 = tl_fl a9 (64 * f) i (fun k => nI (m (64 * f + k))) ∧ s.2 = tl_fl a10 (64 * f) i (fun k => tl_e (ng (64 * f + k)))) 64 0 (a9, a10) (by omega) ⟨(tl_fl0 _ _ _).symm, (tl_fl0 _ _ _).symm⟩ ?_ ?_
  · rintro n ⟨r9, r10⟩ ⟨h1, h2⟩
    dsimp only at h1 h2
    refine pk_le (64 * f + 64) (64 * f + 64) (fun _ => ?_) (fun z => absurd z (by omega)) (tl_i64 f 64)
    refine tl_wF89 (lev := lev) hf (fun j => (hM j).1) (fun j hj => ?_) (fun j hj => ?_) hS hW hb (fun st' r11 r12 k1 k2 => hp st' r9 r10 r11 r12 k1 k2)
    · dsimp only
      rw [h1, tl_fl_in (by omega) (by omega), show 64 * f + (j - 64 * f) = j by omega]
    · dsimp only
      rw [h2, tl_fl_in (by omega) (by omega), show 64 * f + (j - 64 * f) = j by omega]
  · rintro n i ⟨r9, r10⟩ hi ⟨h1, h2⟩ hw
    dsimp only at h1 h2
    have hjx : (nI (64 * f + i)).toNatClampNeg = 64 * f + i := nI_clamp (by omega)
    have hin : vp_in (nI (64 * f + i)) 256 := pk_in (64 * f + i) 256 (by omega)
    obtain ⟨m1, m2, m3⟩ := hM (64 * f + i)
    have hN : wX_writeFrame_7 post (nI f) 0 (nI w.length) n (nI (tl_orN m (64 * f) i ||| m (64 * f + i))) (nI (64 * f + i + 1)) a1 a2 a3 a4 st a6 a7 a8 (upd r9 (64 * f + i) (nI (m (64 * f + i)))) (upd r10 (64 * f + i) (tl_e (ng (64 * f + i)))) a11 a12 := by
      refine hw (upd r9 (64 * f + i) (nI (m (64 * f + i))), upd r10 (64 * f + i) (tl_e (ng (64 * f + i)))) ⟨?_, ?_⟩
      · dsimp only
        rw [h1]
        exact tl_fl_up rfl rfl
      · dsimp only
        rw [h2]
        exact tl_fl_up rfl rfl
    refine pk_le (64 * f + 64) (64 * f + i) (fun z => absurd z (by omega)) (fun _ => ⟨hin, ?_⟩) (tl_i64 f 64)
    rw [hjx]
    cases e : ng (64 * f + i) with
    | true =>
      obtain ⟨q1, q2, q3⟩ := m2 e
      rw [e] at hN
      refine br_f q1 ?_
      unfold wX_writeFrame_37
      rw [hjx, show vp_nar .boolean 1 = tl_e true by decide]
      refine ⟨hin, nm_e ⟨hin, ?_⟩⟩
      rw [pk_us]
      exact br_f (by decide) ⟨hin, tl_wF68 (by omega) q2 hN⟩
    | false =>
      obtain ⟨q1, q2⟩ := m3 e
      rw [e] at hN
      refine br_t q1 ?_
      unfold wX_writeFrame_37
      rw [hjx, show vp_nar .boolean 0 = tl_e false by decide]
      refine ⟨hin, nm_e ⟨hin, ?_⟩⟩
      rw [pk_us]
      exact br_t rfl ⟨hin, tl_wF68 (by omega) q2 hN⟩
end
section
/-! reading a group -/
def tl_dm (m : Nat → Nat) (k j : Nat) : Nat := m j / 2 ^ k * 2 ^ k
def tl_dn (m : Nat → Nat) (ng : Nat → Bool) (k j : Nat) : Bool := ng j && tl_SN m k j
theorem tl_dmS {m : Nat → Nat} {k j : Nat} (hk : k ≤ 14) : nI (tl_dm m (k + 1) j) ||| (nI ((m j).testBit k).toNat <<< (nI k &&& 31)) = nI (tl_dm m k j) := by
  have hb : ((m j).testBit k).toNat ≤ 1 := by cases (m j).testBit k <;> decide
  have hp : 2 ^ k ≤ 2 ^ 14 := Nat.pow_le_pow_right (by decide) hk
  have h1 : ((m j).testBit k).toNat * 2 ^ k ≤ 2 ^ k := by
    have := Nat.mul_le_mul_right (2 ^ k) hb
    omega
  rw [pk_shlN (nI k &&& 31) k (tl_s_l k (by omega)) (by omega), tl_nor]
  congr 1
  unfold tl_dm
  have h2 : ((m j).testBit k).toNat * 2 ^ k < 2 ^ (k + 1) := by
    rw [Nat.pow_succ]
    have := Nat.two_pow_pos k
    omega
  rw [Nat.mul_comm, ← Nat.two_pow_add_eq_or_of_lt h2, ← tl_dig (m j) k, Nat.add_mul, Nat.pow_succ]
  grind
def tl_v9 (m : Nat → Nat) (pl g : Nat) (k : Nat) : Int32 := nI (tl_dm m pl (4 * g + k))
def tl_v10 (m : Nat → Nat) (ng : Nat → Bool) (pl g : Nat) (k : Nat) : Int32 := tl_e (tl_dn m ng pl (4 * g + k))
theorem tl_rG43 {post : St2 → Prop} {a1 a2 a3 a4 a5 a6 a7 a8 a9 a10 a11 a12 : Nat → Int32} {m : Nat → Nat} {ng : Nat → Bool} {g pl q : Nat} (hg : g < 64) (hpl : pl ≤ 14) (h9 : ∀ j, 4 * g ≤ j → j < 4 * g + 4 → a9 j = nI (tl_dm m (pl + 1) j)) (h10 : ∀ j, 4 * g ≤ j → j < 4 * g + 4 → a10 j = tl_e (tl_dn m ng (pl + 1) j)) (h11 : ∀ j, 4 * g ≤ j → j < 4 * g + 4 → a11 j = tl_e (tl_SN m (pl + 1) j)) (hR : tl_Rs a5 q (tl_cbs m ng pl (4 * g) 4))
    (hp : post (0, nI (q + (tl_cbs m ng pl (4 * g) 4).length), a1, a2, a3, a4, a5, a6, a7, a8, tl_fl a9 (4 * g) 4 (tl_v9 m pl g), tl_fl a10 (4 * g) 4 (tl_v10 m ng pl g), tl_fl a11 (4 * g) 4 (tl_sv m pl g), a12)) : ∃ fu, wX_readGroup_43 post (nI g) (nI pl) fu (nI (4 * g)) 0 (nI q) a1 a2 a3 a4 a5 a6 a7 a8 a9 a10 a11 a12 := by
  refine pk_loop (fun n i (s : Nat × (Nat → Int32) × (Nat → Int32) × (Nat → Int32)) => wX_readGroup_43 post (nI g) (nI pl) n (nI (4 * g + i)) 0 (nI s.1) a1 a2 a3 a4 a5 a6 a7 a8 s.2.1 s.2.2.1 s.2.2.2 a12)
    (fun i s => tl_Rs a5 s.1 (tl_cbs m ng pl (4 * g + i) (4 - i)) ∧ s.1 + (tl_cbs m ng pl (4 * g + i) (4 - i)).length = q + (tl_cbs m ng pl (4 * g) 4).length ∧ s.2.1 = tl_fl a9 (4 * g) i (tl_v9 m pl g) ∧ s.2.2.1 = tl_fl a10 (4 * g) i (tl_v10 m ng pl g) ∧ s.2.2.2 = tl_fl a11 (4 * g) i (tl_sv m pl g)) 4 0 (q, a9, a10, a11) (by omega) ⟨hR, rfl, (tl_fl0 _ _ _).symm, (tl_fl0 _ _ _).symm, (tl_fl0 _ _ _).symm⟩ ?_ ?_
  · rintro n ⟨q', s9, s10, s11⟩ ⟨h1, h2, k9, k10, k11⟩
    dsimp only at h1 h2 k9 k10 k11
    have h2' : q' = q + (tl_cbs m ng pl (4 * g) 4).length := h2
    subst h2' k9 k10 k11
    exact pk_le (4 * g + 4) (4 * g + 4) (fun _ => hp) (fun z => absurd z (by omega)) (tl_i4 g 4)
  · rintro n i ⟨q', s9, s10, s11⟩ hi ⟨h1, h2, k9, k10, k11⟩ hw
    dsimp only at h1 h2 k9 k10 k11
    rw [show 4 - i = (4 - (i + 1)) + 1 by omega] at h1 h2
    have hcb : tl_cbs m ng pl (4 * g + i) ((4 - (i + 1)) + 1) = tl_cb m ng pl (4 * g + i) ++ tl_cbs m ng pl (4 * g + (i + 1)) (4 - (i + 1)) := rfl
    rw [hcb] at h1 h2
    rw [List.length_append] at h2
    obtain ⟨r1, r2⟩ := tl_Rs_app h1
    unfold tl_cb at r1 r2 h2
    obtain ⟨r3, r4⟩ := tl_Rs_app r1
    rw [List.length_append] at r2 h2
    have hjx : (nI (4 * g + i)).toNatClampNeg = 4 * g + i := nI_clamp (by omega)
    have hin : vp_in (nI (4 * g + i)) 256 := pk_in (4 * g + i) 256 (by omega)
    have hs : s11 (4 * g + i) = tl_e (tl_SN m (pl + 1) (4 * g + i)) := by
      rw [k11, tl_fl_out (by omega), h11 _ (by omega) (by omega)]
    have hs9 : s9 (4 * g + i) = nI (tl_dm m (pl + 1) (4 * g + i)) := by
      rw [k9, tl_fl_out (by omega), h9 _ (by omega) (by omega)]
    have ha : a11 (4 * g + i) = tl_e (tl_SN m (pl + 1) (4 * g + i)) := h11 _ (by omega) (by omega)
    have ha10 : a10 (4 * g + i) = tl_e (ng (4 * g + i) && tl_SN m (pl + 1) (4 * g + i)) := h10 _ (by omega) (by omega)
    have hsn := tl_SN_s m pl (4 * g + i)
    have hdv := tl_dmS (m := m) (j := 4 * g + i) hpl
    have e9 : upd s9 (4 * g + i) (nI (tl_dm m pl (4 * g + i))) = tl_fl a9 (4 * g) (i + 1) (tl_v9 m pl g) := by
      rw [k9]
      exact tl_fl_up rfl rfl
    have e10 : tl_v10 m ng pl g i = tl_e (ng (4 * g + i) && tl_SN m pl (4 * g + i)) := rfl
    have e11 : tl_sv m pl g i = tl_e (tl_SN m pl (4 * g + i)) := rfl
    rw [hsn] at e10 e11
    refine pk_le (4 * g + 4) (4 * g + i) (fun z => absurd z (by omega)) (fun _ => tl_read1 (t := (m (4 * g + i)).testBit pl) r3 ⟨hin, hin, ?_⟩) (tl_i4 g 4)
    rw [hjx]
    refine nm_r (e' := tl_fl a9 (4 * g) (i + 1) (tl_v9 m pl g)) (by rw [← e9, ← hdv, ← hs9]) ⟨hin, ?_⟩
    show (s11 (4 * g + i) = 0 → _) ∧ (¬ s11 (4 * g + i) = 0 → _)
    rw [hs]
    generalize tl_SN m (pl + 1) (4 * g + i) = sn at *
    generalize (m (4 * g + i)).testBit pl = t at *
    have go : (if (!sn && t) = true then [ng (4 * g + i)] else []) = [] → sn = (sn || t) → wX_readGroup_43 post (nI g) (nI pl) n (nI (4 * g + i + 1)) 0 (nI (q' + 1)) a1 a2 a3 a4 a5 a6 a7 a8 (tl_fl a9 (4 * g) (i + 1) (tl_v9 m pl g)) s10 s11 a12 := by
      intro z1 z2
      rw [z1] at r2 h2
      refine hw (q' + 1, tl_fl a9 (4 * g) (i + 1) (tl_v9 m pl g), s10, s11) ⟨r2, ?_, rfl, ?_, ?_⟩
      · exact (by show q' + 1 + _ = _; rw [← h2]; show _ = q' + (1 + 0 + _); omega)
      · dsimp only
        rw [k10]
        refine tl_fl_keep ?_
        rw [ha10, e10, ← z2]
      · dsimp only
        rw [k11]
        refine tl_fl_keep ?_
        rw [ha, e11, ← z2]
    cases sn with
    | true => exact br_f (by decide) (nm_r (nI_1 (4 * g + i)) (go rfl rfl))
    | false =>
      refine br_t rfl ?_
      cases t with
      | false => exact br_f (by decide) (nm_r (nI_1 (4 * g + i)) (go rfl rfl))
      | true =>
        refine br_t rfl ⟨hin, nm_e ?_⟩
        refine tl_read1_2 (t := ng (4 * g + i)) r4 ?_
        have fin : ∀ z, z = tl_e (ng (4 * g + i)) → wX_readGroup_43 post (nI g) (nI pl) n (nI (4 * g + i + 1)) 0 (nI (q' + 1 + 1)) a1 a2 a3 a4 a5 a6 a7 a8 (tl_fl a9 (4 * g) (i + 1) (tl_v9 m pl g)) (upd s10 (4 * g + i) z) (upd s11 (4 * g + i) 1) a12 := by
          intro z hz
          subst hz
          refine hw (q' + 1 + 1, tl_fl a9 (4 * g) (i + 1) (tl_v9 m pl g), upd s10 (4 * g + i) (tl_e (ng (4 * g + i))), upd s11 (4 * g + i) 1) ⟨r2, ?_, rfl, ?_, ?_⟩
          · exact (by show q' + 1 + 1 + _ = _; rw [← h2]; show _ = q' + (1 + 1 + _); omega)
          · dsimp only
            rw [k10]
            refine tl_fl_up rfl ?_
            rw [e10, Bool.false_or, Bool.and_true]
          · dsimp only
            rw [k11]
            refine tl_fl_up rfl ?_
            rw [e11]
            rfl
        generalize ng (4 * g + i) = t2 at *
        cases t2 with
        | true => exact br_t rfl ⟨hin, nm_e (nm_r (nI_1 (4 * g + i)) (fin 1 rfl))⟩
        | false => exact br_f (by decide) ⟨hin, nm_e (nm_r (nI_1 (4 * g + i)) (fin 0 rfl))⟩
theorem tl_rG29 {post : St2 → Prop} {a1 a2 a3 a4 a5 a6 a7 a8 a9 a10 a11 a12 : Nat → Int32} {m : Nat → Nat} {ng : Nat → Bool} {g pl q : Nat} (hg : g < 64) (hpl : pl ≤ 14) (h9 : ∀ j, 4 * g ≤ j → j < 4 * g + 4 → a9 j = nI (tl_dm m (pl + 1) j)) (h10 : ∀ j, 4 * g ≤ j → j < 4 * g + 4 → a10 j = tl_e (tl_dn m ng (pl + 1) j)) (h11 : ∀ j, 4 * g ≤ j → j < 4 * g + 4 → a11 j = tl_e (tl_SN m (pl + 1) j)) (h12 : a12 g = tl_e (tl_GS m pl g)) (hR : tl_Rs a5 q (tl_gt m ng pl g))
    (hp : ∀ s9 s10 s11, (∀ j, 4 * g ≤ j → j < 4 * g + 4 → s9 j = nI (tl_dm m pl j) ∧ s10 j = tl_e (tl_dn m ng pl j) ∧ s11 j = tl_e (tl_SN m pl j)) → (∀ j, j < 4 * g ∨ 4 * g + 4 ≤ j → s9 j = a9 j ∧ s10 j = a10 j ∧ s11 j = a11 j) → post (0, nI (q + (tl_gt m ng pl g).length), a1, a2, a3, a4, a5, a6, a7, a8, s9, s10, s11, a12)) : wX_readGroup_29 post (nI g) (nI pl) 0 (nI q) a1 a2 a3 a4 a5 a6 a7 a8 a9 a10 a11 a12 := by
  unfold wX_readGroup_29
  rw [nI_clamp (show g < 2 ^ 31 by omega), h12]
  refine ⟨pk_in g 64 hg, ?_⟩
  unfold tl_gt at hR hp
  cases e : tl_GS m pl g with
  | false =>
    rw [e] at hR hp
    rw [if_neg (by decide)] at hp
    refine br_t rfl (hp a9 a10 a11 (fun j h1 h2 => ?_) (fun j _ => ⟨rfl, rfl, rfl⟩))
    have z := tl_GS_cell e h1 h2
    have z1 := tl_SN_up z
    have hlt : m j < 2 ^ pl := Nat.lt_of_not_le (of_decide_eq_false z)
    have hlt1 : m j < 2 ^ (pl + 1) := Nat.lt_of_not_le (of_decide_eq_false z1)
    refine ⟨?_, ?_, ?_⟩
    · rw [h9 j h1 h2]
      unfold tl_dm
      rw [Nat.div_eq_of_lt hlt, Nat.div_eq_of_lt hlt1, Nat.zero_mul, Nat.zero_mul]
    · rw [h10 j h1 h2]
      unfold tl_dn
      rw [z, z1]
    · rw [h11 j h1 h2, z, z1]
  | true =>
    rw [e] at hR hp
    rw [if_pos rfl] at hR hp
    refine br_f (by decide) (nm_r (tl_m4 g) (tl_rG43 hg hpl h9 h10 h11 hR (hp _ _ _ (fun j h1 h2 => ?_) (fun j h => ⟨tl_fl_out (by omega), tl_fl_out (by omega), tl_fl_out (by omega)⟩))))
    rw [tl_fl_in h1 (by omega), tl_fl_in h1 (by omega), tl_fl_in h1 (by omega)]
    unfold tl_sv tl_v9 tl_v10
    rw [show 4 * g + (j - 4 * g) = j by omega]
    exact ⟨rfl, rfl, rfl⟩
/-- what the reader has of a frame's cells -/
def tl_Dc (m : Nat → Nat) (ng : Nat → Bool) (f : Nat) (lev : Nat → Nat) (s9 s10 : Nat → Int32) : Prop := ∀ j, j / 64 = f → s9 j = nI (tl_dm m (lev (j / 4)) j) ∧ s10 j = tl_e (tl_dn m ng (lev (j / 4)) j)
theorem tl_rG {post : St2 → Prop} {a1 a2 a3 a4 a5 a6 a7 a8 a9 a10 a11 a12 : Nat → Int32} {m lev : Nat → Nat} {ng : Nat → Bool} {f g pl q : Nat} (hf : f ≤ 3) (hg : g / 16 = f) (hpl : pl ≤ 14) (hD : tl_Dc m ng f lev a9 a10) (hS : tl_Sn m lev a11 a12) (hl : lev g = pl + 1) (hR : tl_Rs a5 q (tl_gb m ng pl g))
    (hp : ∀ s9 s10 s11 s12, tl_Dc m ng f (tl_lu lev g pl) s9 s10 → tl_Sn m (tl_lu lev g pl) s11 s12 → post (0, nI (q + (tl_gb m ng pl g).length), a1, a2, a3, a4, a5, a6, a7, a8, s9, s10, s11, s12)) : wpX_readGroup post (0, nI q, a1, a2, a3, a4, a5, a6, a7, a8, a9, a10, a11, a12) (nI g) (nI pl) := by
  unfold wpX_readGroup
  dsimp only
  have hg64 : g < 64 := by omega
  have h9 : ∀ j, 4 * g ≤ j → j < 4 * g + 4 → a9 j = nI (tl_dm m (pl + 1) j) := by
    intro j h1 h2
    rw [(hD j (by omega)).1, show j / 4 = g by omega, hl]
  have h10 : ∀ j, 4 * g ≤ j → j < 4 * g + 4 → a10 j = tl_e (tl_dn m ng (pl + 1) j) := by
    intro j h1 h2
    rw [(hD j (by omega)).2, show j / 4 = g by omega, hl]
  have h11 : ∀ j, 4 * g ≤ j → j < 4 * g + 4 → a11 j = tl_e (tl_SN m (pl + 1) j) := by
    intro j h1 h2
    rw [hS.1 j (by omega), show j / 4 = g by omega, hl]
  have h12 := hS.2 g hg64
  rw [hl] at h12
  have fin : ∀ (s9 s10 s11 s12 : Nat → Int32), (∀ j, 4 * g ≤ j → j < 4 * g + 4 → s9 j = nI (tl_dm m pl j) ∧ s10 j = tl_e (tl_dn m ng pl j) ∧ s11 j = tl_e (tl_SN m pl j)) → (∀ j, j < 4 * g ∨ 4 * g + 4 ≤ j → s9 j = a9 j ∧ s10 j = a10 j ∧ s11 j = a11 j) → s12 g = tl_e (tl_GS m pl g) → (∀ x, x ≠ g → s12 x = a12 x) → post (0, nI (q + (tl_gb m ng pl g).length), a1, a2, a3, a4, a5, a6, a7, a8, s9, s10, s11, s12) := by
    intro s9 s10 s11 s12 k1 k2 k3 k4
    refine hp s9 s10 s11 s12 (fun j hj => ?_) (tl_Sn_lu hS (fun j q1 q2 => (k1 j q1 q2).2.2) (fun j q1 => (k2 j q1).2.2) k3 k4)
    unfold tl_lu
    by_cases e : j / 4 = g
    · rw [if_pos e]
      have := k1 j (by omega) (by omega)
      exact ⟨this.1, this.2.1⟩
    · rw [if_neg e]
      have := k2 j (by omega)
      rw [this.1, this.2.1]
      exact hD j hj
  unfold tl_gb tl_gh at hR fin
  rw [nI_clamp (show g < 2 ^ 31 by omega), h12]
  refine ⟨pk_in g 64 hg64, ?_⟩
  cases e : tl_GS m (pl + 1) g with
  | true =>
    rw [e] at hR fin
    rw [if_pos rfl, List.nil_append] at hR fin
    have e2 := tl_GS_up e
    have h12' : a12 g = tl_e (tl_GS m pl g) := by rw [h12, e, e2]
    exact br_f (by decide) (tl_rG29 hg64 hpl h9 h10 h11 h12' hR (fun s9 s10 s11 k1 k2 => fin s9 s10 s11 a12 k1 k2 h12' (fun _ _ => rfl)))
  | false =>
    rw [e] at hR fin
    rw [if_neg (by decide)] at hR fin
    obtain ⟨r1, r2⟩ := tl_Rs_app hR
    refine br_t rfl (tl_read1_3 (t := tl_GS m pl g) r1 ?_)
    have go : ∀ z, z = tl_e (tl_GS m pl g) → wX_readGroup_28 post (nI g) (nI pl) z (nI g) 0 (nI (q + 1)) a1 a2 a3 a4 a5 a6 a7 a8 a9 a10 a11 a12 := by
      intro z hz
      subst hz
      unfold wX_readGroup_28
      rw [tl_narb, nI_clamp (show g < 2 ^ 31 by omega)]
      refine ⟨pk_in g 64 hg64, nm_e (tl_rG29 hg64 hpl h9 h10 h11 pk_us r2 (fun s9 s10 s11 k1 k2 => ?_))⟩
      have := fin s9 s10 s11 (upd a12 g (tl_e (tl_GS m pl g))) k1 k2 pk_us (fun x hx => pk_un hx)
      rw [List.length_append, ← Nat.add_assoc] at this
      exact this
    cases e3 : tl_GS m pl g with
    | true =>
      rw [e3] at go
      exact br_t rfl (go 1 rfl)
    | false =>
      rw [e3] at go
      exact br_f (by decide) (go 0 rfl)
end
section
/-! reading a frame -/
theorem tl_rF56 {post : St2 → Prop} {a1 a2 a3 a4 a5 a6 a7 a8 : Nat → Int32} {J : Int32 → Int32 → Int32 → (Nat → Int32) → (Nat → Int32) → (Nat → Int32) → (Nat → Int32) → (Nat → Int32) → (Nat → Int32) → (Nat → Int32) → (Nat → Int32) → (Nat → Int32) → (Nat → Int32) → (Nat → Int32) → (Nat → Int32) → Prop} {m lev : Nat → Nat} {ng : Nat → Bool} {f k q : Nat} {s9 s10 s11 s12 : Nat → Int32} (hf : f ≤ 3) (hk : k ≤ 14) (hD : tl_Dc m ng f (tl_lF lev f (k + 1)) s9 s10) (hS : tl_Sn m (tl_lF lev f (k + 1)) s11 s12) (hR : tl_Rs a5 q (tl_gs m ng k (16 * f) 16))
    (hJ : ∀ r9 r10 r11 r12, tl_Dc m ng f (tl_lF lev f k) r9 r10 → tl_Sn m (tl_lF lev f k) r11 r12 → J (nI k + (-1)) 0 (nI (q + (tl_gs m ng k (16 * f) 16).length)) a1 a2 a3 a4 a5 a6 a7 a8 r9 r10 r11 r12) : ∃ fu, wX_readFrame_56 post J (nI f) (nI k) fu (nI (16 * f)) 0 (nI q) a1 a2 a3 a4 a5 a6 a7 a8 s9 s10 s11 s12 := by
  refine pk_loop (fun n i (s : Nat × (Nat → Int32) × (Nat → Int32) × (Nat → Int32) × (Nat → Int32)) => wX_readFrame_56 post J (nI f) (nI k) n (nI (16 * f + i)) 0 (nI s.1) a1 a2 a3 a4 a5 a6 a7 a8 s.2.1 s.2.2.1 s.2.2.2.1 s.2.2.2.2)
    (fun i s => tl_Rs a5 s.1 (tl_gs m ng k (16 * f + i) (16 - i)) ∧ s.1 + (tl_gs m ng k (16 * f + i) (16 - i)).length = q + (tl_gs m ng k (16 * f) 16).length ∧ tl_Dc m ng f (tl_lv lev f k i) s.2.1 s.2.2.1 ∧ tl_Sn m (tl_lv lev f k i) s.2.2.2.1 s.2.2.2.2) 16 0 (q, s9, s10, s11, s12) (by omega) ⟨hR, rfl, by rw [tl_lv0]; exact hD, by rw [tl_lv0]; exact hS⟩ ?_ ?_
  · rintro n ⟨q', r9, r10, r11, r12⟩ ⟨h1, h2, h3, h4⟩
    dsimp only at h1 h2 h3 h4
    rw [tl_lv16] at h3 h4
    have h2' : q' = q + (tl_gs m ng k (16 * f) 16).length := h2
    subst h2'
    exact pk_le (16 * f + 16) (16 * f + 16) (fun _ => nm_e (hJ r9 r10 r11 r12 h3 h4)) (fun z => absurd z (by omega)) (by rw [tl_m16]; exact nI_add _ 16)
  · rintro n i ⟨q', r9, r10, r11, r12⟩ hi ⟨h1, h2, h3, h4⟩ hw
    dsimp only at h1 h2 h3 h4
    rw [show 16 - i = (16 - (i + 1)) + 1 by omega] at h1 h2
    have hgs : tl_gs m ng k (16 * f + i) ((16 - (i + 1)) + 1) = tl_gb m ng k (16 * f + i) ++ tl_gs m ng k (16 * f + (i + 1)) (16 - (i + 1)) := rfl
    rw [hgs] at h1 h2
    rw [List.length_append] at h2
    obtain ⟨r1, r2⟩ := tl_Rs_app h1
    refine pk_le (16 * f + 16) (16 * f + i) (fun z => absurd z (by omega)) (fun _ => ?_) (by rw [tl_m16]; exact nI_add _ 16)
    refine tl_rG (lev := tl_lv lev f k i) hf (by omega) hk h3 h4 (tl_lv_at lev f k hi) r1 (fun t9 t10 t11 t12 k1 k2 => nm_r (nI_1 (16 * f + i)) (hw (q' + (tl_gb m ng k (16 * f + i)).length, t9, t10, t11, t12) ⟨r2, ?_, ?_, ?_⟩))
    · dsimp only
      omega
    · rw [← tl_lvS lev f k hi]
      exact k1
    · rw [← tl_lvS lev f k hi]
      exact k2
theorem tl_rF92 {post : St2 → Prop} {p : Int32} {a1 a2 a3 a4 a5 a6 a7 a8 a9 a10 a11 a12 : Nat → Int32} {m lev : Nat → Nat} {ng : Nat → Bool} {f : Nat} {c : Nat → Int32} (hf : f ≤ 3) (hM : tl_Mg c m ng) (hD : tl_Dc m ng f (tl_lF lev f 0) a9 a10) (hp : post (0, p, a1, a2, a3, a4, a5, a6, tl_fl a7 (64 * f) 64 (fun k => c (64 * f + k)), a8, a9, a10, a11, a12)) : ∃ fu, wX_readFrame_92 post (nI f) 0 p fu (nI (64 * f)) a1 a2 a3 a4 a5 a6 a7 a8 a9 a10 a11 a12 := by
  refine pk_loop (fun n i s => wX_readFrame_92 post (nI f) 0 p n (nI (64 * f + i)) a1 a2 a3 a4 a5 a6 s a8 a9 a10 a11 a12) (fun i s => s = tl_fl a7 (64 * f) i (fun k => c (64 * f + k))) 64 0 a7 (by omega) (tl_fl0 _ _ _).symm ?_ ?_
  · intro n s hs
    subst hs
    exact pk_le (64 * f + 64) (64 * f + 64) (fun _ => hp) (fun z => absurd z (by omega)) (tl_i64 f 64)
  · intro n i s hi hs hw
    have hjx : (nI (64 * f + i)).toNatClampNeg = 64 * f + i := nI_clamp (by omega)
    have hin : vp_in (nI (64 * f + i)) 256 := pk_in (64 * f + i) 256 (by omega)
    obtain ⟨m1, m2, m3⟩ := hM (64 * f + i)
    obtain ⟨d1, d2⟩ := hD (64 * f + i) (by omega)
    have hl : tl_lF lev f 0 ((64 * f + i) / 4) = 0 := if_pos (by omega)
    rw [hl] at d1 d2
    have d1' : a9 (64 * f + i) = nI (m (64 * f + i)) := by
      rw [d1]
      unfold tl_dm
      rw [Nat.pow_zero, Nat.div_one, Nat.mul_one]
    refine pk_le (64 * f + 64) (64 * f + i) (fun z => absurd z (by omega)) (fun _ => ⟨hin, ?_⟩) (tl_i64 f 64)
    rw [hjx, d1', d2]
    have go : ∀ z, z = c (64 * f + i) → wX_readFrame_92 post (nI f) 0 p n (nI (64 * f + i + 1)) a1 a2 a3 a4 a5 a6 (upd s (64 * f + i) z) a8 a9 a10 a11 a12 := by
      intro z hz
      subst hz
      refine hw (upd s (64 * f + i) (c (64 * f + i))) ?_
      rw [hs]
      exact tl_fl_up rfl rfl
    unfold tl_dn
    cases e : ng (64 * f + i) with
    | true =>
      obtain ⟨q1, q2, q3⟩ := m2 e
      have q4 : tl_SN m 0 (64 * f + i) = true := by
        unfold tl_SN
        refine decide_eq_true ?_
        rw [Nat.pow_zero]
        refine Nat.pos_of_ne_zero (fun z => q1 ?_)
        rw [← q3, z]
        decide
      rw [q4]
      exact br_f (by decide) ⟨hin, hin, nm_e (nm_r (nI_1 (64 * f + i)) (go _ q3))⟩
    | false =>
      obtain ⟨q1, q2⟩ := m3 e
      exact br_t rfl ⟨hin, hin, nm_e (nm_r (nI_1 (64 * f + i)) (go _ q2.symm))⟩
theorem tl_rF46 {post : St2 → Prop} {a1 a2 a3 a4 a5 a6 a7 a8 : Nat → Int32} {m lev : Nat → Nat} {ng : Nat → Bool} {f k q : Nat} {c s9 s10 s11 s12 : Nat → Int32} (hf : f ≤ 3) (hk : k ≤ 14) (hM : tl_Mg c m ng) (hD : tl_Dc m ng f (tl_lF lev f k) s9 s10) (hS : tl_Sn m (tl_lF lev f k) s11 s12) (hR : tl_Rs a5 q (tl_pb m ng f k))
    (hp : ∀ r9 r10 r11 r12, tl_Sn m (tl_lF lev f 0) r11 r12 → post (0, nI (q + (tl_pb m ng f k).length), a1, a2, a3, a4, a5, a6, tl_fl a7 (64 * f) 64 (fun k => c (64 * f + k)), a8, r9, r10, r11, r12)) : ∃ fu, wX_readFrame_46 post (nI f) fu (nI k + (-1)) 0 (nI q) a1 a2 a3 a4 a5 a6 a7 a8 s9 s10 s11 s12 := by
  refine ⟨_, pk_loopD (fun n e (s : Nat × (Nat → Int32) × (Nat → Int32) × (Nat → Int32) × (Nat → Int32)) => wX_readFrame_46 post (nI f) n (nI e + (-1)) 0 (nI s.1) a1 a2 a3 a4 a5 a6 a7 a8 s.2.1 s.2.2.1 s.2.2.2.1 s.2.2.2.2)
    (fun e s => tl_Rs a5 s.1 (tl_pb m ng f e) ∧ s.1 + (tl_pb m ng f e).length = q + (tl_pb m ng f k).length ∧ tl_Dc m ng f (tl_lF lev f e) s.2.1 s.2.2.1 ∧ tl_Sn m (tl_lF lev f e) s.2.2.2.1 s.2.2.2.2 ∧ e ≤ k) ?_ ?_ k (q, s9, s10, s11, s12) ⟨hR, rfl, hD, hS, Nat.le_refl _⟩⟩
  · rintro n ⟨q', r9, r10, r11, r12⟩ ⟨h1, h2, h3, h4, h5⟩
    dsimp only at h1 h2 h3 h4
    have h2' : q' = q + (tl_pb m ng f k).length := h2
    subst h2'
    exact br_t (by decide) (nm_r (tl_m64 f) (tl_rF92 hf hM h3 (hp r9 r10 r11 r12 h4)))
  · rintro n e ⟨q', r9, r10, r11, r12⟩ ⟨h1, h2, h3, h4, h5⟩ hw
    dsimp only at h1 h2 h3 h4
    have hpb : tl_pb m ng f (e + 1) = tl_gs m ng e (16 * f) 16 ++ tl_pb m ng f e := rfl
    rw [hpb] at h1 h2
    rw [List.length_append] at h2
    obtain ⟨r1, r2⟩ := tl_Rs_app h1
    show wX_readFrame_46 post (nI f) (n + 1) (nI (e + 1) + (-1)) 0 (nI q') a1 a2 a3 a4 a5 a6 a7 a8 r9 r10 r11 r12
    rw [pk_m1]
    refine br_f (nI_pos (by omega)) (nm_r (tl_m16 f) (tl_rF56 hf (by omega) h3 h4 r1 (fun t9 t10 t11 t12 k1 k2 => hw (q' + (tl_gs m ng e (16 * f) 16).length, t9, t10, t11, t12) ⟨r2, ?_, k1, k2, by omega⟩)))
    dsimp only
    omega
theorem tl_rF {post : St2 → Prop} {a1 a2 a3 a4 a5 a6 a7 a8 a9 a10 a11 a12 : Nat → Int32} {m lev : Nat → Nat} {ng : Nat → Bool} {f q : Nat} {c : Nat → Int32} (hf : f ≤ 3) (hM : tl_Mg c m ng) (hS : tl_Sn m (tl_lF lev f (tl_P m f)) a11 a12) (hR : tl_Rs a5 q (tl_fb m ng f))
    (hp : ∀ r9 r10 r11 r12, tl_Sn m (tl_lF lev f 0) r11 r12 → post (0, nI (q + (tl_fb m ng f).length), a1, a2, a3, a4, a5, a6, tl_fl a7 (64 * f) 64 (fun k => c (64 * f + k)), a8, r9, r10, r11, r12)) : wpX_readFrame post (0, nI q, a1, a2, a3, a4, a5, a6, a7, a8, a9, a10, a11, a12) (nI f) := by
  unfold wpX_readFrame
  dsimp only
  have hP := tl_P_le (fun j => (hM j).1) f
  refine nm_r (tl_m64 f) ?_
  refine pk_loop (fun n i (s : (Nat → Int32) × (Nat → Int32)) => wX_readFrame_5 post (nI f) 0 (nI q) n (nI (64 * f + i)) a1 a2 a3 a4 a5 a6 a7 a8 s.1 s.2 a11 a12)
    (fun i s => s.1 = tl_fl a9 (64 * f) i (fun _ => 0) ∧ s.2 = tl_fl a10 (64 * f) i (fun _ => 0)) 64 0 (a9, a10) (by omega) ⟨(tl_fl0 _ _ _).symm, (tl_fl0 _ _ _).symm⟩ ?_ ?_
  · rintro n ⟨r9, r10⟩ ⟨h1, h2⟩
    dsimp only at h1 h2
    refine pk_le (64 * f + 64) (64 * f + 64) (fun _ => ?_) (fun z => absurd z (by omega)) (tl_i64 f 64)
    unfold tl_fb at hR hp
    obtain ⟨r1, r2⟩ := tl_Rs_app hR
    rw [tl_bits_len] at r2
    refine tl_read (v := tl_P m f) (len := 4) (Nat.lt_of_le_of_lt hP (by decide)) (by omega) r1 ?_
    refine nm_r (e' := nI (tl_P m f) + (-1)) (by show nI (tl_P m f) - 1 = _; grind) ?_
    refine tl_rF46 (c := c) (lev := lev) hf hP hM ?_ hS r2 (fun t9 t10 t11 t12 k => ?_)
    · intro j hj
      have hl : tl_lF lev f (tl_P m f) (j / 4) = tl_P m f := if_pos (by omega)
      have hlt : m j < 2 ^ tl_P m f := by
        rw [← hj]
        exact tl_P_lt (fun j => (hM j).1)
      rw [hl]
      dsimp only
      rw [h1, h2, tl_fl_in (by omega) (by omega), tl_fl_in (by omega) (by omega)]
      unfold tl_dm tl_dn tl_SN
      rw [Nat.div_eq_of_lt hlt, Nat.zero_mul, decide_eq_false (Nat.not_le_of_lt hlt), Bool.and_false]
      exact ⟨rfl, rfl⟩
    · have := hp t9 t10 t11 t12 k
      rw [List.length_append, tl_bits_len, ← Nat.add_assoc] at this
      exact this
  · rintro n i ⟨r9, r10⟩ hi ⟨h1, h2⟩ hw
    dsimp only at h1 h2
    have hjx : (nI (64 * f + i)).toNatClampNeg = 64 * f + i := nI_clamp (by omega)
    have hin : vp_in (nI (64 * f + i)) 256 := pk_in (64 * f + i) 256 (by omega)
    refine pk_le (64 * f + 64) (64 * f + i) (fun z => absurd z (by omega)) (fun _ => ?_) (tl_i64 f 64)
    rw [hjx]
    refine ⟨hin, nm_e ⟨hin, nm_e (nm_r (nI_1 (64 * f + i)) (hw (upd r9 (64 * f + i) 0, upd r10 (64 * f + i) 0) ⟨?_, ?_⟩))⟩⟩
    · dsimp only
      rw [h1]
      exact tl_fl_up rfl rfl
    · dsimp only
      rw [h2]
      exact tl_fl_up rfl rfl
end
section
/-! how long the stream gets -/
def tl_cG (m : Nat → Nat) (k : Nat) : Nat → Nat → Nat
  | _, 0 => 0
  | s, n + 1 => (tl_SN m k s).toNat + tl_cG m k (s + 1) n
theorem tl_cG_add (m : Nat → Nat) (k : Nat) : ∀ n s r, tl_cG m k s (n + r) = tl_cG m k s n + tl_cG m k (s + n) r := by
  intro n
  induction n with
  | zero => intro s r; rw [Nat.zero_add]; exact (Nat.zero_add _).symm
  | succ n ih =>
    intro s r
    rw [show n + 1 + r = (n + r) + 1 by omega]
    show (tl_SN m k s).toNat + tl_cG m k (s + 1) (n + r) = (tl_SN m k s).toNat + tl_cG m k (s + 1) n + tl_cG m k (s + (n + 1)) r
    rw [ih, show s + 1 + n = s + (n + 1) by omega]
    omega
theorem tl_cG_le (m : Nat → Nat) (k : Nat) : ∀ n s, tl_cG m k s n ≤ n := by
  intro n
  induction n with
  | zero => intro s; exact Nat.le_refl _
  | succ n ih =>
    intro s
    have h1 := ih (s + 1)
    have h2 : (tl_SN m k s).toNat ≤ 1 := by cases tl_SN m k s <;> decide
    show (tl_SN m k s).toNat + tl_cG m k (s + 1) n ≤ n + 1
    omega
theorem tl_cb_len (m : Nat → Nat) (ng : Nat → Bool) (pl j : Nat) : (tl_cb m ng pl j).length + (tl_SN m (pl + 1) j).toNat = 1 + (tl_SN m pl j).toNat := by
  unfold tl_cb
  rw [tl_SN_s m pl j]
  cases tl_SN m (pl + 1) j <;> cases (m j).testBit pl <;> rfl
theorem tl_cbs_len (m : Nat → Nat) (ng : Nat → Bool) (pl : Nat) : ∀ n s, (tl_cbs m ng pl s n).length + tl_cG m (pl + 1) s n = n + tl_cG m pl s n := by
  intro n
  induction n with
  | zero => intro s; rfl
  | succ n ih =>
    intro s
    have h1 := ih (s + 1)
    have h2 := tl_cb_len m ng pl s
    show (tl_cb m ng pl s ++ tl_cbs m ng pl (s + 1) n).length + ((tl_SN m (pl + 1) s).toNat + tl_cG m (pl + 1) (s + 1) n) = n + 1 + ((tl_SN m pl s).toNat + tl_cG m pl (s + 1) n)
    rw [List.length_append]
    omega
theorem tl_cG_mono (m : Nat → Nat) (pl : Nat) : ∀ n s, tl_cG m (pl + 1) s n ≤ tl_cG m pl s n := by
  intro n
  induction n with
  | zero => intro s; exact Nat.le_refl _
  | succ n ih =>
    intro s
    have h1 := ih (s + 1)
    have h2 : (tl_SN m (pl + 1) s).toNat ≤ (tl_SN m pl s).toNat := by
      rw [tl_SN_s m pl s]
      cases tl_SN m (pl + 1) s <;> cases (m s).testBit pl <;> decide
    show (tl_SN m (pl + 1) s).toNat + tl_cG m (pl + 1) (s + 1) n ≤ (tl_SN m pl s).toNat + tl_cG m pl (s + 1) n
    omega
theorem tl_gb_len (m : Nat → Nat) (ng : Nat → Bool) (pl g : Nat) : (tl_gb m ng pl g).length + tl_cG m (pl + 1) (4 * g) 4 ≤ 5 + tl_cG m pl (4 * g) 4 := by
  unfold tl_gb
  rw [List.length_append]
  have h1 : (tl_gh m pl g).length ≤ 1 := by
    unfold tl_gh
    split
    · exact Nat.zero_le _
    · exact Nat.le_refl _
  have h2 : (tl_gt m ng pl g).length + tl_cG m (pl + 1) (4 * g) 4 ≤ 4 + tl_cG m pl (4 * g) 4 := by
    unfold tl_gt
    split
    · exact Nat.le_of_eq (tl_cbs_len m ng pl 4 (4 * g))
    · have := tl_cG_mono m pl 4 (4 * g)
      show 0 + _ ≤ _
      omega
  omega
theorem tl_gs_len (m : Nat → Nat) (ng : Nat → Bool) (pl : Nat) : ∀ n g, (tl_gs m ng pl g n).length + tl_cG m (pl + 1) (4 * g) (4 * n) ≤ 5 * n + tl_cG m pl (4 * g) (4 * n) := by
  intro n
  induction n with
  | zero => intro g; exact Nat.le_refl _
  | succ n ih =>
    intro g
    have h1 := ih (g + 1)
    have h2 := tl_gb_len m ng pl g
    rw [show 4 * (n + 1) = 4 + 4 * n by omega, tl_cG_add, tl_cG_add, show 4 * g + 4 = 4 * (g + 1) by omega]
    show (tl_gb m ng pl g ++ tl_gs m ng pl (g + 1) n).length + _ ≤ _
    rw [List.length_append]
    omega
theorem tl_pb_len (m : Nat → Nat) (ng : Nat → Bool) (f : Nat) : ∀ k, (tl_pb m ng f k).length + tl_cG m k (64 * f) 64 ≤ 80 * k + tl_cG m 0 (64 * f) 64 := by
  intro k
  induction k with
  | zero => exact Nat.le_of_eq (by show 0 + _ = 80 * 0 + _; omega)
  | succ k ih =>
    have h1 := tl_gs_len m ng k 16 (16 * f)
    rw [show 4 * (16 * f) = 64 * f by omega, show 4 * 16 = 64 from rfl] at h1
    show (tl_gs m ng k (16 * f) 16 ++ tl_pb m ng f k).length + _ ≤ _
    rw [List.length_append]
    omega
theorem tl_fb_len {m : Nat → Nat} {ng : Nat → Bool} {f : Nat} (h : tl_P m f ≤ 14) : (tl_fb m ng f).length ≤ 1188 := by
  unfold tl_fb
  rw [List.length_append, tl_bits_len]
  have h1 := tl_pb_len m ng f (tl_P m f)
  have h2 := tl_cG_le m 0 64 (64 * f)
  omega
def tl_fbs (m : Nat → Nat) (ng : Nat → Bool) : Nat → Nat → List Bool
  | _, 0 => []
  | f, n + 1 => tl_fb m ng f ++ tl_fbs m ng (f + 1) n
def tl_vb (v : Nat → Nat) : Nat → Nat → List Bool
  | _, 0 => []
  | k, n + 1 => tl_bits (v k) 5 ++ tl_vb v (k + 1) n
def tl_W (v m : Nat → Nat) (ng : Nat → Bool) : List Bool := tl_vb v 0 12 ++ tl_fbs m ng 0 4
theorem tl_W_len {v m : Nat → Nat} {ng : Nat → Bool} (h : ∀ j, m j < 2 ^ 14) : (tl_W v m ng).length ≤ 5120 := by
  have h1 : ∀ n k, (tl_vb v k n).length = 5 * n := by
    intro n
    induction n with
    | zero => intro k; rfl
    | succ n ih =>
      intro k
      show (tl_bits (v k) 5 ++ tl_vb v (k + 1) n).length = _
      rw [List.length_append, tl_bits_len, ih]
      omega
  have h2 : ∀ n f, (tl_fbs m ng f n).length ≤ 1188 * n := by
    intro n
    induction n with
    | zero => intro f; exact Nat.le_refl _
    | succ n ih =>
      intro f
      show (tl_fb m ng f ++ tl_fbs m ng (f + 1) n).length ≤ _
      rw [List.length_append]
      have q1 := ih (f + 1)
      have q2 := tl_fb_len (ng := ng) (tl_P_le h f)
      omega
  unfold tl_W
  rw [List.length_append, h1]
  have := h2 4 0
  omega
/-! encode -/
def tl_lo (f : Nat) (x c : Nat → Int32) : Nat → Int32 := fun j => if j / 64 < f then x j else c j
theorem tl_lo0 (x c : Nat → Int32) : tl_lo 0 x c = c := by
  funext j
  exact if_neg (by omega)
theorem tl_loS (f : Nat) (x c : Nat → Int32) : tl_fr f x (tl_lo f x c) = tl_lo (f + 1) x c := by
  funext j
  unfold tl_fr tl_lo
  by_cases e : j / 64 = f
  · rw [if_pos e, if_pos (by omega)]
  · rw [if_neg e]
    by_cases e2 : j / 64 < f
    · rw [if_pos e2, if_pos (by omega)]
    · rw [if_neg e2, if_neg (by omega)]
theorem tl_lo_eq {f j : Nat} {x c : Nat → Int32} (h : j / 64 = f) : tl_lo f x c j = c j := if_neg (by omega)
def tl_c0 (v F : Nat → Int32) : Nat → Int32 := tl_ad v (tl_pd v F (-1) 64) 1 64
def tl_c4 (v F : Nat → Int32) : Nat → Int32 := tl_lo 4 (tl_TT (tl_c0 v F)) (tl_c0 v F)
def tl_mO (c : Nat → Int32) : Nat → Nat := fun j => (c j).toInt.natAbs
def tl_nO (c : Nat → Int32) : Nat → Bool := fun j => decide ((c j).toInt < 0)
theorem tl_c4_Mg {v F : Nat → Int32} (h : ∀ j, tl_B 255 (F j)) : tl_Mg (tl_c4 v F) (tl_mO (tl_c4 v F)) (tl_nO (tl_c4 v F)) := by
  have b := tl_pd_B (v := v) h (by omega) (by omega)
  have b2 : ∀ j, tl_B 510 (tl_c0 v F j) := tl_ad_B (v := v) (M := 255) b.1 b.2 (by omega) (by omega)
  refine tl_Mg_of (fun j => ?_)
  unfold tl_c4 tl_lo
  split
  · exact tl_TTB b2 j
  · exact tl_Bw (b2 j) (by omega)
def tl_lE (m : Nat → Nat) (f : Nat) : Nat → Nat := fun x => if x / 16 < f then 0 else tl_P m (x / 16)
theorem tl_lE_P (m : Nat → Nat) (f : Nat) : tl_lF (tl_lE m f) f (tl_P m f) = tl_lE m f := by
  funext x
  unfold tl_lF tl_lE
  by_cases e : x / 16 = f
  · rw [if_pos e, if_neg (by omega), e]
  · rw [if_neg e]
theorem tl_lE_S (m : Nat → Nat) (f : Nat) : tl_lF (tl_lE m f) f 0 = tl_lE m (f + 1) := by
  funext x
  unfold tl_lF tl_lE
  by_cases e : x / 16 = f
  · rw [if_pos e, if_pos (by omega)]
  · rw [if_neg e]
    by_cases e2 : x / 16 < f
    · rw [if_pos e2, if_pos (by omega)]
    · rw [if_neg e2, if_neg (by omega)]
theorem tl_Sn0 {m : Nat → Nat} (h : ∀ j, m j < 2 ^ 14) {s11 s12 : Nat → Int32} (h1 : ∀ j, j < 256 → s11 j = 0) (h2 : ∀ g, g < 64 → s12 g = 0) : tl_Sn m (tl_lE m 0) s11 s12 := by
  have sn : ∀ j g, j / 64 = g / 16 → tl_SN m (tl_lE m 0 g) j = false := by
    intro j g e
    unfold tl_SN tl_lE
    rw [if_neg (by omega), ← e]
    exact decide_eq_false (Nat.not_le_of_lt (tl_P_lt h))
  refine ⟨fun j hj => ?_, fun g hg => ?_⟩
  · rw [h1 j hj, sn j (j / 4) (by omega)]
    rfl
  · rw [h2 g hg]
    unfold tl_GS
    rw [sn (4 * g) g (by omega), sn (4 * g + 1) g (by omega), sn (4 * g + 2) g (by omega), sn (4 * g + 3) g (by omega)]
    rfl
theorem tl_open {post : St2 → Prop} {b p : Int32} {a1 a2 a3 a4 a5 a6 a7 a8 a9 a10 a11 a12 : Nat → Int32} (hp : post (0, 0, a1, a2, a3, a4, a5, a6, a7, a8, a9, a10, tl_fl a11 0 256 tl_Z, tl_fl a12 0 64 tl_Z)) : wpX_open post (b, p, a1, a2, a3, a4, a5, a6, a7, a8, a9, a10, a11, a12) 0 := by
  unfold wpX_open
  dsimp only
  refine nm_r (e' := 0) (by decide) ?_
  refine pk_loop (fun n i s => wX_open_16 post 0 0 n (nI i) a1 a2 a3 a4 a5 a6 a7 a8 a9 a10 s a12) (fun i s => s = tl_fl a11 0 i tl_Z) 256 0 a11 (by omega) (tl_fl0 _ _ _).symm ?_ ?_
  · intro n s hs
    subst hs
    refine pk_le 256 256 (fun _ => ?_) (fun z => absurd z (by omega))
    refine pk_loop (fun n i s => wX_open_38 post 0 0 n (nI i) a1 a2 a3 a4 a5 a6 a7 a8 a9 a10 (tl_fl a11 0 256 tl_Z) s) (fun i s => s = tl_fl a12 0 i tl_Z) 64 0 a12 (by omega) (tl_fl0 _ _ _).symm ?_ ?_
    · intro n s hs
      subst hs
      exact pk_le 64 64 (fun _ => hp) (fun z => absurd z (by omega))
    · intro n i s hi hs hw
      subst hs
      exact pk_le 64 i (fun z => absurd z (by omega)) (fun _ => ⟨pk_in i 64 hi, nm_r (tl_fl_up (by rw [nI_clamp (by omega), Nat.zero_add]) rfl) (nm_r (nI_1 i) (hw _ rfl))⟩)
  · intro n i s hi hs hw
    subst hs
    exact pk_le 256 i (fun z => absurd z (by omega)) (fun _ => ⟨pk_in i 256 hi, nm_r (tl_fl_up (by rw [nI_clamp (by omega), Nat.zero_add]) rfl) (nm_r (nI_1 i) (hw _ rfl))⟩)
theorem tl_en152 {post : Int32 → St2 → Prop} {a1 a2 a3 a4 a6 a7 a8 : Nat → Int32} {m : Nat → Nat} {ng : Nat → Bool} {st s9 s10 s11 s12 : Nat → Int32} {w W : List Bool} (hM : tl_Mg a7 m ng) (hS : tl_Sn m (tl_lE m 0) s11 s12) (hW : tl_Wr st w) (hl : W.length ≤ 5120) (hw : w ++ tl_fbs m ng 0 4 = W)
    (hp : ∀ st' p' r9 r10 r11 r12, tl_Wr st' W → post 0 (0, p', a1, a2, a3, a4, st', upd a6 0 1, a7, a8, r9, r10, r11, r12)) : ∃ fu, wX_encode_152 post 0 fu 0 0 (nI w.length) a1 a2 a3 a4 st a6 a7 a8 s9 s10 s11 s12 := by
  refine pk_loop (fun n i (s : List Bool × (Nat → Int32) × (Nat → Int32) × (Nat → Int32) × (Nat → Int32) × (Nat → Int32)) => wX_encode_152 post 0 n (nI i) 0 (nI s.1.length) a1 a2 a3 a4 s.2.1 a6 a7 a8 s.2.2.1 s.2.2.2.1 s.2.2.2.2.1 s.2.2.2.2.2)
    (fun i s => tl_Wr s.2.1 s.1 ∧ tl_Sn m (tl_lE m i) s.2.2.2.2.1 s.2.2.2.2.2 ∧ s.1 ++ tl_fbs m ng i (4 - i) = W) 4 0 (w, st, s9, s10, s11, s12) (by omega) ⟨hW, hS, hw⟩ ?_ ?_
  · rintro n ⟨w', st', r9, r10, r11, r12⟩ ⟨h1, h2, h3⟩
    dsimp only at h1 h2 h3
    rw [show w' = W from (List.append_nil w').symm.trans h3] at h1 ⊢
    exact pk_le 4 4 (fun _ => ⟨pk_in 0 2 (by omega), nm_r (e' := upd a6 0 1) rfl (hp st' _ r9 r10 r11 r12 h1)⟩) (fun z => absurd z (by omega))
  · rintro n i ⟨w', st', r9, r10, r11, r12⟩ hi ⟨h1, h2, h3⟩ hwk
    dsimp only at h1 h2 h3
    have hlen := congrArg List.length h3
    rw [show 4 - i = (4 - (i + 1)) + 1 by omega] at h3 hlen
    have hfb : tl_fbs m ng i ((4 - (i + 1)) + 1) = tl_fb m ng i ++ tl_fbs m ng (i + 1) (4 - (i + 1)) := rfl
    rw [hfb] at h3 hlen
    rw [List.length_append, List.length_append] at hlen
    refine pk_le 4 i (fun z => absurd z (by omega)) (fun _ => ?_)
    refine tl_wF (lev := tl_lE m i) (by omega) hM (by rw [tl_lE_P]; exact h2) h1 (by show w'.length + _ ≤ 5120; omega) (fun st2 t9 t10 t11 t12 k1 k2 => nm_r (nI_1 i) (hwk (w' ++ tl_fb m ng i, st2, t9, t10, t11, t12) ⟨k1, ?_, ?_⟩))
    · rw [← tl_lE_S]
      exact k2
    · dsimp only
      rw [List.append_assoc]
      exact h3
theorem tl_en127 {post : Int32 → St2 → Prop} {a1 a2 a3 a4 a6 a7 a8 a9 a10 a11 a12 : Nat → Int32} {v m : Nat → Nat} {ng : Nat → Bool} {st : Nat → Int32} (hM : tl_Mg a7 m ng) (hv : ∀ k, k < 12 → a8 k = nI (v k) ∧ v k < 32) (hS : tl_Sn m (tl_lE m 0) a11 a12) (hW : tl_Wr st [])
    (hp : ∀ st' p' r9 r10 r11 r12, tl_Wr st' (tl_W v m ng) → post 0 (0, p', a1, a2, a3, a4, st', upd a6 0 1, a7, a8, r9, r10, r11, r12)) : ∃ fu, wX_encode_127 post 0 fu 0 0 0 a1 a2 a3 a4 st a6 a7 a8 a9 a10 a11 a12 := by
  have hl : (tl_W v m ng).length ≤ 5120 := tl_W_len (fun j => (hM j).1)
  refine pk_loop (fun n i (s : List Bool × (Nat → Int32)) => wX_encode_127 post 0 n (nI i) 0 (nI s.1.length) a1 a2 a3 a4 s.2 a6 a7 a8 a9 a10 a11 a12)
    (fun i s => tl_Wr s.2 s.1 ∧ s.1 ++ tl_vb v i (12 - i) ++ tl_fbs m ng 0 4 = tl_W v m ng) 12 0 ([], st) (by omega) ⟨hW, rfl⟩ ?_ ?_
  · rintro n ⟨w', st'⟩ ⟨h1, h2⟩
    dsimp only at h1 h2
    have h2' : w' ++ tl_fbs m ng 0 4 = tl_W v m ng := by
      rw [← h2]
      show _ = (w' ++ []) ++ _
      rw [List.append_nil]
    exact pk_le 12 12 (fun _ => tl_en152 hM hS h1 hl h2' hp) (fun z => absurd z (by omega))
  · rintro n i ⟨w', st'⟩ hi ⟨h1, h2⟩ hwk
    dsimp only at h1 h2
    have hlen := congrArg List.length h2
    rw [show 12 - i = (12 - (i + 1)) + 1 by omega] at h2 hlen
    have hvb : tl_vb v i ((12 - (i + 1)) + 1) = tl_bits (v i) 5 ++ tl_vb v (i + 1) (12 - (i + 1)) := rfl
    rw [hvb] at h2 hlen
    rw [List.length_append, List.length_append, List.length_append, tl_bits_len] at hlen
    obtain ⟨v1, v2⟩ := hv i hi
    refine pk_le 12 i (fun z => absurd z (by omega)) (fun _ => ⟨pk_in i 12 hi, ?_⟩)
    rw [nI_clamp (show i < 2 ^ 31 by omega), v1]
    refine tl_write (len := 5) h1 (by omega) (by omega) (by show w'.length + 5 ≤ 5120; omega) (fun st2 k1 => nm_r (nI_1 i) (hwk (w' ++ tl_bits (v i) 5, st2) ⟨k1, ?_⟩))
    dsimp only
    rw [← h2]
    simp only [List.append_assoc]
theorem tl_encode {post : Int32 → St2 → Prop} {b p : Int32} {a1 a2 a3 a4 a5 a6 a7 a8 a9 a10 a11 a12 : Nat → Int32} {v : Nat → Nat} (hF : ∀ j, tl_B 255 (tl_fl a7 0 256 a1 j)) (hv : ∀ k, k < 12 → a3 k = nI (v k) ∧ v k < 32)
    (hp : ∀ st' p' r9 r10 r11 r12, tl_Wr st' (tl_W v (tl_mO (tl_c4 (tl_fl a8 0 12 a3) (tl_fl a7 0 256 a1))) (tl_nO (tl_c4 (tl_fl a8 0 12 a3) (tl_fl a7 0 256 a1)))) → post 0 (0, p', a1, a2, a3, a4, st', upd a6 0 1, tl_c4 (tl_fl a8 0 12 a3) (tl_fl a7 0 256 a1), tl_fl a8 0 12 a3, r9, r10, r11, r12)) : wpX_encode post (b, p, a1, a2, a3, a4, a5, a6, a7, a8, a9, a10, a11, a12) 0 := by
  unfold wpX_encode
  dsimp only
  refine tl_isSlot (br_f (by decide) ?_)
  refine pk_loop (fun n i s => wX_encode_11 post 0 b p n (nI i) a1 a2 a3 a4 a5 a6 s a8 a9 a10 a11 a12) (fun i s => s = tl_fl a7 0 i a1) 256 0 a7 (by omega) (tl_fl0 _ _ _).symm ?_ ?_
  rotate_left 1
  · intro n i s hi hs hw
    subst hs
    exact pk_le 256 i (fun z => absurd z (by omega)) (fun _ => ⟨pk_in i 256 hi, pk_in i 256 hi, nm_r (tl_fl_up (by rw [nI_clamp (by omega), Nat.zero_add]) (by rw [nI_clamp (by omega)])) (nm_r (nI_1 i) (hw _ rfl))⟩)
  intro n s hs
  subst hs
  refine pk_le 256 256 (fun _ => ?_) (fun z => absurd z (by omega))
  refine pk_loop (fun n i s => wX_encode_38 post 0 b p n (nI i) a1 a2 a3 a4 a5 a6 (tl_fl a7 0 256 a1) s a9 a10 a11 a12) (fun i s => s = tl_fl a8 0 i a3) 12 0 a8 (by omega) (tl_fl0 _ _ _).symm ?_ ?_
  rotate_left 1
  · intro n i s hi hs hw
    subst hs
    exact pk_le 12 i (fun z => absurd z (by omega)) (fun _ => ⟨pk_in i 12 hi, pk_in i 12 hi, nm_r (tl_fl_up (by rw [nI_clamp (by omega), Nat.zero_add]) (by rw [nI_clamp (by omega)])) (nm_r (nI_1 i) (hw _ rfl))⟩)
  intro n s hs
  subst hs
  refine pk_le 12 12 (fun _ => tl_predict (tl_adjust ?_)) (fun z => absurd z (by omega))
  have hv' : ∀ k, k < 12 → tl_fl a8 0 12 a3 k = nI (v k) ∧ v k < 32 := fun k hk => by
    rw [tl_fl_in (by omega) (by omega)]
    exact hv k hk
  generalize tl_fl a8 0 12 a3 = V at *
  generalize tl_fl a7 0 256 a1 = F at *
  have hM := tl_c4_Mg (v := V) hF
  show ∃ fu, wX_encode_74 post 0 fu 0 b p a1 a2 a3 a4 a5 a6 (tl_c0 V F) V a9 a10 a11 a12
  refine pk_loop (fun n i s => wX_encode_74 post 0 n (nI i) b p a1 a2 a3 a4 a5 a6 s V a9 a10 a11 a12) (fun i s => s = tl_lo i (tl_TT (tl_c0 V F)) (tl_c0 V F)) 4 0 (tl_c0 V F) (by omega) (tl_lo0 _ _).symm ?_ ?_
  rotate_left 1
  · intro n i s hi hs hw
    subst hs
    refine pk_le 4 i (fun z => absurd z (by omega)) (fun _ => ?_)
    rw [tl_m64]
    exact tl_analyse (c0 := tl_c0 V F) (by omega) (fun j hj => tl_lo_eq hj) (nm_r (nI_1 i) (hw _ (tl_loS _ _ _)))
  intro n s hs
  subst hs
  refine pk_le 4 4 (fun _ => tl_open ?_) (fun z => absurd z (by omega))
  refine pk_loop (fun n i s => wX_encode_100 post 0 0 0 n (nI i) a1 a2 a3 a4 s a6 (tl_c4 V F) V a9 a10 (tl_fl a11 0 256 tl_Z) (tl_fl a12 0 64 tl_Z)) (fun i s => s = tl_fl a5 0 i tl_Z) 160 0 a5 (by omega) (tl_fl0 _ _ _).symm ?_ ?_
  rotate_left 1
  · intro n i s hi hs hw
    subst hs
    refine pk_le 160 i (fun z => absurd z (by omega)) (fun _ => ?_)
    rw [tl_0add]
    exact ⟨pk_in i 320 (by omega), nm_r (tl_fl_up (by rw [nI_clamp (by omega), Nat.zero_add]) rfl) (nm_r (nI_1 i) (hw _ rfl))⟩
  intro n s hs
  subst hs
  refine pk_le 160 160 (fun _ => ?_) (fun z => absurd z (by omega))
  refine tl_en127 (v := v) hM hv' (tl_Sn0 (fun j => (hM j).1) (fun j hj => tl_fl_in (by omega) (by omega)) (fun g hg => tl_fl_in (by omega) (by omega))) ?_ (fun st' p' r9 r10 r11 r12 k => hp st' p' r9 r10 r11 r12 k)
  intro q hq
  rw [tl_fl_in (by omega) (by omega)]
  exact tl_b_0 _
end
section
/-! decode -/
theorem tl_lo_fl (f : Nat) (x c : Nat → Int32) : tl_fl (tl_lo f x c) (64 * f) 64 (fun k => x (64 * f + k)) = tl_lo (f + 1) x c := by
  funext j
  by_cases e : j / 64 = f
  · rw [tl_fl_in (by omega) (by omega), show 64 * f + (j - 64 * f) = j by omega]
    unfold tl_lo
    rw [if_pos (by omega)]
  · rw [tl_fl_out (by omega)]
    unfold tl_lo
    by_cases e2 : j / 64 < f
    · rw [if_pos e2, if_pos (by omega)]
    · rw [if_neg e2, if_neg (by omega)]
theorem tl_de104 {post : Int32 → St2 → Prop} {b p : Int32} {a1 a2 a3 a4 a5 a6 a7 a8 a9 a10 a11 a12 : Nat → Int32} (hF : ∀ j, ∃ n, n ≤ 255 ∧ a7 j = nI n) (hp : ∀ n, n ≤ 65280 → post (nI n) (b, p, a1, tl_fl a2 0 256 a7, a3, tl_fl a4 0 12 a8, a5, a6, a7, a8, a9, a10, a11, a12)) : ∃ fu, wX_decode_104 post b p fu 0 0 a1 a2 a3 a4 a5 a6 a7 a8 a9 a10 a11 a12 := by
  refine pk_loop (fun n i (s : Int32 × (Nat → Int32)) => wX_decode_104 post b p n s.1 (nI i) a1 s.2 a3 a4 a5 a6 a7 a8 a9 a10 a11 a12) (fun i s => (∃ n, n ≤ 255 * i ∧ s.1 = nI n) ∧ s.2 = tl_fl a2 0 i a7) 256 0 (0, a2) (by omega) ⟨⟨0, by omega, rfl⟩, (tl_fl0 _ _ _).symm⟩ ?_ ?_
  · rintro n ⟨x, s⟩ ⟨⟨t, ht, hx⟩, hs⟩
    dsimp only at hx hs
    subst hx hs
    refine pk_le 256 256 (fun _ => ?_) (fun z => absurd z (by omega))
    refine pk_loop (fun n i s => wX_decode_140 post (nI t) b p n (nI i) a1 (tl_fl a2 0 256 a7) a3 s a5 a6 a7 a8 a9 a10 a11 a12) (fun i s => s = tl_fl a4 0 i a8) 12 0 a4 (by omega) (tl_fl0 _ _ _).symm ?_ ?_
    · intro n s hs
      subst hs
      exact pk_le 12 12 (fun _ => hp t (by omega)) (fun z => absurd z (by omega))
    · intro n i s hi hs hw
      subst hs
      exact pk_le 12 i (fun z => absurd z (by omega)) (fun _ => ⟨pk_in i 12 hi, pk_in i 12 hi, nm_r (tl_fl_up (by rw [nI_clamp (by omega), Nat.zero_add]) (by rw [nI_clamp (by omega)])) (nm_r (nI_1 i) (hw _ rfl))⟩)
  · rintro n i ⟨x, s⟩ hi ⟨⟨t, ht, hx⟩, hs⟩ hw
    dsimp only at hx hs
    obtain ⟨y, hy, ey⟩ := hF i
    have hjx : (nI i).toNatClampNeg = i := nI_clamp (by omega)
    refine pk_le 256 i (fun z => absurd z (by omega)) (fun _ => ?_)
    rw [hjx]
    refine ⟨pk_in i 256 hi, pk_in i 256 hi, nm_e ⟨pk_in i 256 hi, nm_e (nm_r (nI_1 i) (hw (x + a7 i, upd s i (a7 i)) ⟨⟨t + y, by omega, ?_⟩, ?_⟩))⟩⟩
    · dsimp only
      rw [hx, ey, nI_add]
    · dsimp only
      rw [hs]
      exact tl_fl_up (by omega) rfl
theorem tl_de71 {post : Int32 → St2 → Prop} {b p : Int32} {a1 a2 a3 a4 a5 a6 a7 a8 a9 a10 a11 a12 : Nat → Int32} {F : Nat → Int32} (h7 : ∀ j, j < 256 → a7 j = tl_c4 a8 F j) (h7' : ∀ j, 256 ≤ j → a7 j = tl_c0 a8 F j) (hF : ∀ j, ∃ n, n ≤ 255 ∧ F j = nI n) (hp : ∀ n, n ≤ 65280 → post (nI n) (b, p, a1, tl_fl a2 0 256 F, a3, tl_fl a4 0 12 a8, a5, a6, F, a8, a9, a10, a11, a12)) : ∃ fu, wX_decode_71 post fu 0 b p a1 a2 a3 a4 a5 a6 a7 a8 a9 a10 a11 a12 := by
  refine pk_loop (fun n i s => wX_decode_71 post n (nI i) b p a1 a2 a3 a4 a5 a6 s a8 a9 a10 a11 a12) (fun i s => s = tl_lo i (tl_UU (tl_TT (tl_c0 a8 F))) a7) 4 0 a7 (by omega) (tl_lo0 _ _).symm ?_ ?_
  · intro n s hs
    have e : s = tl_c0 a8 F := by
      rw [hs, tl_UTT]
      funext j
      unfold tl_lo
      by_cases e : j / 64 < 4
      · rw [if_pos e]
      · rw [if_neg e, h7' j (by omega)]
    clear hs
    subst e
    refine pk_le 4 4 (fun _ => tl_adjust (tl_predict ?_)) (fun z => absurd z (by omega))
    have e1 : tl_ad a8 (tl_c0 a8 F) (-1) 64 = tl_pd a8 F (-1) 64 := tl_ad_inv a8 _
    rw [e1, tl_pd_inv]
    exact tl_de104 hF hp
  · intro n i s hi hs hw
    subst hs
    refine pk_le 4 i (fun z => absurd z (by omega)) (fun _ => ?_)
    rw [tl_m64]
    refine tl_synth (c0 := tl_TT (tl_c0 a8 F)) (by omega) (fun j hj => ?_) (nm_r (nI_1 i) (hw _ (tl_loS _ _ _)))
    rw [tl_lo_eq hj, h7 j (by omega)]
    exact if_pos (by omega)
theorem tl_de53 {post : Int32 → St2 → Prop} {a1 a2 a3 a4 a5 a6 a7 a8 a9 a10 a11 a12 : Nat → Int32} {F : Nat → Int32} {m : Nat → Nat} {ng : Nat → Bool} {q : Nat} (hM : tl_Mg (tl_c4 a8 F) m ng) (hS : tl_Sn m (tl_lE m 0) a11 a12) (hR : tl_Rs a5 q (tl_fbs m ng 0 4)) (h7' : ∀ j, 256 ≤ j → a7 j = tl_c0 a8 F j) (hF : ∀ j, ∃ n, n ≤ 255 ∧ F j = nI n)
    (hp : ∀ n p' r9 r10 r11 r12, n ≤ 65280 → post (nI n) (0, p', a1, tl_fl a2 0 256 F, a3, tl_fl a4 0 12 a8, a5, a6, F, a8, r9, r10, r11, r12)) : ∃ fu, wX_decode_53 post fu 0 0 (nI q) a1 a2 a3 a4 a5 a6 a7 a8 a9 a10 a11 a12 := by
  refine pk_loop (fun n i (s : Nat × (Nat → Int32) × (Nat → Int32) × (Nat → Int32) × (Nat → Int32) × (Nat → Int32)) => wX_decode_53 post n (nI i) 0 (nI s.1) a1 a2 a3 a4 a5 a6 s.2.1 a8 s.2.2.1 s.2.2.2.1 s.2.2.2.2.1 s.2.2.2.2.2)
    (fun i s => tl_Rs a5 s.1 (tl_fbs m ng i (4 - i)) ∧ tl_Sn m (tl_lE m i) s.2.2.2.2.1 s.2.2.2.2.2 ∧ s.2.1 = tl_lo i (tl_c4 a8 F) a7) 4 0 (q, a7, a9, a10, a11, a12) (by omega) ⟨hR, hS, (tl_lo0 _ _).symm⟩ ?_ ?_
  · rintro n ⟨q', s7, r9, r10, r11, r12⟩ ⟨h1, h2, h3⟩
    dsimp only at h1 h2 h3
    subst h3
    refine pk_le 4 4 (fun _ => tl_de71 (F := F) (fun j hj => if_pos (by omega)) (fun j hj => ?_) hF (fun t ht => hp t _ r9 r10 r11 r12 ht)) (fun z => absurd z (by omega))
    exact (if_neg (by omega)).trans (h7' j hj)
  · rintro n i ⟨q', s7, r9, r10, r11, r12⟩ hi ⟨h1, h2, h3⟩ hw
    dsimp only at h1 h2 h3
    rw [show 4 - i = (4 - (i + 1)) + 1 by omega] at h1
    have hfb : tl_fbs m ng i ((4 - (i + 1)) + 1) = tl_fb m ng i ++ tl_fbs m ng (i + 1) (4 - (i + 1)) := rfl
    rw [hfb] at h1
    obtain ⟨r1, r2⟩ := tl_Rs_app h1
    refine pk_le 4 i (fun z => absurd z (by omega)) (fun _ => ?_)
    refine tl_rF (lev := tl_lE m i) (c := tl_c4 a8 F) (by omega) hM (by rw [tl_lE_P]; exact h2) r1 (fun t9 t10 t11 t12 k => nm_r (nI_1 i) (hw (q' + (tl_fb m ng i).length, _, t9, t10, t11, t12) ⟨r2, ?_, ?_⟩))
    · rw [← tl_lE_S]
      exact k
    · dsimp only
      rw [h3]
      exact tl_lo_fl _ _ _
theorem tl_decode {post : Int32 → St2 → Prop} {b p : Int32} {a1 a2 a3 a4 a5 a6 a7 a8 a9 a10 a11 a12 : Nat → Int32} {V F : Nat → Int32} {v : Nat → Nat} (h6 : a6 0 = 1) (hv : ∀ k, k < 12 → V k = nI (v k) ∧ v k < 32) (h8 : ∀ k, 12 ≤ k → a8 k = V k) (h7 : ∀ j, 256 ≤ j → a7 j = tl_c0 V F j) (hF : ∀ j, ∃ n, n ≤ 255 ∧ F j = nI n) (hB : ∀ j, tl_B 255 (F j)) (hW : tl_Wr a5 (tl_W v (tl_mO (tl_c4 V F)) (tl_nO (tl_c4 V F))))
    (hp : ∀ n p' r9 r10 r11 r12, n ≤ 65280 → post (nI n) (0, p', a1, tl_fl a2 0 256 F, a3, tl_fl a4 0 12 V, a5, a6, F, V, r9, r10, r11, r12)) : wpX_decode post (b, p, a1, a2, a3, a4, a5, a6, a7, a8, a9, a10, a11, a12) 0 := by
  unfold wpX_decode
  dsimp only
  have hM := tl_c4_Mg (v := V) hB
  have hR := tl_Rs_W hW (tl_W_len (fun j => (hM j).1))
  generalize tl_mO (tl_c4 V F) = m at *
  generalize tl_nO (tl_c4 V F) = ng at *
  have hS : tl_Sn m (tl_lE m 0) (tl_fl a11 0 256 tl_Z) (tl_fl a12 0 64 tl_Z) := tl_Sn0 (fun j => (hM j).1) (fun j hj => tl_fl_in (by omega) (by omega)) (fun g hg => tl_fl_in (by omega) (by omega))
  refine tl_isSlot (br_f (by decide) ⟨pk_in 0 2 (by omega), br_f ?_ (tl_open ?_)⟩)
  · show ¬ a6 0 = 0
    rw [h6]
    decide
  · refine pk_loop (fun n i (s : Nat × (Nat → Int32)) => wX_decode_28 post n (nI i) 0 (nI s.1) a1 a2 a3 a4 a5 a6 a7 s.2 a9 a10 (tl_fl a11 0 256 tl_Z) (tl_fl a12 0 64 tl_Z))
      (fun i s => tl_Rs a5 s.1 (tl_vb v i (12 - i) ++ tl_fbs m ng 0 4) ∧ s.2 = tl_fl a8 0 i (fun k => nI (v k))) 12 0 (0, a8) (by omega) ⟨hR, (tl_fl0 _ _ _).symm⟩ ?_ ?_
    · rintro n ⟨q, s8⟩ ⟨h1, h2⟩
      dsimp only at h1 h2
      have e : s8 = V := by
        rw [h2]
        funext k
        by_cases hk : k < 12
        · rw [tl_fl_in (by omega) (by omega), (hv k hk).1]
          rfl
        · rw [tl_fl_out (by omega), h8 k (by omega)]
      clear h2
      subst e
      rw [show tl_vb v 12 (12 - 12) = [] from rfl, List.nil_append] at h1
      exact pk_le 12 12 (fun _ => tl_de53 hM hS h1 h7 hF hp) (fun z => absurd z (by omega))
    · rintro n i ⟨q, s8⟩ hi ⟨h1, h2⟩ hw
      dsimp only at h1 h2
      rw [show 12 - i = (12 - (i + 1)) + 1 by omega] at h1
      have hvb : tl_vb v i ((12 - (i + 1)) + 1) = tl_bits (v i) 5 ++ tl_vb v (i + 1) (12 - (i + 1)) := rfl
      rw [hvb, List.append_assoc] at h1
      obtain ⟨r1, r2⟩ := tl_Rs_app h1
      rw [tl_bits_len] at r2
      refine pk_le 12 i (fun z => absurd z (by omega)) (fun _ => ?_)
      refine tl_read_4 (v := v i) (len := 5) (hv i hi).2 (by omega) r1 ⟨pk_in i 12 hi, nm_e (nm_r (nI_1 i) (hw (q + 5, _) ⟨r2, ?_⟩))⟩
      dsimp only
      rw [h2]
      exact tl_fl_up (by rw [nI_clamp (by omega), Nat.zero_add]) rfl
end
section
/-! the frames and vectors that the law makes, plainly -/
def tl_A1 (x y z : Int32) : Nat → Int32 := tl_fl tl_Z (64 * 0) 64 (tl_rv x y z)
def tl_A2 (x y z dx dy : Int32) : Nat → Int32 := tl_fl (tl_A1 x y z) (64 * 1) 64 (tl_dv (tl_A1 x y z) 1 dx dy)
def tl_A3 (x y z dx dy : Int32) : Nat → Int32 := tl_fl (tl_A2 x y z dx dy) (64 * 2) 64 (tl_rv y x z)
def tl_A4 (x y z sd dx dy : Int32) : Nat → Int32 := tl_fl (tl_A3 x y z dx dy) (64 * 2) 64 (tl_gv (tl_A3 x y z dx dy) 2 sd)
def tl_A5 (x y z sd dx dy : Int32) : Nat → Int32 := tl_ivs (tl_A4 x y z sd dx dy) 2
theorem tl_iv_o {a : Nat → Int32} {y j : Nat} (h : j < 64 * 3 + 8 * y + 2 ∨ 64 * 3 + 8 * y + 5 ≤ j) : tl_iv a y j = a j := tl_fl_out (by omega)
theorem tl_A4_3 {x y z sd dx dy : Int32} {j : Nat} (h : 192 ≤ j) : tl_A4 x y z sd dx dy j = 0 := by
  unfold tl_A4 tl_A3 tl_A2 tl_A1
  rw [tl_fl_out (by omega), tl_fl_out (by omega), tl_fl_out (by omega), tl_fl_out (by omega)]
  rfl
theorem tl_A5_lo {x y z sd dx dy : Int32} {j : Nat} (h : j < 192) : tl_A5 x y z sd dx dy j = tl_A4 x y z sd dx dy j := by
  show tl_iv (tl_iv (tl_A4 x y z sd dx dy) (6 + 0)) (6 + 1) j = _
  rw [tl_iv_o (by omega), tl_iv_o (by omega)]
theorem tl_A5_3 {x y z sd dx dy : Int32} {j : Nat} (h : 192 ≤ j) : tl_A5 x y z sd dx dy j = if (242 ≤ j ∧ j < 245) ∨ (250 ≤ j ∧ j < 253) then 255 else 0 := by
  show tl_iv (tl_iv (tl_A4 x y z sd dx dy) (6 + 0)) (6 + 1) j = _
  by_cases e1 : 250 ≤ j ∧ j < 253
  · rw [if_pos (by omega)]
    unfold tl_iv
    rw [tl_fl_in (by omega) (by omega)]
    show 255 - tl_iv (tl_A4 x y z sd dx dy) (6 + 0) _ = 255
    rw [tl_iv_o (by omega), tl_A4_3 (by omega)]
    decide
  · rw [tl_iv_o (by omega)]
    by_cases e2 : 242 ≤ j ∧ j < 245
    · rw [if_pos (by omega)]
      unfold tl_iv
      rw [tl_fl_in (by omega) (by omega)]
      show 255 - tl_A4 x y z sd dx dy _ = 255
      rw [tl_A4_3 (by omega)]
      decide
    · rw [if_neg (by omega), tl_iv_o (by omega), tl_A4_3 h]
theorem tl_A1_at {x y z : Int32} {k : Nat} (h : k < 64) : tl_A1 x y z k = tl_rv x y z k := by
  unfold tl_A1
  rw [tl_fl_in (by omega) (by omega)]
  rfl
theorem tl_A5_0 (x y z sd dx dy : Int32) {i j : Nat} (hi : i < 8) (hj : j < 8) : tl_A5 x y z sd dx dy (64 * 0 + 8 * j + i) = (((x * nI i) + (y * nI j)) + z) &&& 255 := by
  rw [tl_A5_lo (by omega)]
  unfold tl_A4 tl_A3 tl_A2
  rw [tl_fl_out (by omega), tl_fl_out (by omega), tl_fl_out (by omega), tl_A1_at (by omega)]
  unfold tl_rv
  rw [show (64 * 0 + 8 * j + i) % 8 = i by omega, show (64 * 0 + 8 * j + i) / 8 = j by omega]
theorem tl_A5_1 (x y z sd dx dy : Int32) {i j : Nat} (hi : i < 8) (hj : j < 8) : tl_A5 x y z sd dx dy (64 * 1 + 8 * j + i) = (((x * nI (tl_lm (nI i - dx))) + (y * nI (tl_lm (nI j - dy)))) + z) &&& 255 := by
  rw [tl_A5_lo (by omega)]
  unfold tl_A4 tl_A3 tl_A2
  rw [tl_fl_out (by omega), tl_fl_out (by omega), tl_fl_in (by omega) (by omega)]
  unfold tl_dv
  rw [show (64 * 1 + 8 * j + i - 64 * 1) % 8 = i by omega, show (64 * 1 + 8 * j + i - 64 * 1) / 8 = j by omega]
  have l1 := tl_lm_le (nI i - dx)
  have l2 := tl_lm_le (nI j - dy)
  rw [tl_A1_at (by omega)]
  unfold tl_rv
  rw [show (64 * 1 - 64 + 8 * tl_lm (nI j - dy) + tl_lm (nI i - dx)) % 8 = tl_lm (nI i - dx) by omega, show (64 * 1 - 64 + 8 * tl_lm (nI j - dy) + tl_lm (nI i - dx)) / 8 = tl_lm (nI j - dy) by omega]
theorem tl_255 (x y : Int32) : ((x &&& 255) + y) &&& 255 = (x + y) &&& 255 := by
  rw [pk_and _ 8 (m := 255) (by decide), pk_and (x + y) 8 (m := 255) (by decide), pk_and x 8 (m := 255) (by decide)]
  congr 1
  rw [Int32.toBitVec_add, Int32.toBitVec_add, BitVec.toNat_add, BitVec.toNat_add, pk_tn (by omega)]
  omega
theorem tl_A5_2 (x y z sd dx dy : Int32) {i j : Nat} (hi : i < 8) (hj : j < 8) : tl_A5 x y z sd dx dy (64 * 2 + 8 * j + i) = ((((y * nI i) + (x * nI j)) + z) + ((sd * (((8 * nI j) + nI i) + 1)) &&& 15)) &&& 255 := by
  rw [tl_A5_lo (by omega)]
  unfold tl_A4
  rw [tl_fl_in (by omega) (by omega)]
  unfold tl_gv tl_A3
  rw [tl_fl_in (by omega) (by omega), show 64 * 2 + 8 * j + i - 64 * 2 = 8 * j + i by omega, show 64 * 2 + (8 * j + i) - 64 * 2 = 8 * j + i by omega]
  unfold tl_rv
  rw [show (8 * j + i) % 8 = i by omega, show (8 * j + i) / 8 = j by omega, tl_255, tl_m8, nI_add]
theorem tl_A5_4 (x y z sd dx dy : Int32) {i j : Nat} (hi : i < 8) (hj : j < 8) : tl_A5 x y z sd dx dy (64 * 3 + 8 * j + i) = if 2 ≤ i ∧ i ≤ 4 ∧ 6 ≤ j then 255 else 0 := by
  rw [tl_A5_3 (by omega)]
  by_cases e : 2 ≤ i ∧ i ≤ 4 ∧ 6 ≤ j
  · rw [if_pos e, if_pos (by omega)]
  · rw [if_neg e, if_neg (by omega)]
theorem tl_255E (x : Int32) : ∃ n, n ≤ 255 ∧ x &&& 255 = nI n := by
  obtain ⟨n, h, e⟩ := pk_andE x (m := 255) 8 (by decide)
  exact ⟨n, by omega, e⟩
theorem tl_A1_B (x y z : Int32) (j : Nat) : ∃ n, n ≤ 255 ∧ tl_A1 x y z j = nI n := by
  by_cases h : j < 64
  · rw [tl_A1_at h]
    exact tl_255E _
  · unfold tl_A1
    rw [tl_fl_out (by omega)]
    exact ⟨0, by omega, rfl⟩
theorem tl_A5_B (x y z sd dx dy : Int32) (j : Nat) : ∃ n, n ≤ 255 ∧ tl_A5 x y z sd dx dy j = nI n := by
  by_cases h : j < 192
  · rw [tl_A5_lo h]
    unfold tl_A4
    by_cases h2 : 128 ≤ j
    · rw [tl_fl_in (by omega) (by omega)]
      exact tl_255E _
    · rw [tl_fl_out (by omega)]
      unfold tl_A3
      rw [tl_fl_out (by omega)]
      unfold tl_A2
      by_cases h3 : 64 ≤ j
      · rw [tl_fl_in (by omega) (by omega)]
        exact tl_A1_B _ _ _ _
      · rw [tl_fl_out (by omega)]
        exact tl_A1_B _ _ _ _
  · rw [tl_A5_3 (by omega)]
    split
    · exact ⟨255, by omega, rfl⟩
    · exact ⟨0, by omega, rfl⟩
def tl_F (a : Nat → Int32) : Nat → Int32 := tl_fl tl_Z 0 256 a
theorem tl_F_at {a : Nat → Int32} {j : Nat} (h : j < 256) : tl_F a j = a j := by
  unfold tl_F
  rw [tl_fl_in (by omega) (by omega)]
  rfl
theorem tl_F_B {a : Nat → Int32} (h : ∀ j, ∃ n, n ≤ 255 ∧ a j = nI n) (j : Nat) : ∃ n, n ≤ 255 ∧ tl_F a j = nI n := by
  by_cases e : j < 256
  · rw [tl_F_at e]
    exact h j
  · unfold tl_F
    rw [tl_fl_out (by omega)]
    exact ⟨0, by omega, rfl⟩
theorem tl_BE {x : Int32} (h : ∃ n, n ≤ 255 ∧ x = nI n) : tl_B 255 x := by
  obtain ⟨n, h, rfl⟩ := h
  unfold tl_B
  rw [nI_toInt (by omega)]
  omega
def tl_V3 (s0 s1 s2 : Nat) : Nat → Int32 := upd (upd (upd (tl_12 tl_Z) (4 * 0 + 0) (nI s0)) (4 * 1 + 1) (nI s1)) (4 * 2 + 3) (nI s2)
def tl_vn (s0 s1 s2 : Nat) : Nat → Nat := fun k => if k = 11 then s2 else if k = 5 then s1 else if k = 0 then s0 else 12
theorem tl_V3_vn {s0 s1 s2 : Nat} (h0 : s0 < 25) (h1 : s1 < 25) (h2 : s2 < 25) {k : Nat} (hk : k < 12) : tl_V3 s0 s1 s2 k = nI (tl_vn s0 s1 s2 k) ∧ tl_vn s0 s1 s2 k < 32 := by
  unfold tl_V3 tl_vn
  by_cases e2 : k = 11
  · rw [if_pos e2, e2]
    exact ⟨pk_us, by omega⟩
  · rw [if_neg e2, pk_un (by omega)]
    by_cases e1 : k = 5
    · rw [if_pos e1, e1]
      exact ⟨pk_us, by omega⟩
    · rw [if_neg e1, pk_un (by omega)]
      by_cases e0 : k = 0
      · rw [if_pos e0, e0]
        exact ⟨pk_us, by omega⟩
      · rw [if_neg e0, pk_un (by omega)]
        unfold tl_12
        rw [tl_fl_in (by omega) (by omega)]
        exact ⟨rfl, by omega⟩
end
section
/-! the law's own checks -/
theorem tl_l349 {post : Int32 → St0 → Prop} {mc ms kc ks : Nat} {J K : Int32 → Prop} {x0 x1 x2 x3 x6 x7 x8 x9 x10 x14 x17 x18 z0 : Int32} {b p : Int32} {a1 a2 a3 a4 a5 a6 a7 a8 a9 a10 a11 a12 : Nat → Int32} {x y : Nat} (hx : x < 8) (hy : y < 8) (e0 : a2 (64 * 0 + 8 * y + x) = x14) (e1 : a2 (64 * 1 + 8 * y + x) = x17) (e2 : a2 (64 * 2 + 8 * y + x) = x18) (e3 : a2 (64 * 3 + 8 * y + x) = z0)
    (hK : K (nI (x + 1))) : wL_lawOf_349 post mc ms J K x0 x1 x2 x3 x6 x7 x8 x9 x10 (nI y) (nI x) x14 x17 x18 z0 kc ks b p a1 a2 a3 a4 a5 a6 a7 a8 a9 a10 a11 a12 := by
  unfold wL_lawOf_349
  exact tl_out (f := 0) (by omega) (by omega) (by omega) (br_t e0 (tl_out (f := 1) (by omega) (by omega) (by omega) (br_t e1 (tl_out (f := 2) (by omega) (by omega) (by omega) (br_t e2 (tl_out (f := 3) (by omega) (by omega) (by omega) (br_t e3 (nm_r (nI_1 x) hK))))))))
theorem tl_l229 {post : Int32 → St0 → Prop} {mc ms kc ks : Nat} {J : Int32 → Prop} {x0 x1 x2 x3 x6 x7 x8 x9 x10 : Int32} {b p : Int32} {a1 a2 a3 a4 a5 a6 a7 a8 a9 a10 a11 a12 : Nat → Int32} {y : Nat} (hy : y < 8) (h0 : ∀ x, x < 8 → a2 (64 * 0 + 8 * y + x) = (((x0 * nI x) + (x1 * nI y)) + x2) &&& 255) (h1 : ∀ x, x < 8 → a2 (64 * 1 + 8 * y + x) = (((x0 * nI (tl_lm (nI x - x6))) + (x1 * nI (tl_lm (nI y - x7)))) + x2) &&& 255)
    (h2 : ∀ x, x < 8 → a2 (64 * 2 + 8 * y + x) = ((((x1 * nI x) + (x0 * nI y)) + x2) + ((x3 * (((8 * nI y) + nI x) + 1)) &&& 15)) &&& 255) (h3 : ∀ x, x < 8 → a2 (64 * 3 + 8 * y + x) = if 2 ≤ x ∧ x ≤ 4 ∧ 6 ≤ y then 255 else 0)
    (hJ : J (nI (y + 1))) : ∃ fu, wL_lawOf_229 post mc ms J x0 x1 x2 x3 x6 x7 x8 x9 x10 (nI y) kc ks b p a1 a2 a3 a4 a5 a6 a7 a8 a9 a10 a11 a12 fu 0 := by
  refine pk_loop (fun n i (_ : Unit) => wL_lawOf_229 post mc ms J x0 x1 x2 x3 x6 x7 x8 x9 x10 (nI y) kc ks b p a1 a2 a3 a4 a5 a6 a7 a8 a9 a10 a11 a12 n (nI i)) (fun _ _ => True) 8 0 () (by omega) trivial ?_ ?_
  · intro n _ _
    exact pk_le 8 8 (fun _ => nm_r (nI_1 y) hJ) (fun z => absurd z (by omega))
  · intro n x _ hx _ hw
    have h3x := h3 x hx
    have g : ∀ z0, a2 (64 * 3 + 8 * y + x) = z0 → wL_lawOf_349 post mc ms J (wL_lawOf_229 post mc ms J x0 x1 x2 x3 x6 x7 x8 x9 x10 (nI y) kc ks b p a1 a2 a3 a4 a5 a6 a7 a8 a9 a10 a11 a12 n) x0 x1 x2 x3 x6 x7 x8 x9 x10 (nI y) (nI x) ((((x0 * nI x) + (x1 * nI y)) + x2) &&& 255) ((((x0 * nI (tl_lm (nI x - x6))) + (x1 * nI (tl_lm (nI y - x7)))) + x2) &&& 255) (((((x1 * nI x) + (x0 * nI y)) + x2) + ((x3 * (((8 * nI y) + nI x) + 1)) &&& 15)) &&& 255) z0 kc ks b p a1 a2 a3 a4 a5 a6 a7 a8 a9 a10 a11 a12 :=
      fun z0 e => tl_l349 hx hy (h0 x hx) (h1 x hx) (h2 x hx) e (hw () trivial)
    have g0 : ¬ (2 ≤ x ∧ x ≤ 4 ∧ 6 ≤ y) → wL_lawOf_348 post mc ms J (wL_lawOf_229 post mc ms J x0 x1 x2 x3 x6 x7 x8 x9 x10 (nI y) kc ks b p a1 a2 a3 a4 a5 a6 a7 a8 a9 a10 a11 a12 n) x0 x1 x2 x3 x6 x7 x8 x9 x10 (nI y) (nI x) ((((x0 * nI x) + (x1 * nI y)) + x2) &&& 255) ((((x0 * nI (tl_lm (nI x - x6))) + (x1 * nI (tl_lm (nI y - x7)))) + x2) &&& 255) (((((x1 * nI x) + (x0 * nI y)) + x2) + ((x3 * (((8 * nI y) + nI x) + 1)) &&& 15)) &&& 255) kc ks b p a1 a2 a3 a4 a5 a6 a7 a8 a9 a10 a11 a12 := by
      intro e
      rw [if_neg e] at h3x
      unfold wL_lawOf_348
      exact g 0 h3x
    refine pk_le 8 x (fun z => absurd z (by omega)) (fun _ => nm_e (tl_near (tl_near (nm_e (nm_e ?_)))))
    refine pk_lt x 2 (fun z => g0 (by omega)) (fun z => pk_lt 4 x (fun z => g0 (by omega)) (fun z => pk_lt y 6 (fun z => g0 (by omega)) (fun z => g 255 ?_)))
    rw [h3x, if_pos (by omega)]
theorem tl_l219 {post : Int32 → St0 → Prop} {mc ms kc ks : Nat} {x0 x1 x2 x3 x6 x7 x8 x9 x10 : Int32} {b p : Int32} {a1 a2 a3 a4 a5 a6 a7 a8 a9 a10 a11 a12 : Nat → Int32} (h0 : ∀ y x, y < 8 → x < 8 → a2 (64 * 0 + 8 * y + x) = (((x0 * nI x) + (x1 * nI y)) + x2) &&& 255) (h1 : ∀ y x, y < 8 → x < 8 → a2 (64 * 1 + 8 * y + x) = (((x0 * nI (tl_lm (nI x - x6))) + (x1 * nI (tl_lm (nI y - x7)))) + x2) &&& 255)
    (h2 : ∀ y x, y < 8 → x < 8 → a2 (64 * 2 + 8 * y + x) = ((((x1 * nI x) + (x0 * nI y)) + x2) + ((x3 * (((8 * nI y) + nI x) + 1)) &&& 15)) &&& 255) (h3 : ∀ y x, y < 8 → x < 8 → a2 (64 * 3 + 8 * y + x) = if 2 ≤ x ∧ x ≤ 4 ∧ 6 ≤ y then 255 else 0)
    (v0 : a4 0 = x8) (v5 : a4 5 = x9) (v11 : a4 11 = x10) (v1 : a4 1 = 12) (v4 : a4 4 = 12) (v8 : a4 8 = 12) (hp : post 1 ()) : ∃ fu, wL_lawOf_219 post mc ms x0 x1 x2 x3 x6 x7 x8 x9 x10 kc ks b p a1 a2 a3 a4 a5 a6 a7 a8 a9 a10 a11 a12 fu 0 := by
  refine pk_loop (fun n i (_ : Unit) => wL_lawOf_219 post mc ms x0 x1 x2 x3 x6 x7 x8 x9 x10 kc ks b p a1 a2 a3 a4 a5 a6 a7 a8 a9 a10 a11 a12 n (nI i)) (fun _ _ => True) 8 0 () (by omega) trivial ?_ ?_
  · intro n _ _
    refine pk_le 8 8 (fun _ => ?_) (fun z => absurd z (by omega))
    exact tl_outVector (l := 0) (k := 0) (by omega) (by omega) (br_t v0 (tl_outVector (l := 1) (k := 1) (by omega) (by omega) (br_t v5 (tl_outVector (l := 2) (k := 3) (by omega) (by omega) (br_t v11 (tl_outVector (l := 0) (k := 1) (by omega) (by omega) (br_t v1 (tl_outVector (l := 1) (k := 0) (by omega) (by omega) (br_t v4 (tl_outVector (l := 2) (k := 0) (by omega) (by omega) (br_t v8 hp)))))))))))
  · intro n y _ hy _ hw
    exact pk_le 8 y (fun z => absurd z (by omega)) (fun _ => tl_l229 hy (fun x hx => h0 y x hy hx) (fun x hx => h1 y x hy hx) (fun x hx => h2 y x hy hx) (fun x hx => h3 y x hy hx) (hw () trivial))
/-! the bounds of the shifts -/
theorem tl_d16 : ∀ j, j < 16 → ¬ (nI j - 7 < (-8)) ∧ ¬ (8 < nI j - 7) ∧ nI j - 7 ≤ 8 := by decide
theorem tl_lawOf {post : Int32 → St0 → Prop} (p0 p1 p2 p3 p4 p5 : Int32) (hp : post 1 ()) : wpL_lawOf post 796 12736 () p0 p1 p2 p3 p4 p5 := by
  unfold wpL_lawOf
  obtain ⟨j6, h6, e6⟩ := pk_andE p4 (m := 15) 4 (by decide)
  obtain ⟨j7, h7, e7⟩ := pk_andE (p4 >>> ((4 : Int32) &&& 31)) (m := 15) 4 (by decide)
  obtain ⟨j8, h8, e8⟩ := pk_andE p5 (m := 63) 6 (by decide)
  obtain ⟨j9, h9, e9⟩ := pk_andE (p5 >>> ((6 : Int32) &&& 31)) (m := 63) 6 (by decide)
  obtain ⟨j10, h10, e10⟩ := pk_andE (p5 >>> ((12 : Int32) &&& 31)) (m := 63) 6 (by decide)
  have q8 : nI j8 - nI j8 / 25 * 25 = nI (j8 % 25) := pk_rem (d := 25) (by omega) (by omega) (by omega)
  have q9 : nI j9 - nI j9 / 25 * 25 = nI (j9 % 25) := pk_rem (d := 25) (by omega) (by omega) (by omega)
  have q10 : nI j10 - nI j10 / 25 * 25 = nI (j10 % 25) := pk_rem (d := 25) (by omega) (by omega) (by omega)
  rw [e6, e7, e8, e9, e10, q8, q9, q10]
  have s8 : j8 % 25 < 25 := by omega
  have s9 : j9 % 25 < 25 := by omega
  have s10 : j10 % 25 < 25 := by omega
  obtain ⟨d1, d2, d3⟩ := tl_d16 j6 h6
  obtain ⟨d4, d5, d6⟩ := tl_d16 j7 h7
  generalize nI j6 - 7 = dx at *
  generalize nI j7 - 7 = dy at *
  generalize j8 % 25 = s0 at *
  generalize j9 % 25 = s1 at *
  generalize j10 % 25 = s2 at *
  refine nm_e (nm_e ⟨by decide, nm_e ⟨by decide, nm_e ⟨by decide, nm_e ⟨by decide, by decide, 12, 1958, by decide, by decide, tl_init ?_⟩⟩⟩⟩)
  refine tl_ramp (f := 0) (by omega) (fun _ => tl_drift (f := 1) (by omega) (by omega) d1 d2 d4 d6 (fun _ => tl_ramp (f := 2) (by omega) (fun _ => tl_roughen (f := 2) (by omega) (fun _ => tl_invert (br_t rfl ?_)))))
  refine tl_setVector (l := 0) (k := 0) (by omega) (by omega) (by omega) (br_t rfl (tl_setVector (l := 1) (k := 1) (by omega) (by omega) (by omega) (br_t rfl (tl_setVector (l := 2) (k := 3) (by omega) (by omega) (by omega) (br_t rfl ?_)))))
  have hA := tl_A5_B p0 p1 p2 p3 dx dy
  have hF := tl_F_B hA
  have hV : ∀ k, k < 12 → tl_V3 s0 s1 s2 k = nI (tl_vn s0 s1 s2 k) ∧ tl_vn s0 s1 s2 k < 32 := fun k hk => tl_V3_vn s8 s9 s10 hk
  have k0 := fun y x (hy : y < 8) (hx : x < 8) => tl_A5_0 p0 p1 p2 p3 dx dy hx hy
  have k1 := fun y x (hy : y < 8) (hx : x < 8) => tl_A5_1 p0 p1 p2 p3 dx dy hx hy
  have k2 := fun y x (hy : y < 8) (hx : x < 8) => tl_A5_2 p0 p1 p2 p3 dx dy hx hy
  have k3 := fun y x (hy : y < 8) (hx : x < 8) => tl_A5_4 p0 p1 p2 p3 dx dy hx hy
  have w0 : tl_V3 s0 s1 s2 0 = nI s0 := (hV 0 (by omega)).1
  have w5 : tl_V3 s0 s1 s2 5 = nI s1 := (hV 5 (by omega)).1
  have w11 : tl_V3 s0 s1 s2 11 = nI s2 := (hV 11 (by omega)).1
  have w1 : tl_V3 s0 s1 s2 1 = 12 := (hV 1 (by omega)).1
  have w4 : tl_V3 s0 s1 s2 4 = 12 := (hV 4 (by omega)).1
  have w8 : tl_V3 s0 s1 s2 8 = 12 := (hV 8 (by omega)).1
  show wpX_encode _ (0, 0, tl_A5 p0 p1 p2 p3 dx dy, tl_Z, tl_V3 s0 s1 s2, tl_12 tl_Z, tl_Z, tl_Z, tl_Z, tl_Z, tl_Z, tl_Z, tl_Z, tl_Z) 0
  generalize tl_A5 p0 p1 p2 p3 dx dy = A at *
  generalize tl_V3 s0 s1 s2 = V3 at *
  generalize tl_vn s0 s1 s2 = vn at *
  have hV' : ∀ k, k < 12 → tl_fl tl_Z 0 12 V3 k = V3 k := fun k hk => by
    rw [tl_fl_in (by omega) (by omega)]
    rfl
  have hO : ∀ (a : Nat → Int32) j, j < 256 → tl_fl a 0 256 (tl_F A) j = A j := fun a j hj => by
    rw [tl_fl_in (by omega) (by omega), Nat.sub_zero, tl_F_at hj]
  have hO4 : ∀ (a : Nat → Int32) k, k < 12 → tl_fl a 0 12 (tl_fl tl_Z 0 12 V3) k = V3 k := fun a k hk => by
    rw [tl_fl_in (by omega) (by omega), Nat.sub_zero, hV' k hk]
  refine tl_encode (v := vn) (fun j => tl_BE (hF j)) hV (fun st q r9 r10 r11 r12 hW => br_t rfl (tl_ramp (f := 0) (by omega) (fun _ => tl_ramp (f := 2) (by omega) (fun _ => tl_search (fun _ v3 => ?_)))))
  refine tl_decode (V := tl_fl tl_Z 0 12 V3) (F := tl_F A) (v := vn) pk_us (fun k hk => ?_) (fun _ _ => rfl) (fun j hj => if_neg (by omega)) hF (fun j => tl_BE (hF j)) hW (fun n q' t9 t10 t11 t12 hn => br_t (nI_pos' (by omega)) ?_)
  · rw [hV' k hk]
    exact hV k hk
  · refine tl_l219 (fun y x hy hx => ?_) (fun y x hy hx => ?_) (fun y x hy hx => ?_) (fun y x hy hx => ?_) ?_ ?_ ?_ ?_ ?_ ?_ hp
    · rw [hO _ _ (by omega)]
      exact k0 y x hy hx
    · rw [hO _ _ (by omega)]
      exact k1 y x hy hx
    · rw [hO _ _ (by omega)]
      exact k2 y x hy hx
    · rw [hO _ _ (by omega)]
      exact k3 y x hy hx
    · rw [hO4 _ _ (by omega)]
      exact w0
    · rw [hO4 _ _ (by omega)]
      exact w5
    · rw [hO4 _ _ (by omega)]
      exact w11
    · rw [hO4 _ _ (by omega)]
      exact w1
    · rw [hO4 _ _ (by omega)]
      exact w4
    · rw [hO4 _ _ (by omega)]
      exact w8
end
section
theorem tl_cellAt {post : Int32 → Prop} {L : Nat} {xs : Nat → Int32} {x : Int32} (hL : L ≤ 6) (i : Nat) (hi : i ≤ 6) (hx : x = nI i) (hp : ∀ r, post r) : wpL_cellAt post L xs () x := by
  subst hx
  unfold wpL_cellAt
  exact pk_le L i (fun _ => hp _) (fun z => ⟨pk_in i L z, hp _⟩)
theorem i_vc (xs : Nat → Int32) (L : Nat) (hL : L ≤ 6) : wpL_law (fun r => r = 1) L xs := by
  unfold wpL_law
  exact tl_cellAt hL 0 (by omega) rfl (fun p0 => tl_cellAt hL 1 (by omega) rfl (fun p1 => tl_cellAt hL 2 (by omega) rfl (fun p2 => tl_cellAt hL 3 (by omega) rfl (fun p3 => tl_cellAt hL 4 (by omega) rfl (fun p4 => tl_cellAt hL 5 (by omega) rfl (fun p5 => ⟨796, 12736, by decide, by decide, tl_lawOf p0 p1 p2 p3 p4 p5 rfl⟩))))))
end
