section
/-! the check's basics: an array, a bound, a value forced to a literal, a branch -/
abbrev tm_A : Type := Nat → Int32
def tm_in (i : Int32) (n : Nat) : Bool := decide (0 ≤ i.toInt ∧ i.toInt < n)
def tm_f (x : Int32) (k : Int32 → Bool) : Bool := if x = 0 then k 0 else if x = 1 then k 1 else if x = 2 then k 2 else if x = 3 then k 3 else if x = 4 then k 4 else if x = -1 then k (-1) else false
theorem tm_fo {x : Int32} {k : Int32 → Bool} (h : tm_f x k = true) : k x = true := by
  unfold tm_f at h
  by_cases h0 : x = 0
  · rw [if_pos h0] at h; rw [h0]; exact h
  rw [if_neg h0] at h
  by_cases h1 : x = 1
  · rw [if_pos h1] at h; rw [h1]; exact h
  rw [if_neg h1] at h
  by_cases h2 : x = 2
  · rw [if_pos h2] at h; rw [h2]; exact h
  rw [if_neg h2] at h
  by_cases h3 : x = 3
  · rw [if_pos h3] at h; rw [h3]; exact h
  rw [if_neg h3] at h
  by_cases h4 : x = 4
  · rw [if_pos h4] at h; rw [h4]; exact h
  rw [if_neg h4] at h
  by_cases h5 : x = -1
  · rw [if_pos h5] at h; rw [h5]; exact h
  rw [if_neg h5] at h
  exact absurd h Bool.false_ne_true
theorem tm_a {x y : Bool} (h : (x && y) = true) : x = true ∧ y = true := Bool.and_eq_true_iff.mp h
theorem tm_io {i : Int32} {n : Nat} (h : tm_in i n = true) : vp_in i n := vp_in_iff.mpr (of_decide_eq_true h)
theorem tm_vi {i : Int32} {n : Nat} {k : Bool} {A : Prop} (h : (tm_in i n && k) = true) (ha : k = true → A) : vp_in i n ∧ A := ⟨tm_io (tm_a h).1, ha (tm_a h).2⟩
theorem tm_no {A : Prop} (h : false = true) : A := absurd h Bool.false_ne_true
theorem tm_br {c : Prop} [d : Decidable c] {A B : Prop} {x y : Bool} (h : (if c then x else y) = true) (ha : x = true → A) (hb : y = true → B) : (c → A) ∧ (¬ c → B) := by
  by_cases hc : c
  · rw [if_pos hc] at h
    exact ⟨fun _ => ha h, fun z => absurd hc z⟩
  · rw [if_neg hc] at h
    exact ⟨fun z => absurd z hc, fun _ => hb h⟩
theorem tm_bI {i : Int32} {n : Nat} (h : 0 ≤ i.toInt ∧ i.toInt < n) : vp_in i n := vp_in_iff.mpr h

/-! the image of a point, the product, the rank: two points -/
def tm_im (c p : Int32) : Int32 := if p = 0 then c / 2 - c / 2 / 2 * 2 else c - c / 2 * 2
def tm_bit (x : Int32) : Bool := decide (x = 0 ∨ x = 1)
def tm_ck (c : Int32) : Bool := tm_bit (tm_im c 0) && tm_bit (tm_im c 1)
def tm_cmp (f g : Int32) : Int32 := 2 * (2 * 0 + tm_im g (tm_im f 0)) + tm_im g (tm_im f 1)
def tm_rm (c : Int32) : Int32 := (0 ||| ((1 : Int32) <<< (tm_im c 0 &&& 31))) ||| ((1 : Int32) <<< (tm_im c 1 &&& 31))
def tm_rk (c : Int32) : Int32 := (0 + ((tm_rm c >>> ((0 : Int32) &&& 31)) &&& 1)) + ((tm_rm c >>> ((1 : Int32) &&& 31)) &&& 1)
theorem tm_im0 (c : Int32) : tm_im c 0 = c / 2 - c / 2 / 2 * 2 := if_pos rfl
theorem tm_im1 (c : Int32) : tm_im c 1 = c - c / 2 * 2 := if_neg (by decide)
theorem tm_imageOf {post : Int32 → Prop} {mp ct sz cu : Int32} {a1 a2 a3 a4 a5 a6 a7 a8 a9 a10 a11 a12 : tm_A} {c p : Int32} (hb : p = 0 ∨ p = 1) (h : post (tm_im c p)) : wpX_imageOf post (2, mp, ct, sz, cu, a1, a2, a3, a4, a5, a6, a7, a8, a9, a10, a11, a12) c p := by
  unfold wpX_imageOf
  rcases hb with hb | hb
  · rw [hb] at h ⊢
    rw [tm_im0] at h
    exact nm_r (show (2 : Int32) - 1 = 1 by decide) ⟨2, br_f (by decide) ⟨by decide, nm_e (nm_r (show (1 : Int32) + (-1) = 0 by decide) (br_t (by decide) ⟨by decide, h⟩))⟩⟩
  · rw [hb] at h ⊢
    rw [tm_im1] at h
    exact nm_r (show (2 : Int32) - 1 = 1 by decide) ⟨1, br_t (by decide) ⟨by decide, h⟩⟩
theorem tm_compose {post : Int32 → Prop} {mp ct sz cu : Int32} {a1 a2 a3 a4 a5 a6 a7 a8 a9 a10 a11 a12 : tm_A} {f g : Int32} (hf : tm_ck f = true) (h : post (tm_cmp f g)) : wpX_compose post (2, mp, ct, sz, cu, a1, a2, a3, a4, a5, a6, a7, a8, a9, a10, a11, a12) f g := by
  have h0 : tm_im f 0 = 0 ∨ tm_im f 0 = 1 := of_decide_eq_true (tm_a hf).1
  have h1 : tm_im f 1 = 0 ∨ tm_im f 1 = 1 := of_decide_eq_true (tm_a hf).2
  unfold wpX_compose
  exact ⟨3, br_f (by decide) (tm_imageOf (Or.inl rfl) (tm_imageOf h0 (nm_e (nm_r (show (0 : Int32) + 1 = 1 by decide) (br_f (by decide) (tm_imageOf (Or.inr rfl) (tm_imageOf h1 (nm_e (nm_r (show (1 : Int32) + 1 = 2 by decide) (br_t (by decide) h))))))))))⟩
theorem tm_rankOf {post : Int32 → Prop} {mp ct sz cu : Int32} {a1 a2 a3 a4 a5 a6 a7 a8 a9 a10 a11 a12 : tm_A} {c : Int32} (h : post (tm_rk c)) : wpX_rankOf post (2, mp, ct, sz, cu, a1, a2, a3, a4, a5, a6, a7, a8, a9, a10, a11, a12) c := by
  unfold wpX_rankOf
  exact ⟨3, br_f (by decide) (tm_imageOf (Or.inl rfl) (nm_e (nm_r (show (0 : Int32) + 1 = 1 by decide) (br_f (by decide) (tm_imageOf (Or.inr rfl) (nm_e (nm_r (show (1 : Int32) + 1 = 2 by decide) (br_t (by decide) ⟨3, br_f (by decide) (nm_e (nm_r (show (0 : Int32) + 1 = 1 by decide) (br_f (by decide) (nm_e (nm_r (show (1 : Int32) + 1 = 2 by decide) (br_t (by decide) h))))))⟩))))))))⟩
end
section
/-! enter -/
def tm_ent (sz : Int32) (a2 a3 a4 a5 a6 : tm_A) (p0 p1 p2 : Int32) (k : Int32 → tm_A → tm_A → tm_A → tm_A → tm_A → Bool) : Bool :=
  tm_in p0 256 && (tm_in sz 256 && (if p1 = -1 then tm_f (sz + 1) (fun s => k s (upd a2 p0.toNatClampNeg sz) (upd a3 sz.toNatClampNeg p0) (upd a4 sz.toNatClampNeg p1) (upd a5 sz.toNatClampNeg p2) (upd a6 sz.toNatClampNeg 0))
    else tm_in p1 256 && tm_f (sz + 1) (fun s => tm_f (a6 p1.toNatClampNeg + 1) (fun l => k s (upd a2 p0.toNatClampNeg sz) (upd a3 sz.toNatClampNeg p0) (upd a4 sz.toNatClampNeg p1) (upd a5 sz.toNatClampNeg p2) (upd a6 sz.toNatClampNeg l)))))
theorem tm_enter {post : St2 → Prop} {n mp ct sz cu : Int32} {a1 a2 a3 a4 a5 a6 a7 a8 a9 a10 a11 a12 : tm_A} {p0 p1 p2 : Int32} {k : Int32 → tm_A → tm_A → tm_A → tm_A → tm_A → Bool} (h : tm_ent sz a2 a3 a4 a5 a6 p0 p1 p2 k = true)
    (hk : ∀ s b2 b3 b4 b5 b6, k s b2 b3 b4 b5 b6 = true → post (n, mp, ct, s, cu, a1, b2, b3, b4, b5, b6, a7, a8, a9, a10, a11, a12)) :
    wpX_enter post (n, mp, ct, sz, cu, a1, a2, a3, a4, a5, a6, a7, a8, a9, a10, a11, a12) p0 p1 p2 := by
  unfold tm_ent at h
  have h2 := tm_a (tm_a h).2
  have v0 : vp_in p0 256 := tm_io (tm_a h).1
  have vs : vp_in sz 256 := tm_io h2.1
  unfold wpX_enter
  exact ⟨v0, nm_e ⟨vs, nm_e ⟨vs, nm_e ⟨vs, nm_e (tm_br h2.2 (fun g => ⟨vs, nm_e (nm_e (hk _ _ _ _ _ _ (tm_fo g)))⟩) (fun g => ⟨tm_io (tm_a g).1, vs, nm_e (nm_e (hk _ _ _ _ _ _ (tm_fo (tm_fo (tm_a g).2))))⟩))⟩⟩⟩⟩

/-! the left products: loops 180 and 170 -/
def tm_r180 (a4 a5 a7 : tm_A) (x2 : Int32) (k : tm_A → Bool) : Nat → Int32 → tm_A → Bool
  | 0, _, _ => false
  | n + 1, x3, a8 =>
    if (2 : Int32) ≤ x3 then k a8 else
    if x2 = 0 then tm_in x3 1024 && (tm_in ((4 * x2) + x3) 1024 && tm_f (a7 x3.toNatClampNeg) (fun v => tm_f (x3 + 1) (fun y => tm_r180 a4 a5 a7 x2 k n y (upd a8 ((4 * x2) + x3).toNatClampNeg v))))
    else tm_in x2 256 && (tm_in ((4 * (a4 x2.toNatClampNeg)) + x3) 1024 && tm_f (a8 ((4 * (a4 x2.toNatClampNeg)) + x3).toNatClampNeg) (fun s => tm_in ((4 * s) + (a5 x2.toNatClampNeg)) 1024 && tm_f (a7 ((4 * s) + (a5 x2.toNatClampNeg)).toNatClampNeg) (fun v => tm_in ((4 * x2) + x3) 1024 && tm_f (x3 + 1) (fun y => tm_r180 a4 a5 a7 x2 k n y (upd a8 ((4 * x2) + x3).toNatClampNeg v)))))
theorem tm_s180 {post : St2 → Prop} {J : Int32 → tm_A → tm_A → tm_A → tm_A → tm_A → tm_A → tm_A → tm_A → tm_A → tm_A → tm_A → tm_A → Prop} {x2 sz : Int32} {a1 a2 a3 a4 a5 a6 a7 a9 a10 a11 a12 : tm_A} {k : tm_A → Bool} (hJ : ∀ b, k b = true → J (x2 + 1) a1 a2 a3 a4 a5 a6 a7 b a9 a10 a11 a12) :
    ∀ (n : Nat) (x3 : Int32) (a8 : tm_A), tm_r180 a4 a5 a7 x2 k n x3 a8 = true → wX_refresh_180 post J x2 2 4 2 sz 1 n x3 a1 a2 a3 a4 a5 a6 a7 a8 a9 a10 a11 a12 := by
  intro n
  induction n with
  | zero => intro x3 a8 h; exact tm_no h
  | succ n ih =>
    intro x3 a8 h
    refine tm_br h (fun g => nm_e (hJ _ g)) (fun g => tm_br g (fun g => tm_vi g fun g => tm_vi g fun g => nm_e (nm_e (ih _ _ (tm_fo (tm_fo g))))) (fun g => ?_))
    have v2 : vp_in x2 256 := tm_io (tm_a g).1
    have g2 := tm_fo (tm_a (tm_a g).2).2
    exact tm_vi g fun g => ⟨tm_io (tm_a g).1, nm_e ⟨v2, tm_vi g2 fun g => (tm_vi (tm_fo g) fun g => nm_e (nm_e (ih _ _ (tm_fo g))))⟩⟩
def tm_r170 (sz : Int32) (a4 a5 a7 : tm_A) (k : tm_A → Bool) : Nat → Int32 → tm_A → Bool
  | 0, _, _ => false
  | n + 1, x2, a8 => if sz ≤ x2 then k a8 else tm_r180 a4 a5 a7 x2 (fun b => tm_f (x2 + 1) (fun y => tm_r170 sz a4 a5 a7 k n y b)) 3 0 a8
theorem tm_s170 {post : St2 → Prop} {sz : Int32} {a1 a2 a3 a4 a5 a6 a7 a9 a10 a11 a12 : tm_A} {k : tm_A → Bool} (hk : ∀ b, k b = true → post (2, 4, 2, sz, 1, a1, a2, a3, a4, a5, a6, a7, b, a9, a10, a11, a12)) :
    ∀ (n : Nat) (x2 : Int32) (a8 : tm_A), tm_r170 sz a4 a5 a7 k n x2 a8 = true → wX_refresh_170 post 2 4 2 sz 1 n x2 a1 a2 a3 a4 a5 a6 a7 a8 a9 a10 a11 a12 := by
  intro n
  induction n with
  | zero => intro x2 a8 h; exact tm_no h
  | succ n ih =>
    intro x2 a8 h
    exact tm_br h (fun g => hk _ g) (fun g => ⟨3, tm_s180 (fun b g => ih _ _ (tm_fo g)) 3 0 a8 g⟩)

/-! the right products, breadth first: loops 94 and 77 -/
def tm_r94 (a1 : tm_A) (x2 : Int32) (k : Int32 → tm_A → tm_A → tm_A → tm_A → tm_A → tm_A → Bool) : Nat → Int32 → Int32 → tm_A → tm_A → tm_A → tm_A → tm_A → tm_A → Bool
  | 0, _, _, _, _, _, _, _, _ => false
  | n + 1, x3, sz, a2, a3, a4, a5, a6, a7 =>
    if (2 : Int32) ≤ x3 then k sz a2 a3 a4 a5 a6 a7 else
    tm_in x2 256 && (tm_in x3 4 && (tm_ck (a3 x2.toNatClampNeg) && tm_f (tm_cmp (a3 x2.toNatClampNeg) (a1 x3.toNatClampNeg)) (fun r => tm_in r 256 &&
      (if a2 r.toNatClampNeg = -1 then tm_ent sz a2 a3 a4 a5 a6 r x2 x3 (fun s b2 b3 b4 b5 b6 => tm_in ((4 * x2) + x3) 1024 && tm_f (b2 r.toNatClampNeg) (fun v => tm_f (x3 + 1) (fun y => tm_r94 a1 x2 k n y s b2 b3 b4 b5 b6 (upd a7 ((4 * x2) + x3).toNatClampNeg v))))
      else tm_in ((4 * x2) + x3) 1024 && tm_f (a2 r.toNatClampNeg) (fun v => tm_f (x3 + 1) (fun y => tm_r94 a1 x2 k n y sz a2 a3 a4 a5 a6 (upd a7 ((4 * x2) + x3).toNatClampNeg v)))))))
theorem tm_s94 {post : St2 → Prop} {J : Int32 → Int32 → Int32 → Int32 → Int32 → Int32 → tm_A → tm_A → tm_A → tm_A → tm_A → tm_A → tm_A → tm_A → tm_A → tm_A → tm_A → tm_A → Prop} {x2 : Int32} {a1 a8 a9 a10 a11 a12 : tm_A} {k : Int32 → tm_A → tm_A → tm_A → tm_A → tm_A → tm_A → Bool}
    (hJ : ∀ s b2 b3 b4 b5 b6 b7, k s b2 b3 b4 b5 b6 b7 = true → J (x2 + 1) 2 4 2 s 1 a1 b2 b3 b4 b5 b6 b7 a8 a9 a10 a11 a12) :
    ∀ (n : Nat) (x3 sz : Int32) (a2 a3 a4 a5 a6 a7 : tm_A), tm_r94 a1 x2 k n x3 sz a2 a3 a4 a5 a6 a7 = true → wX_refresh_94 post J x2 n x3 2 4 2 sz 1 a1 a2 a3 a4 a5 a6 a7 a8 a9 a10 a11 a12 := by
  intro n
  induction n with
  | zero => intro x3 sz a2 a3 a4 a5 a6 a7 h; exact tm_no h
  | succ n ih =>
    intro x3 sz a2 a3 a4 a5 a6 a7 h
    refine tm_br h (fun g => nm_e (hJ _ _ _ _ _ _ _ g)) (fun g => tm_vi g fun g => tm_vi g fun g => tm_compose (tm_a g).1 ?_)
    have g2 := tm_fo (tm_a g).2
    have vr := tm_io (tm_a g2).1
    exact ⟨vr, tm_br (tm_a g2).2 (fun g => tm_enter g fun s b2 b3 b4 b5 b6 g => ⟨vr, tm_vi g fun g => nm_e (nm_e (ih _ _ _ _ _ _ _ _ (tm_fo (tm_fo g))))⟩) (fun g => ⟨vr, tm_vi g fun g => nm_e (nm_e (ih _ _ _ _ _ _ _ _ (tm_fo (tm_fo g))))⟩)⟩
def tm_r77 (a1 : tm_A) (k : Int32 → tm_A → tm_A → tm_A → tm_A → tm_A → tm_A → Bool) : Nat → Int32 → Int32 → tm_A → tm_A → tm_A → tm_A → tm_A → tm_A → Bool
  | 0, _, _, _, _, _, _, _, _ => false
  | n + 1, x2, sz, a2, a3, a4, a5, a6, a7 =>
    if (256 : Int32) ≤ x2 then false else if sz ≤ x2 then k sz a2 a3 a4 a5 a6 a7 else
    tm_r94 a1 x2 (fun s b2 b3 b4 b5 b6 b7 => tm_f (x2 + 1) (fun y => tm_r77 a1 k n y s b2 b3 b4 b5 b6 b7)) 3 0 sz a2 a3 a4 a5 a6 a7
theorem tm_s77 {post : St2 → Prop} {a1 a8 a9 a10 a11 a12 : tm_A} {k : Int32 → tm_A → tm_A → tm_A → tm_A → tm_A → tm_A → Bool}
    (hk : ∀ s b2 b3 b4 b5 b6 b7, k s b2 b3 b4 b5 b6 b7 = true → ∃ fu, wX_refresh_170 post 2 4 2 s 1 fu 0 a1 b2 b3 b4 b5 b6 b7 a8 a9 a10 a11 a12) :
    ∀ (n : Nat) (x2 sz : Int32) (a2 a3 a4 a5 a6 a7 : tm_A), tm_r77 a1 k n x2 sz a2 a3 a4 a5 a6 a7 = true → wX_refresh_77 post n x2 2 4 2 sz 1 a1 a2 a3 a4 a5 a6 a7 a8 a9 a10 a11 a12 := by
  intro n
  induction n with
  | zero => intro x2 sz a2 a3 a4 a5 a6 a7 h; exact tm_no h
  | succ n ih =>
    intro x2 sz a2 a3 a4 a5 a6 a7 h
    exact tm_br h (fun g => tm_no g) (fun g => tm_br g (fun g => hk _ _ _ _ _ _ _ g) (fun g => ⟨3, tm_s94 (fun s b2 b3 b4 b5 b6 b7 g => ih _ _ _ _ _ _ _ _ (tm_fo g)) 3 0 sz a2 a3 a4 a5 a6 a7 g⟩))

/-! refresh -/
def tm_n0 (a2 : tm_A) : tm_A := upd (upd (upd (upd a2 (0 : Int32).toNatClampNeg (-1)) (1 : Int32).toNatClampNeg (-1)) (2 : Int32).toNatClampNeg (-1)) (3 : Int32).toNatClampNeg (-1)
def tm_rf (a1 a2 a3 a4 a5 a6 a7 a8 : tm_A) (k : Int32 → tm_A → tm_A → tm_A → tm_A → tm_A → tm_A → tm_A → Bool) : Bool :=
  tm_ent 0 (tm_n0 a2) a3 a4 a5 a6 1 (-1) (-1) (fun s b2 b3 b4 b5 b6 => tm_r77 a1 (fun s b2 b3 b4 b5 b6 b7 => tm_r170 s b4 b5 b7 (fun b8 => k s b2 b3 b4 b5 b6 b7 b8) 6 0 a8) 6 0 s b2 b3 b4 b5 b6 a7)
theorem tm_refresh {post : St2 → Prop} {sz : Int32} {a1 a2 a3 a4 a5 a6 a7 a8 a9 a10 a11 a12 : tm_A} {k : Int32 → tm_A → tm_A → tm_A → tm_A → tm_A → tm_A → tm_A → Bool} (h : tm_rf a1 a2 a3 a4 a5 a6 a7 a8 k = true)
    (hk : ∀ s b2 b3 b4 b5 b6 b7 b8, k s b2 b3 b4 b5 b6 b7 b8 = true → post (2, 4, 2, s, 1, a1, b2, b3, b4, b5, b6, b7, b8, a9, a10, a11, a12)) :
    wpX_refresh post (2, 4, 2, sz, 0, a1, a2, a3, a4, a5, a6, a7, a8, a9, a10, a11, a12) := by
  unfold tm_rf at h
  have e : wX_refresh_40 post 2 4 2 sz 1 a1 (tm_n0 a2) a3 a4 a5 a6 a7 a8 a9 a10 a11 a12 3 0 0 :=
    br_f (by decide) (nm_r (show (2 : Int32) * 0 + 0 = 0 by decide) (nm_r (show (0 : Int32) + 1 = 1 by decide) (br_f (by decide) (nm_r (show (2 : Int32) * 0 + 1 = 1 by decide) (nm_r (show (1 : Int32) + 1 = 2 by decide) (br_t (by decide)
      (tm_enter h fun s b2 b3 b4 b5 b6 g => ⟨6, tm_s77 (fun s b2 b3 b4 b5 b6 b7 g => ⟨6, tm_s170 (fun b g => hk _ _ _ _ _ _ _ _ g) 6 0 a8 g⟩) 6 0 _ _ _ _ _ _ _ g⟩)))))))
  unfold wpX_refresh
  exact br_t rfl ⟨5, br_f (by decide) ⟨tm_bI (by decide), nm_e (nm_r (show (0 : Int32) + 1 = 1 by decide) (br_f (by decide) ⟨tm_bI (by decide), nm_e (nm_r (show (1 : Int32) + 1 = 2 by decide) (br_f (by decide) ⟨tm_bI (by decide), nm_e (nm_r (show (2 : Int32) + 1 = 3 by decide) (br_f (by decide) ⟨tm_bI (by decide), nm_e (nm_r (show (3 : Int32) + 1 = 4 by decide) (br_t (by decide) ⟨3, e⟩))⟩))⟩))⟩))⟩⟩
end
section
/-! the methods at a refreshed state -/
theorem tm_rfn {post : St2 → Prop} {sz : Int32} {a1 a2 a3 a4 a5 a6 a7 a8 a9 a10 a11 a12 : tm_A} (h : post (2, 4, 2, sz, 1, a1, a2, a3, a4, a5, a6, a7, a8, a9, a10, a11, a12)) : wpX_refresh post (2, 4, 2, sz, 1, a1, a2, a3, a4, a5, a6, a7, a8, a9, a10, a11, a12) := by
  unfold wpX_refresh
  exact br_f (by decide) h
theorem tm_codeT {post : Int32 → Prop} {n ct sz cu : Int32} {a1 a2 a3 a4 a5 a6 a7 a8 a9 a10 a11 a12 : tm_A} {c : Int32} (h0 : ¬ c < 0) (h4 : ¬ 4 ≤ c) (h : post 1) : wpX_isCode post (n, 4, ct, sz, cu, a1, a2, a3, a4, a5, a6, a7, a8, a9, a10, a11, a12) c := by
  unfold wpX_isCode
  exact br_f h0 (br_f h4 h)
theorem tm_codeF {post : Int32 → Prop} {n ct sz cu : Int32} {a1 a2 a3 a4 a5 a6 a7 a8 a9 a10 a11 a12 : tm_A} {c : Int32} (hb : c < 0 ∨ 4 ≤ c) (h : post 0) : wpX_isCode post (n, 4, ct, sz, cu, a1, a2, a3, a4, a5, a6, a7, a8, a9, a10, a11, a12) c := by
  unfold wpX_isCode
  exact br_c (fun _ => h) (fun z => br_t (hb.resolve_left z) h)
/-! has, length, letter: of a code -/
def tm_has (a2 : tm_A) (c : Int32) (k : Int32 → Bool) : Bool := tm_in c 256 && (if a2 c.toNatClampNeg = -1 then k 0 else k 1)
theorem tm_hasT {post : Int32 → St2 → Prop} {sz : Int32} {a1 a2 a3 a4 a5 a6 a7 a8 a9 a10 a11 a12 : tm_A} {c : Int32} {k : Int32 → Bool} (h0 : ¬ c < 0) (h4 : ¬ 4 ≤ c) (h : tm_has a2 c k = true)
    (hk : ∀ r, k r = true → post r (2, 4, 2, sz, 1, a1, a2, a3, a4, a5, a6, a7, a8, a9, a10, a11, a12)) : wpX_has post (2, 4, 2, sz, 1, a1, a2, a3, a4, a5, a6, a7, a8, a9, a10, a11, a12) c := by
  unfold tm_has at h
  unfold wpX_has
  exact tm_codeT h0 h4 (br_f (by decide) (tm_rfn (tm_vi h fun g => tm_br g (fun g => hk _ g) (fun g => hk _ g))))
theorem tm_hasF {post : Int32 → St2 → Prop} {sz : Int32} {a1 a2 a3 a4 a5 a6 a7 a8 a9 a10 a11 a12 : tm_A} {c : Int32} (hb : c < 0 ∨ 4 ≤ c) (h : post (-1) (2, 4, 2, sz, 1, a1, a2, a3, a4, a5, a6, a7, a8, a9, a10, a11, a12)) : wpX_has post (2, 4, 2, sz, 1, a1, a2, a3, a4, a5, a6, a7, a8, a9, a10, a11, a12) c := by
  unfold wpX_has
  exact tm_codeF hb (br_t rfl h)
def tm_len (a2 a6 : tm_A) (c : Int32) (k : Int32 → Bool) : Bool := tm_in c 256 && (if a2 c.toNatClampNeg = -1 then k (-2) else tm_in (a2 c.toNatClampNeg) 256 && tm_f (a6 (a2 c.toNatClampNeg).toNatClampNeg) k)
theorem tm_lenT {post : Int32 → St2 → Prop} {sz : Int32} {a1 a2 a3 a4 a5 a6 a7 a8 a9 a10 a11 a12 : tm_A} {c : Int32} {k : Int32 → Bool} (h0 : ¬ c < 0) (h4 : ¬ 4 ≤ c) (h : tm_len a2 a6 c k = true)
    (hk : ∀ r, k r = true → post r (2, 4, 2, sz, 1, a1, a2, a3, a4, a5, a6, a7, a8, a9, a10, a11, a12)) : wpX_length post (2, 4, 2, sz, 1, a1, a2, a3, a4, a5, a6, a7, a8, a9, a10, a11, a12) c := by
  unfold tm_len at h
  have vc : vp_in c 256 := tm_io (tm_a h).1
  unfold wpX_length
  exact tm_codeT h0 h4 (br_f (by decide) (tm_rfn (tm_vi h fun g => tm_br g (fun g => hk _ g) (fun g => ⟨vc, tm_vi g fun g => hk _ (tm_fo g)⟩))))
theorem tm_lenF {post : Int32 → St2 → Prop} {sz : Int32} {a1 a2 a3 a4 a5 a6 a7 a8 a9 a10 a11 a12 : tm_A} {c : Int32} (hb : c < 0 ∨ 4 ≤ c) (h : post (-1) (2, 4, 2, sz, 1, a1, a2, a3, a4, a5, a6, a7, a8, a9, a10, a11, a12)) : wpX_length post (2, 4, 2, sz, 1, a1, a2, a3, a4, a5, a6, a7, a8, a9, a10, a11, a12) c := by
  unfold wpX_length
  exact tm_codeF hb (br_t rfl h)
def tm_l46 (a4 a5 a6 : tm_A) (k : Int32 → Bool) : Nat → Int32 → Bool
  | 0, _ => false
  | n + 1, x => tm_in x 256 && (if a6 x.toNatClampNeg ≤ (0 + 1 : Int32) then tm_f (a5 x.toNatClampNeg) k else tm_f (a4 x.toNatClampNeg) (fun y => tm_l46 a4 a5 a6 k n y))
theorem tm_t46 {post : Int32 → St2 → Prop} {sz : Int32} {a1 a2 a3 a4 a5 a6 a7 a8 a9 a10 a11 a12 : tm_A} {k : Int32 → Bool} (hk : ∀ r, k r = true → post r (2, 4, 2, sz, 1, a1, a2, a3, a4, a5, a6, a7, a8, a9, a10, a11, a12)) :
    ∀ (n : Nat) (x : Int32), tm_l46 a4 a5 a6 k n x = true → wX_letter_46 post 0 2 4 2 sz 1 a1 a2 a3 a4 a5 a6 a7 a8 a9 a10 a11 a12 n x := by
  intro n
  induction n with
  | zero => intro x h; exact tm_no h
  | succ n ih =>
    intro x h
    have vx : vp_in x 256 := tm_io (tm_a h).1
    exact tm_vi h fun g => tm_br g (fun g => ⟨vx, hk _ (tm_fo g)⟩) (fun g => ⟨vx, nm_e (ih _ (tm_fo g))⟩)
def tm_let (a2 a4 a5 a6 : tm_A) (c : Int32) (k : Int32 → Bool) : Bool := tm_in c 256 && tm_f (a2 c.toNatClampNeg) (fun x => if x = -1 then k (-2) else tm_in x 256 && (if (0 : Int32) < a6 x.toNatClampNeg then tm_l46 a4 a5 a6 k 5 x else k (-3)))
theorem tm_letT {post : Int32 → St2 → Prop} {sz : Int32} {a1 a2 a3 a4 a5 a6 a7 a8 a9 a10 a11 a12 : tm_A} {c : Int32} {k : Int32 → Bool} (h0 : ¬ c < 0) (h4 : ¬ 4 ≤ c) (h : tm_let a2 a4 a5 a6 c k = true)
    (hk : ∀ r, k r = true → post r (2, 4, 2, sz, 1, a1, a2, a3, a4, a5, a6, a7, a8, a9, a10, a11, a12)) : wpX_letter post (2, 4, 2, sz, 1, a1, a2, a3, a4, a5, a6, a7, a8, a9, a10, a11, a12) c 0 := by
  unfold tm_let at h
  unfold wpX_letter
  exact tm_codeT h0 h4 (br_f (by decide) (tm_rfn (tm_vi h fun g => nm_e (tm_br (tm_fo g) (fun g => hk _ g) (fun g => br_f (by decide) (tm_vi g fun g => tm_br g (fun g => ⟨5, tm_t46 hk 5 _ g⟩) (fun g => hk _ g)))))))
theorem tm_letF {post : Int32 → St2 → Prop} {sz : Int32} {a1 a2 a3 a4 a5 a6 a7 a8 a9 a10 a11 a12 : tm_A} {c p : Int32} (hb : c < 0 ∨ 4 ≤ c) (h : post (-1) (2, 4, 2, sz, 1, a1, a2, a3, a4, a5, a6, a7, a8, a9, a10, a11, a12)) : wpX_letter post (2, 4, 2, sz, 1, a1, a2, a3, a4, a5, a6, a7, a8, a9, a10, a11, a12) c p := by
  unfold wpX_letter
  exact tm_codeF hb (br_t rfl h)
/-! size, units, idempotents -/
theorem tm_size {post : Int32 → St2 → Prop} {sz : Int32} {a1 a2 a3 a4 a5 a6 a7 a8 a9 a10 a11 a12 : tm_A} {k : Int32 → tm_A → tm_A → tm_A → tm_A → tm_A → tm_A → tm_A → Bool} (h : tm_rf a1 a2 a3 a4 a5 a6 a7 a8 k = true)
    (hk : ∀ s b2 b3 b4 b5 b6 b7 b8, k s b2 b3 b4 b5 b6 b7 b8 = true → post s (2, 4, 2, s, 1, a1, b2, b3, b4, b5, b6, b7, b8, a9, a10, a11, a12)) :
    wpX_size post (2, 4, 2, sz, 0, a1, a2, a3, a4, a5, a6, a7, a8, a9, a10, a11, a12) := by
  unfold wpX_size
  exact tm_refresh h fun s b2 b3 b4 b5 b6 b7 b8 g => hk s b2 b3 b4 b5 b6 b7 b8 g
def tm_un (sz : Int32) (a3 : tm_A) (k : Int32 → Bool) : Nat → Int32 → Int32 → Bool
  | 0, _, _ => false
  | n + 1, s, x => if sz ≤ x then k s else tm_in x 256 && (if tm_rk (a3 x.toNatClampNeg) = 2 then tm_f (s + 1) (fun t => tm_f (x + 1) (fun y => tm_un sz a3 k n t y)) else tm_f (s + 0) (fun t => tm_f (x + 1) (fun y => tm_un sz a3 k n t y)))
theorem tm_units {post : Int32 → St2 → Prop} {sz : Int32} {a1 a2 a3 a4 a5 a6 a7 a8 a9 a10 a11 a12 : tm_A} {k : Int32 → Bool} (h : tm_un sz a3 k 6 0 0 = true)
    (hk : ∀ r, k r = true → post r (2, 4, 2, sz, 1, a1, a2, a3, a4, a5, a6, a7, a8, a9, a10, a11, a12)) : wpX_units post (2, 4, 2, sz, 1, a1, a2, a3, a4, a5, a6, a7, a8, a9, a10, a11, a12) := by
  have H : ∀ (n : Nat) (s x : Int32), tm_un sz a3 k n s x = true → wX_units_8 post 2 4 2 sz 1 a1 a2 a3 a4 a5 a6 a7 a8 a9 a10 a11 a12 n s x := by
    intro n
    induction n with
    | zero => intro s x h; exact tm_no h
    | succ n ih =>
      intro s x h
      exact tm_br h (fun g => hk _ g) (fun g => tm_vi g fun g => tm_rankOf (tm_br g (fun g => nm_e (nm_e (ih _ _ (tm_fo (tm_fo g))))) (fun g => nm_e (nm_e (ih _ _ (tm_fo (tm_fo g)))))))
  unfold wpX_units
  exact tm_rfn ⟨6, H 6 0 0 h⟩
def tm_id (sz : Int32) (a3 : tm_A) (k : Int32 → Bool) : Nat → Int32 → Int32 → Bool
  | 0, _, _ => false
  | n + 1, s, x => if sz ≤ x then k s else tm_in x 256 && (tm_ck (a3 x.toNatClampNeg) && (if tm_cmp (a3 x.toNatClampNeg) (a3 x.toNatClampNeg) = a3 x.toNatClampNeg then tm_f (s + 1) (fun t => tm_f (x + 1) (fun y => tm_id sz a3 k n t y)) else tm_f (s + 0) (fun t => tm_f (x + 1) (fun y => tm_id sz a3 k n t y))))
theorem tm_idem {post : Int32 → St2 → Prop} {sz : Int32} {a1 a2 a3 a4 a5 a6 a7 a8 a9 a10 a11 a12 : tm_A} {k : Int32 → Bool} (h : tm_id sz a3 k 6 0 0 = true)
    (hk : ∀ r, k r = true → post r (2, 4, 2, sz, 1, a1, a2, a3, a4, a5, a6, a7, a8, a9, a10, a11, a12)) : wpX_idempotents post (2, 4, 2, sz, 1, a1, a2, a3, a4, a5, a6, a7, a8, a9, a10, a11, a12) := by
  have H : ∀ (n : Nat) (s x : Int32), tm_id sz a3 k n s x = true → wX_idempotents_8 post 2 4 2 sz 1 a1 a2 a3 a4 a5 a6 a7 a8 a9 a10 a11 a12 n s x := by
    intro n
    induction n with
    | zero => intro s x h; exact tm_no h
    | succ n ih =>
      intro s x h
      refine tm_br h (fun g => hk _ g) (fun g => ?_)
      have vx : vp_in x 256 := tm_io (tm_a g).1
      have g1 := tm_a (tm_a g).2
      exact ⟨vx, vx, tm_compose g1.1 ⟨vx, tm_br g1.2 (fun g => nm_e (nm_e (ih _ _ (tm_fo (tm_fo g))))) (fun g => nm_e (nm_e (ih _ _ (tm_fo (tm_fo g)))))⟩⟩
  unfold wpX_idempotents
  exact tm_rfn ⟨6, H 6 0 0 h⟩
/-! spread (both sides) and kernel -/
def tm_s148 (x3 x5 v : Int32) (a10 a12 : tm_A) (k : Int32 → Int32 → tm_A → tm_A → Bool) : Bool :=
  tm_in v 256 && (if a10 v.toNatClampNeg = 0 then tm_in x3 256 && tm_f (x3 + 1) (fun x => tm_f (x5 + 1) (fun y => k x y (upd a10 v.toNatClampNeg 1) (upd a12 x3.toNatClampNeg v))) else tm_f (x5 + 1) (fun y => k x3 y a10 a12))
theorem tm_t122 {post : Int32 → St2 → Prop} {J J' : Int32 → Int32 → tm_A → tm_A → tm_A → tm_A → tm_A → tm_A → tm_A → tm_A → tm_A → tm_A → tm_A → tm_A → Prop} {x3 x4 x5 x6 v sz : Int32} {a1 a2 a3 a4 a5 a6 a7 a8 a9 a10 a11 a12 : tm_A} {k : Int32 → Int32 → tm_A → tm_A → Bool} (h : tm_s148 x3 x5 v a10 a12 k = true)
    (hk : ∀ x y b10 b12, k x y b10 b12 = true → J' x y a1 a2 a3 a4 a5 a6 a7 a8 a9 b10 a11 b12) : wX_spread_122 post J J' 2 x3 x4 x5 x6 v 2 4 2 sz 1 a1 a2 a3 a4 a5 a6 a7 a8 a9 a10 a11 a12 := by
  unfold tm_s148 at h
  have vv : vp_in v 256 := tm_io (tm_a h).1
  exact br_t rfl (br_f (by decide) (tm_vi h fun g => tm_br g (fun g => ⟨vv, nm_e (tm_vi g fun g => nm_e (nm_e (nm_e (hk _ _ _ _ (tm_fo (tm_fo g))))))⟩) (fun g => nm_e (hk _ _ _ _ (tm_fo g)))))
def tm_s59 (a7 a8 : tm_A) (x4 : Int32) (k : Int32 → tm_A → tm_A → Bool) : Nat → Int32 → Int32 → tm_A → tm_A → Bool
  | 0, _, _, _, _ => false
  | n + 1, x3, x5, a10, a12 =>
    if (2 * 2 : Int32) ≤ x5 then k x3 a10 a12 else
    if (x5 &&& 1) = 0 then tm_in x4 256 && (tm_in ((4 * (a12 x4.toNatClampNeg)) + (x5 >>> ((1 : Int32) &&& 31))) 1024 && tm_f (a7 ((4 * (a12 x4.toNatClampNeg)) + (x5 >>> ((1 : Int32) &&& 31))).toNatClampNeg) (fun v => tm_s148 x3 x5 v a10 a12 (fun x y b10 b12 => tm_s59 a7 a8 x4 k n x y b10 b12)))
    else tm_in x4 256 && (tm_in ((4 * (a12 x4.toNatClampNeg)) + (x5 >>> ((1 : Int32) &&& 31))) 1024 && tm_f (a8 ((4 * (a12 x4.toNatClampNeg)) + (x5 >>> ((1 : Int32) &&& 31))).toNatClampNeg) (fun v => tm_s148 x3 x5 v a10 a12 (fun x y b10 b12 => tm_s59 a7 a8 x4 k n x y b10 b12)))
theorem tm_t59 {post : Int32 → St2 → Prop} {J : Int32 → Int32 → tm_A → tm_A → tm_A → tm_A → tm_A → tm_A → tm_A → tm_A → tm_A → tm_A → tm_A → tm_A → Prop} {x4 sz : Int32} {a1 a2 a3 a4 a5 a6 a7 a8 a9 a11 : tm_A} {k : Int32 → tm_A → tm_A → Bool}
    (hJ : ∀ x b10 b12, k x b10 b12 = true → J x (x4 + 1) a1 a2 a3 a4 a5 a6 a7 a8 a9 b10 a11 b12) :
    ∀ (n : Nat) (x3 x5 : Int32) (a10 a12 : tm_A), tm_s59 a7 a8 x4 k n x3 x5 a10 a12 = true → wX_spread_59 post J 2 x4 2 4 2 sz 1 n x3 x5 a1 a2 a3 a4 a5 a6 a7 a8 a9 a10 a11 a12 := by
  intro n
  induction n with
  | zero => intro x3 x5 a10 a12 h; exact tm_no h
  | succ n ih =>
    intro x3 x5 a10 a12 h
    exact tm_br h (fun g => nm_e (hJ _ _ _ g)) (fun g => tm_br g
      (fun g => tm_vi g fun g => nm_e (br_f (by decide) (tm_vi g fun g => tm_t122 (tm_fo g) fun x y b10 b12 g => ih _ _ _ _ g)))
      (fun g => tm_vi g fun g => nm_e (br_t rfl (tm_vi g fun g => tm_t122 (tm_fo g) fun x y b10 b12 g => ih _ _ _ _ g))))
def tm_s42 (a7 a8 : tm_A) (k : Int32 → tm_A → tm_A → Bool) : Nat → Int32 → Int32 → tm_A → tm_A → Bool
  | 0, _, _, _, _ => false
  | n + 1, x3, x4, a10, a12 => if (256 : Int32) ≤ x4 then false else if x3 ≤ x4 then k x3 a10 a12 else tm_s59 a7 a8 x4 (fun x b10 b12 => tm_f (x4 + 1) (fun y => tm_s42 a7 a8 k n x y b10 b12)) 5 x3 0 a10 a12
theorem tm_t42 {post : Int32 → St2 → Prop} {sz : Int32} {a1 a2 a3 a4 a5 a6 a7 a8 a9 a11 : tm_A} {k : Int32 → tm_A → tm_A → Bool}
    (hk : ∀ x b10 b12, k x b10 b12 = true → post x (2, 4, 2, sz, 1, a1, a2, a3, a4, a5, a6, a7, a8, a9, b10, a11, b12)) :
    ∀ (n : Nat) (x3 x4 : Int32) (a10 a12 : tm_A), tm_s42 a7 a8 k n x3 x4 a10 a12 = true → wX_spread_42 post 2 2 4 2 sz 1 n x3 x4 a1 a2 a3 a4 a5 a6 a7 a8 a9 a10 a11 a12 := by
  intro n
  induction n with
  | zero => intro x3 x4 a10 a12 h; exact tm_no h
  | succ n ih =>
    intro x3 x4 a10 a12 h
    exact tm_br h (fun g => tm_no g) (fun g => tm_br g (fun g => hk _ _ _ g) (fun g => ⟨5, tm_t59 (fun x b10 b12 g => ih _ _ _ _ (tm_fo g)) 5 _ _ _ _ g⟩))
def tm_s2 (sz st : Int32) (a7 a8 : tm_A) (k : Int32 → tm_A → tm_A → Bool) : Nat → Int32 → tm_A → tm_A → Bool
  | 0, _, _, _ => false
  | n + 1, x3, a10, a12 => if sz ≤ x3 then tm_in st 256 && tm_s42 a7 a8 k 6 1 0 (upd a10 st.toNatClampNeg 1) (upd a12 0 st) else tm_in x3 256 && tm_f (x3 + 1) (fun y => tm_s2 sz st a7 a8 k n y (upd a10 x3.toNatClampNeg 0) a12)
theorem tm_t2 {post : Int32 → St2 → Prop} {sz st : Int32} {a1 a2 a3 a4 a5 a6 a7 a8 a9 a11 : tm_A} {k : Int32 → tm_A → tm_A → Bool}
    (hk : ∀ x b10 b12, k x b10 b12 = true → post x (2, 4, 2, sz, 1, a1, a2, a3, a4, a5, a6, a7, a8, a9, b10, a11, b12)) :
    ∀ (n : Nat) (x3 : Int32) (a10 a12 : tm_A), tm_s2 sz st a7 a8 k n x3 a10 a12 = true → wX_spread_2 post 2 st 2 4 2 sz 1 n x3 a1 a2 a3 a4 a5 a6 a7 a8 a9 a10 a11 a12 := by
  intro n
  induction n with
  | zero => intro x3 a10 a12 h; exact tm_no h
  | succ n ih =>
    intro x3 a10 a12 h
    exact tm_br h (fun g => tm_vi g fun g => nm_e (nm_e ⟨6, tm_t42 hk 6 1 0 _ _ g⟩)) (fun g => tm_vi g fun g => nm_e (nm_e (ih _ _ _ (tm_fo g))))
theorem tm_spread {post : Int32 → St2 → Prop} {sz st : Int32} {a1 a2 a3 a4 a5 a6 a7 a8 a9 a10 a11 a12 : tm_A} {k : Int32 → tm_A → tm_A → Bool} (h : tm_s2 sz st a7 a8 k 6 0 a10 a12 = true)
    (hk : ∀ x b10 b12, k x b10 b12 = true → post x (2, 4, 2, sz, 1, a1, a2, a3, a4, a5, a6, a7, a8, a9, b10, a11, b12)) : wpX_spread post (2, 4, 2, sz, 1, a1, a2, a3, a4, a5, a6, a7, a8, a9, a10, a11, a12) 2 st := by
  unfold wpX_spread
  exact ⟨6, tm_t2 hk 6 0 _ _ h⟩
def tm_ke (sz : Int32) (a3 a7 a8 a10 a12 : tm_A) (k : Int32 → tm_A → tm_A → Bool) : Nat → Int32 → Int32 → Bool
  | 0, _, _ => false
  | n + 1, x1, x2 => if sz ≤ x2 then tm_s2 sz x1 a7 a8 k 6 0 a10 a12 else tm_in x2 256 && (tm_in x1 256 && (if tm_rk (a3 x1.toNatClampNeg) ≤ tm_rk (a3 x2.toNatClampNeg) then tm_f (x2 + 1) (fun y => tm_ke sz a3 a7 a8 a10 a12 k n x1 y) else tm_f (x2 + 1) (fun y => tm_ke sz a3 a7 a8 a10 a12 k n x2 y)))
theorem tm_kernel {post : Int32 → St2 → Prop} {sz : Int32} {a1 a2 a3 a4 a5 a6 a7 a8 a9 a10 a11 a12 : tm_A} {k : Int32 → tm_A → tm_A → Bool} (h : tm_ke sz a3 a7 a8 a10 a12 k 6 0 1 = true)
    (hk : ∀ x b10 b12, k x b10 b12 = true → post x (2, 4, 2, sz, 1, a1, a2, a3, a4, a5, a6, a7, a8, a9, b10, a11, b12)) : wpX_kernel post (2, 4, 2, sz, 1, a1, a2, a3, a4, a5, a6, a7, a8, a9, a10, a11, a12) := by
  have H : ∀ (n : Nat) (x1 x2 : Int32), tm_ke sz a3 a7 a8 a10 a12 k n x1 x2 = true → wX_kernel_8 post 2 4 2 sz 1 a1 a2 a3 a4 a5 a6 a7 a8 a9 a10 a11 a12 n x1 x2 := by
    intro n
    induction n with
    | zero => intro s x h; exact tm_no h
    | succ n ih =>
      intro x1 x2 h
      exact tm_br h (fun g => tm_spread g fun x b10 b12 g => hk x b10 b12 g) (fun g => tm_vi g fun g => tm_rankOf (tm_vi g fun g => tm_rankOf (tm_br g (fun g => nm_e (ih _ _ (tm_fo g))) (fun g => nm_e (ih _ _ (tm_fo g))))))
  unfold wpX_kernel
  exact tm_rfn ⟨6, H 6 0 1 h⟩
/-! commutes -/
def tm_co (a1 : tm_A) (k : Int32 → Bool) : Bool := tm_ck (a1 (1 : Int32).toNatClampNeg) && (tm_ck (a1 (0 : Int32).toNatClampNeg) && (if tm_cmp (a1 (1 : Int32).toNatClampNeg) (a1 (0 : Int32).toNatClampNeg) = tm_cmp (a1 (0 : Int32).toNatClampNeg) (a1 (1 : Int32).toNatClampNeg) then k 1 else k 0))
theorem tm_commutes {post : Int32 → St2 → Prop} {sz : Int32} {a1 a2 a3 a4 a5 a6 a7 a8 a9 a10 a11 a12 : tm_A} {k : Int32 → Bool} (h : tm_co a1 k = true)
    (hk : ∀ r, k r = true → post r (2, 4, 2, sz, 1, a1, a2, a3, a4, a5, a6, a7, a8, a9, a10, a11, a12)) : wpX_commutes post (2, 4, 2, sz, 1, a1, a2, a3, a4, a5, a6, a7, a8, a9, a10, a11, a12) := by
  unfold tm_co at h
  have h1 := (tm_a h).1
  have h2 := tm_a (tm_a h).2
  have v0 : vp_in 0 4 := tm_bI (by decide)
  have v1 : vp_in 1 4 := tm_bI (by decide)
  unfold wpX_commutes
  exact tm_rfn ⟨3, br_f (by decide) ⟨1, br_t (by decide) (nm_r (show (0 : Int32) + 1 = 1 by decide) (br_f (by decide) ⟨2, br_f (by decide) ⟨v1, v0, tm_compose h1 ⟨v0, v1, tm_compose h2.1 (tm_br h2.2
    (fun g => nm_r (show (0 : Int32) + 1 = 1 by decide) (br_t (by decide) (nm_r (show (1 : Int32) + 1 = 2 by decide) (br_t (by decide) (hk _ g)))))
    (fun g => hk _ g))⟩⟩⟩))⟩⟩
end
section
/-! the law's tail, that does not ask the look: units, idempotents, kernel, commutes -/
def tm_L378 (x7 x11 : Int32) (a1 : tm_A) (z0 z1 : Int32) : Bool := if z1 = z0 then tm_co a1 (fun r => if 1 < x11 then (if r = 0 then true else false) else if x7 = 4 then (if r = 0 then true else false) else (if r = 1 then true else false)) else false
theorem tm_M378 {post : Int32 → St0 → Prop} {mc ms kc ks : Nat} {x7 x11 z0 z1 sz : Int32} {a1 a2 a3 a4 a5 a6 a7 a8 a9 a10 a11 a12 : tm_A} (hp : post 1 ()) (h : tm_L378 x7 x11 a1 z0 z1 = true) :
    wL_lawOf_378 post mc ms x7 x11 z0 z1 kc ks 2 4 2 sz 1 a1 a2 a3 a4 a5 a6 a7 a8 a9 a10 a11 a12 := by
  unfold tm_L378 at h
  exact tm_br h (fun g => tm_commutes g fun r g => tm_br g (fun g => tm_br g (fun _ => hp) (fun g => tm_no g)) (fun g => tm_br g (fun g => tm_br g (fun _ => hp) (fun g => tm_no g)) (fun g => tm_br g (fun _ => hp) (fun g => tm_no g)))) (fun g => tm_no g)
def tm_L328 (x6 x7 sz : Int32) (a1 a3 a7 a8 a10 a12 : tm_A) (z0 z1 : Int32) : Bool :=
  if z1 = z0 then tm_id sz a3 (fun r => if r = (x7 - ((x6 >>> ((2 : Int32) &&& 31)) &&& 1)) then tm_f ((x6 &&& 1) + ((x6 >>> ((3 : Int32) &&& 31)) &&& 1)) (fun x11 => tm_ke sz a3 a7 a8 a10 a12 (fun r _ _ => if x11 ≤ 0 then tm_L378 x7 x11 a1 x7 r else tm_L378 x7 x11 a1 x11 r) 6 0 1) else false) 6 0 0 else false
theorem tm_M328 {post : Int32 → St0 → Prop} {mc ms kc ks : Nat} {x6 x7 z0 z1 sz : Int32} {a1 a2 a3 a4 a5 a6 a7 a8 a9 a10 a11 a12 : tm_A} (hp : post 1 ()) (h : tm_L328 x6 x7 sz a1 a3 a7 a8 a10 a12 z0 z1 = true) :
    wL_lawOf_328 post mc ms x6 x7 z0 z1 kc ks 2 4 2 sz 1 a1 a2 a3 a4 a5 a6 a7 a8 a9 a10 a11 a12 := by
  unfold tm_L328 at h
  exact tm_br h (fun g => tm_idem g fun r g => tm_br g (fun g => nm_e (by have g' := tm_fo g; exact tm_kernel g' fun x b10 b12 g => tm_br g (fun g => tm_M378 hp g) (fun g => tm_M378 hp g))) (fun g => tm_no g)) (fun g => tm_no g)
def tm_L306 (x6 x7 sz : Int32) (a1 a3 a7 a8 a10 a12 : tm_A) : Bool := tm_un sz a3 (fun r => if (x6 &&& 4) = 4 then tm_L328 x6 x7 sz a1 a3 a7 a8 a10 a12 2 r else tm_L328 x6 x7 sz a1 a3 a7 a8 a10 a12 1 r) 6 0 0
theorem tm_M306 {post : Int32 → St0 → Prop} {mc ms kc ks : Nat} {x6 x7 z0 z1 sz : Int32} {a1 a2 a3 a4 a5 a6 a7 a8 a9 a10 a11 a12 : tm_A} (hp : post 1 ()) (hz : z1 = z0) (h : tm_L306 x6 x7 sz a1 a3 a7 a8 a10 a12 = true) :
    wL_lawOf_306 post mc ms x6 x7 z0 z1 kc ks 2 4 2 sz 1 a1 a2 a3 a4 a5 a6 a7 a8 a9 a10 a11 a12 := by
  unfold tm_L306 at h
  exact br_t hz (tm_units h fun r g => tm_br g (fun g => tm_M328 hp g) (fun g => tm_M328 hp g))
/-! the road of a look that is no code -/
theorem tm_B230 {post : Int32 → St0 → Prop} {mc ms kc ks : Nat} {x2 x4 x5 x6 x7 x9 sz : Int32} {a1 a2 a3 a4 a5 a6 a7 a8 a9 a10 a11 a12 : tm_A} (hp : post 1 ()) (hb : x2 < 0 ∨ 4 ≤ x2) (h : tm_L306 x6 x7 sz a1 a3 a7 a8 a10 a12 = true) :
    wL_lawOf_230 post mc ms x2 x4 x5 x6 x7 0 x9 (-1) (-1) kc ks 2 4 2 sz 1 a1 a2 a3 a4 a5 a6 a7 a8 a9 a10 a11 a12 :=
  br_t rfl (tm_letF hb (br_t rfl (tm_M306 hp rfl h)))
theorem tm_B202 {post : Int32 → St0 → Prop} {mc ms kc ks : Nat} {x2 x4 x5 x6 x7 x9 z0 sz : Int32} {a1 a2 a3 a4 a5 a6 a7 a8 a9 a10 a11 a12 : tm_A} (hp : post 1 ()) (hb : x2 < 0 ∨ 4 ≤ x2) (h : tm_L306 x6 x7 sz a1 a3 a7 a8 a10 a12 = true) :
    wL_lawOf_202 post mc ms x2 x4 x5 x6 x7 0 x9 z0 kc ks 2 4 2 sz 1 a1 a2 a3 a4 a5 a6 a7 a8 a9 a10 a11 a12 := by
  unfold wL_lawOf_202
  exact tm_lenF hb (br_t rfl (tm_B230 hp hb h))
theorem tm_B122 {post : Int32 → St0 → Prop} {mc ms kc ks : Nat} {x2 x4 x5 x6 x7 sz : Int32} {a1 a2 a3 a4 a5 a6 a7 a8 a9 a10 a11 a12 : tm_A} (hp : post 1 ()) (hb : x2 < 0 ∨ 4 ≤ x2) (h : tm_L306 x6 x7 sz a1 a3 a7 a8 a10 a12 = true) :
    wL_lawOf_122 post mc ms x2 x4 x5 x6 x7 kc ks 2 4 2 sz 1 a1 a2 a3 a4 a5 a6 a7 a8 a9 a10 a11 a12 := by
  refine br_t rfl ?_
  unfold wL_lawOf_144 wL_lawOf_145
  refine tm_hasF hb (br_t rfl (br_t rfl (br_c (fun _ => tm_B202 hp hb h) (fun _ => br_c (fun _ => ?_) (fun _ => br_c (fun _ => ?_) (fun _ => tm_B202 hp hb h))))))
  · unfold wL_lawOf_197
    exact tm_B202 hp hb h
  · unfold wL_lawOf_197
    exact tm_B202 hp hb h
/-! the road of a look that is a code -/
def tm_G306 (x6 x7 sz : Int32) (a1 a3 a7 a8 a10 a12 : tm_A) (z0 z1 : Int32) : Bool := if z1 = z0 then tm_L306 x6 x7 sz a1 a3 a7 a8 a10 a12 else false
theorem tm_H306 {post : Int32 → St0 → Prop} {mc ms kc ks : Nat} {x6 x7 z0 z1 sz : Int32} {a1 a2 a3 a4 a5 a6 a7 a8 a9 a10 a11 a12 : tm_A} (hp : post 1 ()) (h : tm_G306 x6 x7 sz a1 a3 a7 a8 a10 a12 z0 z1 = true) :
    wL_lawOf_306 post mc ms x6 x7 z0 z1 kc ks 2 4 2 sz 1 a1 a2 a3 a4 a5 a6 a7 a8 a9 a10 a11 a12 := by
  unfold tm_G306 at h
  by_cases hz : z1 = z0
  · rw [if_pos hz] at h
    exact tm_M306 hp hz h
  · rw [if_neg hz] at h
    exact tm_no h
def tm_G230 (x2 x4 x5 x6 x7 x9 sz : Int32) (a1 a2 a3 a4 a5 a6 a7 a8 a10 a12 : tm_A) (z0 z1 : Int32) : Bool :=
  if z1 = z0 then tm_let a2 a4 a5 a6 x2 (fun r => if x9 = 0 then tm_G306 x6 x7 sz a1 a3 a7 a8 a10 a12 (-2) r else if x2 = 1 then tm_G306 x6 x7 sz a1 a3 a7 a8 a10 a12 (-3) r else if x2 = x4 then tm_G306 x6 x7 sz a1 a3 a7 a8 a10 a12 0 r else if x2 = x5 then tm_G306 x6 x7 sz a1 a3 a7 a8 a10 a12 1 r else if (x4 &&& 1) = (x4 >>> ((1 : Int32) &&& 31)) then tm_G306 x6 x7 sz a1 a3 a7 a8 a10 a12 0 r else tm_G306 x6 x7 sz a1 a3 a7 a8 a10 a12 1 r) else false
theorem tm_H230 {post : Int32 → St0 → Prop} {mc ms kc ks : Nat} {x2 x4 x5 x6 x7 x9 z0 z1 sz : Int32} {a1 a2 a3 a4 a5 a6 a7 a8 a9 a10 a11 a12 : tm_A} (hp : post 1 ()) (h0 : ¬ x2 < 0) (h4 : ¬ 4 ≤ x2) (h : tm_G230 x2 x4 x5 x6 x7 x9 sz a1 a2 a3 a4 a5 a6 a7 a8 a10 a12 z0 z1 = true) :
    wL_lawOf_230 post mc ms x2 x4 x5 x6 x7 1 x9 z0 z1 kc ks 2 4 2 sz 1 a1 a2 a3 a4 a5 a6 a7 a8 a9 a10 a11 a12 := by
  unfold tm_G230 at h
  exact tm_br h (fun g => tm_letT h0 h4 g fun r g => br_f (by decide) (tm_br g (fun g => tm_H306 hp g) (fun g => tm_br g (fun g => tm_H306 hp g) (fun g => tm_br g (fun g => tm_H306 hp g) (fun g => tm_br g (fun g => tm_H306 hp g) (fun g => tm_br g (fun g => tm_H306 hp g) (fun g => tm_H306 hp g))))))) (fun g => tm_no g)
def tm_G202 (x2 x4 x5 x6 x7 x9 sz : Int32) (a1 a2 a3 a4 a5 a6 a7 a8 a10 a12 : tm_A) (z0 : Int32) : Bool :=
  tm_len a2 a6 x2 (fun r => if x9 = 0 then tm_G230 x2 x4 x5 x6 x7 x9 sz a1 a2 a3 a4 a5 a6 a7 a8 a10 a12 (-2) r else tm_G230 x2 x4 x5 x6 x7 x9 sz a1 a2 a3 a4 a5 a6 a7 a8 a10 a12 z0 r)
theorem tm_H202 {post : Int32 → St0 → Prop} {mc ms kc ks : Nat} {x2 x4 x5 x6 x7 x9 z0 sz : Int32} {a1 a2 a3 a4 a5 a6 a7 a8 a9 a10 a11 a12 : tm_A} (hp : post 1 ()) (h0 : ¬ x2 < 0) (h4 : ¬ 4 ≤ x2) (h : tm_G202 x2 x4 x5 x6 x7 x9 sz a1 a2 a3 a4 a5 a6 a7 a8 a10 a12 z0 = true) :
    wL_lawOf_202 post mc ms x2 x4 x5 x6 x7 1 x9 z0 kc ks 2 4 2 sz 1 a1 a2 a3 a4 a5 a6 a7 a8 a9 a10 a11 a12 := by
  unfold tm_G202 at h
  unfold wL_lawOf_202
  exact tm_lenT h0 h4 h fun r g => br_f (by decide) (tm_br g (fun g => tm_H230 hp h0 h4 g) (fun g => tm_H230 hp h0 h4 g))
def tm_G171 (x2 x4 x5 x6 x7 x9 sz : Int32) (a1 a2 a3 a4 a5 a6 a7 a8 a10 a12 : tm_A) (z0 z1 : Int32) : Bool :=
  if z1 = z0 then (if x2 = 1 then tm_G202 x2 x4 x5 x6 x7 x9 sz a1 a2 a3 a4 a5 a6 a7 a8 a10 a12 0 else if x2 = x4 then tm_G202 x2 x4 x5 x6 x7 x9 sz a1 a2 a3 a4 a5 a6 a7 a8 a10 a12 1 else if x2 = x5 then tm_G202 x2 x4 x5 x6 x7 x9 sz a1 a2 a3 a4 a5 a6 a7 a8 a10 a12 1 else tm_G202 x2 x4 x5 x6 x7 x9 sz a1 a2 a3 a4 a5 a6 a7 a8 a10 a12 2) else false
theorem tm_H171 {post : Int32 → St0 → Prop} {mc ms kc ks : Nat} {x2 x4 x5 x6 x7 x9 z0 z1 sz : Int32} {a1 a2 a3 a4 a5 a6 a7 a8 a9 a10 a11 a12 : tm_A} (hp : post 1 ()) (h0 : ¬ x2 < 0) (h4 : ¬ 4 ≤ x2) (h : tm_G171 x2 x4 x5 x6 x7 x9 sz a1 a2 a3 a4 a5 a6 a7 a8 a10 a12 z0 z1 = true) :
    wL_lawOf_171 post mc ms x2 x4 x5 x6 x7 1 x9 z0 z1 kc ks 2 4 2 sz 1 a1 a2 a3 a4 a5 a6 a7 a8 a9 a10 a11 a12 := by
  unfold tm_G171 at h
  refine tm_br h (fun g => tm_br g (fun g => tm_H202 hp h0 h4 g) (fun g => tm_br g (fun g => ?_) (fun g => tm_br g (fun g => ?_) (fun g => tm_H202 hp h0 h4 g)))) (fun g => tm_no g)
  · unfold wL_lawOf_197
    exact tm_H202 hp h0 h4 g
  · unfold wL_lawOf_197
    exact tm_H202 hp h0 h4 g
def tm_G145 (x2 x4 x5 x6 x7 sz : Int32) (a1 a2 a3 a4 a5 a6 a7 a8 a10 a12 : tm_A) (x9 : Int32) : Bool :=
  tm_has a2 x2 (fun r => if x9 = 0 then tm_G171 x2 x4 x5 x6 x7 x9 sz a1 a2 a3 a4 a5 a6 a7 a8 a10 a12 0 r else tm_G171 x2 x4 x5 x6 x7 x9 sz a1 a2 a3 a4 a5 a6 a7 a8 a10 a12 1 r)
theorem tm_H145 {post : Int32 → St0 → Prop} {mc ms kc ks : Nat} {x2 x4 x5 x6 x7 x9 sz : Int32} {a1 a2 a3 a4 a5 a6 a7 a8 a9 a10 a11 a12 : tm_A} (hp : post 1 ()) (h0 : ¬ x2 < 0) (h4 : ¬ 4 ≤ x2) (h : tm_G145 x2 x4 x5 x6 x7 sz a1 a2 a3 a4 a5 a6 a7 a8 a10 a12 x9 = true) :
    wL_lawOf_145 post mc ms x2 x4 x5 x6 x7 1 x9 kc ks 2 4 2 sz 1 a1 a2 a3 a4 a5 a6 a7 a8 a9 a10 a11 a12 := by
  unfold tm_G145 at h
  unfold wL_lawOf_145
  exact tm_hasT h0 h4 h fun r g => br_f (by decide) (tm_br g (fun g => tm_H171 hp h0 h4 g) (fun g => tm_H171 hp h0 h4 g))
def tm_G123 (x2 x4 x5 x6 x7 sz : Int32) (a1 a2 a3 a4 a5 a6 a7 a8 a10 a12 : tm_A) : Bool :=
  if ((x6 >>> (x2 &&& 31)) &&& 1) = 1 then tm_G145 x2 x4 x5 x6 x7 sz a1 a2 a3 a4 a5 a6 a7 a8 a10 a12 1 else tm_G145 x2 x4 x5 x6 x7 sz a1 a2 a3 a4 a5 a6 a7 a8 a10 a12 0
theorem tm_H123 {post : Int32 → St0 → Prop} {mc ms kc ks : Nat} {x2 x4 x5 x6 x7 sz : Int32} {a1 a2 a3 a4 a5 a6 a7 a8 a9 a10 a11 a12 : tm_A} (hp : post 1 ()) (h0 : ¬ x2 < 0) (h4 : ¬ 4 ≤ x2) (h : tm_G123 x2 x4 x5 x6 x7 sz a1 a2 a3 a4 a5 a6 a7 a8 a10 a12 = true) :
    wL_lawOf_123 post mc ms x2 x4 x5 x6 x7 1 kc ks 2 4 2 sz 1 a1 a2 a3 a4 a5 a6 a7 a8 a9 a10 a11 a12 := by
  unfold tm_G123 at h
  refine br_f (by decide) (tm_br h (fun g => tm_H145 hp h0 h4 g) (fun g => ?_))
  unfold wL_lawOf_144
  exact tm_H145 hp h0 h4 g
/-! the law behind its generators: the size first -/
def tm_x7 (x6 : Int32) : Int32 := (((x6 &&& 1) + ((x6 >>> ((1 : Int32) &&& 31)) &&& 1)) + ((x6 >>> ((2 : Int32) &&& 31)) &&& 1)) + ((x6 >>> ((3 : Int32) &&& 31)) &&& 1)
/-- the look is a code -/
def tm_G71 (x2 x4 x5 x6 : Int32) (a1 a2 a3 a4 a5 a6 a7 a8 a10 a12 : tm_A) : Bool :=
  tm_f (tm_x7 x6) (fun x7 => tm_rf a1 a2 a3 a4 a5 a6 a7 a8 (fun sz b2 b3 b4 b5 b6 b7 b8 => if sz = x7 then tm_G123 x2 x4 x5 x6 x7 sz a1 b2 b3 b4 b5 b6 b7 b8 a10 a12 else false))
/-- the look is none -/
def tm_B71 (x6 : Int32) (a1 a2 a3 a4 a5 a6 a7 a8 a10 a12 : tm_A) : Bool :=
  tm_f (tm_x7 x6) (fun x7 => tm_rf a1 a2 a3 a4 a5 a6 a7 a8 (fun sz _ b3 _ _ _ b7 b8 => if sz = x7 then tm_L306 x6 x7 sz a1 b3 b7 b8 a10 a12 else false))
theorem tm_H71 {post : Int32 → St0 → Prop} {mc ms kc ks : Nat} {x2 x4 x5 x6 sz : Int32} {a1 a2 a3 a4 a5 a6 a7 a8 a9 a10 a11 a12 : tm_A} (hp : post 1 ()) (h0 : ¬ x2 < 0) (h4 : ¬ 4 ≤ x2) (h : tm_G71 x2 x4 x5 x6 a1 a2 a3 a4 a5 a6 a7 a8 a10 a12 = true) :
    wL_lawOf_71 post mc ms x2 x4 x5 x6 kc ks 2 4 2 sz 0 a1 a2 a3 a4 a5 a6 a7 a8 a9 a10 a11 a12 := by
  unfold tm_G71 at h
  unfold wL_lawOf_71
  exact nm_e (tm_size (tm_fo h) fun s b2 b3 b4 b5 b6 b7 b8 g => tm_br g (fun g => br_f h0 (br_f h4 (tm_H123 hp h0 h4 g))) (fun g => tm_no g))
theorem tm_I71 {post : Int32 → St0 → Prop} {mc ms kc ks : Nat} {x2 x4 x5 x6 sz : Int32} {a1 a2 a3 a4 a5 a6 a7 a8 a9 a10 a11 a12 : tm_A} (hp : post 1 ()) (hb : x2 < 0 ∨ 4 ≤ x2) (h : tm_B71 x6 a1 a2 a3 a4 a5 a6 a7 a8 a10 a12 = true) :
    wL_lawOf_71 post mc ms x2 x4 x5 x6 kc ks 2 4 2 sz 0 a1 a2 a3 a4 a5 a6 a7 a8 a9 a10 a11 a12 := by
  unfold tm_B71 at h
  unfold wL_lawOf_71
  exact nm_e (tm_size (tm_fo h) fun s b2 b3 b4 b5 b6 b7 b8 g => tm_br g (fun g => br_c (fun _ => tm_B122 hp hb g) (fun z => br_t (hb.resolve_left z) (tm_B122 hp hb g))) (fun g => tm_no g))
end
section
/-! the check over all generators and looks -/
def tm_z : tm_A := fun _ => 0
def tm_gen (f g : Int32) : tm_A := upd (upd (fun _ => 0) (0 : Int32).toNatClampNeg f) (1 : Int32).toNatClampNeg g
def tm_set (f g : Int32) : Int32 := (2 ||| ((1 : Int32) <<< (f &&& 31))) ||| ((1 : Int32) <<< (g &&& 31))
def tm_S (f g : Int32) (k : Int32 → Bool) : Bool := if (tm_set f g &&& 4) = 4 then (if (tm_set f g &&& 9) = 0 then k (tm_set f g) else k 15) else k (tm_set f g)
def tm_good (f g l : Int32) : Bool := tm_S f g (fun x6 => tm_G71 l f g x6 (tm_gen f g) tm_z tm_z tm_z tm_z tm_z tm_z tm_z tm_z tm_z)
def tm_none (f g : Int32) : Bool := tm_S f g (fun x6 => tm_B71 x6 (tm_gen f g) tm_z tm_z tm_z tm_z tm_z tm_z tm_z tm_z tm_z)
theorem tm_c1 : ∀ f, f < 4 → ∀ g, g < 4 → ∀ l, l < 4 → tm_f (nI f) (fun f => tm_f (nI g) (fun g => tm_f (nI l) (fun l => tm_good f g l))) = true := by decide +kernel
theorem tm_c2 : ∀ f, f < 4 → ∀ g, g < 4 → tm_f (nI f) (fun f => tm_f (nI g) (fun g => tm_none f g)) = true := by decide +kernel
theorem tm_goodT {f g l : Nat} (hf : f < 4) (hg : g < 4) (hl : l < 4) : tm_good (nI f) (nI g) (nI l) = true := by
  have h1 := tm_fo (tm_c1 f hf g hg l hl)
  have h2 := tm_fo h1
  have h3 := tm_fo h2
  exact h3
theorem tm_noneT {f g : Nat} (hf : f < 4) (hg : g < 4) : tm_none (nI f) (nI g) = true := by
  have h1 := tm_fo (tm_c2 f hf g hg)
  have h2 := tm_fo h1
  exact h2
end
section
/-! the top: a new object, its two generators, the law -/
theorem tm_nlt {f : Nat} (hf : f < 4) : ¬ nI f < 0 := nI_pos (by omega)
theorem tm_nge {f : Nat} (hf : f < 4) : ¬ 4 ≤ nI f := nI_ge (b := 4) hf (by decide)
theorem tm_generate {post : Int32 → St2 → Prop} {ct sz cu c : Int32} {a1 a2 a3 a4 a5 a6 a7 a8 a9 a10 a11 a12 : tm_A} (h0 : ¬ c < 0) (h4 : ¬ 4 ≤ c) (hc : ¬ ct = 4) (hv : vp_in ct 4) (h : post (ct + 1 - 1) (2, 4, ct + 1, sz, 0, upd a1 ct.toNatClampNeg c, a2, a3, a4, a5, a6, a7, a8, a9, a10, a11, a12)) :
    wpX_generate post (2, 4, ct, sz, cu, a1, a2, a3, a4, a5, a6, a7, a8, a9, a10, a11, a12) c := by
  unfold wpX_generate
  exact tm_codeT h0 h4 (br_f (by decide) (br_f hc ⟨hv, nm_e (nm_e h)⟩))
theorem tm_init {post : St2 → Prop} (h : post (2, 4, 0, 0, 0, tm_z, tm_z, tm_z, tm_z, tm_z, tm_z, tm_z, tm_z, tm_z, tm_z, tm_z, tm_z)) : wpX_init post 12 4356 (0, 0, 0, 0, 0) 2 := by
  unfold wpX_init
  refine ⟨by decide, by decide, by decide, by decide, by decide, by decide, by decide, by decide, by decide, by decide, by decide, by decide, by decide, by decide, by decide, by decide, by decide, by decide, by decide, by decide, by decide, by decide, by decide, by decide, ?_⟩
  exact br_t (by decide) (br_t (by decide) ⟨3, br_f (by decide) (nm_r (show (1 : Int32) * 2 = 2 by decide) (nm_r (show (0 : Int32) + 1 = 1 by decide) (br_f (by decide) (nm_r (show (2 : Int32) * 2 = 4 by decide) (nm_r (show (1 : Int32) + 1 = 2 by decide) (br_t (by decide) h))))))⟩)
theorem tm_top {post : Int32 → St0 → Prop} {p0 p1 p2 : Int32} {f g : Nat} (hf : f < 4) (hg : g < 4) (e0 : p0 &&& 3 = nI f) (e1 : p1 &&& 3 = nI g) {k : Int32 → Bool} (hS : tm_S (nI f) (nI g) k = true)
    (hk : ∀ x6 mc ms kc ks, k x6 = true → wL_lawOf_71 post mc ms p2 (nI f) (nI g) x6 kc ks 2 4 2 0 0 (tm_gen (nI f) (nI g)) tm_z tm_z tm_z tm_z tm_z tm_z tm_z tm_z tm_z tm_z tm_z) :
    wpL_lawOf post 13 4373 () p0 p1 p2 := by
  unfold tm_S at hS
  unfold wpL_lawOf
  refine ⟨by decide, by decide, 12, 4356, by decide, by decide, tm_init ?_⟩
  refine nm_r e0 (nm_r e1 (tm_generate (tm_nlt hf) (tm_nge hf) (by decide) (tm_bI (by decide)) ?_))
  refine tm_generate (tm_nlt hg) (tm_nge hg) (by decide) (tm_bI (by decide)) ?_
  exact br_t (by decide) (nm_e (tm_br hS (fun q => tm_br q (fun q => hk _ _ _ _ _ q) (fun q => hk _ _ _ _ _ q)) (fun q => hk _ _ _ _ _ q)))
theorem tm_and3 (x : Int32) : ∃ f : Nat, f < 4 ∧ x &&& 3 = nI f := vp_in_of (pk_andIn x (m := 3) 2 (by decide) (by decide)) (by decide)
theorem tm_lawOf {post : Int32 → St0 → Prop} (hp : post 1 ()) (p0 p1 p2 : Int32) : wpL_lawOf post 13 4373 () p0 p1 p2 := by
  obtain ⟨f, hf, e0⟩ := tm_and3 p0
  obtain ⟨g, hg, e1⟩ := tm_and3 p1
  rcases pk_ix p2 (n := 4) (by decide) with hb | hb | ⟨l, hl, rfl⟩
  · exact tm_top hf hg e0 e1 (tm_noneT hf hg) fun x6 mc ms kc ks q => tm_I71 hp (Or.inl hb) q
  · exact tm_top hf hg e0 e1 (tm_noneT hf hg) fun x6 mc ms kc ks q => tm_I71 hp (Or.inr hb) q
  · exact tm_top hf hg e0 e1 (tm_goodT hf hg hl) fun x6 mc ms kc ks q => tm_H71 hp (tm_nlt hl) (tm_nge hl) q
theorem tm_cell {post : Int32 → Prop} {L : Nat} {xs : Nat → Int32} (hL : L ≤ 3) {i : Nat} (hi : i < 4) (h : ∀ r, post r) : wpL_cellAt post L xs () (nI i) := by
  unfold wpL_cellAt
  refine br_c (fun _ => h _) (fun z => ⟨?_, h _⟩)
  by_cases q : i < L
  · exact vp_in_nI q (by omega)
  · exact absurd (nI_le (a := L) (b := i) (by omega) (by omega)) z
theorem i_vc (xs : Nat → Int32) (L : Nat) (hL : L ≤ 3) : wpL_law (fun r => r = 1) L xs := by
  unfold wpL_law
  exact tm_cell hL (i := 0) (by decide) fun r1 => tm_cell hL (i := 1) (by decide) fun r2 => tm_cell hL (i := 2) (by decide) fun r3 => ⟨13, 4373, by decide, by decide, tm_lawOf rfl r1 r2 r3⟩
end
