section
/-! effects on Int: x -> max lo (min (x + a) hi) -/
def ls_cl (x lo hi : Int) : Int := max lo (min x hi)
abbrev ls_T : Type := Int × Int × Int
def ls_f (t : ls_T) (x : Int) : Int := ls_cl (x + t.1) t.2.1 t.2.2
def ls_F : List ls_T → Int → Int
  | [], x => x
  | t :: l, x => ls_F l (ls_f t x)
def ls_A : List ls_T → Int
  | [] => 0
  | t :: l => t.1 + ls_A l
def ls_v (c : Int) (t : ls_T) : Prop := 0 ≤ t.2.1 ∧ t.2.1 ≤ t.2.2 ∧ t.2.2 ≤ c ∧ -c ≤ t.1 ∧ t.1 ≤ c
theorem ls_F_app (l1 l2 : List ls_T) (x : Int) : ls_F (l1 ++ l2) x = ls_F l2 (ls_F l1 x) := by
  induction l1 generalizing x with
  | nil => rfl
  | cons t l ih => exact ih (ls_f t x)
theorem ls_A_app (l1 l2 : List ls_T) : ls_A (l1 ++ l2) = ls_A l1 + ls_A l2 := by
  induction l1 with
  | nil => exact (Int.zero_add _).symm
  | cons t l ih =>
    show t.1 + ls_A (l ++ l2) = t.1 + ls_A l + ls_A l2
    rw [ih]; omega
theorem ls_cl_in {x lo hi : Int} (h : lo ≤ hi) : lo ≤ ls_cl x lo hi ∧ ls_cl x lo hi ≤ hi := by
  unfold ls_cl; omega
theorem ls_cl_mono {x y lo hi : Int} (h : x ≤ y) : ls_cl x lo hi ≤ ls_cl y lo hi := by
  unfold ls_cl; omega
theorem ls_cl_comp {z L H A p q : Int} (h1 : L ≤ H) (h2 : p ≤ q) : ls_cl (ls_cl z L H + A) p q = ls_cl (z + A) (ls_cl (L + A) p q) (ls_cl (H + A) p q) := by
  unfold ls_cl; omega
theorem ls_cl_norm {x a lo hi c : Int} (h0 : 0 ≤ x) (hc : x ≤ c) (h : lo ≤ hi) : ls_cl (x + a) lo hi = ls_cl (x + a) (ls_cl (0 + a) lo hi) (ls_cl (c + a) lo hi) := by
  unfold ls_cl; omega
theorem ls_cl_id {x c : Int} (h0 : 0 ≤ x) (hc : x ≤ c) : ls_cl (x + 0) 0 c = x := by
  unfold ls_cl; omega
theorem ls_f_in {c : Int} {t : ls_T} (h : ls_v c t) (x : Int) : 0 ≤ ls_f t x ∧ ls_f t x ≤ c := by
  obtain ⟨h1, h2, h3, _⟩ := h
  have := ls_cl_in (x := x + t.1) h2
  unfold ls_f; omega
/-- the law of a composed effect -/
theorem ls_key {c : Int} (hc : 0 ≤ c) (l : List ls_T) (h : ∀ t ∈ l, ls_v c t) :
    0 ≤ ls_F l 0 ∧ ls_F l 0 ≤ ls_F l c ∧ ls_F l c ≤ c ∧ ∀ x, 0 ≤ x → x ≤ c → ls_F l x = ls_cl (x + ls_A l) (ls_F l 0) (ls_F l c) := by
  induction l with
  | nil => exact ⟨Int.le_refl 0, hc, Int.le_refl c, fun x h0 h1 => (ls_cl_id h0 h1).symm⟩
  | cons t l ih =>
    obtain ⟨i1, i2, i3, i4⟩ := ih (fun y hy => h y (List.mem_cons_of_mem t hy))
    have ht := h t (List.mem_cons_self)
    have f0 := ls_f_in ht 0
    have fc := ls_f_in ht c
    have fm : ls_f t 0 ≤ ls_f t c := ls_cl_mono (by omega)
    have e0 := i4 _ f0.1 f0.2
    have ec := i4 _ fc.1 fc.2
    have c0 := ls_cl_in (x := ls_f t 0 + ls_A l) i2
    have cc := ls_cl_in (x := ls_f t c + ls_A l) i2
    have cm : ls_cl (ls_f t 0 + ls_A l) (ls_F l 0) (ls_F l c) ≤ ls_cl (ls_f t c + ls_A l) (ls_F l 0) (ls_F l c) := ls_cl_mono (by omega)
    show 0 ≤ ls_F l (ls_f t 0) ∧ ls_F l (ls_f t 0) ≤ ls_F l (ls_f t c) ∧ ls_F l (ls_f t c) ≤ c ∧ ∀ x, 0 ≤ x → x ≤ c → ls_F l (ls_f t x) = ls_cl (x + (t.1 + ls_A l)) (ls_F l (ls_f t 0)) (ls_F l (ls_f t c))
    rw [e0, ec]
    refine ⟨by omega, cm, by omega, fun x h0 h1 => ?_⟩
    have fx := ls_f_in ht x
    rw [i4 _ fx.1 fx.2]
    have n1 : ls_f t x = ls_cl (x + t.1) (ls_f t 0) (ls_f t c) := ls_cl_norm h0 h1 ht.2.1
    rw [n1, ls_cl_comp fm i2, Int.add_assoc]
theorem ls_A_bd {c : Int} (hc : c ≤ 60) (l : List ls_T) (h : ∀ t ∈ l, ls_v c t) : -(60 * (l.length : Int)) ≤ ls_A l ∧ ls_A l ≤ 60 * (l.length : Int) := by
  induction l with
  | nil =>
    show -(60 * ((0 : Nat) : Int)) ≤ 0 ∧ (0 : Int) ≤ 60 * ((0 : Nat) : Int)
    omega
  | cons t l ih =>
    obtain ⟨i1, i2⟩ := ih (fun y hy => h y (List.mem_cons_of_mem t hy))
    obtain ⟨_, _, _, h4, h5⟩ := h t (List.mem_cons_self)
    show -(60 * ((l.length + 1 : Nat) : Int)) ≤ t.1 + ls_A l ∧ t.1 + ls_A l ≤ 60 * ((l.length + 1 : Nat) : Int)
    omega
theorem ls_F_in {c : Int} (hc : 0 ≤ c) (l : List ls_T) (h : ∀ t ∈ l, ls_v c t) {x : Int} (h0 : 0 ≤ x) (h1 : x ≤ c) : 0 ≤ ls_F l x ∧ ls_F l x ≤ c := by
  obtain ⟨k1, k2, k3, k4⟩ := ls_key hc l h
  have := ls_cl_in (x := x + ls_A l) k2
  rw [k4 x h0 h1]; omega
/-! openings: the count of one y, and the closed form of their running sums -/
def ls_first (A lo y : Int) : Int := if y = lo then 0 else y - A
def ls_last (c A hi y : Int) : Int := if y = hi then c else y - A
def ls_cnt (c A lo hi y : Int) : Int :=
  if y < lo then 0 else if y ≤ hi then
    (if max 0 (ls_first A lo y) ≤ min c (ls_last c A hi y) then min c (ls_last c A hi y) - max 0 (ls_first A lo y) + 1 else 0) else 0
def ls_G (c A lo hi y : Int) : Int := if y ≤ lo then 0 else if hi < y then c + 1 else max 0 (min (c + 1) (y - A))
theorem ls_cnt_nn (c A lo hi y : Int) : 0 ≤ ls_cnt c A lo hi y := by
  unfold ls_cnt
  split
  · omega
  · split
    · split <;> omega
    · omega
theorem ls_G_0 {c A lo hi : Int} (h : 0 ≤ lo) : ls_G c A lo hi 0 = 0 := by
  unfold ls_G; rw [if_pos h]
theorem ls_G_c {c A lo hi : Int} (h : lo ≤ hi) (h2 : hi ≤ c) : ls_G c A lo hi (c + 1) = c + 1 := by
  unfold ls_G; rw [if_neg (by omega), if_pos (by omega)]
theorem ls_G_s {c A lo hi y : Int} (h0 : 0 ≤ c) (h : lo ≤ hi) : ls_G c A lo hi (y + 1) = ls_G c A lo hi y + ls_cnt c A lo hi y := by
  unfold ls_G ls_cnt ls_first ls_last
  by_cases e1 : y < lo
  · rw [if_pos (show y + 1 ≤ lo by omega), if_pos (show y ≤ lo by omega), if_pos e1]; omega
  · rw [if_neg (show ¬ y + 1 ≤ lo by omega), if_neg e1]
    by_cases e2 : y ≤ hi
    · rw [if_pos e2, if_neg (show ¬ hi < y by omega)]
      by_cases e3 : y = lo
      · rw [if_pos e3, if_pos (show y ≤ lo by omega)]
        by_cases e4 : y = hi
        · rw [if_pos e4, if_pos (show hi < y + 1 by omega)]
          split <;> omega
        · rw [if_neg e4, if_neg (show ¬ hi < y + 1 by omega)]
          split <;> omega
      · rw [if_neg e3, if_neg (show ¬ y ≤ lo by omega)]
        by_cases e4 : y = hi
        · rw [if_pos e4, if_pos (show hi < y + 1 by omega)]
          split <;> omega
        · rw [if_neg e4, if_neg (show ¬ hi < y + 1 by omega)]
          split <;> omega
    · rw [if_neg e2, if_pos (show hi < y + 1 by omega), if_neg (show ¬ y ≤ lo by omega), if_pos (show hi < y by omega)]; omega
end
section
/-! nodes are Int32; reading an array at a node -/
def ls_ok (x : Int32) : Prop := vp_in x 43 ∧ x ≠ 0
def ls_rd (a : Nat → Int32) (x : Int32) : Int32 := a x.toNatClampNeg
def ls_r4 (a : Nat → Int32) (x : Int32) (v : Nat) : Int32 := a (4 * x.toNatClampNeg + v)
theorem ls_i0 : (0 : Int32).toInt = 0 := by decide
theorem ls_cn (x : Int32) : x.toNatClampNeg = x.toInt.toNat := rfl
theorem ls_ok_pos {x : Int32} (h : ls_ok x) : 0 < x.toInt ∧ x.toInt < 43 := by
  obtain ⟨h1, h2⟩ := h
  have h3 := vp_in_iff.mp h1
  have h4 : x.toInt ≠ 0 := fun z => h2 (Int32.toInt_inj.mp (by rw [z, ls_i0]))
  omega
theorem ls_in0 : vp_in (0 : Int32) 43 := vp_in_iff.mpr (by rw [ls_i0]; omega)
theorem ls_inj {x p : Int32} (hp : ls_ok p) : x.toNatClampNeg = p.toNatClampNeg ↔ x = p := by
  constructor
  · intro h
    have h1 := ls_ok_pos hp
    rw [ls_cn, ls_cn] at h
    exact Int32.toInt_inj.mp (by omega)
  · intro h; rw [h]
theorem ls_rd_upd {a : Nat → Int32} {p v x : Int32} (hp : ls_ok p) : ls_rd (upd a p.toNatClampNeg v) x = if x = p then v else ls_rd a x := by
  unfold ls_rd upd
  by_cases e : x = p
  · rw [if_pos e, e, if_pos rfl]
  · rw [if_neg e, if_neg (fun z => e ((ls_inj hp).mp z))]
theorem ls_rd_us {a : Nat → Int32} {p v : Int32} : ls_rd (upd a p.toNatClampNeg v) p = v := by
  unfold ls_rd upd; rw [if_pos rfl]
theorem ls_rd_un {a : Nat → Int32} {p v x : Int32} (hp : ls_ok p) (h : x ≠ p) : ls_rd (upd a p.toNatClampNeg v) x = ls_rd a x := by
  rw [ls_rd_upd hp, if_neg h]
theorem ls_r4_us {a : Nat → Int32} {p z : Int32} {v : Nat} : ls_r4 (upd a (4 * p.toNatClampNeg + v) z) p v = z := by
  unfold ls_r4 upd; rw [if_pos rfl]
theorem ls_r4_un {a : Nat → Int32} {p z x : Int32} {v w : Nat} (hp : ls_ok p) (hv : v < 4) (hw : w < 4) (h : x ≠ p ∨ w ≠ v) : ls_r4 (upd a (4 * p.toNatClampNeg + v) z) x w = ls_r4 a x w := by
  unfold ls_r4 upd
  rw [if_neg]
  intro e
  have e1 : x.toNatClampNeg = p.toNatClampNeg := by omega
  have e2 := (ls_inj hp).mp e1
  rcases h with h | h
  · exact h e2
  · omega
theorem ls_ix {x : Int32} {v : Nat} (hx : vp_in x 43) (hv : v < 4) : vp_in (x * 4 + nI v) 172 ∧ (x * 4 + nI v).toNatClampNeg = 4 * x.toNatClampNeg + v := by
  obtain ⟨j, hj, rfl⟩ := vp_in_of hx (by decide)
  have e : nI j * 4 + nI v = nI (4 * j + v) := by
    rw [show (4 : Int32) = nI 4 from rfl, pk_mul, nI_add, Nat.mul_comm]
  rw [e, nI_clamp (by omega), nI_clamp (by omega)]
  exact ⟨vp_in_nI (by omega) (by decide), rfl⟩
theorem ls_add {x y : Int32} (h1 : -1000000 ≤ x.toInt + y.toInt) (h2 : x.toInt + y.toInt ≤ 1000000) : (x + y).toInt = x.toInt + y.toInt :=
  Jvm.Kit.i32_add (by omega) (by omega)
theorem ls_sub {x y : Int32} (h1 : -1000000 ≤ x.toInt - y.toInt) (h2 : x.toInt - y.toInt ≤ 1000000) : (x - y).toInt = x.toInt - y.toInt :=
  Jvm.Kit.i32_sub (by omega) (by omega)
theorem ls_wclamp {post : Int32 → Prop} {x lo hi : Int32} (h : lo.toInt ≤ hi.toInt) (hp : ∀ r : Int32, r.toInt = ls_cl x.toInt lo.toInt hi.toInt → post r) : wpX_clamped post () x lo hi := by
  refine br_c (fun h1 => br_c (fun h2 => hp x ?_) (fun h2 => hp hi ?_)) (fun h1 => hp lo ?_)
  · rw [Int32.le_iff_toInt_le] at h1 h2; unfold ls_cl; omega
  · rw [Int32.le_iff_toInt_le] at h1 h2; unfold ls_cl; omega
  · rw [Int32.le_iff_toInt_le] at h1; unfold ls_cl; omega
/-! elements, lists -/
abbrev ls_E : Type := Int32 × ls_T × Bool
def ls_id (s : List ls_E) : List Int32 := s.map (fun e => e.1)
def ls_pt (d : Bool) (s : List ls_E) : List ls_E := s.map (fun e => (e.1, e.2.1, d))
def ls_pw (w : Int32) (s : List ls_E) : List ls_E := if w = 2 then s else ls_pt (decide (w = 1)) s
def ls_P (b w : Int32) (s : List ls_E) : List ls_E := if b = 0 then ls_pw w s else (ls_pw w s).reverse
def ls_al (s : List ls_E) : List ls_T := s.map (fun e => e.2.1)
def ls_lv (s : List ls_E) : List ls_E := s.filter (fun e => !e.2.2)
def ls_g (v : Nat) (s : List ls_E) : List ls_T :=
  if v = 0 then ls_al s else if v = 1 then (ls_al s).reverse else if v = 2 then ls_al (ls_lv s) else (ls_al (ls_lv s)).reverse
theorem ls_id_app (s t : List ls_E) : ls_id (s ++ t) = ls_id s ++ ls_id t := List.map_append
theorem ls_id_rev (s : List ls_E) : ls_id s.reverse = (ls_id s).reverse := List.map_reverse
theorem ls_id_pt (d : Bool) (s : List ls_E) : ls_id (ls_pt d s) = ls_id s := by
  unfold ls_id ls_pt; rw [List.map_map]; rfl
theorem ls_id_pw (w : Int32) (s : List ls_E) : ls_id (ls_pw w s) = ls_id s := by
  unfold ls_pw; split
  · rfl
  · exact ls_id_pt _ _
theorem ls_id_P (b w : Int32) (s : List ls_E) : ls_id (ls_P b w s) = if b = 0 then ls_id s else (ls_id s).reverse := by
  unfold ls_P; split
  · exact ls_id_pw _ _
  · rw [ls_id_rev, ls_id_pw]
theorem ls_mem_P (b w : Int32) (s : List ls_E) (x : Int32) : x ∈ ls_id (ls_P b w s) ↔ x ∈ ls_id s := by
  rw [ls_id_P]; split
  · rfl
  · exact List.mem_reverse
theorem ls_len_id (s : List ls_E) : (ls_id s).length = s.length := List.length_map _
theorem ls_len_P (b w : Int32) (s : List ls_E) : (ls_P b w s).length = s.length := by
  rw [← ls_len_id, ls_id_P]; split
  · exact ls_len_id s
  · rw [List.length_reverse]; exact ls_len_id s
theorem ls_P_nil (b w : Int32) : ls_P b w [] = [] := List.length_eq_zero_iff.mp (by rw [ls_len_P]; rfl)
theorem ls_P_02 (s : List ls_E) : ls_P 0 2 s = s := by
  unfold ls_P ls_pw; rw [if_pos rfl, if_pos rfl]
theorem ls_pt_pt (d d' : Bool) (s : List ls_E) : ls_pt d (ls_pt d' s) = ls_pt d s := by
  unfold ls_pt; rw [List.map_map]; rfl
theorem ls_pt_rev (d : Bool) (s : List ls_E) : ls_pt d s.reverse = (ls_pt d s).reverse := List.map_reverse
theorem ls_pt_app (d : Bool) (s t : List ls_E) : ls_pt d (s ++ t) = ls_pt d s ++ ls_pt d t := List.map_append
theorem ls_pt_pw (d : Bool) (w : Int32) (s : List ls_E) : ls_pt d (ls_pw w s) = ls_pt d s := by
  unfold ls_pw; split
  · rfl
  · exact ls_pt_pt _ _ _
/-- painting a node: its tag becomes 0 or 1 -/
theorem ls_pt_P (d : Bool) (b w : Int32) (s : List ls_E) : ls_pt d (ls_P b w s) = ls_P b (if d = true then 1 else 0) s := by
  have e : ls_pw (if d = true then 1 else 0) s = ls_pt d s := by
    unfold ls_pw
    cases d
    · rw [if_neg (by decide)]; rfl
    · rw [if_neg (by decide)]; rfl
  unfold ls_P
  rw [e]
  split
  · exact ls_pt_pw _ _ _
  · rw [ls_pt_rev, ls_pt_pw]
theorem ls_al_app (s t : List ls_E) : ls_al (s ++ t) = ls_al s ++ ls_al t := List.map_append
theorem ls_lv_app (s t : List ls_E) : ls_lv (s ++ t) = ls_lv s ++ ls_lv t := List.filter_append ..
theorem ls_al_rev (s : List ls_E) : ls_al s.reverse = (ls_al s).reverse := List.map_reverse
theorem ls_lv_rev (s : List ls_E) : ls_lv s.reverse = (ls_lv s).reverse := List.filter_reverse ..
theorem ls_al_pt (d : Bool) (s : List ls_E) : ls_al (ls_pt d s) = ls_al s := by
  unfold ls_al ls_pt; rw [List.map_map]; rfl
theorem ls_lv_dead (s : List ls_E) : ls_lv (ls_pt true s) = [] := by
  induction s with
  | nil => rfl
  | cons e s ih => exact ih
theorem ls_lv_live (s : List ls_E) : ls_lv (ls_pt false s) = ls_pt false s := by
  induction s with
  | nil => rfl
  | cons e s ih => exact congrArg (List.cons (e.1, e.2.1, false)) ih
theorem ls_g0 (s : List ls_E) : ls_g 0 s = ls_al s := rfl
theorem ls_g1 (s : List ls_E) : ls_g 1 s = (ls_al s).reverse := rfl
theorem ls_g2 (s : List ls_E) : ls_g 2 s = ls_al (ls_lv s) := rfl
theorem ls_g3 (s : List ls_E) : ls_g 3 s = (ls_al (ls_lv s)).reverse := rfl
theorem ls_g_v {c : Int} {s : List ls_E} (h : ∀ e ∈ s, ls_v c e.2.1) (v : Nat) : ∀ t ∈ ls_g v s, ls_v c t := by
  have h1 : ∀ t ∈ ls_al s, ls_v c t := by
    intro t ht
    obtain ⟨e, he, rfl⟩ := List.mem_map.mp ht
    exact h e he
  have h2 : ∀ t ∈ ls_al (ls_lv s), ls_v c t := by
    intro t ht
    obtain ⟨e, he, rfl⟩ := List.mem_map.mp ht
    exact h e (List.mem_filter.mp he).1
  intro t ht
  unfold ls_g at ht
  split at ht
  · exact h1 t ht
  · split at ht
    · exact h1 t (List.mem_reverse.mp ht)
    · split at ht
      · exact h2 t ht
      · exact h2 t (List.mem_reverse.mp ht)
theorem ls_g_len (v : Nat) (s : List ls_E) : (ls_g v s).length ≤ s.length := by
  have h1 : (ls_al s).length = s.length := List.length_map _
  have h2 : (ls_al (ls_lv s)).length ≤ s.length := by
    rw [show (ls_al (ls_lv s)).length = (ls_lv s).length from List.length_map _]
    exact List.length_filter_le _ _
  unfold ls_g
  split
  · omega
  · split
    · rw [List.length_reverse]; omega
    · split
      · exact h2
      · rw [List.length_reverse]; exact h2
end
section
/-! what a node stores -/
def ls_M (c : Int) (x y z : Int32) (l : List ls_T) : Prop := x.toInt = ls_A l ∧ y.toInt = ls_F l 0 ∧ z.toInt = ls_F l c
def ls_Q (c : Int) (a4 a13 a14 a15 : Nat → Int32) (x : Int32) (s : List ls_E) : Prop :=
  ls_rd a4 x = nI s.length ∧ s.length ≤ 42 ∧ (∀ e ∈ s, ls_v c e.2.1) ∧ ∀ v, v < 4 → ls_M c (ls_r4 a13 x v) (ls_r4 a14 x v) (ls_r4 a15 x v) (ls_g v s)
/-- an entry's own effect -/
def ls_tr (c : Int) (k m : Int32) : ls_T := if k = 0 then (m.toInt, 0, c) else if k = 1 then (0, m.toInt, c) else if k = 2 then (0, 0, m.toInt) else (0, m.toInt, m.toInt)
def ls_ev (c : Int) (a5 a6 a7 : Nat → Int32) (x : Int32) : ls_T × Bool := (ls_tr c (ls_rd a5 x) (ls_rd a6 x), decide (ls_rd a7 x ≠ 0))
theorem ls_wthen {post : St2 → Prop} (fs fr fe fc fm fx fy fz : Int32) (a1 a2 a3 a4 a5 a6 a7 a8 a9 a10 a11 a12 a13 a14 a15 a16 a17 a18 a19 : Nat → Int32) {p0 p1 p2 : Int32} (h : p1.toInt ≤ p2.toInt)
    (x1 : -1000000 ≤ fx.toInt + p0.toInt) (x2 : fx.toInt + p0.toInt ≤ 1000000) (y1 : -1000000 ≤ fy.toInt + p0.toInt) (y2 : fy.toInt + p0.toInt ≤ 1000000) (z1 : -1000000 ≤ fz.toInt + p0.toInt) (z2 : fz.toInt + p0.toInt ≤ 1000000)
    (hp : ∀ x y z : Int32, x.toInt = fx.toInt + p0.toInt → y.toInt = ls_cl (fy.toInt + p0.toInt) p1.toInt p2.toInt → z.toInt = ls_cl (fz.toInt + p0.toInt) p1.toInt p2.toInt → post (fs, fr, fe, fc, fm, x, y, z, a1, a2, a3, a4, a5, a6, a7, a8, a9, a10, a11, a12, a13, a14, a15, a16, a17, a18, a19)) :
    wpX_thenEffect post (fs, fr, fe, fc, fm, fx, fy, fz, a1, a2, a3, a4, a5, a6, a7, a8, a9, a10, a11, a12, a13, a14, a15, a16, a17, a18, a19) p0 p1 p2 := by
  unfold wpX_thenEffect
  refine ls_wclamp h (fun r1 e1 => ls_wclamp h (fun r2 e2 => ?_))
  intro f ef
  rw [ef]
  exact hp _ r1 r2 (ls_add x1 x2) (by rw [e1, ls_add y1 y2]) (by rw [e2, ls_add z1 z2])
theorem ls_wthenM {post : St2 → Prop} (fs fr fe fc fm fx fy fz : Int32) (a1 a2 a3 a4 a5 a6 a7 a8 a9 a10 a11 a12 a13 a14 a15 a16 a17 a18 a19 : Nat → Int32) {p0 p1 p2 : Int32} {c : Int} {l l2 : List ls_T} (hc0 : 0 ≤ c) (hc : c ≤ 60) (hl : ∀ t ∈ l, ls_v c t) (hl2 : ∀ t ∈ l2, ls_v c t)
    (hb : l.length + l2.length ≤ 100) (h1 : ls_M c fx fy fz l) (h2 : ls_M c p0 p1 p2 l2)
    (hp : ∀ x y z : Int32, ls_M c x y z (l ++ l2) → post (fs, fr, fe, fc, fm, x, y, z, a1, a2, a3, a4, a5, a6, a7, a8, a9, a10, a11, a12, a13, a14, a15, a16, a17, a18, a19)) :
    wpX_thenEffect post (fs, fr, fe, fc, fm, fx, fy, fz, a1, a2, a3, a4, a5, a6, a7, a8, a9, a10, a11, a12, a13, a14, a15, a16, a17, a18, a19) p0 p1 p2 := by
  obtain ⟨m1, m2, m3⟩ := h1
  obtain ⟨q1, q2, q3⟩ := h2
  have b1 := ls_A_bd hc l hl
  have b2 := ls_A_bd hc l2 hl2
  obtain ⟨k1, k2, k3, k4⟩ := ls_key hc0 l hl
  obtain ⟨j1, j2, j3, j4⟩ := ls_key hc0 l2 hl2
  refine ls_wthen fs fr fe fc fm fx fy fz a1 a2 a3 a4 a5 a6 a7 a8 a9 a10 a11 a12 a13 a14 a15 a16 a17 a18 a19 (by rw [q2, q3]; exact j2) ?_ ?_ ?_ ?_ ?_ ?_ (fun x y z ex ey ez => hp x y z ⟨?_, ?_, ?_⟩)
  · rw [m1, q1]; omega
  · rw [m1, q1]; omega
  · rw [m2, q1]; omega
  · rw [m2, q1]; omega
  · rw [m3, q1]; omega
  · rw [m3, q1]; omega
  · rw [ex, m1, q1, ls_A_app]
  · rw [ey, m2, q1, q2, q3, ls_F_app]; exact (j4 _ k1 (by omega)).symm
  · rw [ez, m3, q1, q2, q3, ls_F_app]; exact (j4 _ (by omega) k3).symm
/-- an effect that is one triple -/
theorem ls_wthenT {post : St2 → Prop} (fs fr fe fc fm fx fy fz : Int32) (a1 a2 a3 a4 a5 a6 a7 a8 a9 a10 a11 a12 a13 a14 a15 a16 a17 a18 a19 : Nat → Int32) {p0 p1 p2 : Int32} {c : Int} {l : List ls_T} {t : ls_T} (hc0 : 0 ≤ c) (hc : c ≤ 60) (hl : ∀ t ∈ l, ls_v c t) (ht : ls_v c t)
    (hb : l.length ≤ 100) (h1 : ls_M c fx fy fz l) (e0 : p0.toInt = t.1) (e1 : p1.toInt = t.2.1) (e2 : p2.toInt = t.2.2)
    (hp : ∀ x y z : Int32, ls_M c x y z (l ++ [t]) → post (fs, fr, fe, fc, fm, x, y, z, a1, a2, a3, a4, a5, a6, a7, a8, a9, a10, a11, a12, a13, a14, a15, a16, a17, a18, a19)) :
    wpX_thenEffect post (fs, fr, fe, fc, fm, fx, fy, fz, a1, a2, a3, a4, a5, a6, a7, a8, a9, a10, a11, a12, a13, a14, a15, a16, a17, a18, a19) p0 p1 p2 := by
  obtain ⟨m1, m2, m3⟩ := h1
  have b1 := ls_A_bd hc l hl
  obtain ⟨k1, k2, k3, k4⟩ := ls_key hc0 l hl
  obtain ⟨t1, t2, t3, t4, t5⟩ := ht
  refine ls_wthen fs fr fe fc fm fx fy fz a1 a2 a3 a4 a5 a6 a7 a8 a9 a10 a11 a12 a13 a14 a15 a16 a17 a18 a19 (by rw [e1, e2]; exact t2) ?_ ?_ ?_ ?_ ?_ ?_ (fun x y z ex ey ez => hp x y z ⟨?_, ?_, ?_⟩)
  · rw [m1, e0]; omega
  · rw [m1, e0]; omega
  · rw [m2, e0]; omega
  · rw [m2, e0]; omega
  · rw [m3, e0]; omega
  · rw [m3, e0]; omega
  · rw [ex, m1, e0, ls_A_app]; show ls_A l + t.1 = ls_A l + (t.1 + 0); omega
  · rw [ey, m2, e0, e1, e2, ls_F_app]; rfl
  · rw [ez, m3, e0, e1, e2, ls_F_app]; rfl
theorem ls_wentry {post : St2 → Prop} (fs fr fe fc fm fx fy fz : Int32) (a1 a2 a3 a4 a5 a6 a7 a8 a9 a10 a11 a12 a13 a14 a15 a16 a17 a18 a19 : Nat → Int32) {n : Int32} {c : Int} {l : List ls_T} (hc0 : 0 ≤ c) (hc : c ≤ 60) (hcap : fc.toInt = c) (hn : vp_in n 43) (hl : ∀ t ∈ l, ls_v c t)
    (ht : ls_v c (ls_tr c (ls_rd a5 n) (ls_rd a6 n))) (hb : l.length ≤ 100) (h1 : ls_M c fx fy fz l)
    (hp : ∀ x y z : Int32, ls_M c x y z (l ++ [ls_tr c (ls_rd a5 n) (ls_rd a6 n)]) → post (fs, fr, fe, fc, fm, x, y, z, a1, a2, a3, a4, a5, a6, a7, a8, a9, a10, a11, a12, a13, a14, a15, a16, a17, a18, a19)) :
    wpX_thenEntry post (fs, fr, fe, fc, fm, fx, fy, fz, a1, a2, a3, a4, a5, a6, a7, a8, a9, a10, a11, a12, a13, a14, a15, a16, a17, a18, a19) n := by
  unfold ls_tr at ht hp
  refine ⟨hn, nm_e ⟨hn, br_c (fun k0 => ?_) (fun k0 => ⟨hn, br_c (fun k1 => ?_) (fun k1 => ⟨hn, br_c (fun k2 => ?_) (fun k2 => ?_)⟩)⟩)⟩⟩
  · rw [show ls_rd a5 n = 0 from k0, if_pos rfl] at ht hp
    exact ls_wthenT fs fr fe fc fm fx fy fz a1 a2 a3 a4 a5 a6 a7 a8 a9 a10 a11 a12 a13 a14 a15 a16 a17 a18 a19 hc0 hc hl ht hb h1 rfl ls_i0 hcap hp
  · rw [if_neg (show ¬ ls_rd a5 n = 0 from k0), show ls_rd a5 n = 1 from k1, if_pos rfl] at ht hp
    exact ls_wthenT fs fr fe fc fm fx fy fz a1 a2 a3 a4 a5 a6 a7 a8 a9 a10 a11 a12 a13 a14 a15 a16 a17 a18 a19 hc0 hc hl ht hb h1 ls_i0 rfl hcap hp
  · rw [if_neg (show ¬ ls_rd a5 n = 0 from k0), if_neg (show ¬ ls_rd a5 n = 1 from k1), show ls_rd a5 n = 2 from k2, if_pos rfl] at ht hp
    exact ls_wthenT fs fr fe fc fm fx fy fz a1 a2 a3 a4 a5 a6 a7 a8 a9 a10 a11 a12 a13 a14 a15 a16 a17 a18 a19 hc0 hc hl ht hb h1 ls_i0 ls_i0 rfl hp
  · rw [if_neg (show ¬ ls_rd a5 n = 0 from k0), if_neg (show ¬ ls_rd a5 n = 1 from k1), if_neg (show ¬ ls_rd a5 n = 2 from k2)] at ht hp
    exact ls_wthenT fs fr fe fc fm fx fy fz a1 a2 a3 a4 a5 a6 a7 a8 a9 a10 a11 a12 a13 a14 a15 a16 a17 a18 a19 hc0 hc hl ht hb h1 ls_i0 rfl rfl hp
abbrev ls_J : Type := Int32 → Int32 → Int32 → Int32 → Int32 → Int32 → Int32 → Int32 → Int32 → (Nat → Int32) → (Nat → Int32) → (Nat → Int32) → (Nat → Int32) → (Nat → Int32) → (Nat → Int32) → (Nat → Int32) → (Nat → Int32) → (Nat → Int32) → (Nat → Int32) → (Nat → Int32) → (Nat → Int32) → (Nat → Int32) → (Nat → Int32) → (Nat → Int32) → (Nat → Int32) → (Nat → Int32) → (Nat → Int32) → (Nat → Int32) → Prop
theorem ls_w249 {post : St2 → Prop} {J : ls_J} (fs fr fe fc fm fx fy fz : Int32) (a1 a2 a3 a4 a5 a6 a7 a8 a9 a10 a11 a12 a13 a14 a15 a16 a17 a18 a19 : Nat → Int32) {x1 x2 x3 x5 q : Int32} {v : Nat} {c : Int} {l l2 : List ls_T} (hv : v < 4) (hn : vp_in x1 43) (hq : vp_in q 43) (hc0 : 0 ≤ c) (hc : c ≤ 60) (hl : ∀ t ∈ l, ls_v c t) (hl2 : ∀ t ∈ l2, ls_v c t)
    (hb : l.length + l2.length ≤ 100) (h1 : ls_M c fx fy fz l) (h2 : ls_M c (ls_r4 a13 q v) (ls_r4 a14 q v) (ls_r4 a15 q v) l2)
    (hp : ∀ x y z : Int32, ls_M c x y z (l ++ l2) → J (nI (v + 1)) fs fr fe fc fm x y z a1 a2 a3 a4 a5 a6 a7 a8 a9 a10 a11 a12 (upd a13 (4 * x1.toNatClampNeg + v) x) (upd a14 (4 * x1.toNatClampNeg + v) y) (upd a15 (4 * x1.toNatClampNeg + v) z) a16 a17 a18 a19) :
    wX_pull_249 post J x1 x2 x3 x5 (nI v) (q * 4 + nI v) fs fr fe fc fm fx fy fz a1 a2 a3 a4 a5 a6 a7 a8 a9 a10 a11 a12 a13 a14 a15 a16 a17 a18 a19 := by
  obtain ⟨i1, i2⟩ := ls_ix hq hv
  obtain ⟨j1, j2⟩ := ls_ix hn hv
  unfold wX_pull_249
  rw [i2]
  refine ⟨i1, i1, i1, ls_wthenM fs fr fe fc fm fx fy fz a1 a2 a3 a4 a5 a6 a7 a8 a9 a10 a11 a12 a13 a14 a15 a16 a17 a18 a19 hc0 hc hl hl2 hb h1 h2 (fun x y z h => ⟨j1, nm_e ⟨j1, nm_e ⟨j1, nm_e (nm_r (nI_1 v) ?_)⟩⟩⟩)⟩
  rw [j2]
  exact hp x y z h
theorem ls_w197 {post : St2 → Prop} {J : ls_J} (fs fr fe fc fm fx fy fz : Int32) (a1 a2 a3 a4 a5 a6 a7 a8 a9 a10 a11 a12 a13 a14 a15 a16 a17 a18 a19 : Nat → Int32) {x1 x2 x3 x5 q p : Int32} {v : Nat} {c : Int} {l l2 : List ls_T} (hv : v < 4) (hn : vp_in x1 43) (hq : vp_in q 43) (hpp : vp_in p 43) (hc0 : 0 ≤ c) (hc : c ≤ 60) (hcap : fc.toInt = c)
    (hl : ∀ t ∈ l, ls_v c t) (hl2 : ∀ t ∈ l2, ls_v c t) (ht : ls_v c (ls_tr c (ls_rd a5 x1) (ls_rd a6 x1)))
    (hb : l.length + l2.length ≤ 90) (h1 : ls_M c (ls_r4 a13 p v) (ls_r4 a14 p v) (ls_r4 a15 p v) l) (h2 : ls_M c (ls_r4 a13 q v) (ls_r4 a14 q v) (ls_r4 a15 q v) l2)
    (hp : ∀ x y z : Int32, ls_M c x y z ((l ++ (if v < 2 ∨ x5 = 0 then [ls_tr c (ls_rd a5 x1) (ls_rd a6 x1)] else [])) ++ l2) → J (nI (v + 1)) fs fr fe fc fm x y z a1 a2 a3 a4 a5 a6 a7 a8 a9 a10 a11 a12 (upd a13 (4 * x1.toNatClampNeg + v) x) (upd a14 (4 * x1.toNatClampNeg + v) y) (upd a15 (4 * x1.toNatClampNeg + v) z) a16 a17 a18 a19) :
    wX_pull_197 post J x1 x2 x3 x5 (nI v) (p * 4 + nI v) q fs fr fe fc fm fx fy fz a1 a2 a3 a4 a5 a6 a7 a8 a9 a10 a11 a12 a13 a14 a15 a16 a17 a18 a19 := by
  obtain ⟨i1, i2⟩ := ls_ix hpp hv
  have m0 : ls_M c 0 0 fc [] := ⟨ls_i0, ls_i0, hcap⟩
  have n0 : ∀ t ∈ ([] : List ls_T), ls_v c t := fun t h => absurd h (List.not_mem_nil)
  unfold wX_pull_197
  rw [i2]
  refine nm_e ⟨i1, i1, i1, ls_wthenM fs fr fe fc fm 0 0 fc a1 a2 a3 a4 a5 a6 a7 a8 a9 a10 a11 a12 a13 a14 a15 a16 a17 a18 a19 hc0 hc n0 hl (by simp; omega) m0 h1 (fun x y z h => ?_)⟩
  have h' : ls_M c x y z l := h
  have ent : (v < 2 ∨ x5 = 0) → wX_pull_244 post J x1 x2 x3 x5 (nI v) (q * 4 + nI v) fs fr fe fc fm x y z a1 a2 a3 a4 a5 a6 a7 a8 a9 a10 a11 a12 a13 a14 a15 a16 a17 a18 a19 := by
    intro hc5
    rw [if_pos hc5] at hp
    refine ls_wentry fs fr fe fc fm x y z a1 a2 a3 a4 a5 a6 a7 a8 a9 a10 a11 a12 a13 a14 a15 a16 a17 a18 a19 hc0 hc hcap hn hl ht (by omega) h' (fun x' y' z' h3 => ?_)
    refine ls_w249 fs fr fe fc fm x' y' z' a1 a2 a3 a4 a5 a6 a7 a8 a9 a10 a11 a12 a13 a14 a15 a16 a17 a18 a19 hv hn hq hc0 hc ?_ hl2 (by simp; omega) h3 h2 hp
    intro t hm
    rcases List.mem_append.mp hm with hm | hm
    · exact hl t hm
    · rw [List.mem_singleton.mp hm]; exact ht
  refine pk_lt v 2 (fun z2 => ent (Or.inl z2)) (fun z2 => br_c (fun z5 => ent (Or.inr z5)) (fun z5 => ?_))
  rw [if_neg (show ¬ (v < 2 ∨ x5 = 0) from fun k => k.elim (fun k => absurd k (by omega)) z5), List.append_nil] at hp
  exact ls_w249 fs fr fe fc fm x y z a1 a2 a3 a4 a5 a6 a7 a8 a9 a10 a11 a12 a13 a14 a15 a16 a17 a18 a19 hv hn hq hc0 hc hl hl2 (by omega) h' h2 hp
theorem ls_g_app_e {v : Nat} (hv : v = 0 ∨ v = 2) (s t : List ls_E) : ls_g v (s ++ t) = ls_g v s ++ ls_g v t := by
  rcases hv with rfl | rfl
  · exact ls_al_app s t
  · rw [ls_g2, ls_lv_app, ls_al_app]; rfl
theorem ls_g_app_o {v : Nat} (hv : v = 1 ∨ v = 3) (s t : List ls_E) : ls_g v (s ++ t) = ls_g v t ++ ls_g v s := by
  rcases hv with rfl | rfl
  · rw [ls_g1, ls_al_app, List.reverse_append]; rfl
  · rw [ls_g3, ls_lv_app, ls_al_app, List.reverse_append]; rfl
theorem ls_g_one {v : Nat} (hv : v < 4) (x : Int32) (t : ls_T) (x5 : Int32) : ls_g v [(x, t, decide (x5 ≠ 0))] = if v < 2 ∨ x5 = 0 then [t] else [] := by
  by_cases h5 : x5 = 0
  · rw [if_pos (Or.inr h5)]
    have : decide (x5 ≠ 0) = false := by simp [h5]
    rw [this]
    rcases (show v = 0 ∨ v = 1 ∨ v = 2 ∨ v = 3 by omega) with rfl | rfl | rfl | rfl <;> rfl
  · have : decide (x5 ≠ 0) = true := by simp [h5]
    rw [this]
    rcases (show v = 0 ∨ v = 1 ∨ v = 2 ∨ v = 3 by omega) with rfl | rfl | rfl | rfl
    · rw [if_pos (Or.inl (by omega))]; rfl
    · rw [if_pos (Or.inl (by omega))]; rfl
    · rw [if_neg (fun k => k.elim (fun k => absurd k (by omega)) h5)]; rfl
    · rw [if_neg (fun k => k.elim (fun k => absurd k (by omega)) h5)]; rfl
/-- one turn of pull's loop -/
theorem ls_wpull_it {post : St2 → Prop} {n : Nat} (fs fr fe fc fm fx fy fz : Int32) (a1 a2 a3 a4 a5 a6 a7 a8 a9 a10 a11 a12 a13 a14 a15 a16 a17 a18 a19 : Nat → Int32) {x1 x2 x3 : Int32} {v : Nat} {c : Int} {s1 s2 : List ls_E} (hv : v < 4) (hn : vp_in x1 43) (hq : vp_in x2 43) (hr : vp_in x3 43) (hc0 : 0 ≤ c) (hc : c ≤ 60) (hcap : fc.toInt = c)
    (hl : ∀ e ∈ s1, ls_v c e.2.1) (hl2 : ∀ e ∈ s2, ls_v c e.2.1) (ht : ls_v c (ls_tr c (ls_rd a5 x1) (ls_rd a6 x1)))
    (hb : s1.length + s2.length ≤ 90) (h1 : ls_M c (ls_r4 a13 x2 v) (ls_r4 a14 x2 v) (ls_r4 a15 x2 v) (ls_g v s1)) (h2 : ls_M c (ls_r4 a13 x3 v) (ls_r4 a14 x3 v) (ls_r4 a15 x3 v) (ls_g v s2))
    (hp : ∀ x y z : Int32, ls_M c x y z (ls_g v (s1 ++ (x1, ls_ev c a5 a6 a7 x1) :: s2)) → wX_pull_150 post x1 x2 x3 (ls_rd a7 x1) n (nI (v + 1)) fs fr fe fc fm x y z a1 a2 a3 a4 a5 a6 a7 a8 a9 a10 a11 a12 (upd a13 (4 * x1.toNatClampNeg + v) x) (upd a14 (4 * x1.toNatClampNeg + v) y) (upd a15 (4 * x1.toNatClampNeg + v) z) a16 a17 a18 a19) :
    wX_pull_150 post x1 x2 x3 (ls_rd a7 x1) (n + 1) (nI v) fs fr fe fc fm fx fy fz a1 a2 a3 a4 a5 a6 a7 a8 a9 a10 a11 a12 a13 a14 a15 a16 a17 a18 a19 := by
  have g1 := ls_g_len v s1
  have g2 := ls_g_len v s2
  have l1 := ls_g_v hl v
  have l2 := ls_g_v hl2 v
  have ec : s1 ++ (x1, ls_ev c a5 a6 a7 x1) :: s2 = (s1 ++ [(x1, ls_ev c a5 a6 a7 x1)]) ++ s2 := by simp
  have e1 : ls_g v [(x1, ls_ev c a5 a6 a7 x1)] = if v < 2 ∨ ls_rd a7 x1 = 0 then [ls_tr c (ls_rd a5 x1) (ls_rd a6 x1)] else [] := ls_g_one hv _ _ _
  have ev : (v = 0 ∨ v = 2) → wX_pull_168 post (wX_pull_150 post x1 x2 x3 (ls_rd a7 x1) n) x1 x2 x3 (ls_rd a7 x1) (nI v) 1 fs fr fe fc fm fx fy fz a1 a2 a3 a4 a5 a6 a7 a8 a9 a10 a11 a12 a13 a14 a15 a16 a17 a18 a19 := by
    intro he
    refine br_f (by decide) (nm_e (br_f (by decide) ?_))
    refine ls_w197 fs fr fe fc fm fx fy fz a1 a2 a3 a4 a5 a6 a7 a8 a9 a10 a11 a12 a13 a14 a15 a16 a17 a18 a19 hv hn hr hq hc0 hc hcap l1 l2 ht (by omega) h1 h2 (fun x y z h => hp x y z ?_)
    rw [ec, ls_g_app_e he, ls_g_app_e he, e1]; exact h
  have od : (v = 1 ∨ v = 3) → wX_pull_168 post (wX_pull_150 post x1 x2 x3 (ls_rd a7 x1) n) x1 x2 x3 (ls_rd a7 x1) (nI v) 0 fs fr fe fc fm fx fy fz a1 a2 a3 a4 a5 a6 a7 a8 a9 a10 a11 a12 a13 a14 a15 a16 a17 a18 a19 := by
    intro ho
    refine br_t (by decide) (nm_e (br_t (by decide) ?_))
    refine ls_w197 fs fr fe fc fm fx fy fz a1 a2 a3 a4 a5 a6 a7 a8 a9 a10 a11 a12 a13 a14 a15 a16 a17 a18 a19 hv hn hq hr hc0 hc hcap l2 l1 ht (by omega) h2 h1 (fun x y z h => hp x y z ?_)
    rw [ec, ls_g_app_o ho, ls_g_app_o ho, e1, ← List.append_assoc]; exact h
  refine pk_le 4 v (fun z => absurd z (by omega)) (fun z => ?_)
  rcases (show v = 0 ∨ v = 1 ∨ v = 2 ∨ v = 3 by omega) with hh | hh | hh | hh
  · exact br_t (by rw [hh]; decide) (ev (Or.inl hh))
  · exact br_f (by rw [hh]; decide) (od (Or.inl hh))
  · exact br_t (by rw [hh]; decide) (ev (Or.inr hh))
  · exact br_f (by rw [hh]; decide) (od (Or.inr hh))
def ls_fr (n : Int32) (a b : Nat → Int32) : Prop := ∀ x w, x ≠ n → w < 4 → ls_r4 b x w = ls_r4 a x w
theorem ls_fr_u {n z : Int32} {a b : Nat → Int32} {v : Nat} (hn : ls_ok n) (hv : v < 4) (h : ls_fr n a b) : ls_fr n a (upd b (4 * n.toNatClampNeg + v) z) := by
  intro x w hx hw
  rw [ls_r4_un hn hv hw (Or.inl hx)]
  exact h x w hx hw
/-- pull's loop -/
theorem ls_wpull_lp {post : St2 → Prop} (fs fr fe fc fm fx fy fz : Int32) (a1 a2 a3 a4 a5 a6 a7 a8 a9 a10 a11 a12 a13 a14 a15 a16 a17 a18 a19 : Nat → Int32) {x1 x2 x3 : Int32} {c : Int} {s1 s2 : List ls_E} (hn : ls_ok x1) (hq : vp_in x2 43) (hr : vp_in x3 43) (n2 : x2 ≠ x1) (n3 : x3 ≠ x1) (hc0 : 0 ≤ c) (hc : c ≤ 60) (hcap : fc.toInt = c)
    (hl : ∀ e ∈ s1, ls_v c e.2.1) (hl2 : ∀ e ∈ s2, ls_v c e.2.1) (ht : ls_v c (ls_tr c (ls_rd a5 x1) (ls_rd a6 x1)))
    (hb : s1.length + s2.length ≤ 90) (h1 : ∀ v, v < 4 → ls_M c (ls_r4 a13 x2 v) (ls_r4 a14 x2 v) (ls_r4 a15 x2 v) (ls_g v s1)) (h2 : ∀ v, v < 4 → ls_M c (ls_r4 a13 x3 v) (ls_r4 a14 x3 v) (ls_r4 a15 x3 v) (ls_g v s2))
    (hp : ∀ (x y z : Int32) (b13 b14 b15 : Nat → Int32), ls_fr x1 a13 b13 → ls_fr x1 a14 b14 → ls_fr x1 a15 b15 → (∀ v, v < 4 → ls_M c (ls_r4 b13 x1 v) (ls_r4 b14 x1 v) (ls_r4 b15 x1 v) (ls_g v (s1 ++ (x1, ls_ev c a5 a6 a7 x1) :: s2))) → post (fs, fr, fe, fc, fm, x, y, z, a1, a2, a3, a4, a5, a6, a7, a8, a9, a10, a11, a12, b13, b14, b15, a16, a17, a18, a19)) :
    ∃ fu, wX_pull_150 post x1 x2 x3 (ls_rd a7 x1) fu 0 fs fr fe fc fm fx fy fz a1 a2 a3 a4 a5 a6 a7 a8 a9 a10 a11 a12 a13 a14 a15 a16 a17 a18 a19 :=
  pk_loop (σ := (Int32 × Int32 × Int32) × (Nat → Int32) × (Nat → Int32) × (Nat → Int32)) (fun n i s => wX_pull_150 post x1 x2 x3 (ls_rd a7 x1) n (nI i) fs fr fe fc fm s.1.1 s.1.2.1 s.1.2.2 a1 a2 a3 a4 a5 a6 a7 a8 a9 a10 a11 a12 s.2.1 s.2.2.1 s.2.2.2 a16 a17 a18 a19)
    (fun i s => ls_fr x1 a13 s.2.1 ∧ ls_fr x1 a14 s.2.2.1 ∧ ls_fr x1 a15 s.2.2.2 ∧ ∀ v, v < i → ls_M c (ls_r4 s.2.1 x1 v) (ls_r4 s.2.2.1 x1 v) (ls_r4 s.2.2.2 x1 v) (ls_g v (s1 ++ (x1, ls_ev c a5 a6 a7 x1) :: s2))) 4 0 ((fx, fy, fz), a13, a14, a15) (by omega)
    ⟨fun _ _ _ _ => rfl, fun _ _ _ _ => rfl, fun _ _ _ _ => rfl, fun v h => absurd h (by omega)⟩
    (fun n s h => pk_le 4 4 (fun _ => hp _ _ _ _ _ _ h.1 h.2.1 h.2.2.1 h.2.2.2) (fun z => absurd z (by omega)))
    (fun n i s hi h hw => by
      obtain ⟨f1, f2, f3, f4⟩ := h
      refine ls_wpull_it fs fr fe fc fm s.1.1 s.1.2.1 s.1.2.2 a1 a2 a3 a4 a5 a6 a7 a8 a9 a10 a11 a12 s.2.1 s.2.2.1 s.2.2.2 a16 a17 a18 a19 hi hn.1 hq hr hc0 hc hcap hl hl2 ht hb ?_ ?_ (fun x y z h => hw ((x, y, z), _, _, _) ⟨ls_fr_u hn hi f1, ls_fr_u hn hi f2, ls_fr_u hn hi f3, ?_⟩)
      · rw [f1 _ _ n2 hi, f2 _ _ n2 hi, f3 _ _ n2 hi]; exact h1 i hi
      · rw [f1 _ _ n3 hi, f2 _ _ n3 hi, f3 _ _ n3 hi]; exact h2 i hi
      · intro v hv
        show ls_M c (ls_r4 (upd s.2.1 (4 * x1.toNatClampNeg + i) x) x1 v) (ls_r4 (upd s.2.2.1 (4 * x1.toNatClampNeg + i) y) x1 v) (ls_r4 (upd s.2.2.2 (4 * x1.toNatClampNeg + i) z) x1 v) _
        by_cases e : v = i
        · rw [e, ls_r4_us, ls_r4_us, ls_r4_us]; exact h
        · have ne : x1 ≠ x1 ∨ v ≠ i := Or.inr e
          rw [ls_r4_un hn hi (by omega) ne, ls_r4_un hn hi (by omega) ne, ls_r4_un hn hi (by omega) ne]
          exact f4 v (by omega))
/-- pull: the node stores the summary of its list, nobody else's store changes -/
theorem ls_wpull {post : St2 → Prop} (fs fr fe fc fm fx fy fz : Int32) (a1 a2 a3 a4 a5 a6 a7 a8 a9 a10 a11 a12 a13 a14 a15 a16 a17 a18 a19 : Nat → Int32) {n : Int32} {c : Int} {s1 s2 : List ls_E} (hc0 : 0 ≤ c) (hc : c ≤ 60) (hcap : fc.toInt = c) (hn : ls_ok n)
    (hq : vp_in (ls_rd a1 n) 43) (hr : vp_in (ls_rd a2 n) 43) (n2 : ls_rd a1 n ≠ n) (n3 : ls_rd a2 n ≠ n)
    (Q1 : ls_Q c a4 a13 a14 a15 (ls_rd a1 n) s1) (Q2 : ls_Q c a4 a13 a14 a15 (ls_rd a2 n) s2) (hb : s1.length + s2.length + 1 ≤ 42)
    (ht : ls_v c (ls_tr c (ls_rd a5 n) (ls_rd a6 n)))
    (hp : ∀ (x y z : Int32) (b4 b10 b11 b12 b13 b14 b15 : Nat → Int32), (∀ m s, m ≠ n → ls_Q c a4 a13 a14 a15 m s → ls_Q c b4 b13 b14 b15 m s) →
      ls_Q c b4 b13 b14 b15 n (s1 ++ (n, ls_ev c a5 a6 a7 n) :: s2) → post (fs, fr, fe, fc, fm, x, y, z, a1, a2, a3, b4, a5, a6, a7, a8, a9, b10, b11, b12, b13, b14, b15, a16, a17, a18, a19)) :
    wpX_pull post (fs, fr, fe, fc, fm, fx, fy, fz, a1, a2, a3, a4, a5, a6, a7, a8, a9, a10, a11, a12, a13, a14, a15, a16, a17, a18, a19) n := by
  obtain ⟨q1, q2, q3, q4⟩ := Q1
  obtain ⟨r1, r2, r3, r4⟩ := Q2
  have fin : ∀ (b10 b11 b12 : Nat → Int32), ∃ fu, wX_pull_150 post n (ls_rd a1 n) (ls_rd a2 n) (ls_rd a7 n) fu 0 fs fr fe fc fm fx fy fz a1 a2 a3 (upd a4 n.toNatClampNeg (ls_rd a4 (ls_rd a1 n) + ls_rd a4 (ls_rd a2 n) + 1)) a5 a6 a7 a8 a9 b10 b11 b12 a13 a14 a15 a16 a17 a18 a19 := by
    intro b10 b11 b12
    refine ls_wpull_lp fs fr fe fc fm fx fy fz a1 a2 a3 (upd a4 n.toNatClampNeg (ls_rd a4 (ls_rd a1 n) + ls_rd a4 (ls_rd a2 n) + 1)) a5 a6 a7 a8 a9 b10 b11 b12 a13 a14 a15 a16 a17 a18 a19 hn hq hr n2 n3 hc0 hc hcap q3 r3 ht (by omega) q4 r4 (fun x y z b13 b14 b15 f1 f2 f3 hM => ?_)
    refine hp x y z _ b10 b11 b12 b13 b14 b15 ?_ ⟨?_, ?_, ?_, hM⟩
    · intro m s hm hQ
      obtain ⟨k1, k2, k3, k4⟩ := hQ
      refine ⟨by rw [ls_rd_un hn hm]; exact k1, k2, k3, fun v hv => ?_⟩
      rw [f1 _ _ hm hv, f2 _ _ hm hv, f3 _ _ hm hv]
      exact k4 v hv
    · rw [ls_rd_us, q1, r1, nI_add, nI_1]
      congr 1
      rw [List.length_append, List.length_cons]; omega
    · rw [List.length_append, List.length_cons]; omega
    · intro e he
      rcases List.mem_append.mp he with he | he
      · exact q3 e he
      · rcases List.mem_cons.mp he with he | he
        · rw [he]; exact ht
        · exact r3 e he
  have s92 : ∀ (x4 z0 z1 : Int32), wX_pull_92 post n (ls_rd a1 n) (ls_rd a2 n) x4 (ls_rd a7 n) z0 z1 n fs fr fe fc fm fx fy fz a1 a2 a3 (upd a4 n.toNatClampNeg (ls_rd a4 (ls_rd a1 n) + ls_rd a4 (ls_rd a2 n) + 1)) a5 a6 a7 a8 a9 a10 a11 a12 a13 a14 a15 a16 a17 a18 a19 := by
    intro x4 z0 z1
    exact ⟨hn.1, nm_e ⟨hq, hr, hn.1, nm_e ⟨hq, hr, br_c (fun _ => ⟨hn.1, nm_e (fin _ _ _)⟩) (fun _ => ⟨hn.1, nm_e (fin _ _ _)⟩)⟩⟩⟩
  have s33 : ∀ z0 : Int32, wX_pull_33 post n (ls_rd a1 n) (ls_rd a2 n) z0 fs fr fe fc fm fx fy fz a1 a2 a3 a4 a5 a6 a7 a8 a9 a10 a11 a12 a13 a14 a15 a16 a17 a18 a19 := by
    intro z0
    exact ⟨hn.1, nm_e ⟨hq, hr, hn.1, nm_e ⟨hq, hr, br_c (fun _ => s92 _ _ _) (fun _ => s92 _ _ _)⟩⟩⟩
  exact ⟨hn.1, nm_e ⟨hn.1, nm_e ⟨hn.1, br_c (fun _ => ⟨hn.1, s33 _⟩) (fun _ => s33 _)⟩⟩⟩
end
section
/-! the forest: what holds at each node -/
def ls_S (ch : Bool → Int32 → Int32) (up tb vb : Int32 → Int32) (ev : Int32 → ls_T × Bool) (sq : Int32 → List ls_E) (x : Int32) : Prop :=
  ls_ok x ∧ (∀ b, ch b x ≠ 0 → sq (ch b x) ≠ [] ∧ up (ch b x) = x) ∧
  sq x = ls_P (tb x) (vb x) (sq (ch false x)) ++ (x, ev x) :: ls_P (tb x) (vb x) (sq (ch true x)) ∧ (ls_id (sq x)).Nodup
def ls_L (ch : Bool → Int32 → Int32) (up tb vb : Int32 → Int32) (ev : Int32 → ls_T × Bool) (sq : Int32 → List ls_E) (e : Int32) : Prop :=
  sq 0 = [] ∧ ∀ x, sq x ≠ [] → x ≠ e → ls_S ch up tb vb ev sq x
section
variable {ch ch' : Bool → Int32 → Int32} {up up' tb tb' vb vb' : Int32 → Int32} {ev ev' : Int32 → ls_T × Bool} {sq sq' : Int32 → List ls_E} {e x : Int32}
theorem ls_S_congr (h : ls_S ch up tb vb ev sq x) (c1 : ∀ b, ch' b x = ch b x) (c2 : tb' x = tb x) (c3 : vb' x = vb x) (c4 : ev' x = ev x) (c5 : sq' x = sq x)
    (c6 : ∀ b, sq' (ch b x) = sq (ch b x)) (c7 : ∀ b, ch b x ≠ 0 → up' (ch b x) = up (ch b x)) : ls_S ch' up' tb' vb' ev' sq' x := by
  obtain ⟨h1, h2, h3, h4⟩ := h
  refine ⟨h1, fun b hb => ?_, ?_, ?_⟩
  · rw [c1 b] at hb ⊢; rw [c6 b, c7 b hb]; exact h2 b hb
  · rw [c5, c1, c1, c6, c6, c2, c3, c4]; exact h3
  · rw [c5]; exact h4
theorem ls_S_len (h : ls_S ch up tb vb ev sq x) : (sq x).length = (sq (ch false x)).length + (sq (ch true x)).length + 1 := by
  have := congrArg List.length h.2.2.1
  rw [List.length_append, List.length_cons, ls_len_P, ls_len_P] at this
  omega
theorem ls_S_lt (h : ls_S ch up tb vb ev sq x) (b : Bool) : (sq (ch b x)).length < (sq x).length := by
  have := ls_S_len h
  cases b <;> omega
theorem ls_S_ne (h : ls_S ch up tb vb ev sq x) (b : Bool) : ch b x ≠ x := by
  intro z
  have := ls_S_lt h b
  rw [z] at this
  omega
theorem ls_S_mem (h : ls_S ch up tb vb ev sq x) (y : Int32) : y ∈ ls_id (sq x) ↔ y = x ∨ ∃ b, y ∈ ls_id (sq (ch b x)) := by
  rw [h.2.2.1, ls_id_app, List.mem_append, ls_mem_P]
  have e1 : ls_id ((x, ev x) :: ls_P (tb x) (vb x) (sq (ch true x))) = x :: ls_id (ls_P (tb x) (vb x) (sq (ch true x))) := rfl
  rw [e1, List.mem_cons, ls_mem_P]
  constructor
  · rintro (k | k | k)
    · exact Or.inr ⟨false, k⟩
    · exact Or.inl k
    · exact Or.inr ⟨true, k⟩
  · rintro (k | ⟨b, k⟩)
    · exact Or.inr (Or.inl k)
    · cases b
      · exact Or.inl k
      · exact Or.inr (Or.inr k)
theorem ls_S_self (h : ls_S ch up tb vb ev sq x) : x ∈ ls_id (sq x) := (ls_S_mem h x).mpr (Or.inl rfl)
/-- the two sides share no node -/
theorem ls_S_nd (h : ls_S ch up tb vb ev sq x) : x ∉ ls_id (sq (ch false x)) ∧ x ∉ ls_id (sq (ch true x)) ∧ ∀ y, y ∈ ls_id (sq (ch false x)) → y ∉ ls_id (sq (ch true x)) := by
  have h4 := h.2.2.2
  rw [h.2.2.1, ls_id_app] at h4
  have e1 : ls_id ((x, ev x) :: ls_P (tb x) (vb x) (sq (ch true x))) = x :: ls_id (ls_P (tb x) (vb x) (sq (ch true x))) := rfl
  rw [e1, List.nodup_append] at h4
  obtain ⟨n1, n2, n3⟩ := h4
  have n4 := (List.nodup_cons.mp n2).1
  rw [ls_mem_P] at n4
  refine ⟨fun k => ?_, n4, fun y k1 k2 => ?_⟩
  · exact n3 x ((ls_mem_P _ _ _ _).mpr k) x (List.mem_cons_self) rfl
  · exact n3 y ((ls_mem_P _ _ _ _).mpr k1) y (List.mem_cons_of_mem _ ((ls_mem_P _ _ _ _).mpr k2)) rfl
theorem ls_mem_ne {s : List ls_E} {y : Int32} (h : y ∈ ls_id s) : s ≠ [] := by
  intro z; rw [z] at h; exact absurd h (List.not_mem_nil)
theorem ls_T0 (h0 : sq 0 = []) {y : Int32} (hy : sq y ≠ []) : y ≠ 0 := fun z => hy (by rw [z]; exact h0)
theorem ls_L_S (h : ls_L ch up tb vb ev sq 0) {y : Int32} (hy : sq y ≠ []) : ls_S ch up tb vb ev sq y := h.2 y hy (ls_T0 h.1 hy)
theorem ls_S_dis (h0 : ∀ y, sq y ≠ [] → y ∈ ls_id (sq y)) (h : ls_S ch up tb vb ev sq x) (hz : ch false x ≠ 0) : ch false x ≠ ch true x := by
  intro z
  have k := h0 _ (h.2.1 false hz).1
  exact (ls_S_nd h).2.2 _ k (by rw [← z]; exact k)
/-- below x -/
theorem ls_bel (h : ls_L ch up tb vb ev sq 0) : ∀ k x, (sq x).length ≤ k → ∀ y, y ∈ ls_id (sq x) →
    sq y ≠ [] ∧ (∀ z, z ∈ ls_id (sq y) → z ∈ ls_id (sq x)) ∧ (y ≠ x → ∃ b, ch b (up y) = y ∧ up y ∈ ls_id (sq x)) ∧ (sq y).length ≤ (sq x).length := by
  intro k
  induction k with
  | zero =>
    intro x hk y hy
    exact absurd (List.length_eq_zero_iff.mp (by omega)) (ls_mem_ne hy)
  | succ k ih =>
    intro x hk y hy
    have hS := ls_L_S h (ls_mem_ne hy)
    rcases (ls_S_mem hS y).mp hy with e | ⟨b, hb⟩
    · rw [e]
      exact ⟨ls_mem_ne hy, fun z hz => hz, fun z => absurd rfl z, Nat.le_refl _⟩
    · have lt := ls_S_lt hS b
      obtain ⟨i1, i2, i3, i4⟩ := ih (ch b x) (by omega) y hb
      have up1 : ∀ z, z ∈ ls_id (sq (ch b x)) → z ∈ ls_id (sq x) := fun z hz => (ls_S_mem hS z).mpr (Or.inr ⟨b, hz⟩)
      refine ⟨i1, fun z hz => up1 z (i2 z hz), fun _ => ?_, by omega⟩
      by_cases ec : y = ch b x
      · have c0 : ch b x ≠ 0 := by rw [← ec]; exact ls_T0 h.1 i1
        have u := (hS.2.1 b c0).2
        rw [← ec] at u
        exact ⟨b, by rw [u, ec], by rw [u]; exact ls_S_self hS⟩
      · obtain ⟨b', j1, j2⟩ := i3 ec
        exact ⟨b', j1, up1 _ j2⟩
theorem ls_sub_T (h : ls_L ch up tb vb ev sq 0) {y : Int32} (hy : y ∈ ls_id (sq x)) : sq y ≠ [] := (ls_bel h _ x (Nat.le_refl _) y hy).1
theorem ls_sub_sub (h : ls_L ch up tb vb ev sq 0) {y z : Int32} (hy : y ∈ ls_id (sq x)) (hz : z ∈ ls_id (sq y)) : z ∈ ls_id (sq x) := (ls_bel h _ x (Nat.le_refl _) y hy).2.1 z hz
theorem ls_sub_up (h : ls_L ch up tb vb ev sq 0) {y : Int32} (hy : y ∈ ls_id (sq x)) (n : y ≠ x) : ∃ b, ch b (up y) = y ∧ up y ∈ ls_id (sq x) := (ls_bel h _ x (Nat.le_refl _) y hy).2.2.1 n
theorem ls_sub_len (h : ls_L ch up tb vb ev sq 0) {y : Int32} (hy : y ∈ ls_id (sq x)) : (sq y).length ≤ (sq x).length := (ls_bel h _ x (Nat.le_refl _) y hy).2.2.2
theorem ls_self (h : ls_L ch up tb vb ev sq 0) {y : Int32} (hy : sq y ≠ []) : y ∈ ls_id (sq y) := ls_S_self (ls_L_S h hy)
/-- one node changes, its parent left out -/
theorem ls_L_one {m : Int32} (h : ls_L ch up tb vb ev sq e) (m0 : m ≠ 0) (hu : up m = e)
    (e1 : ∀ b x, x ≠ m → ch' b x = ch b x) (e2 : ∀ x, x ≠ m → tb' x = tb x) (e3 : ∀ x, x ≠ m → vb' x = vb x) (e4 : ∀ x, x ≠ m → ev' x = ev x) (e5 : ∀ x, x ≠ m → sq' x = sq x)
    (hS : ls_S ch' up tb' vb' ev' sq' m) : ls_L ch' up tb' vb' ev' sq' e := by
  refine ⟨by rw [e5 0 (Ne.symm m0)]; exact h.1, fun x hx hxe => ?_⟩
  by_cases em : x = m
  · rw [em]; exact hS
  · rw [e5 x em] at hx
    have S := h.2 x hx hxe
    refine ls_S_congr S (fun b => e1 b x em) (e2 x em) (e3 x em) (e4 x em) (e5 x em) (fun b => ?_) (fun b _ => rfl)
    by_cases c0 : ch b x = 0
    · rw [c0]; exact e5 0 (Ne.symm m0)
    · refine e5 _ (fun z => hxe ?_)
      have u := (S.2.1 b c0).2
      rw [z, hu] at u
      exact u.symm
/-- only the left-out node changes -/
theorem ls_L_ex (h : ls_L ch up tb vb ev sq e) (e1 : ∀ b x, x ≠ e → ch' b x = ch b x) (e2 : ∀ x, x ≠ e → tb' x = tb x) (e3 : ∀ x, x ≠ e → vb' x = vb x) (e4 : ∀ x, x ≠ e → ev' x = ev x) :
    ls_L ch' up tb' vb' ev' sq e :=
  ⟨h.1, fun x hx hxe => ls_S_congr (h.2 x hx hxe) (fun b => e1 b x hxe) (e2 x hxe) (e3 x hxe) (e4 x hxe) rfl (fun _ => rfl) (fun _ _ => rfl)⟩
theorem ls_L_weak (h : ls_L ch up tb vb ev sq 0) (e : Int32) : ls_L ch up tb vb ev sq e := ⟨h.1, fun x hx _ => ls_L_S h hx⟩
theorem ls_L_close (h : ls_L ch up tb vb ev sq e) (hS : ls_S ch up tb vb ev sq e) : ls_L ch up tb vb ev sq 0 :=
  ⟨h.1, fun x hx _ => if z : x = e then by rw [z]; exact hS else h.2 x hx z⟩
theorem ls_P_flip (b w : Int32) (s : List ls_E) : ls_P (if b = 0 then 1 else 0) w s = (ls_P b w s).reverse := by
  unfold ls_P
  by_cases hb : b = 0
  · rw [if_pos hb, if_pos hb, if_neg (by decide)]
  · rw [if_neg hb, if_neg hb, if_pos rfl, List.reverse_reverse]
theorem ls_S_turn {m : Int32} (h : ls_S ch up tb vb ev sq m) (e1 : ∀ b, ch' b m = ch (!b) m) (e2 : tb' m = if tb m = 0 then 1 else 0) (e3 : vb' m = vb m) (e4 : ev' m = ev m)
    (e5 : sq' m = (sq m).reverse) (e6 : ∀ b, sq' (ch b m) = sq (ch b m)) : ls_S ch' up tb' vb' ev' sq' m := by
  obtain ⟨h1, h2, h3, h4⟩ := h
  refine ⟨h1, fun b hb => ?_, ?_, ?_⟩
  · rw [e1 b] at hb ⊢; rw [e6]; exact h2 _ hb
  · rw [e5, e1, e1, e2, e3, e4, ls_P_flip, ls_P_flip]
    show (sq m).reverse = (ls_P (tb m) (vb m) (sq' (ch true m))).reverse ++ (m, ev m) :: (ls_P (tb m) (vb m) (sq' (ch false m))).reverse
    rw [e6, e6, h3]
    simp
  · rw [e5, ls_id_rev]; exact (List.reverse_perm _).nodup_iff.mpr h4
theorem ls_S_paint {m : Int32} {d : Bool} (h : ls_S ch up tb vb ev sq m) (e1 : ∀ b, ch' b m = ch b m) (e2 : tb' m = tb m) (e3 : vb' m = if d = true then 1 else 0) (e4 : ev' m = ((ev m).1, d))
    (e5 : sq' m = ls_pt d (sq m)) (e6 : ∀ b, sq' (ch b m) = sq (ch b m)) : ls_S ch' up tb' vb' ev' sq' m := by
  obtain ⟨h1, h2, h3, h4⟩ := h
  refine ⟨h1, fun b hb => ?_, ?_, ?_⟩
  · rw [e1 b] at hb ⊢; rw [e6]; exact h2 _ hb
  · rw [e5, e1, e1, e2, e3, e4, e6, e6, ← ls_pt_P d (tb m) (vb m), ← ls_pt_P d (tb m) (vb m)]
    have := congrArg (ls_pt d) h3
    rw [ls_pt_app] at this
    exact this
  · rw [e5, ls_id_pt]; exact h4
def ls_jn (b : Bool) (s : List ls_E) (y : ls_E) (t : List ls_E) : List ls_E := if b = true then t ++ y :: s else s ++ y :: t
def ls_sr (sq : Int32 → List ls_E) (n p : Int32) (s : List ls_E) : Int32 → List ls_E := fun x => if x = n then sq p else if x = p then s else sq x
theorem ls_sr_n {n p : Int32} {s : List ls_E} : ls_sr sq n p s n = sq p := if_pos rfl
theorem ls_sr_p {n p : Int32} {s : List ls_E} (h : p ≠ n) : ls_sr sq n p s p = s := by
  unfold ls_sr; rw [if_neg h, if_pos rfl]
theorem ls_sr_x {n p y : Int32} {s : List ls_E} (h : y ≠ n) (h2 : y ≠ p) : ls_sr sq n p s y = sq y := by
  unfold ls_sr; rw [if_neg h, if_neg h2]
theorem ls_S_gen (h : ls_S ch up tb vb ev sq x) (c2 : tb' x = tb x) (c3 : vb' x = vb x) (c4 : ev' x = ev x) (c5 : sq' x = sq x)
    (c6 : ∀ b, sq' (ch' b x) = sq (ch b x)) (c7 : ∀ b, ch' b x ≠ 0 → sq (ch b x) ≠ [] ∧ up' (ch' b x) = x) : ls_S ch' up' tb' vb' ev' sq' x := by
  obtain ⟨h1, h2, h3, h4⟩ := h
  refine ⟨h1, fun b hb => ?_, ?_, ?_⟩
  · rw [c6 b]; exact c7 b hb
  · rw [c5, c6, c6, c2, c3, c4]; exact h3
  · rw [c5]; exact h4
theorem ls_bb (d b : Bool) : d = b ∨ d = !b := by cases d <;> cases b <;> simp
theorem ls_S_dis' (h0 : ∀ y, sq y ≠ [] → y ∈ ls_id (sq y)) (h : ls_S ch up tb vb ev sq x) (b : Bool) (hz : ch b x ≠ 0) : ch (!b) x ≠ ch b x := by
  intro z
  have k := h0 _ (h.2.1 b hz).1
  cases b
  · exact (ls_S_nd h).2.2 _ k (by rw [show ch true x = ch false x from z]; exact k)
  · exact (ls_S_nd h).2.2 _ (by rw [show ch false x = ch true x from z]; exact k) k
theorem ls_jn_S {b : Bool} {n y : Int32} (h : ch b n = y) : ls_jn b (sq (ch b n)) (n, ev n) (sq (ch (!b) n)) = sq (ch false n) ++ (n, ev n) :: sq (ch true n) := by
  cases b <;> rfl
theorem ls_jn_sub (b : Bool) (j i o : List ls_E) (n p : ls_E) : (ls_jn b i p o).Sublist (ls_jn b (ls_jn b j n i) p o) := by
  unfold ls_jn
  cases b
  · rw [if_neg (by decide), if_neg (by decide), if_neg (by decide)]
    exact List.Sublist.append ((List.sublist_cons_self n i).trans (List.sublist_append_right j (n :: i))) (List.Sublist.refl _)
  · rw [if_pos rfl, if_pos rfl, if_pos rfl]
    exact List.Sublist.append (List.Sublist.refl _) (List.Sublist.cons_cons p (List.sublist_append_left i (n :: j)))
theorem ls_jn_as (b : Bool) (j i o : List ls_E) (n p : ls_E) : ls_jn b j n (ls_jn b i p o) = ls_jn b (ls_jn b j n i) p o := by
  unfold ls_jn
  cases b
  · rw [if_neg (by decide), if_neg (by decide), if_neg (by decide), if_neg (by decide)]; simp
  · rw [if_pos rfl, if_pos rfl, if_pos rfl, if_pos rfl]; simp
theorem ls_jn_ne (b : Bool) (i o : List ls_E) (p : ls_E) : ls_jn b i p o ≠ [] := by
  unfold ls_jn
  cases b
  · rw [if_neg (by decide)]; simp
  · rw [if_pos rfl]; simp
/-- the equation of a settled node, by sides -/
theorem ls_S_eq (h : ls_S ch up tb vb ev sq x) (c1 : tb x = 0) (c2 : vb x = 2) (b : Bool) : sq x = ls_jn b (sq (ch b x)) (x, ev x) (sq (ch (!b) x)) := by
  have e3 := h.2.2.1
  rw [c1, c2, ls_P_02, ls_P_02] at e3
  unfold ls_jn
  cases b
  · rw [if_neg (by decide)]; exact e3
  · rw [if_pos rfl]; exact e3
theorem ls_S_of {b : Bool} (o : ls_ok x) (h2 : ∀ d, ch d x ≠ 0 → sq (ch d x) ≠ [] ∧ up (ch d x) = x) (c1 : tb x = 0) (c2 : vb x = 2) (h3 : sq x = ls_jn b (sq (ch b x)) (x, ev x) (sq (ch (!b) x))) (h4 : (ls_id (sq x)).Nodup) :
    ls_S ch up tb vb ev sq x := by
  refine ⟨o, h2, ?_, h4⟩
  rw [c1, c2, ls_P_02, ls_P_02]
  unfold ls_jn at h3
  cases b
  · rw [if_neg (by decide)] at h3; exact h3
  · rw [if_pos rfl] at h3; exact h3
/-- rotation of n over its parent p -/
theorem ls_rot {n p g i : Int32} {b : Bool} (h : ls_L ch up tb vb ev sq 0)
    (hp : sq p ≠ []) (hn : ch b p = n) (n0 : n ≠ 0) (hg : up p = g) (hg2 : g ≠ 0 → sq g ≠ [] ∧ ∃ d, ch d g = p)
    (hi : ch (!b) n = i) (cn1 : tb n = 0) (cn2 : vb n = 2) (cp1 : tb p = 0) (cp2 : vb p = 2)
    (k1 : ch' b p = i) (k2 : ch' (!b) n = p) (k3 : ch' (!b) p = ch (!b) p) (k4 : ch' b n = ch b n)
    (k5 : ∀ d x, x ≠ n → x ≠ p → x ≠ g → ch' d x = ch d x)
    (k6 : g ≠ 0 → ∀ d, ch' d g = if ch d g = p then n else ch d g)
    (u1 : i ≠ 0 → up' i = p) (u2 : up' p = n) (u3 : up' n = g) (u4 : ∀ x, x ≠ i → x ≠ p → x ≠ n → up' x = up x) :
    ls_L ch' up' tb vb ev (ls_sr sq n p (ls_jn b (sq i) (p, ev p) (sq (ch (!b) p)))) 0 ∧
      ls_jn b (sq (ch b n)) (n, ev n) (ls_jn b (sq i) (p, ev p) (sq (ch (!b) p))) = sq p := by
  have slf : ∀ y, sq y ≠ [] → y ∈ ls_id (sq y) := fun y hy => ls_self h hy
  have Sp := ls_L_S h hp
  obtain ⟨nT, un⟩ := Sp.2.1 b (by rw [hn]; exact n0)
  rw [hn] at nT un
  have Sn := ls_L_S h nT
  have p0 : p ≠ 0 := ls_T0 h.1 hp
  have lnp : (sq n).length < (sq p).length := by have := ls_S_lt Sp b; rw [hn] at this; exact this
  have np : n ≠ p := fun z => by rw [z] at lnp; omega
  have gg : g ≠ n ∧ g ≠ p := by
    by_cases g0 : g = 0
    · rw [g0]; exact ⟨Ne.symm n0, Ne.symm p0⟩
    · obtain ⟨gT, d, hd⟩ := hg2 g0
      have l := ls_S_lt (ls_L_S h gT) d
      rw [hd] at l
      exact ⟨fun z => by rw [z] at l; omega, fun z => by rw [z] at l; omega⟩
  obtain ⟨gn, gp⟩ := gg
  have lin : (sq i).length < (sq n).length := by have := ls_S_lt Sn (!b); rw [hi] at this; exact this
  have i_n : i ≠ n := fun z => by rw [z] at lin; omega
  have i_p : i ≠ p := fun z => by rw [z] at lin; omega
  have ui : i ≠ 0 → sq i ≠ [] ∧ up i = n := by have := Sn.2.1 (!b); rw [hi] at this; exact this
  have ljn := ls_S_lt Sn b
  have j_n : ch b n ≠ n := ls_S_ne Sn b
  have j_p : ch b n ≠ p := fun z => by rw [z] at ljn; omega
  have j_i : ch b n ≠ 0 → ch b n ≠ i := fun z => by rw [← hi]; exact Ne.symm (ls_S_dis' slf Sn b z)
  have o_p : ch (!b) p ≠ p := ls_S_ne Sp (!b)
  have o_n : ch (!b) p ≠ n := by rw [← hn]; exact ls_S_dis' slf Sp b (by rw [hn]; exact n0)
  have o_i : ch (!b) p ≠ 0 → ch (!b) p ≠ i := fun z w => by
    have u := (Sp.2.1 (!b) z).2
    rw [w] at u z
    rw [(ui z).2] at u
    exact np u
  have eqp : sq p = ls_jn b (sq n) (p, ev p) (sq (ch (!b) p)) := by have := ls_S_eq Sp cp1 cp2 b; rw [hn] at this; exact this
  have eqn : sq n = ls_jn b (sq (ch b n)) (n, ev n) (sq i) := by have := ls_S_eq Sn cn1 cn2 b; rw [hi] at this; exact this
  have eqf : ls_jn b (sq (ch b n)) (n, ev n) (ls_jn b (sq i) (p, ev p) (sq (ch (!b) p))) = sq p := by rw [ls_jn_as, ← eqn, ← eqp]
  have ndp : (ls_id (ls_jn b (sq i) (p, ev p) (sq (ch (!b) p)))).Nodup := by
    refine List.Nodup.sublist ?_ Sp.2.2.2
    rw [eqp, eqn]
    exact List.Sublist.map _ (ls_jn_sub b _ _ _ _ _)
  have z0 : ∀ s, ls_sr sq n p s 0 = sq 0 := fun s => ls_sr_x (Ne.symm n0) (Ne.symm p0)
  refine ⟨⟨by rw [z0]; exact h.1, fun x hx _ => ?_⟩, eqf⟩
  by_cases xn : x = n
  · rw [xn]
    have sj : ls_sr sq n p (ls_jn b (sq i) (p, ev p) (sq (ch (!b) p))) (ch b n) = sq (ch b n) := ls_sr_x j_n j_p
    refine ls_S_of (b := b) Sn.1 (fun d hd => ?_) cn1 cn2 ?_ ?_
    · rcases ls_bb d b with e | e
      · rw [e, k4] at hd ⊢
        rw [sj, u4 _ (j_i hd) j_p j_n]
        exact Sn.2.1 b hd
      · rw [e, k2, ls_sr_p (Ne.symm np)]
        exact ⟨ls_jn_ne _ _ _ _, u2⟩
    · rw [k4, k2, sj, ls_sr_n, ls_sr_p (Ne.symm np)]; exact eqf.symm
    · rw [ls_sr_n]; exact Sp.2.2.2
  by_cases xp : x = p
  · rw [xp]
    have si : ls_sr sq n p (ls_jn b (sq i) (p, ev p) (sq (ch (!b) p))) i = sq i := ls_sr_x i_n i_p
    have so : ls_sr sq n p (ls_jn b (sq i) (p, ev p) (sq (ch (!b) p))) (ch (!b) p) = sq (ch (!b) p) := ls_sr_x o_n o_p
    refine ls_S_of (b := b) Sp.1 (fun d hd => ?_) cp1 cp2 ?_ ?_
    · rcases ls_bb d b with e | e
      · rw [e, k1] at hd ⊢
        rw [si]
        exact ⟨(ui hd).1, u1 hd⟩
      · rw [e, k3] at hd ⊢
        rw [so, u4 _ (o_i hd) o_p o_n]
        exact Sp.2.1 (!b) hd
    · rw [k1, k3, si, so, ls_sr_p (Ne.symm np)]
    · rw [ls_sr_p (Ne.symm np)]; exact ndp
  rw [ls_sr_x xn xp] at hx
  have Sx := ls_L_S h hx
  have x0 : x ≠ 0 := ls_T0 h.1 hx
  by_cases xg : x = g
  · have g0 : g ≠ 0 := by rw [← xg]; exact x0
    have key : ∀ d, ch d x ≠ p → ch d x ≠ 0 → ch d x ≠ n ∧ ch d x ≠ i := by
      intro d z1 z2
      have u := (Sx.2.1 d z2).2
      refine ⟨fun w => ?_, fun w => ?_⟩
      · rw [w, un] at u; exact xp u.symm
      · rw [w] at u z2; rw [(ui z2).2] at u; exact xn u.symm
    refine ls_S_gen Sx rfl rfl rfl (ls_sr_x xn xp) (fun d => ?_) (fun d hd => ?_)
    · rw [xg, k6 g0 d, ← xg]
      by_cases z1 : ch d x = p
      · rw [if_pos z1, ls_sr_n, z1]
      · rw [if_neg z1]
        by_cases z2 : ch d x = 0
        · rw [z2]; exact z0 _
        · exact ls_sr_x (key d z1 z2).1 z1
    · rw [xg, k6 g0 d, ← xg] at hd ⊢
      by_cases z1 : ch d x = p
      · rw [if_pos z1, z1, u3]; exact ⟨hp, xg.symm⟩
      · rw [if_neg z1] at hd ⊢
        rw [u4 _ (key d z1 hd).2 z1 (key d z1 hd).1]
        exact Sx.2.1 d hd
  · have key : ∀ d, ch d x ≠ 0 → ch d x ≠ n ∧ ch d x ≠ i ∧ ch d x ≠ p := by
      intro d z2
      have u := (Sx.2.1 d z2).2
      refine ⟨fun w => ?_, fun w => ?_, fun w => ?_⟩
      · rw [w, un] at u; exact xp u.symm
      · rw [w] at u z2; rw [(ui z2).2] at u; exact xn u.symm
      · rw [w, hg] at u; exact xg u.symm
    refine ls_S_congr Sx (fun d => k5 d x xn xp xg) rfl rfl rfl (ls_sr_x xn xp) (fun d => ?_) (fun d hd => ?_)
    · by_cases z2 : ch d x = 0
      · rw [z2]; exact z0 _
      · exact ls_sr_x (key d z2).1 (key d z2).2.2
    · exact u4 _ (key d hd).2.1 (key d hd).2.2 (key d hd).1
end
end
section
/-! turn, paint, push -/
def ls_ch (a1 a2 : Nat → Int32) (b : Bool) (x : Int32) : Int32 := if b = true then ls_rd a2 x else ls_rd a1 x
theorem ls_ch_f (a1 a2 : Nat → Int32) (x : Int32) : ls_ch a1 a2 false x = ls_rd a1 x := rfl
theorem ls_ch_t (a1 a2 : Nat → Int32) (x : Int32) : ls_ch a1 a2 true x = ls_rd a2 x := rfl
def ls_V (c : Int) (a1 a2 a3 a4 a5 a6 a7 a8 a9 a13 a14 a15 : Nat → Int32) (sq : Int32 → List ls_E) (e : Int32) : Prop :=
  ls_L (ls_ch a1 a2) (ls_rd a3) (ls_rd a8) (ls_rd a9) (ls_ev c a5 a6 a7) sq e ∧ ∀ x, x = 0 ∨ sq x ≠ [] → ls_Q c a4 a13 a14 a15 x (sq x)
def ls_ag (m : Int32) (a b : Nat → Int32) : Prop := ∀ x, x ≠ m → ls_rd b x = ls_rd a x
theorem ls_ag_r (m : Int32) (a : Nat → Int32) : ls_ag m a a := fun _ _ => rfl
theorem ls_ag_u {m v : Int32} (hm : ls_ok m) (a : Nat → Int32) : ls_ag m a (upd a m.toNatClampNeg v) := fun _ h => ls_rd_un hm h
def ls_sw (a : Nat → Int32) (k : Nat) : Nat → Int32 := upd (upd a k (a (k + 1))) (k + 1) (a k)
theorem ls_wswap {post : St2 → Prop} (fs fr fe fc fm fx fy fz : Int32) (a1 a2 a3 a4 a5 a6 a7 a8 a9 a10 a11 a12 a13 a14 a15 a16 a17 a18 a19 : Nat → Int32) {p0 : Int32} {k : Nat} (h1 : vp_in p0 172) (h2 : vp_in (p0 + 1) 172) (e1 : p0.toNatClampNeg = k) (e2 : (p0 + 1).toNatClampNeg = k + 1)
    (hp : post (fs, fr, fe, fc, fm, fx, fy, fz, a1, a2, a3, a4, a5, a6, a7, a8, a9, a10, a11, a12, ls_sw a13 k, ls_sw a14 k, ls_sw a15 k, a16, a17, a18, a19)) : wpX_swapEffects post (fs, fr, fe, fc, fm, fx, fy, fz, a1, a2, a3, a4, a5, a6, a7, a8, a9, a10, a11, a12, a13, a14, a15, a16, a17, a18, a19) p0 := by
  unfold wpX_swapEffects
  refine ⟨h1, nm_e ⟨h1, nm_e ⟨h1, nm_e ⟨h2, h1, nm_e ⟨h2, h1, nm_e ⟨h2, h1, nm_e ⟨h2, nm_e ⟨h2, nm_e ⟨h2, nm_e ?_⟩⟩⟩⟩⟩⟩⟩⟩⟩
  rw [e1, e2]
  exact hp
theorem ls_ix0 {x : Int32} (hx : vp_in x 43) : vp_in (x * 4) 172 ∧ (x * 4).toNatClampNeg = 4 * x.toNatClampNeg := by
  have h := ls_ix (v := 0) hx (by omega)
  rw [nI_0, Int32.add_zero] at h
  exact h
theorem ls_ix01 {x : Int32} (hx : vp_in x 43) : vp_in (x * 4 + 1) 172 ∧ (x * 4 + 1).toNatClampNeg = 4 * x.toNatClampNeg + 1 := ls_ix (v := 1) hx (by omega)
theorem ls_ix2 {x : Int32} (hx : vp_in x 43) : vp_in (x * 4 + 2) 172 ∧ (x * 4 + 2).toNatClampNeg = 4 * x.toNatClampNeg + 2 := ls_ix (v := 2) hx (by omega)
theorem ls_ix21 {x : Int32} (hx : vp_in x 43) : vp_in (x * 4 + 2 + 1) 172 ∧ (x * 4 + 2 + 1).toNatClampNeg = 4 * x.toNatClampNeg + 2 + 1 := by
  have h := ls_ix (v := 3) hx (by omega)
  rw [Int32.add_assoc]
  exact h
def ls_s2 (a : Nat → Int32) (m : Int32) : Nat → Int32 := ls_sw (ls_sw a (4 * m.toNatClampNeg)) (4 * m.toNatClampNeg + 2)
theorem ls_wturn {post : St2 → Prop} (fs fr fe fc fm fx fy fz : Int32) (a1 a2 a3 a4 a5 a6 a7 a8 a9 a10 a11 a12 a13 a14 a15 a16 a17 a18 a19 : Nat → Int32) {m : Int32} (hm : ls_ok m)
    (hp : post (fs, fr, fe, fc, fm, fx, fy, fz, upd a1 m.toNatClampNeg (ls_rd a2 m), upd a2 m.toNatClampNeg (ls_rd a1 m), a3, a4, a5, a6, a7, upd a8 m.toNatClampNeg (if ls_rd a8 m = 0 then 1 else 0), a9, a10, a11, a12, ls_s2 a13 m, ls_s2 a14 m, ls_s2 a15 m, a16, a17, a18, a19)) :
    wpX_turn post (fs, fr, fe, fc, fm, fx, fy, fz, a1, a2, a3, a4, a5, a6, a7, a8, a9, a10, a11, a12, a13, a14, a15, a16, a17, a18, a19) m := by
  obtain ⟨h0, e0⟩ := ls_ix0 hm.1
  obtain ⟨h1, e1⟩ := ls_ix01 hm.1
  obtain ⟨h2, e2⟩ := ls_ix2 hm.1
  obtain ⟨h3, e3⟩ := ls_ix21 hm.1
  unfold wpX_turn
  refine br_f hm.2 ⟨hm.1, nm_e ⟨hm.1, hm.1, nm_e ⟨hm.1, nm_e ?_⟩⟩⟩
  refine ls_wswap fs fr fe fc fm fx fy fz (upd a1 m.toNatClampNeg (ls_rd a2 m)) (upd a2 m.toNatClampNeg (ls_rd a1 m)) a3 a4 a5 a6 a7 a8 a9 a10 a11 a12 a13 a14 a15 a16 a17 a18 a19 h0 h1 e0 e1 ?_
  refine ls_wswap fs fr fe fc fm fx fy fz (upd a1 m.toNatClampNeg (ls_rd a2 m)) (upd a2 m.toNatClampNeg (ls_rd a1 m)) a3 a4 a5 a6 a7 a8 a9 a10 a11 a12 (ls_sw a13 (4 * m.toNatClampNeg)) (ls_sw a14 (4 * m.toNatClampNeg)) (ls_sw a15 (4 * m.toNatClampNeg)) a16 a17 a18 a19 h2 h3 e2 e3 ?_
  refine ⟨hm.1, br_c (fun z => ⟨hm.1, nm_e ?_⟩) (fun z => ⟨hm.1, nm_e ?_⟩)⟩
  · rw [if_pos (show ls_rd a8 m = 0 from z)] at hp; exact hp
  · rw [if_neg (show ¬ ls_rd a8 m = 0 from z)] at hp; exact hp
def ls_fl (v : Nat) : Nat := if v = 0 then 1 else if v = 1 then 0 else if v = 2 then 3 else 2
theorem ls_s2_m (a : Nat → Int32) (m : Int32) {v : Nat} (hv : v < 4) : ls_r4 (ls_s2 a m) m v = ls_r4 a m (ls_fl v) := by
  unfold ls_r4 ls_s2 ls_sw upd ls_fl
  rcases (show v = 0 ∨ v = 1 ∨ v = 2 ∨ v = 3 by omega) with rfl | rfl | rfl | rfl <;> simp <;> intro z <;> omega
theorem ls_s2_x (a : Nat → Int32) {m x : Int32} (hm : ls_ok m) (hx : x ≠ m) {v : Nat} (hv : v < 4) : ls_r4 (ls_s2 a m) x v = ls_r4 a x v := by
  have n : x.toNatClampNeg ≠ m.toNatClampNeg := fun z => hx ((ls_inj hm).mp z)
  unfold ls_r4 ls_s2 ls_sw upd
  rw [if_neg (by omega), if_neg (by omega), if_neg (by omega), if_neg (by omega)]
theorem ls_g_fl {v : Nat} (hv : v < 4) (s : List ls_E) : ls_g (ls_fl v) s = ls_g v s.reverse := by
  rcases (show v = 0 ∨ v = 1 ∨ v = 2 ∨ v = 3 by omega) with rfl | rfl | rfl | rfl
  · exact (ls_al_rev s).symm
  · rw [ls_g1, ls_al_rev, List.reverse_reverse]; rfl
  · rw [ls_g2, ls_lv_rev, ls_al_rev]; rfl
  · rw [ls_g3, ls_lv_rev, ls_al_rev, List.reverse_reverse]; rfl
theorem ls_fl_lt {v : Nat} (hv : v < 4) : ls_fl v < 4 := by unfold ls_fl; split <;> (try split) <;> (try split) <;> omega
theorem ls_Q_turn {c : Int} {a4 a13 a14 a15 : Nat → Int32} {m : Int32} {s : List ls_E} (h : ls_Q c a4 a13 a14 a15 m s) : ls_Q c a4 (ls_s2 a13 m) (ls_s2 a14 m) (ls_s2 a15 m) m s.reverse := by
  obtain ⟨h1, h2, h3, h4⟩ := h
  refine ⟨by rw [List.length_reverse]; exact h1, by rw [List.length_reverse]; exact h2, fun e he => h3 e (List.mem_reverse.mp he), fun v hv => ?_⟩
  rw [ls_s2_m _ _ hv, ls_s2_m _ _ hv, ls_s2_m _ _ hv, ← ls_g_fl hv]
  exact h4 _ (ls_fl_lt hv)
theorem ls_Q_turn_x {c : Int} {a4 a13 a14 a15 : Nat → Int32} {m x : Int32} {s : List ls_E} (hm : ls_ok m) (hx : x ≠ m) (h : ls_Q c a4 a13 a14 a15 x s) : ls_Q c a4 (ls_s2 a13 m) (ls_s2 a14 m) (ls_s2 a15 m) x s := by
  obtain ⟨h1, h2, h3, h4⟩ := h
  refine ⟨h1, h2, h3, fun v hv => ?_⟩
  rw [ls_s2_x _ hm hx hv, ls_s2_x _ hm hx hv, ls_s2_x _ hm hx hv]
  exact h4 v hv
def ls_up (sq : Int32 → List ls_E) (m : Int32) (s : List ls_E) : Int32 → List ls_E := fun x => if x = m then s else sq x
theorem ls_up_m {sq : Int32 → List ls_E} {m : Int32} {s : List ls_E} : ls_up sq m s m = s := if_pos rfl
theorem ls_up_x {sq : Int32 → List ls_E} {m x : Int32} {s : List ls_E} (h : x ≠ m) : ls_up sq m s x = sq x := if_neg h
theorem ls_turnV {post : St2 → Prop} (fs fr fe fc fm fx fy fz : Int32) (a1 a2 a3 a4 a5 a6 a7 a8 a9 a10 a11 a12 a13 a14 a15 a16 a17 a18 a19 : Nat → Int32) {m e : Int32} {c : Int} {sq : Int32 → List ls_E} (hV : ls_V c a1 a2 a3 a4 a5 a6 a7 a8 a9 a13 a14 a15 sq e)
    (hm : m ≠ 0 → sq m ≠ [] ∧ ls_rd a3 m = e ∧ m ≠ e)
    (hp : ∀ (sq' : Int32 → List ls_E) (b1 b2 b8 b13 b14 b15 : Nat → Int32), ls_V c b1 b2 a3 a4 a5 a6 a7 b8 a9 b13 b14 b15 sq' e → (∀ x, x ≠ m → sq' x = sq x) → sq' m = (sq m).reverse →
      ls_ag m a1 b1 → ls_ag m a2 b2 → ls_ag m a8 b8 → post (fs, fr, fe, fc, fm, fx, fy, fz, b1, b2, a3, a4, a5, a6, a7, b8, a9, a10, a11, a12, b13, b14, b15, a16, a17, a18, a19)) :
    wpX_turn post (fs, fr, fe, fc, fm, fx, fy, fz, a1, a2, a3, a4, a5, a6, a7, a8, a9, a10, a11, a12, a13, a14, a15, a16, a17, a18, a19) m := by
  by_cases m0 : m = 0
  · refine br_t m0 (hp sq a1 a2 a8 a13 a14 a15 hV (fun _ _ => rfl) ?_ (ls_ag_r _ _) (ls_ag_r _ _) (ls_ag_r _ _))
    rw [m0, hV.1.1]; rfl
  · obtain ⟨mT, um, me⟩ := hm m0
    have Sm := hV.1.2 m mT me
    have ok := Sm.1
    refine ls_wturn fs fr fe fc fm fx fy fz a1 a2 a3 a4 a5 a6 a7 a8 a9 a10 a11 a12 a13 a14 a15 a16 a17 a18 a19 ok (hp (ls_up sq m (sq m).reverse) _ _ _ _ _ _ ⟨?_, fun x hx => ?_⟩ (fun x hx => ls_up_x hx) ls_up_m (ls_ag_u ok _) (ls_ag_u ok _) (ls_ag_u ok _))
    · refine ls_L_one hV.1 m0 um (fun b x hx => ?_) (fun x hx => ls_rd_un ok hx) (fun x _ => rfl) (fun x _ => rfl) (fun x hx => ls_up_x hx) ?_
      · cases b
        · exact ls_rd_un ok hx
        · exact ls_rd_un ok hx
      · refine ls_S_turn Sm (fun b => ?_) ls_rd_us rfl rfl ls_up_m (fun b => ls_up_x (ls_S_ne Sm b))
        cases b
        · exact ls_rd_us
        · exact ls_rd_us
    · by_cases xm : x = m
      · rw [xm, ls_up_m]; exact ls_Q_turn (hV.2 m (Or.inr mT))
      · rw [ls_up_x xm] at hx ⊢
        exact ls_Q_turn_x ok xm (hV.2 x hx)
/-! paint -/
def ls_pa (a : Nat → Int32) (m x2 z : Int32) (v : Nat) : Nat → Int32 := upd a (4 * m.toNatClampNeg + v) (if x2 = 0 then ls_r4 a m (v - 2) else z)
theorem ls_ixm {x : Int32} {v : Nat} (hx : vp_in x 43) (hv : v < 4) (h2 : 2 ≤ v) : vp_in (x * 4 + nI v - 2) 172 ∧ (x * 4 + nI v - 2).toNatClampNeg = 4 * x.toNatClampNeg + (v - 2) := by
  obtain ⟨j, hj, rfl⟩ := vp_in_of hx (by decide)
  have e : nI j * 4 + nI v - 2 = nI (4 * j + (v - 2)) := by
    rw [show (4 : Int32) = nI 4 from rfl, pk_mul, nI_add, show (2 : Int32) = nI 2 from rfl, pk_sub (by omega)]
    congr 1; omega
  rw [e, nI_clamp (by omega), nI_clamp (by omega)]
  exact ⟨vp_in_nI (by omega) (by decide), rfl⟩
theorem ls_wpaint_it {post : St2 → Prop} (fs fr fe fc fm fx fy fz : Int32) (a1 a2 a3 a4 a5 a6 a7 a8 a9 a10 a11 a12 a13 a14 a15 a16 a17 a18 a19 : Nat → Int32) {x1 x2 : Int32} {n v : Nat} (hm : vp_in x1 43) (hv : v < 4) (h2 : 2 ≤ v)
    (hp : wX_paint_69 post x1 x2 fs fr fe fc fm fx fy fz n (nI (v + 1)) a1 a2 a3 a4 a5 a6 a7 a8 a9 a10 a11 a12 (ls_pa a13 x1 x2 0 v) (ls_pa a14 x1 x2 0 v) (ls_pa a15 x1 x2 fc v) a16 a17 a18 a19) :
    wX_paint_69 post x1 x2 fs fr fe fc fm fx fy fz (n + 1) (nI v) a1 a2 a3 a4 a5 a6 a7 a8 a9 a10 a11 a12 a13 a14 a15 a16 a17 a18 a19 := by
  obtain ⟨i1, e1⟩ := ls_ix hm hv
  obtain ⟨i2, e2⟩ := ls_ixm hm hv h2
  unfold ls_pa at hp
  refine pk_le 4 v (fun z => absurd z (by omega)) (fun _ => nm_e ?_)
  by_cases z : x2 = 0
  · rw [if_pos z, if_pos z, if_pos z] at hp
    refine br_t z ⟨i2, i1, nm_e (br_t z ⟨i2, i1, nm_e (br_t z ⟨i2, i1, nm_e (nm_r (nI_1 v) ?_)⟩)⟩)⟩
    rw [e1, e2]
    exact hp
  · rw [if_neg z, if_neg z, if_neg z] at hp
    refine br_f z ⟨i1, nm_e (br_f z ⟨i1, nm_e (br_f z ⟨i1, nm_e (nm_r (nI_1 v) ?_)⟩)⟩)⟩
    rw [e1]
    exact hp
def ls_p2 (a : Nat → Int32) (m x2 z : Int32) : Nat → Int32 := ls_pa (ls_pa a m x2 z 2) m x2 z 3
theorem ls_wpaint {post : St2 → Prop} (fs fr fe fc fm fx fy fz : Int32) (a1 a2 a3 a4 a5 a6 a7 a8 a9 a10 a11 a12 a13 a14 a15 a16 a17 a18 a19 : Nat → Int32) {m : Int32} {d : Bool} (hm : ls_ok m)
    (hp : ∀ b10 b12 : Nat → Int32, post (fs, fr, fe, fc, fm, fx, fy, fz, a1, a2, a3, a4, a5, a6, upd a7 m.toNatClampNeg (if d = true then 1 else 0), a8, upd a9 m.toNatClampNeg (if d = true then 1 else 0), b10, a11, b12, ls_p2 a13 m (if d = true then 1 else 0) 0, ls_p2 a14 m (if d = true then 1 else 0) 0, ls_p2 a15 m (if d = true then 1 else 0) fc, a16, a17, a18, a19)) :
    wpX_paint post (fs, fr, fe, fc, fm, fx, fy, fz, a1, a2, a3, a4, a5, a6, a7, a8, a9, a10, a11, a12, a13, a14, a15, a16, a17, a18, a19) m (if d = true then 1 else 0) := by
  have lp : ∀ (x2 : Int32) (b7 b9 b10 b12 : Nat → Int32), post (fs, fr, fe, fc, fm, fx, fy, fz, a1, a2, a3, a4, a5, a6, b7, a8, b9, b10, a11, b12, ls_p2 a13 m x2 0, ls_p2 a14 m x2 0, ls_p2 a15 m x2 fc, a16, a17, a18, a19) → ∃ fu, wX_paint_69 post m x2 fs fr fe fc fm fx fy fz fu 2 a1 a2 a3 a4 a5 a6 b7 a8 b9 b10 a11 b12 a13 a14 a15 a16 a17 a18 a19 := by
    intro x2 b7 b9 b10 b12 h
    refine ⟨3, ?_⟩
    refine ls_wpaint_it fs fr fe fc fm fx fy fz a1 a2 a3 a4 a5 a6 b7 a8 b9 b10 a11 b12 a13 a14 a15 a16 a17 a18 a19 (v := 2) hm.1 (by omega) (by omega) ?_
    refine ls_wpaint_it fs fr fe fc fm fx fy fz a1 a2 a3 a4 a5 a6 b7 a8 b9 b10 a11 b12 (ls_pa a13 m x2 0 2) (ls_pa a14 m x2 0 2) (ls_pa a15 m x2 fc 2) a16 a17 a18 a19 (v := 3) hm.1 (by omega) (by omega) ?_
    exact pk_le 4 4 (fun _ => h) (fun z => absurd z (by omega))
  unfold wpX_paint
  cases d
  · have n0 : vp_nar .boolean (if false = true then 1 else 0) = (if false = true then (1 : Int32) else 0) := by decide
    refine br_f hm.2 ⟨hm.1, nm_r (by rw [n0]) (br_t (by decide) ⟨hm.1, nm_e (br_t (by decide) ⟨hm.1, hm.1, nm_e (br_t (by decide) ⟨hm.1, hm.1, nm_e (lp _ _ _ _ _ (hp _ _))⟩)⟩)⟩)⟩
  · have n0 : vp_nar .boolean (if true = true then 1 else 0) = (if true = true then (1 : Int32) else 0) := by decide
    refine br_f hm.2 ⟨hm.1, nm_r (by rw [n0]) (br_f (by decide) ⟨hm.1, nm_e (br_f (by decide) ⟨hm.1, nm_e (br_f (by decide) ⟨hm.1, nm_e (lp _ _ _ _ _ (hp _ _))⟩)⟩)⟩)⟩
theorem ls_p2_x (a : Nat → Int32) {m x x2 z : Int32} (hm : ls_ok m) {v : Nat} (hv : v < 4) (h : x ≠ m ∨ v < 2) : ls_r4 (ls_p2 a m x2 z) x v = ls_r4 a x v := by
  unfold ls_p2 ls_pa
  rw [ls_r4_un hm (by omega) hv (h.imp id (fun z => by omega)), ls_r4_un hm (by omega) hv (h.imp id (fun z => by omega))]
theorem ls_p2_3 (a : Nat → Int32) {m x2 z : Int32} (hm : ls_ok m) : ls_r4 (ls_p2 a m x2 z) m 3 = if x2 = 0 then ls_r4 a m 1 else z := by
  unfold ls_p2 ls_pa
  rw [ls_r4_us, ls_r4_un hm (by omega) (by omega) (Or.inr (by omega))]
theorem ls_p2_2 (a : Nat → Int32) {m x2 z : Int32} (hm : ls_ok m) : ls_r4 (ls_p2 a m x2 z) m 2 = if x2 = 0 then ls_r4 a m 0 else z := by
  unfold ls_p2 ls_pa
  rw [ls_r4_un hm (by omega) (by omega) (Or.inr (by omega)), ls_r4_us]
theorem ls_Q_paint {c : Int} {fc : Int32} (hc : fc.toInt = c) {a4 a13 a14 a15 : Nat → Int32} {m : Int32} {s : List ls_E} {d : Bool} (hm : ls_ok m) (h : ls_Q c a4 a13 a14 a15 m s) :
    ls_Q c a4 (ls_p2 a13 m (if d = true then 1 else 0) 0) (ls_p2 a14 m (if d = true then 1 else 0) 0) (ls_p2 a15 m (if d = true then 1 else 0) fc) m (ls_pt d s) := by
  obtain ⟨h1, h2, h3, h4⟩ := h
  have el : (ls_pt d s).length = s.length := List.length_map _
  refine ⟨by rw [el]; exact h1, by rw [el]; exact h2, ?_, fun v hv => ?_⟩
  · intro e he
    obtain ⟨e', he', rfl⟩ := List.mem_map.mp he
    exact h3 e' he'
  · rcases (show v = 0 ∨ v = 1 ∨ v = 2 ∨ v = 3 by omega) with rfl | rfl | rfl | rfl
    · rw [ls_p2_x _ hm hv (Or.inr (by omega)), ls_p2_x _ hm hv (Or.inr (by omega)), ls_p2_x _ hm hv (Or.inr (by omega)), ls_g0, ls_al_pt]; exact h4 0 hv
    · rw [ls_p2_x _ hm hv (Or.inr (by omega)), ls_p2_x _ hm hv (Or.inr (by omega)), ls_p2_x _ hm hv (Or.inr (by omega)), ls_g1, ls_al_pt]; exact h4 1 hv
    · rw [ls_p2_2 _ hm, ls_p2_2 _ hm, ls_p2_2 _ hm, ls_g2]
      cases d
      · rw [ls_lv_live, ls_al_pt]; exact h4 0 (by omega)
      · rw [ls_lv_dead]; exact ⟨ls_i0, ls_i0, hc⟩
    · rw [ls_p2_3 _ hm, ls_p2_3 _ hm, ls_p2_3 _ hm, ls_g3]
      cases d
      · rw [ls_lv_live, ls_al_pt]; exact h4 1 (by omega)
      · rw [ls_lv_dead]; exact ⟨ls_i0, ls_i0, hc⟩
theorem ls_Q_paint_x {c : Int} {fc : Int32} {a4 a13 a14 a15 : Nat → Int32} {m x x2 : Int32} {s : List ls_E} (hm : ls_ok m) (hx : x ≠ m) (h : ls_Q c a4 a13 a14 a15 x s) :
    ls_Q c a4 (ls_p2 a13 m x2 0) (ls_p2 a14 m x2 0) (ls_p2 a15 m x2 fc) x s := by
  obtain ⟨h1, h2, h3, h4⟩ := h
  refine ⟨h1, h2, h3, fun v hv => ?_⟩
  rw [ls_p2_x _ hm hv (Or.inl hx), ls_p2_x _ hm hv (Or.inl hx), ls_p2_x _ hm hv (Or.inl hx)]
  exact h4 v hv
theorem ls_paintV {post : St2 → Prop} (fs fr fe fc fm fx fy fz : Int32) (a1 a2 a3 a4 a5 a6 a7 a8 a9 a10 a11 a12 a13 a14 a15 a16 a17 a18 a19 : Nat → Int32) {m e : Int32} {c : Int} {sq : Int32 → List ls_E} {d : Bool} (hc : fc.toInt = c) (hV : ls_V c a1 a2 a3 a4 a5 a6 a7 a8 a9 a13 a14 a15 sq e)
    (hm : m ≠ 0 → sq m ≠ [] ∧ ls_rd a3 m = e ∧ m ≠ e)
    (hp : ∀ (sq' : Int32 → List ls_E) (b7 b9 b10 b12 b13 b14 b15 : Nat → Int32), ls_V c a1 a2 a3 a4 a5 a6 b7 a8 b9 b13 b14 b15 sq' e → (∀ x, x ≠ m → sq' x = sq x) → sq' m = ls_pt d (sq m) →
      ls_ag m a7 b7 → ls_ag m a9 b9 → post (fs, fr, fe, fc, fm, fx, fy, fz, a1, a2, a3, a4, a5, a6, b7, a8, b9, b10, a11, b12, b13, b14, b15, a16, a17, a18, a19)) :
    wpX_paint post (fs, fr, fe, fc, fm, fx, fy, fz, a1, a2, a3, a4, a5, a6, a7, a8, a9, a10, a11, a12, a13, a14, a15, a16, a17, a18, a19) m (if d = true then 1 else 0) := by
  by_cases m0 : m = 0
  · refine br_t m0 (hp sq a7 a9 a10 a12 a13 a14 a15 hV (fun _ _ => rfl) ?_ (ls_ag_r _ _) (ls_ag_r _ _))
    rw [m0, hV.1.1]; rfl
  · obtain ⟨mT, um, me⟩ := hm m0
    have Sm := hV.1.2 m mT me
    have ok := Sm.1
    refine ls_wpaint fs fr fe fc fm fx fy fz a1 a2 a3 a4 a5 a6 a7 a8 a9 a10 a11 a12 a13 a14 a15 a16 a17 a18 a19 ok (fun b10 b12 => hp (ls_up sq m (ls_pt d (sq m))) _ _ b10 b12 _ _ _ ⟨?_, fun x hx => ?_⟩ (fun x hx => ls_up_x hx) ls_up_m (ls_ag_u ok _) (ls_ag_u ok _))
    · refine ls_L_one hV.1 m0 um (fun b x hx => rfl) (fun x hx => rfl) (fun x hx => ls_rd_un ok hx) (fun x hx => ?_) (fun x hx => ls_up_x hx) ?_
      · unfold ls_ev; rw [ls_rd_un ok hx]
      · refine ls_S_paint (d := d) Sm (fun b => rfl) rfl ls_rd_us ?_ ls_up_m (fun b => ls_up_x (ls_S_ne Sm b))
        unfold ls_ev; rw [ls_rd_us]
        cases d <;> rfl
    · by_cases xm : x = m
      · rw [xm, ls_up_m]; exact ls_Q_paint hc ok (hV.2 m (Or.inr mT))
      · rw [ls_up_x xm] at hx ⊢
        exact ls_Q_paint_x ok xm (hV.2 x hx)
/-! push -/
theorem ls_P_pt {w : Int32} (hw : w ≠ 2) (b : Int32) (s : List ls_E) : ls_P b w s = ls_P b 2 (ls_pt (decide (w = 1)) s) := by
  unfold ls_P ls_pw; rw [if_neg hw, if_pos rfl]
theorem ls_pw_rev (w : Int32) (s : List ls_E) : ls_pw w s.reverse = (ls_pw w s).reverse := by
  unfold ls_pw; split
  · rfl
  · exact ls_pt_rev _ _
theorem ls_P_rv {b : Int32} (hb : b ≠ 0) (w : Int32) (s : List ls_E) : ls_P b w s = ls_P 0 w s.reverse := by
  unfold ls_P; rw [if_neg hb, if_pos rfl, ls_pw_rev]
theorem ls_V_T0 {c : Int} {a1 a2 a3 a4 a5 a6 a7 a8 a9 a13 a14 a15 : Nat → Int32} {sq : Int32 → List ls_E} (h : ls_V c a1 a2 a3 a4 a5 a6 a7 a8 a9 a13 a14 a15 sq 0) {n : Int32} (hn : sq n ≠ []) :
    ls_S (ls_ch a1 a2) (ls_rd a3) (ls_rd a8) (ls_rd a9) (ls_ev c a5 a6 a7) sq n := ls_L_S h.1 hn
/-- what a push may change: the lists of n's children, the tags of n and of its children -/
def ls_pk (a1 a2 a8 a9 b1 b2 b8 b9 : Nat → Int32) (sq sq' : Int32 → List ls_E) (n : Int32) : Prop :=
  (∀ x, x ≠ ls_rd a1 n → x ≠ ls_rd a2 n → sq' x = sq x) ∧ (∀ x, sq' x = [] ↔ sq x = []) ∧ (∀ x, x ≠ ls_rd a1 n → x ≠ ls_rd a2 n → ls_rd b1 x = ls_rd a1 x ∧ ls_rd b2 x = ls_rd a2 x) ∧
  (∀ x, x ≠ n → x ≠ ls_rd a1 n → x ≠ ls_rd a2 n → ls_rd b8 x = ls_rd a8 x ∧ ls_rd b9 x = ls_rd a9 x)
theorem ls_pk_r (a1 a2 a8 a9 : Nat → Int32) (sq : Int32 → List ls_E) (n : Int32) : ls_pk a1 a2 a8 a9 a1 a2 a8 a9 sq sq n :=
  ⟨fun _ _ _ => rfl, fun _ => Iff.rfl, fun _ _ _ => ⟨rfl, rfl⟩, fun _ _ _ _ => ⟨rfl, rfl⟩⟩
/-- the turning half -/
theorem ls_push55 {post : St2 → Prop} (fs fr fe fc fm fx fy fz : Int32) (a1 a2 a3 a4 a5 a6 a7 a8 a9 a10 a11 a12 a13 a14 a15 a16 a17 a18 a19 : Nat → Int32) {n : Int32} {c : Int} {sq : Int32 → List ls_E} (hV : ls_V c a1 a2 a3 a4 a5 a6 a7 a8 a9 a13 a14 a15 sq 0) (hn : sq n ≠ []) (hw : ls_rd a9 n = 2)
    (hp : ∀ (sq' : Int32 → List ls_E) (b1 b2 b8 b13 b14 b15 : Nat → Int32), ls_V c b1 b2 a3 a4 a5 a6 a7 b8 a9 b13 b14 b15 sq' 0 → ls_rd b8 n = 0 → ls_rd a9 n = 2 → ls_pk a1 a2 a8 a9 b1 b2 b8 a9 sq sq' n →
      post (fs, fr, fe, fc, fm, fx, fy, fz, b1, b2, a3, a4, a5, a6, a7, b8, a9, a10, a11, a12, b13, b14, b15, a16, a17, a18, a19)) :
    wX_push_55 post n fs fr fe fc fm fx fy fz a1 a2 a3 a4 a5 a6 a7 a8 a9 a10 a11 a12 a13 a14 a15 a16 a17 a18 a19 := by
  have Sn := ls_V_T0 hV hn
  have ok := Sn.1
  refine ⟨ok.1, br_c (fun z => ?_) (fun z => ⟨ok.1, ?_⟩)⟩
  · exact hp sq a1 a2 a8 a13 a14 a15 hV z hw (ls_pk_r _ _ _ _ _ _)
  have z' : ls_rd a8 n ≠ 0 := z
  have nl : ls_rd a1 n ≠ n := ls_S_ne Sn false
  have nr : ls_rd a2 n ≠ n := ls_S_ne Sn true
  have n0 : n ≠ 0 := ok.2
  have dis : ls_rd a1 n ≠ 0 → ls_rd a1 n ≠ ls_rd a2 n := ls_S_dis (fun y hy => ls_self hV.1 hy) Sn
  refine ls_turnV fs fr fe fc fm fx fy fz a1 a2 a3 a4 a5 a6 a7 a8 a9 a10 a11 a12 a13 a14 a15 a16 a17 a18 a19 (m := ls_rd a1 n) ⟨ls_L_weak hV.1 n, hV.2⟩ (fun h0 => ⟨(Sn.2.1 false h0).1, (Sn.2.1 false h0).2, nl⟩) (fun sq1 b1 b2 b8 b13 b14 b15 V1 f1 g1 r1 r2 r8 => ?_)
  refine ⟨ok.1, ?_⟩
  have er : b2 n.toNatClampNeg = ls_rd a2 n := r2 n (Ne.symm nl)
  rw [er]
  refine ls_turnV fs fr fe fc fm fx fy fz b1 b2 a3 a4 a5 a6 a7 b8 a9 a10 a11 a12 b13 b14 b15 a16 a17 a18 a19 V1 (fun h0 => ⟨?_, (Sn.2.1 true h0).2, nr⟩) (fun sq2 d1 d2 d8 d13 d14 d15 V2 f2 g2 s1 s2 s8 => ?_)
  · by_cases k : ls_rd a2 n = ls_rd a1 n
    · exact absurd k.symm (dis (by rw [← k]; exact h0))
    · rw [f1 _ k]; exact (Sn.2.1 true h0).1
  have q0 : sq 0 = [] := hV.1.1
  have c1 : sq2 (ls_rd a1 n) = (sq (ls_rd a1 n)).reverse := by
    by_cases k0 : ls_rd a1 n = 0
    · rw [k0, q0, V2.1.1]; rfl
    · rw [f2 _ (dis k0), g1]
  have c2 : sq2 (ls_rd a2 n) = (sq (ls_rd a2 n)).reverse := by
    rw [g2]
    by_cases k0 : ls_rd a2 n = 0
    · rw [k0, q0, V1.1.1]
    · rw [f1 _ (fun k => dis (by rw [← k]; exact k0) k.symm)]
  have cn : sq2 n = sq n := by rw [f2 _ (Ne.symm nr), f1 _ (Ne.symm nl)]
  have l1 : ls_rd d1 n = ls_rd a1 n := by rw [s1 _ (Ne.symm nr), r1 _ (Ne.symm nl)]
  have l2 : ls_rd d2 n = ls_rd a2 n := by rw [s2 _ (Ne.symm nr), r2 _ (Ne.symm nl)]
  refine ⟨ok.1, nm_e (hp sq2 d1 d2 _ d13 d14 d15 ⟨ls_L_close (ls_L_ex V2.1 (fun _ _ _ => rfl) (fun x hx => ls_rd_un ok hx) (fun _ _ => rfl) (fun _ _ => rfl)) ⟨ok, fun b hb => ?_, ?_, ?_⟩, V2.2⟩ ls_rd_us hw ⟨?_, ?_, ?_, ?_⟩)⟩
  · cases b
    · have hb' : ls_rd d1 n ≠ 0 := hb
      rw [l1] at hb'
      obtain ⟨y1, y2⟩ := Sn.2.1 false hb'
      show sq2 (ls_rd d1 n) ≠ [] ∧ ls_rd a3 (ls_rd d1 n) = n
      rw [l1, c1]
      exact ⟨fun k => y1 (List.reverse_eq_nil_iff.mp k), y2⟩
    · have hb' : ls_rd d2 n ≠ 0 := hb
      rw [l2] at hb'
      obtain ⟨y1, y2⟩ := Sn.2.1 true hb'
      show sq2 (ls_rd d2 n) ≠ [] ∧ ls_rd a3 (ls_rd d2 n) = n
      rw [l2, c2]
      exact ⟨fun k => y1 (List.reverse_eq_nil_iff.mp k), y2⟩
  · rw [ls_rd_us, ls_ch_f, ls_ch_t, l1, l2, c1, c2, cn, ← ls_P_rv z', ← ls_P_rv z']
    exact Sn.2.2.1
  · rw [cn]; exact Sn.2.2.2
  · intro x h1 h2
    rw [f2 _ h2, f1 _ h1]
  · intro x
    by_cases h1 : x = ls_rd a1 n
    · rw [h1, c1]; exact List.reverse_eq_nil_iff
    · by_cases h2 : x = ls_rd a2 n
      · rw [h2, c2]; exact List.reverse_eq_nil_iff
      · rw [f2 _ h2, f1 _ h1]
  · intro x h1 h2
    exact ⟨by rw [s1 _ h2, r1 _ h1], by rw [s2 _ h2, r2 _ h1]⟩
  · intro x h0 h1 h2
    exact ⟨by rw [ls_rd_un ok h0, s8 _ h2, r8 _ h1], rfl⟩
theorem ls_pt_nil {d : Bool} {s : List ls_E} : ls_pt d s = [] ↔ s = [] := List.map_eq_nil_iff
/-- the voiding half -/
theorem ls_push25 {post : St2 → Prop} (fs fr fe fc fm fx fy fz : Int32) (a1 a2 a3 a4 a5 a6 a7 a8 a9 a10 a11 a12 a13 a14 a15 a16 a17 a18 a19 : Nat → Int32) {n : Int32} {c : Int} {sq : Int32 → List ls_E} {d : Bool} (hc : fc.toInt = c) (hV : ls_V c a1 a2 a3 a4 a5 a6 a7 a8 a9 a13 a14 a15 sq 0) (hn : sq n ≠ []) (hw : ls_rd a9 n ≠ 2) (hd : d = decide (ls_rd a9 n = 1))
    (hp : ∀ (sq' : Int32 → List ls_E) (b7 b9 b10 b12 b13 b14 b15 : Nat → Int32), ls_V c a1 a2 a3 a4 a5 a6 b7 a8 b9 b13 b14 b15 sq' 0 → ls_rd b9 n = 2 → ls_pk a1 a2 a8 a9 a1 a2 a8 b9 sq sq' n → sq' n = sq n →
      wX_push_55 post n fs fr fe fc fm fx fy fz a1 a2 a3 a4 a5 a6 b7 a8 b9 b10 a11 b12 b13 b14 b15 a16 a17 a18 a19) :
    wX_push_25 post n (if d = true then 1 else 0) fs fr fe fc fm fx fy fz a1 a2 a3 a4 a5 a6 a7 a8 a9 a10 a11 a12 a13 a14 a15 a16 a17 a18 a19 := by
  have Sn := ls_V_T0 hV hn
  have ok := Sn.1
  have nl : ls_rd a1 n ≠ n := ls_S_ne Sn false
  have nr : ls_rd a2 n ≠ n := ls_S_ne Sn true
  have n0 : n ≠ 0 := ok.2
  have dis : ls_rd a1 n ≠ 0 → ls_rd a1 n ≠ ls_rd a2 n := ls_S_dis (fun y hy => ls_self hV.1 hy) Sn
  refine ⟨ok.1, ?_⟩
  refine ls_paintV fs fr fe fc fm fx fy fz a1 a2 a3 a4 a5 a6 a7 a8 a9 a10 a11 a12 a13 a14 a15 a16 a17 a18 a19 (m := ls_rd a1 n) (d := d) hc ⟨ls_L_weak hV.1 n, hV.2⟩ (fun h0 => ⟨(Sn.2.1 false h0).1, (Sn.2.1 false h0).2, nl⟩) (fun sq1 b7 b9 b10 b12 b13 b14 b15 V1 f1 g1 r7 r9 => ?_)
  refine ⟨ok.1, ?_⟩
  refine ls_paintV fs fr fe fc fm fx fy fz a1 a2 a3 a4 a5 a6 b7 a8 b9 b10 a11 b12 b13 b14 b15 a16 a17 a18 a19 (m := ls_rd a2 n) (d := d) hc V1 (fun h0 => ⟨?_, (Sn.2.1 true h0).2, nr⟩) (fun sq2 d7 d9 d10 d12 d13 d14 d15 V2 f2 g2 s7 s9 => ?_)
  · by_cases k : ls_rd a2 n = ls_rd a1 n
    · exact absurd k.symm (dis (by rw [← k]; exact h0))
    · rw [f1 _ k]; exact (Sn.2.1 true h0).1
  have q0 : sq 0 = [] := hV.1.1
  have c1 : sq2 (ls_rd a1 n) = ls_pt d (sq (ls_rd a1 n)) := by
    by_cases k0 : ls_rd a1 n = 0
    · rw [k0, q0, V2.1.1]; rfl
    · rw [f2 _ (dis k0), g1]
  have c2 : sq2 (ls_rd a2 n) = ls_pt d (sq (ls_rd a2 n)) := by
    rw [g2]
    by_cases k0 : ls_rd a2 n = 0
    · rw [k0, q0, V1.1.1]
    · rw [f1 _ (fun k => dis (by rw [← k]; exact k0) k.symm)]
  have cn : sq2 n = sq n := by rw [f2 _ (Ne.symm nr), f1 _ (Ne.symm nl)]
  have e7 : ls_ev c a5 a6 d7 n = ls_ev c a5 a6 a7 n := by unfold ls_ev; rw [s7 _ (Ne.symm nr), r7 _ (Ne.symm nl)]
  refine ⟨ok.1, nm_e (hp sq2 d7 _ d10 d12 d13 d14 d15 ⟨ls_L_close (ls_L_ex V2.1 (fun _ _ _ => rfl) (fun _ _ => rfl) (fun x hx => ls_rd_un ok hx) (fun _ _ => rfl)) ⟨ok, fun b hb => ?_, ?_, ?_⟩, V2.2⟩ ls_rd_us ⟨?_, ?_, fun _ _ _ => ⟨rfl, rfl⟩, ?_⟩ cn)⟩
  · obtain ⟨y1, y2⟩ := Sn.2.1 b hb
    refine ⟨?_, y2⟩
    cases b
    · rw [ls_ch_f, c1]; exact fun k => y1 (ls_pt_nil.mp k)
    · rw [ls_ch_t, c2]; exact fun k => y1 (ls_pt_nil.mp k)
  · rw [ls_rd_us, ls_ch_f, ls_ch_t, c1, c2, cn, e7, hd, ← ls_P_pt hw, ← ls_P_pt hw]
    exact Sn.2.2.1
  · rw [cn]; exact Sn.2.2.2
  · intro x h1 h2
    rw [f2 _ h2, f1 _ h1]
  · intro x
    by_cases h1 : x = ls_rd a1 n
    · rw [h1, c1]; exact ls_pt_nil
    · by_cases h2 : x = ls_rd a2 n
      · rw [h2, c2]; exact ls_pt_nil
      · rw [f2 _ h2, f1 _ h1]
  · intro x h0 h1 h2
    exact ⟨rfl, by rw [ls_rd_un ok h0, s9 _ h2, r9 _ h1]⟩
theorem ls_push {post : St2 → Prop} (fs fr fe fc fm fx fy fz : Int32) (a1 a2 a3 a4 a5 a6 a7 a8 a9 a10 a11 a12 a13 a14 a15 a16 a17 a18 a19 : Nat → Int32) {n : Int32} {c : Int} {sq : Int32 → List ls_E} (hc : fc.toInt = c) (hV : ls_V c a1 a2 a3 a4 a5 a6 a7 a8 a9 a13 a14 a15 sq 0) (hn : sq n ≠ [])
    (hp : ∀ (sq' : Int32 → List ls_E) (b1 b2 b7 b8 b9 b10 b12 b13 b14 b15 : Nat → Int32), ls_V c b1 b2 a3 a4 a5 a6 b7 b8 b9 b13 b14 b15 sq' 0 → ls_rd b8 n = 0 → ls_rd b9 n = 2 → ls_pk a1 a2 a8 a9 b1 b2 b8 b9 sq sq' n →
      post (fs, fr, fe, fc, fm, fx, fy, fz, b1, b2, a3, a4, a5, a6, b7, b8, b9, b10, a11, b12, b13, b14, b15, a16, a17, a18, a19)) :
    wpX_push post (fs, fr, fe, fc, fm, fx, fy, fz, a1, a2, a3, a4, a5, a6, a7, a8, a9, a10, a11, a12, a13, a14, a15, a16, a17, a18, a19) n := by
  have Sn := ls_V_T0 hV hn
  have ok := Sn.1
  have go : ∀ d : Bool, ls_rd a9 n ≠ 2 → d = decide (ls_rd a9 n = 1) → wX_push_25 post n (if d = true then 1 else 0) fs fr fe fc fm fx fy fz a1 a2 a3 a4 a5 a6 a7 a8 a9 a10 a11 a12 a13 a14 a15 a16 a17 a18 a19 := by
    intro d hw hd
    refine ls_push25 fs fr fe fc fm fx fy fz a1 a2 a3 a4 a5 a6 a7 a8 a9 a10 a11 a12 a13 a14 a15 a16 a17 a18 a19 hc hV hn hw hd (fun sq1 b7 b9 b10 b12 b13 b14 b15 V1 w1 k1 n1 => ?_)
    refine ls_push55 fs fr fe fc fm fx fy fz a1 a2 a3 a4 a5 a6 b7 a8 b9 b10 a11 b12 b13 b14 b15 a16 a17 a18 a19 V1 (by rw [n1]; exact hn) w1 (fun sq2 d1 d2 d8 d13 d14 d15 V2 t2 w2 k2 => ?_)
    refine hp sq2 d1 d2 b7 d8 b9 b10 b12 d13 d14 d15 V2 t2 w2 ⟨?_, ?_, ?_, ?_⟩
    · intro x h1 h2; rw [k2.1 x h1 h2, k1.1 x h1 h2]
    · intro x; exact (k2.2.1 x).trans (k1.2.1 x)
    · exact k2.2.2.1
    · intro x h0 h1 h2
      exact ⟨(k2.2.2.2 x h0 h1 h2).1, (k1.2.2.2 x h0 h1 h2).2⟩
  refine ⟨ok.1, br_c (fun z => ?_) (fun z => ⟨ok.1, br_c (fun z1 => ?_) (fun z1 => ?_)⟩)⟩
  · exact ls_push55 fs fr fe fc fm fx fy fz a1 a2 a3 a4 a5 a6 a7 a8 a9 a10 a11 a12 a13 a14 a15 a16 a17 a18 a19 hV hn z (fun sq2 d1 d2 d8 d13 d14 d15 V2 t2 w2 k2 => hp sq2 d1 d2 a7 d8 a9 a10 a12 d13 d14 d15 V2 t2 w2 k2)
  · exact go true z (decide_eq_true (show ls_rd a9 n = 1 from z1)).symm
  · exact go false z (decide_eq_false (show ¬ ls_rd a9 n = 1 from z1)).symm
end
section
/-! the whole tree W with root r, and a loose tree D with top d (0: none) -/
def ls_I (c : Int) (a1 a2 a3 a4 a5 a6 a7 a8 a9 a13 a14 a15 : Nat → Int32) (sq : Int32 → List ls_E) (r d : Int32) (W D : List ls_E) : Prop :=
  ls_V c a1 a2 a3 a4 a5 a6 a7 a8 a9 a13 a14 a15 sq 0 ∧ sq r = W ∧ sq d = D ∧ ls_rd a3 r = 0 ∧ W ≠ [] ∧ (ls_id (W ++ D)).Nodup ∧ W.length + D.length ≤ 42 ∧ (∀ x, sq x ≠ [] → x ∈ ls_id (W ++ D)) ∧ (d ≠ 0 → D ≠ [])
def ls_cp (a8 a9 : Nat → Int32) (sq : Int32 → List ls_E) (n : Int32) : Prop := ∀ x, n ∈ ls_id (sq x) → ls_rd a8 x = 0 ∧ ls_rd a9 x = 2
section
variable {c : Int} {a1 a2 a3 a4 a5 a6 a7 a8 a9 a13 a14 a15 : Nat → Int32} {sq : Int32 → List ls_E} {r d : Int32} {W D : List ls_E}
theorem ls_I_ned (h : ls_I c a1 a2 a3 a4 a5 a6 a7 a8 a9 a13 a14 a15 sq r d W D) {x : Int32} (hx : x ∈ ls_id W) : x ≠ d := by
  obtain ⟨hV, h1, h2, h3, h4, h5, h6, h7, h8⟩ := h
  intro z
  by_cases d0 : d = 0
  · have : x ∈ ls_id (sq r) := by rw [h1]; exact hx
    exact ls_sub_T hV.1 this (by rw [z, d0]; exact hV.1.1)
  · have dD : d ∈ ls_id D := by
      rw [← h2]; exact ls_self hV.1 (by rw [h2]; exact h8 d0)
    rw [ls_id_app, List.nodup_append] at h5
    exact h5.2.2 x hx d dD z
theorem ls_I_r (h : ls_I c a1 a2 a3 a4 a5 a6 a7 a8 a9 a13 a14 a15 sq r d W D) : r ≠ 0 ∧ r ∈ ls_id W := by
  obtain ⟨hV, h1, h2, h3, h4, h5, h6, h7, h8⟩ := h
  have rT : sq r ≠ [] := by rw [h1]; exact h4
  exact ⟨ls_T0 hV.1.1 rT, by rw [← h1]; exact ls_self hV.1 rT⟩
theorem ls_I_T (h : ls_I c a1 a2 a3 a4 a5 a6 a7 a8 a9 a13 a14 a15 sq r d W D) {x : Int32} (hx : x ∈ ls_id W) : sq x ≠ [] := by
  rw [← h.2.1] at hx; exact ls_sub_T h.1.1 hx
/-- a node of the tree that is not the root has a parent in the tree -/
theorem ls_I_up (h : ls_I c a1 a2 a3 a4 a5 a6 a7 a8 a9 a13 a14 a15 sq r d W D) {x : Int32} (hx : x ∈ ls_id W) (hr : x ≠ r) : ∃ b, ls_ch a1 a2 b (ls_rd a3 x) = x ∧ ls_rd a3 x ∈ ls_id W := by
  have e := h.2.1
  rw [← e] at hx ⊢
  exact ls_sub_up h.1.1 hx hr
theorem ls_I_ch (h : ls_I c a1 a2 a3 a4 a5 a6 a7 a8 a9 a13 a14 a15 sq r d W D) {n : Int32} (hn : n ∈ ls_id W) (b : Bool) (hb : ls_ch a1 a2 b n ≠ 0) : ls_ch a1 a2 b n ∈ ls_id W := by
  have S := ls_L_S h.1.1 (ls_I_T h hn)
  have e := h.2.1
  rw [← e] at hn ⊢
  refine ls_sub_sub h.1.1 hn ((ls_S_mem S _).mpr (Or.inr ⟨b, ?_⟩))
  exact ls_self h.1.1 (S.2.1 b hb).1
theorem ls_I_push {b1 b2 b7 b8 b9 b13 b14 b15 : Nat → Int32} {sq' : Int32 → List ls_E} {n : Int32} (h : ls_I c a1 a2 a3 a4 a5 a6 a7 a8 a9 a13 a14 a15 sq r d W D) (hn : n ∈ ls_id W)
    (V' : ls_V c b1 b2 a3 a4 a5 a6 b7 b8 b9 b13 b14 b15 sq' 0) (k : ls_pk a1 a2 a8 a9 b1 b2 b8 b9 sq sq' n) :
    ls_I c b1 b2 a3 a4 a5 a6 b7 b8 b9 b13 b14 b15 sq' r d W D := by
  have hr := ls_I_r h
  have nT := ls_I_T h hn
  have chW := ls_I_ch h hn
  have ned := fun x hx => ls_I_ned h (x := x) hx
  obtain ⟨hV, h1, h2, h3, h4, h5, h6, h7, h8⟩ := h
  have S := ls_L_S hV.1 nT
  have rn : ∀ b, r ≠ ls_ch a1 a2 b n := by
    intro b z
    have u := (S.2.1 b (by rw [← z]; exact hr.1)).2
    rw [← z, h3] at u
    exact S.1.2 u.symm
  have dn : ∀ b, d = ls_ch a1 a2 b n → d = 0 := by
    intro b z
    by_cases z0 : d = 0
    · exact z0
    · exact absurd z.symm (ned _ (chW b (by rw [← z]; exact z0)))
  refine ⟨V', by rw [k.1 r (rn false) (rn true)]; exact h1, ?_, h3, h4, h5, h6, fun x hx => h7 x (fun z => hx ((k.2.1 x).mpr z)), h8⟩
  by_cases d0 : d = 0
  · rw [← h2, d0, V'.1.1, hV.1.1]
  · rw [k.1 d (fun z => d0 (dn false z)) (fun z => d0 (dn true z))]; exact h2
end
theorem ls_seek_lp {post : Int32 → St2 → Prop} {c : Int} {r d : Int32} {W D : List ls_E} {K : Nat} (fs fr fe fc fm fx fy fz : Int32) (a3 a4 a5 a6 a11 a16 a17 a18 a19 : Nat → Int32) (hc : fc.toInt = c)
    (hp : ∀ (n : Int32) (sq : Int32 → List ls_E) (a1 a2 a7 a8 a9 a10 a12 a13 a14 a15 : Nat → Int32) (A : List ls_E) (e : ls_E) (B : List ls_E), ls_I c a1 a2 a3 a4 a5 a6 a7 a8 a9 a13 a14 a15 sq r d W D → W = A ++ e :: B → e.1 = n → A.length = K → ls_cp a8 a9 sq n → post n (fs, fr, fe, fc, fm, fx, fy, fz, a1, a2, a3, a4, a5, a6, a7, a8, a9, a10, a11, a12, a13, a14, a15, a16, a17, a18, a19)) :
    ∀ (k i : Nat) (n : Int32) (rest : Nat) (sq : Int32 → List ls_E) (a1 a2 a7 a8 a9 a10 a12 a13 a14 a15 : Nat → Int32) (pre suf : List ls_E), i + k = 43 → ls_I c a1 a2 a3 a4 a5 a6 a7 a8 a9 a13 a14 a15 sq r d W D → W = pre ++ sq n ++ suf → pre.length + rest = K → rest < (sq n).length →
      i + (sq n).length ≤ 42 → (∀ x, x ≠ n → n ∈ ls_id (sq x) → ls_rd a8 x = 0 ∧ ls_rd a9 x = 2) → wX_seek_10 post (k + 1) n (nI rest) (nI i) fs fr fe fc fm fx fy fz a1 a2 a3 a4 a5 a6 a7 a8 a9 a10 a11 a12 a13 a14 a15 a16 a17 a18 a19 := by
  intro k
  induction k with
  | zero => intro i n rest sq a1 a2 a7 a8 a9 a10 a12 a13 a14 a15 pre suf hk hI hW hK hr hi hcl; omega
  | succ k ih =>
    intro i n rest sq a1 a2 a7 a8 a9 a10 a12 a13 a14 a15 pre suf hk hI hW hK hr hi hcl
    have nT : sq n ≠ [] := fun z => by rw [z] at hr; exact absurd hr (by simp)
    have nW : n ∈ ls_id W := by
      rw [hW, ls_id_app, ls_id_app]
      exact List.mem_append_left _ (List.mem_append_right _ (ls_self hI.1.1 nT))
    refine pk_le 43 i (fun z => absurd z (by omega)) (fun _ => ?_)
    refine ls_push fs fr fe fc fm fx fy fz a1 a2 a3 a4 a5 a6 a7 a8 a9 a10 a11 a12 a13 a14 a15 a16 a17 a18 a19 hc hI.1 nT (fun sq' b1 b2 b7 b8 b9 b10 b12 b13 b14 b15 V' t' w' pk => ?_)
    have S := ls_L_S hI.1.1 nT
    have hI' := ls_I_push hI nW V' pk
    have sn : sq' n = sq n := pk.1 n (Ne.symm (ls_S_ne S false)) (Ne.symm (ls_S_ne S true))
    have nT' : sq' n ≠ [] := by rw [sn]; exact nT
    have S' := ls_L_S V'.1 nT'
    have chq : ∀ b, ls_Q c a4 b13 b14 b15 (ls_ch b1 b2 b n) (sq' (ls_ch b1 b2 b n)) := by
      intro b
      by_cases z : ls_ch b1 b2 b n = 0
      · exact V'.2 _ (Or.inl z)
      · exact V'.2 _ (Or.inr (S'.2.1 b z).1)
    have chin : ∀ b, vp_in (ls_ch b1 b2 b n) 43 := by
      intro b
      by_cases z : ls_ch b1 b2 b n = 0
      · rw [z]; exact ls_in0
      · exact (ls_L_S V'.1 (S'.2.1 b z).1).1.1
    have che : ls_rd b1 n = ls_rd a1 n ∧ ls_rd b2 n = ls_rd a2 n := pk.2.2.1 n (Ne.symm (ls_S_ne S false)) (Ne.symm (ls_S_ne S true))
    have eqn : sq' n = sq' (ls_rd b1 n) ++ (n, ls_ev c a5 a6 b7 n) :: sq' (ls_rd b2 n) := by
      have := S'.2.2.1
      rw [t', w', ls_P_02, ls_P_02] at this
      exact this
    have len := ls_S_len S'
    rw [ls_ch_f, ls_ch_t] at len
    have cpn : ls_cp b8 b9 sq' n := by
      intro x hx
      by_cases xn : x = n
      · rw [xn]; exact ⟨t', w'⟩
      · have l1 := ls_sub_len V'.1 hx
        have x1 : x ≠ ls_rd a1 n := by
          intro z
          rw [← che.1] at z
          rw [z] at l1; omega
        have x2 : x ≠ ls_rd a2 n := by
          intro z
          rw [← che.2] at z
          rw [z] at l1; omega
        rw [pk.1 x x1 x2] at hx
        have h := hcl x xn hx
        have h' := pk.2.2.2 x xn x1 x2
        rw [h'.1, h'.2]; exact h
    have q1 := (chq false).1
    have q2 := (chq false).2.1
    refine ⟨S.1.1, chin false, nm_r (show a4 (b1 n.toNatClampNeg).toNatClampNeg = nI (sq' (ls_rd b1 n)).length from q1) ?_⟩
    have cpc : ∀ b, ls_ch b1 b2 b n ≠ 0 → ∀ x, x ≠ ls_ch b1 b2 b n → ls_ch b1 b2 b n ∈ ls_id (sq' x) → ls_rd b8 x = 0 ∧ ls_rd b9 x = 2 := by
      intro b hb x hx hm
      obtain ⟨_, _, hu⟩ := ls_sub_up V'.1 hm (Ne.symm hx)
      rw [(S'.2.1 b hb).2] at hu
      exact cpn x hu
    rw [sn] at eqn len
    refine pk_eq rest (sq' (ls_rd b1 n)).length (fun z => ?_) (fun z => ?_) (by rfl) (by rfl) (by omega) (by omega)
    · refine hp n sq' b1 b2 b7 b8 b9 b10 b12 b13 b14 b15 (pre ++ sq' (ls_rd b1 n)) (n, ls_ev c a5 a6 b7 n) (sq' (ls_rd b2 n) ++ suf) hI' ?_ rfl ?_ cpn
      · rw [hW, eqn]; simp
      · rw [List.length_append]; omega
    · refine pk_le (sq' (ls_rd b1 n)).length rest (fun z2 => ?_) (fun z2 => ?_) (by rfl) (by rfl) (by omega) (by omega)
      · have e3 : nI rest - nI (sq' (ls_rd b1 n)).length - 1 = nI (rest - (sq' (ls_rd b1 n)).length - 1) := by
          rw [pk_sub (by omega), show (1 : Int32) = nI 1 from rfl, pk_sub (by omega)]
        refine nm_r e3 ⟨S.1.1, nm_e (nm_r (nI_1 i) ?_)⟩
        have nz : ls_rd b2 n ≠ 0 := fun y => by rw [y, V'.1.1] at len; simp at len; omega
        refine ih (i + 1) (ls_rd b2 n) _ sq' b1 b2 b7 b8 b9 b10 b12 b13 b14 b15 (pre ++ sq' (ls_rd b1 n) ++ [(n, ls_ev c a5 a6 b7 n)]) suf (by omega) hI' ?_ ?_ (by omega) (by omega) (cpc true nz)
        · rw [hW, eqn]; simp
        · rw [List.length_append, List.length_append]; simp; omega
      · refine ⟨S.1.1, nm_e (nm_r (nI_1 i) ?_)⟩
        have nz : ls_rd b1 n ≠ 0 := fun y => by rw [y, V'.1.1] at z2; simp at z2
        refine ih (i + 1) (ls_rd b1 n) _ sq' b1 b2 b7 b8 b9 b10 b12 b13 b14 b15 pre ((n, ls_ev c a5 a6 b7 n) :: sq' (ls_rd b2 n) ++ suf) (by omega) hI' ?_ (by omega) (by omega) (by omega) (cpc false nz)
        rw [hW, eqn]; simp
theorem ls_seek {post : Int32 → St2 → Prop} (fs fr fe fc fm fx fy fz : Int32) (a1 a2 a3 a4 a5 a6 a7 a8 a9 a10 a11 a12 a13 a14 a15 a16 a17 a18 a19 : Nat → Int32) {c : Int} {sq : Int32 → List ls_E} {d : Int32} {W D : List ls_E} {K : Nat} (hc : fc.toInt = c) (hI : ls_I c a1 a2 a3 a4 a5 a6 a7 a8 a9 a13 a14 a15 sq fr d W D) (hK : K < W.length)
    (hp : ∀ (n : Int32) (sq : Int32 → List ls_E) (a1 a2 a7 a8 a9 a10 a12 a13 a14 a15 : Nat → Int32) (A : List ls_E) (e : ls_E) (B : List ls_E), ls_I c a1 a2 a3 a4 a5 a6 a7 a8 a9 a13 a14 a15 sq fr d W D → W = A ++ e :: B → e.1 = n → A.length = K → ls_cp a8 a9 sq n → post n (fs, fr, fe, fc, fm, fx, fy, fz, a1, a2, a3, a4, a5, a6, a7, a8, a9, a10, a11, a12, a13, a14, a15, a16, a17, a18, a19)) :
    wpX_seek post (fs, fr, fe, fc, fm, fx, fy, fz, a1, a2, a3, a4, a5, a6, a7, a8, a9, a10, a11, a12, a13, a14, a15, a16, a17, a18, a19) (nI K) := by
  have hr := hI.2.1
  have hl := hI.2.2.2.2.2.2.1
  refine ⟨44, ls_seek_lp fs fr fe fc fm fx fy fz a3 a4 a5 a6 a11 a16 a17 a18 a19 hc hp 43 0 fr K sq a1 a2 a7 a8 a9 a10 a12 a13 a14 a15 [] [] (by omega) hI (by rw [hr]; simp) (by simp) (by rw [hr]; exact hK) (by rw [hr]; omega) (fun x hx hm => ?_)⟩
  obtain ⟨_, _, hu⟩ := ls_sub_up hI.1.1 hm (Ne.symm hx)
  rw [hI.2.2.2.1] at hu
  exact absurd hI.1.1.1 (ls_sub_T hI.1.1 hu)
end
section
/-! pull over a settled node of a forest whose shape stands already -/
theorem ls_pullL {post : St2 → Prop} (fs fr fe fc fm fx fy fz : Int32) (a1 a2 a3 a4 a5 a6 a7 a8 a9 a10 a11 a12 a13 a14 a15 a16 a17 a18 a19 : Nat → Int32) {n : Int32} {c : Int} {sq : Int32 → List ls_E} (hc0 : 0 ≤ c) (hc : c ≤ 60) (hcap : fc.toInt = c)
    (hL : ls_L (ls_ch a1 a2) (ls_rd a3) (ls_rd a8) (ls_rd a9) (ls_ev c a5 a6 a7) sq 0) (hn : sq n ≠ []) (t8 : ls_rd a8 n = 0) (t9 : ls_rd a9 n = 2)
    (hQ : ∀ b, ls_Q c a4 a13 a14 a15 (ls_ch a1 a2 b n) (sq (ls_ch a1 a2 b n))) (hlen : (sq n).length ≤ 42) (hv : ls_v c (ls_ev c a5 a6 a7 n).1)
    (hp : ∀ (x y z : Int32) (b4 b10 b11 b12 b13 b14 b15 : Nat → Int32), (∀ m s, m ≠ n → ls_Q c a4 a13 a14 a15 m s → ls_Q c b4 b13 b14 b15 m s) →
      ls_Q c b4 b13 b14 b15 n (sq n) → post (fs, fr, fe, fc, fm, x, y, z, a1, a2, a3, b4, a5, a6, a7, a8, a9, b10, b11, b12, b13, b14, b15, a16, a17, a18, a19)) :
    wpX_pull post (fs, fr, fe, fc, fm, fx, fy, fz, a1, a2, a3, a4, a5, a6, a7, a8, a9, a10, a11, a12, a13, a14, a15, a16, a17, a18, a19) n := by
  have S := ls_L_S hL hn
  have chin : ∀ b, vp_in (ls_ch a1 a2 b n) 43 := by
    intro b
    by_cases z : ls_ch a1 a2 b n = 0
    · rw [z]; exact ls_in0
    · exact (ls_L_S hL (S.2.1 b z).1).1.1
  have eqn : sq n = sq (ls_rd a1 n) ++ (n, ls_ev c a5 a6 a7 n) :: sq (ls_rd a2 n) := by
    have := S.2.2.1
    rw [t8, t9, ls_P_02, ls_P_02] at this
    exact this
  have len := ls_S_len S
  rw [ls_ch_f, ls_ch_t] at len
  refine ls_wpull fs fr fe fc fm fx fy fz a1 a2 a3 a4 a5 a6 a7 a8 a9 a10 a11 a12 a13 a14 a15 a16 a17 a18 a19 hc0 hc hcap S.1 (chin false) (chin true) (ls_S_ne S false) (ls_S_ne S true) (hQ false) (hQ true) (by rw [ls_ch_f, ls_ch_t]; omega) hv (fun x y z b4 b10 b11 b12 b13 b14 b15 f q => hp x y z b4 b10 b11 b12 b13 b14 b15 f ?_)
  rw [eqn]; exact q
/-- what a rotation of x over p leaves -/
def ls_ra (a3 b3 : Nat → Int32) (sq sq' : Int32 → List ls_E) (r r' x p : Int32) : Prop :=
  (r' = if p = r then x else r) ∧ sq' x = sq p ∧ (∀ y, y ≠ x → y ≠ p → sq' y = sq y) ∧ ls_rd b3 x = ls_rd a3 p ∧ (∀ y, y ≠ x → y ≠ p → ls_rd b3 y = ls_rd a3 y ∨ ls_rd b3 y = p)
theorem ls_rot131 {post : St2 → Prop} (fs fr fe fc fm fx fy fz : Int32) (a1 a2 a3 a4 a5 a6 a7 a8 a9 a10 a11 a12 a13 a14 a15 a16 a17 a18 a19 : Nat → Int32) {o1 o2 o3 : Nat → Int32} {x p g i r d : Int32} {b : Bool} {c : Int} {sq : Int32 → List ls_E} {W D : List ls_E} (hc0 : 0 ≤ c) (hc : c ≤ 60) (hcap : fc.toInt = c)
    (hI : ls_I c o1 o2 o3 a4 a5 a6 a7 a8 a9 a13 a14 a15 sq r d W D) (hx : x ∈ ls_id W) (hpW : p ∈ ls_id W) (x0 : x ≠ 0) (hn : ls_ch o1 o2 b p = x) (hg : ls_rd o3 p = g) (hg2 : g ≠ 0 → sq g ≠ [] ∧ ∃ e, ls_ch o1 o2 e g = p)
    (hi : ls_ch o1 o2 (!b) x = i) (cn1 : ls_rd a8 x = 0) (cn2 : ls_rd a9 x = 2) (cp1 : ls_rd a8 p = 0) (cp2 : ls_rd a9 p = 2)
    (k1 : ls_ch a1 a2 b p = i) (k2 : ls_ch a1 a2 (!b) x = p) (k3 : ls_ch a1 a2 (!b) p = ls_ch o1 o2 (!b) p) (k4 : ls_ch a1 a2 b x = ls_ch o1 o2 b x)
    (k5 : ∀ e y, y ≠ x → y ≠ p → y ≠ g → ls_ch a1 a2 e y = ls_ch o1 o2 e y)
    (k6 : g ≠ 0 → ∀ e, ls_ch a1 a2 e g = if ls_ch o1 o2 e g = p then x else ls_ch o1 o2 e g)
    (u1 : i ≠ 0 → ls_rd a3 i = p) (u2 : ls_rd a3 p = x) (u3 : ls_rd a3 x = g) (u4 : ∀ y, (y = i → i = 0) → y ≠ p → y ≠ x → ls_rd a3 y = ls_rd o3 y)
    (hp : ∀ (sq' : Int32 → List ls_E) (r' ex ey ez : Int32) (b4 b10 b11 b12 b13 b14 b15 : Nat → Int32), ls_I c a1 a2 a3 b4 a5 a6 a7 a8 a9 b13 b14 b15 sq' r' d W D → ls_ra o3 a3 sq sq' r r' x p →
      post (fs, fr, fe, fc, fm, ex, ey, ez, a1, a2, a3, b4, a5, a6, a7, a8, a9, b10, b11, b12, b13, b14, b15, a16, a17, a18, a19)) :
    wX_rotate_131 post x p fs fr fe fc fm fx fy fz a1 a2 a3 a4 a5 a6 a7 a8 a9 a10 a11 a12 a13 a14 a15 a16 a17 a18 a19 := by
  have rr := ls_I_r hI
  have xd := ls_I_ned hI hx
  have pd := ls_I_ned hI hpW
  have pT := ls_I_T hI hpW
  have xT := ls_I_T hI hx
  obtain ⟨hV, h1, h2, h3, h4, h5, h6, h7, h8⟩ := hI
  obtain ⟨hL, eqf⟩ := ls_rot hV.1 pT hn x0 hg hg2 hi cn1 cn2 cp1 cp2 k1 k2 k3 k4 k5 k6 u1 u2 u3 (fun y z1 z2 z3 => u4 y (fun w => absurd w z1) z2 z3)
  generalize hs : ls_jn b (sq i) (p, ls_ev c a5 a6 a7 p) (sq (ls_ch o1 o2 (!b) p)) = s at hL eqf
  have Sp := ls_L_S hV.1 pT
  have Sx := ls_L_S hV.1 xT
  have ux : ls_rd o3 x = p := by have := (Sp.2.1 b (by rw [hn]; exact x0)).2; rw [hn] at this; exact this
  have xp : x ≠ p := by rw [← hn]; exact ls_S_ne Sp b
  have sne : s ≠ [] := by rw [← hs]; exact ls_jn_ne _ _ _ _
  have sx : ls_sr sq x p s x = sq p := ls_sr_n
  have sp : ls_sr sq x p s p = s := ls_sr_p (Ne.symm xp)
  have sy : ∀ y, y ≠ x → y ≠ p → ls_sr sq x p s y = sq y := fun y => ls_sr_x
  have T' : ∀ y, ls_sr sq x p s y ≠ [] → sq y ≠ [] := by
    intro y hy
    by_cases z1 : y = x
    · rw [z1]; exact xT
    · by_cases z2 : y = p
      · rw [z2]; exact pT
      · rw [sy y z1 z2] at hy; exact hy
  have Sp' := ls_L_S hL (show ls_sr sq x p s p ≠ [] by rw [sp]; exact sne)
  have Sx' := ls_L_S hL (show ls_sr sq x p s x ≠ [] by rw [sx]; exact pT)
  have lsp : s.length < (sq p).length := by
    have := ls_S_lt Sx' (!b)
    rw [k2, sp, sx] at this; exact this
  have Qp := hV.2 p (Or.inr pT)
  have Qx := hV.2 x (Or.inr xT)
  have vp : ls_v c (ls_ev c a5 a6 a7 p).1 := by
    refine Qp.2.2.1 (p, ls_ev c a5 a6 a7 p) ?_
    rw [Sp.2.2.1]; simp
  have vx : ls_v c (ls_ev c a5 a6 a7 x).1 := by
    refine Qx.2.2.1 (x, ls_ev c a5 a6 a7 x) ?_
    rw [Sx.2.2.1]; simp
  refine ls_pullL fs fr fe fc fm fx fy fz a1 a2 a3 a4 a5 a6 a7 a8 a9 a10 a11 a12 a13 a14 a15 a16 a17 a18 a19 (n := p) hc0 hc hcap hL (by rw [sp]; exact sne) cp1 cp2 (fun e => ?_) (by rw [sp]; have := Qp.2.1; omega) vp (fun ex ey ez b4 b10 b11 b12 b13 b14 b15 f1 q1 => ?_)
  · by_cases z : ls_ch a1 a2 e p = 0
    · rw [z, hL.1, ← hV.1.1]; exact hV.2 0 (Or.inl rfl)
    · have t := (Sp'.2.1 e z).1
      have t2 := ls_S_ne Sp' e
      have t3 : ls_ch a1 a2 e p ≠ x := by
        intro w
        have l := ls_S_lt Sp' e
        rw [w, sx, sp] at l; omega
      rw [sy _ t3 t2] at t ⊢
      exact hV.2 _ (Or.inr t)
  refine ls_pullL fs fr fe fc fm ex ey ez a1 a2 a3 b4 a5 a6 a7 a8 a9 b10 b11 b12 b13 b14 b15 a16 a17 a18 a19 (n := x) hc0 hc hcap hL (by rw [sx]; exact pT) cn1 cn2 (fun e => ?_) (by rw [sx]; exact Qp.2.1) vx (fun ex ey ez d4 d10 d11 d12 d13 d14 d15 f2 q2 => ?_)
  · by_cases w : ls_ch a1 a2 e x = p
    · rw [w]; exact q1
    · refine f1 _ _ w ?_
      by_cases z : ls_ch a1 a2 e x = 0
      · rw [z, hL.1, ← hV.1.1]; exact hV.2 0 (Or.inl rfl)
      · have t := (Sx'.2.1 e z).1
        rw [sy _ (ls_S_ne Sx' e) w] at t ⊢
        exact hV.2 _ (Or.inr t)
  have rx : r ≠ x := fun z => by rw [z, ux] at h3; exact Sp.1.2 h3
  refine hp (ls_sr sq x p s) (if p = r then x else r) ex ey ez d4 d10 d11 d12 d13 d14 d15 ⟨⟨hL, fun y hy => ?_⟩, ?_, ?_, ?_, h4, h5, h6, fun y hy => h7 y (T' y hy), h8⟩ ⟨rfl, sx, sy, by rw [u3, hg], fun y y1 y2 => ?_⟩
  · by_cases z1 : y = x
    · rw [z1]; exact q2
    · by_cases z2 : y = p
      · rw [z2]; exact f2 _ _ (Ne.symm xp) q1
      · rw [sy y z1 z2] at hy ⊢
        exact f2 _ _ z1 (f1 _ _ z2 (hV.2 y hy))
  · by_cases z : p = r
    · rw [if_pos z, sx, z]; exact h1
    · rw [if_neg z, sy r rx (Ne.symm z)]; exact h1
  · rw [sy d (Ne.symm xd) (Ne.symm pd)]; exact h2
  · by_cases z : p = r
    · rw [if_pos z, u3, ← hg, z]; exact h3
    · rw [if_neg z]
      by_cases w : r = i
      · have := (Sx.2.1 (!b) (by rw [hi, ← w]; exact rr.1)).2
        rw [hi, ← w, h3] at this
        exact absurd this.symm x0
      · rw [u4 r (fun v => absurd v w) (Ne.symm z) rx]; exact h3
  · by_cases w : y = i
    · by_cases i0 : i = 0
      · exact Or.inl (u4 y (fun _ => i0) y2 y1)
      · exact Or.inr (by rw [w]; exact u1 i0)
    · exact Or.inl (u4 y (fun v => absurd v w) y2 y1)
theorem ls_rot86 {post : St2 → Prop} (fs fr fe fc fm fx fy fz : Int32) (a1 a2 a3 a4 a5 a6 a7 a8 a9 a10 a11 a12 a13 a14 a15 a16 a17 a18 a19 : Nat → Int32) {o1 o2 o3 : Nat → Int32} {x p g i r d : Int32} {b : Bool} {c : Int} {sq : Int32 → List ls_E} {W D : List ls_E} (hc0 : 0 ≤ c) (hc : c ≤ 60) (hcap : fc.toInt = c)
    (hI : ls_I c o1 o2 o3 a4 a5 a6 a7 a8 a9 a13 a14 a15 sq r d W D) (hx : x ∈ ls_id W) (hpW : p ∈ ls_id W) (x0 : x ≠ 0) (hn : ls_ch o1 o2 b p = x) (hg : ls_rd o3 p = g) (hg2 : g ≠ 0 → sq g ≠ [] ∧ ∃ e, ls_ch o1 o2 e g = p)
    (hi : ls_ch o1 o2 (!b) x = i) (cn1 : ls_rd a8 x = 0) (cn2 : ls_rd a9 x = 2) (cp1 : ls_rd a8 p = 0) (cp2 : ls_rd a9 p = 2)
    (k1 : ls_ch a1 a2 b p = i) (k2 : ls_ch a1 a2 (!b) x = p) (k3 : ls_ch a1 a2 (!b) p = ls_ch o1 o2 (!b) p) (k4 : ls_ch a1 a2 b x = ls_ch o1 o2 b x)
    (k5 : ∀ e y, y ≠ x → y ≠ p → ls_ch a1 a2 e y = ls_ch o1 o2 e y)
    (u1 : i ≠ 0 → ls_rd a3 i = p) (u4 : ∀ y, (y = i → i = 0) → ls_rd a3 y = ls_rd o3 y)
    (hp : ∀ (sq' : Int32 → List ls_E) (r' ex ey ez : Int32) (b1 b2 b3 b4 b10 b11 b12 b13 b14 b15 : Nat → Int32), ls_I c b1 b2 b3 b4 a5 a6 a7 a8 a9 b13 b14 b15 sq' r' d W D → ls_ra o3 b3 sq sq' r r' x p →
      post (fs, fr, fe, fc, fm, ex, ey, ez, b1, b2, b3, b4, a5, a6, a7, a8, a9, b10, b11, b12, b13, b14, b15, a16, a17, a18, a19)) :
    wX_rotate_86 post x p g fs fr fe fc fm fx fy fz a1 a2 a3 a4 a5 a6 a7 a8 a9 a10 a11 a12 a13 a14 a15 a16 a17 a18 a19 := by
  have pT := ls_I_T hI hpW
  have xT := ls_I_T hI hx
  have hL := hI.1.1
  have Sp := ls_L_S hL pT
  have Sx := ls_L_S hL xT
  have okp := Sp.1
  have okx := Sx.1
  have lxp : (sq x).length < (sq p).length := by have := ls_S_lt Sp b; rw [hn] at this; exact this
  have xp : x ≠ p := fun z => by rw [z] at lxp; omega
  have lix : (sq i).length < (sq x).length := by have := ls_S_lt Sx (!b); rw [hi] at this; exact this
  have ix : i ≠ x := fun z => by rw [z] at lix; omega
  have ip : i ≠ p := fun z => by rw [z] at lix; omega
  have w1 : i ≠ 0 → ls_rd (upd (upd a3 p.toNatClampNeg x) x.toNatClampNeg g) i = p := fun z => by rw [ls_rd_un okx ix, ls_rd_un okp ip]; exact u1 z
  have w2 : ls_rd (upd (upd a3 p.toNatClampNeg x) x.toNatClampNeg g) p = x := by rw [ls_rd_un okx (Ne.symm xp), ls_rd_us]
  have w3 : ls_rd (upd (upd a3 p.toNatClampNeg x) x.toNatClampNeg g) x = g := ls_rd_us
  have w4 : ∀ y, (y = i → i = 0) → y ≠ p → y ≠ x → ls_rd (upd (upd a3 p.toNatClampNeg x) x.toNatClampNeg g) y = ls_rd o3 y := fun y z1 z2 z3 => by rw [ls_rd_un okx z3, ls_rd_un okp z2]; exact u4 y z1
  refine ⟨okp.1, nm_e ⟨okx.1, nm_e (br_c (fun g0 => ?_) (fun g0 => ?_))⟩⟩
  · exact ls_rot131 fs fr fe fc fm fx fy fz a1 a2 (upd (upd a3 p.toNatClampNeg x) x.toNatClampNeg g) a4 a5 a6 a7 a8 a9 a10 a11 a12 a13 a14 a15 a16 a17 a18 a19 hc0 hc hcap hI hx hpW x0 hn hg hg2 hi cn1 cn2 cp1 cp2 k1 k2 k3 k4 (fun e y y1 y2 _ => k5 e y y1 y2) (fun z => absurd g0 z) w1 w2 w3 w4
      (fun sq' r' ex ey ez b4 b10 b11 b12 b13 b14 b15 hI' ra => hp sq' r' ex ey ez _ _ _ b4 b10 b11 b12 b13 b14 b15 hI' ra)
  · obtain ⟨gT, eg, heg⟩ := hg2 g0
    have Sg := ls_L_S hL gT
    have okg := Sg.1
    have lpg : (sq p).length < (sq g).length := by have := ls_S_lt Sg eg; rw [heg] at this; exact this
    have gp : g ≠ p := fun z => by rw [z] at lpg; omega
    have gx : g ≠ x := fun z => by rw [z] at lpg; omega
    have dis := ls_S_dis' (fun y hy => ls_self hL hy) Sg eg (by rw [heg]; exact okp.2)
    rw [heg] at dis
    have kg : ∀ e, ls_ch a1 a2 e g = ls_ch o1 o2 e g := fun e => k5 e g gx gp
    have c1 : ∀ e y, y ≠ g → ls_ch (upd a1 g.toNatClampNeg x) a2 e y = ls_ch a1 a2 e y := by
      intro e y hy
      cases e
      · exact ls_rd_un okg hy
      · rfl
    have c2 : ∀ e y, y ≠ g → ls_ch a1 (upd a2 g.toNatClampNeg x) e y = ls_ch a1 a2 e y := by
      intro e y hy
      cases e
      · rfl
      · exact ls_rd_un okg hy
    refine ⟨okg.1, br_c (fun z => ⟨okg.1, nm_e ?_⟩) (fun z => ⟨okg.1, nm_e ?_⟩)⟩
    · have ze : eg = false := by
        cases eg
        · rfl
        · exfalso
          apply dis
          show ls_ch o1 o2 false g = p
          rw [← kg]; exact z
      rw [ze] at heg dis
      refine ls_rot131 fs fr fe fc fm fx fy fz (upd a1 g.toNatClampNeg x) a2 (upd (upd a3 p.toNatClampNeg x) x.toNatClampNeg g) a4 a5 a6 a7 a8 a9 a10 a11 a12 a13 a14 a15 a16 a17 a18 a19 hc0 hc hcap hI hx hpW x0 hn hg hg2 hi cn1 cn2 cp1 cp2
        (by rw [c1 _ _ (Ne.symm gp)]; exact k1) (by rw [c1 _ _ (Ne.symm gx)]; exact k2) (by rw [c1 _ _ (Ne.symm gp)]; exact k3) (by rw [c1 _ _ (Ne.symm gx)]; exact k4)
        (fun e y y1 y2 y3 => by rw [c1 _ _ y3]; exact k5 e y y1 y2) (fun _ e => ?_) w1 w2 w3 w4
        (fun sq' r' ex ey ez b4 b10 b11 b12 b13 b14 b15 hI' ra => hp sq' r' ex ey ez _ _ _ b4 b10 b11 b12 b13 b14 b15 hI' ra)
      cases e
      · rw [if_pos heg]; exact ls_rd_us
      · rw [if_neg (show ¬ ls_ch o1 o2 true g = p from dis)]; exact kg true
    · have ze : eg = true := by
        cases eg
        · exact absurd ((kg false).trans heg) z
        · rfl
      rw [ze] at heg dis
      refine ls_rot131 fs fr fe fc fm fx fy fz a1 (upd a2 g.toNatClampNeg x) (upd (upd a3 p.toNatClampNeg x) x.toNatClampNeg g) a4 a5 a6 a7 a8 a9 a10 a11 a12 a13 a14 a15 a16 a17 a18 a19 hc0 hc hcap hI hx hpW x0 hn hg hg2 hi cn1 cn2 cp1 cp2
        (by rw [c2 _ _ (Ne.symm gp)]; exact k1) (by rw [c2 _ _ (Ne.symm gx)]; exact k2) (by rw [c2 _ _ (Ne.symm gp)]; exact k3) (by rw [c2 _ _ (Ne.symm gx)]; exact k4)
        (fun e y y1 y2 y3 => by rw [c2 _ _ y3]; exact k5 e y y1 y2) (fun _ e => ?_) w1 w2 w3 w4
        (fun sq' r' ex ey ez b4 b10 b11 b12 b13 b14 b15 hI' ra => hp sq' r' ex ey ez _ _ _ b4 b10 b11 b12 b13 b14 b15 hI' ra)
      cases e
      · rw [if_neg (show ¬ ls_ch o1 o2 false g = p from dis)]; exact kg false
      · rw [if_pos heg]; exact ls_rd_us
/-- rotate -/
theorem ls_rotate {post : St2 → Prop} (fs fr fe fc fm fx fy fz : Int32) (a1 a2 a3 a4 a5 a6 a7 a8 a9 a10 a11 a12 a13 a14 a15 a16 a17 a18 a19 : Nat → Int32) {x r d : Int32} {c : Int} {sq : Int32 → List ls_E} {W D : List ls_E} (hc0 : 0 ≤ c) (hc : c ≤ 60) (hcap : fc.toInt = c)
    (hI : ls_I c a1 a2 a3 a4 a5 a6 a7 a8 a9 a13 a14 a15 sq r d W D) (hx : x ∈ ls_id W) (xr : x ≠ r) (cn1 : ls_rd a8 x = 0) (cn2 : ls_rd a9 x = 2) (cp1 : ls_rd a8 (ls_rd a3 x) = 0) (cp2 : ls_rd a9 (ls_rd a3 x) = 2)
    (hp : ∀ (sq' : Int32 → List ls_E) (r' ex ey ez : Int32) (b1 b2 b3 b4 b10 b11 b12 b13 b14 b15 : Nat → Int32), ls_I c b1 b2 b3 b4 a5 a6 a7 a8 a9 b13 b14 b15 sq' r' d W D → ls_ra a3 b3 sq sq' r r' x (ls_rd a3 x) →
      post (fs, fr, fe, fc, fm, ex, ey, ez, b1, b2, b3, b4, a5, a6, a7, a8, a9, b10, b11, b12, b13, b14, b15, a16, a17, a18, a19)) :
    wpX_rotate post (fs, fr, fe, fc, fm, fx, fy, fz, a1, a2, a3, a4, a5, a6, a7, a8, a9, a10, a11, a12, a13, a14, a15, a16, a17, a18, a19) x := by
  obtain ⟨b, hb, hpW⟩ := ls_I_up hI hx xr
  generalize hpp : ls_rd a3 x = p at hb hpW cp1 cp2 hp
  have pT := ls_I_T hI hpW
  have xT := ls_I_T hI hx
  have hL := hI.1.1
  have Sp := ls_L_S hL pT
  have Sx := ls_L_S hL xT
  have okp := Sp.1
  have okx := Sx.1
  have x0 := okx.2
  have xp : x ≠ p := by rw [← hb]; exact ls_S_ne Sp b
  have hg2 : ls_rd a3 p ≠ 0 → sq (ls_rd a3 p) ≠ [] ∧ ∃ e, ls_ch a1 a2 e (ls_rd a3 p) = p := by
    intro g0
    have pr : p ≠ r := fun z => g0 (by rw [z]; exact hI.2.2.2.1)
    obtain ⟨e, he, hgW⟩ := ls_I_up hI hpW pr
    exact ⟨ls_I_T hI hgW, e, he⟩
  have inn : ∀ e, ls_ch a1 a2 e x ≠ 0 → ls_ok (ls_ch a1 a2 e x) ∧ ls_ch a1 a2 e x ≠ x := fun e z => ⟨(ls_L_S hL (Sx.2.1 e z).1).1, ls_S_ne Sx e⟩
  refine ⟨okx.1, nm_r (show a3 x.toNatClampNeg = p from hpp) ⟨okp.1, nm_r (show a3 p.toNatClampNeg = ls_rd a3 p from rfl) ⟨okp.1, br_c (fun z => ?_) (fun z => ?_)⟩⟩⟩
  · have hn : ls_ch a1 a2 false p = x := z
    refine ⟨okx.1, nm_r (show a2 x.toNatClampNeg = ls_ch a1 a2 (!false) x from rfl) ⟨okp.1, nm_e ⟨okx.1, nm_e ?_⟩⟩⟩
    have k1 : ls_ch (upd a1 p.toNatClampNeg (ls_ch a1 a2 (!false) x)) (upd a2 x.toNatClampNeg p) false p = ls_ch a1 a2 (!false) x := ls_rd_us
    have k2 : ls_ch (upd a1 p.toNatClampNeg (ls_ch a1 a2 (!false) x)) (upd a2 x.toNatClampNeg p) (!false) x = p := ls_rd_us
    have k3 : ls_ch (upd a1 p.toNatClampNeg (ls_ch a1 a2 (!false) x)) (upd a2 x.toNatClampNeg p) (!false) p = ls_ch a1 a2 (!false) p := ls_rd_un okx (Ne.symm xp)
    have k4 : ls_ch (upd a1 p.toNatClampNeg (ls_ch a1 a2 (!false) x)) (upd a2 x.toNatClampNeg p) false x = ls_ch a1 a2 false x := ls_rd_un okp xp
    have k5 : ∀ e y, y ≠ x → y ≠ p → ls_ch (upd a1 p.toNatClampNeg (ls_ch a1 a2 (!false) x)) (upd a2 x.toNatClampNeg p) e y = ls_ch a1 a2 e y := by
      intro e y y1 y2
      cases e
      · exact ls_rd_un okp y2
      · exact ls_rd_un okx y1
    refine br_c (fun i0 => ?_) (fun i0 => ⟨(inn true i0).1.1, nm_e ?_⟩)
    · exact ls_rot86 fs fr fe fc fm fx fy fz (upd a1 p.toNatClampNeg (ls_ch a1 a2 (!false) x)) (upd a2 x.toNatClampNeg p) a3 a4 a5 a6 a7 a8 a9 a10 a11 a12 a13 a14 a15 a16 a17 a18 a19 hc0 hc hcap hI hx hpW x0 hn rfl hg2 rfl cn1 cn2 cp1 cp2 k1 k2 k3 k4 k5 (fun w => absurd i0 w) (fun y _ => rfl) hp
    · exact ls_rot86 fs fr fe fc fm fx fy fz (upd a1 p.toNatClampNeg (ls_ch a1 a2 (!false) x)) (upd a2 x.toNatClampNeg p) (upd a3 (ls_ch a1 a2 (!false) x).toNatClampNeg p) a4 a5 a6 a7 a8 a9 a10 a11 a12 a13 a14 a15 a16 a17 a18 a19 hc0 hc hcap hI hx hpW x0 hn rfl hg2 rfl cn1 cn2 cp1 cp2 k1 k2 k3 k4 k5 (fun w => ls_rd_us) (fun y w => ls_rd_un (inn true i0).1 (fun v => i0 (w v))) hp
  · have hn : ls_ch a1 a2 true p = x := by
      cases b
      · exact absurd hb z
      · exact hb
    refine ⟨okx.1, nm_r (show a1 x.toNatClampNeg = ls_ch a1 a2 (!true) x from rfl) ⟨okp.1, nm_e ⟨okx.1, nm_e ?_⟩⟩⟩
    have k1 : ls_ch (upd a1 x.toNatClampNeg p) (upd a2 p.toNatClampNeg (ls_ch a1 a2 (!true) x)) true p = ls_ch a1 a2 (!true) x := ls_rd_us
    have k2 : ls_ch (upd a1 x.toNatClampNeg p) (upd a2 p.toNatClampNeg (ls_ch a1 a2 (!true) x)) (!true) x = p := ls_rd_us
    have k3 : ls_ch (upd a1 x.toNatClampNeg p) (upd a2 p.toNatClampNeg (ls_ch a1 a2 (!true) x)) (!true) p = ls_ch a1 a2 (!true) p := ls_rd_un okx (Ne.symm xp)
    have k4 : ls_ch (upd a1 x.toNatClampNeg p) (upd a2 p.toNatClampNeg (ls_ch a1 a2 (!true) x)) true x = ls_ch a1 a2 true x := ls_rd_un okp xp
    have k5 : ∀ e y, y ≠ x → y ≠ p → ls_ch (upd a1 x.toNatClampNeg p) (upd a2 p.toNatClampNeg (ls_ch a1 a2 (!true) x)) e y = ls_ch a1 a2 e y := by
      intro e y y1 y2
      cases e
      · exact ls_rd_un okx y1
      · exact ls_rd_un okp y2
    refine br_c (fun i0 => ?_) (fun i0 => ⟨(inn false i0).1.1, nm_e ?_⟩)
    · exact ls_rot86 fs fr fe fc fm fx fy fz (upd a1 x.toNatClampNeg p) (upd a2 p.toNatClampNeg (ls_ch a1 a2 (!true) x)) a3 a4 a5 a6 a7 a8 a9 a10 a11 a12 a13 a14 a15 a16 a17 a18 a19 hc0 hc hcap hI hx hpW x0 hn rfl hg2 rfl cn1 cn2 cp1 cp2 k1 k2 k3 k4 k5 (fun w => absurd i0 w) (fun y _ => rfl) hp
    · exact ls_rot86 fs fr fe fc fm fx fy fz (upd a1 x.toNatClampNeg p) (upd a2 p.toNatClampNeg (ls_ch a1 a2 (!true) x)) (upd a3 (ls_ch a1 a2 (!true) x).toNatClampNeg p) a4 a5 a6 a7 a8 a9 a10 a11 a12 a13 a14 a15 a16 a17 a18 a19 hc0 hc hcap hI hx hpW x0 hn rfl hg2 rfl cn1 cn2 cp1 cp2 k1 k2 k3 k4 k5 (fun w => ls_rd_us) (fun y w => ls_rd_un (inn false i0).1 (fun v => i0 (w v))) hp
end
section
/-- rotating n itself, the way down to n being settled -/
theorem ls_rotn {post : St2 → Prop} (fs fr fe fc fm fx fy fz : Int32) (a1 a2 a3 a4 a5 a6 a7 a8 a9 a10 a11 a12 a13 a14 a15 a16 a17 a18 a19 : Nat → Int32) {n r d : Int32} {c : Int} {sq : Int32 → List ls_E} {W D : List ls_E} (hc0 : 0 ≤ c) (hc : c ≤ 60) (hcap : fc.toInt = c)
    (hI : ls_I c a1 a2 a3 a4 a5 a6 a7 a8 a9 a13 a14 a15 sq r d W D) (hx : n ∈ ls_id W) (xr : n ≠ r) (cp : ls_cp a8 a9 sq n)
    (hp : ∀ (sq' : Int32 → List ls_E) (r' ex ey ez : Int32) (b1 b2 b3 b4 b10 b11 b12 b13 b14 b15 : Nat → Int32), ls_I c b1 b2 b3 b4 a5 a6 a7 a8 a9 b13 b14 b15 sq' r' d W D → ls_ra a3 b3 sq sq' r r' n (ls_rd a3 n) → ls_cp a8 a9 sq' n → (sq n).length < (sq' n).length →
      post (fs, fr, fe, fc, fm, ex, ey, ez, b1, b2, b3, b4, a5, a6, a7, a8, a9, b10, b11, b12, b13, b14, b15, a16, a17, a18, a19)) :
    wpX_rotate post (fs, fr, fe, fc, fm, fx, fy, fz, a1, a2, a3, a4, a5, a6, a7, a8, a9, a10, a11, a12, a13, a14, a15, a16, a17, a18, a19) n := by
  obtain ⟨b, hb, hpW⟩ := ls_I_up hI hx xr
  have nT := ls_I_T hI hx
  have pT := ls_I_T hI hpW
  have Sp := ls_L_S hI.1.1 pT
  have cn := cp n (ls_self hI.1.1 nT)
  have np : n ∈ ls_id (sq (ls_rd a3 n)) := (ls_S_mem Sp n).mpr (Or.inr ⟨b, by rw [hb]; exact ls_self hI.1.1 nT⟩)
  have cq := cp _ np
  have lt : (sq n).length < (sq (ls_rd a3 n)).length := by have := ls_S_lt Sp b; rw [hb] at this; exact this
  refine ls_rotate fs fr fe fc fm fx fy fz a1 a2 a3 a4 a5 a6 a7 a8 a9 a10 a11 a12 a13 a14 a15 a16 a17 a18 a19 hc0 hc hcap hI hx xr cn.1 cn.2 cq.1 cq.2 (fun sq' r' ex ey ez b1 b2 b3 b4 b10 b11 b12 b13 b14 b15 hI' ra => hp sq' r' ex ey ez b1 b2 b3 b4 b10 b11 b12 b13 b14 b15 hI' ra (fun y hy => ?_) (by rw [ra.2.1]; exact lt))
  by_cases y1 : y = n
  · rw [y1]; exact cn
  · by_cases y2 : y = ls_rd a3 n
    · rw [y2]; exact cq
    · rw [ra.2.2.1 y y1 y2] at hy; exact cp y hy
theorem ls_lift_lp {post : St2 → Prop} {c : Int} {n top d : Int32} {W D : List ls_E} (fs fr fe fc fm : Int32) (a5 a6 a7 a8 a9 a16 a17 a18 a19 : Nat → Int32) (hc0 : 0 ≤ c) (hc : c ≤ 60) (hcap : fc.toInt = c) (hn : n ∈ ls_id W)
    (hp : ∀ (sq : Int32 → List ls_E) (r fx fy fz : Int32) (a1 a2 a3 a4 a10 a11 a12 a13 a14 a15 : Nat → Int32), ls_I c a1 a2 a3 a4 a5 a6 a7 a8 a9 a13 a14 a15 sq r d W D → ls_rd a3 n = top → (top = 0 ∨ top = r) → ls_cp a8 a9 sq n → wX_lift_109 post n top fs fr fe fc fm fx fy fz a1 a2 a3 a4 a5 a6 a7 a8 a9 a10 a11 a12 a13 a14 a15 a16 a17 a18 a19) :
    ∀ (k i : Nat) (sq : Int32 → List ls_E) (r fx fy fz : Int32) (a1 a2 a3 a4 a10 a11 a12 a13 a14 a15 : Nat → Int32), i + k = 43 → ls_I c a1 a2 a3 a4 a5 a6 a7 a8 a9 a13 a14 a15 sq r d W D → (top = 0 ∨ (top = r ∧ n ≠ r)) → ls_cp a8 a9 sq n → i + 1 ≤ (sq n).length →
      wX_lift_2 post n top (k + 1) (nI i) fs fr fe fc fm fx fy fz a1 a2 a3 a4 a5 a6 a7 a8 a9 a10 a11 a12 a13 a14 a15 a16 a17 a18 a19 := by
  intro k
  induction k with
  | zero =>
    intro i sq r fx fy fz a1 a2 a3 a4 a10 a11 a12 a13 a14 a15 hk hI ht cp hi
    have := (hI.1.2 n (Or.inr (ls_I_T hI hn))).2.1
    omega
  | succ k ih =>
    have R98 : ∀ (i : Nat) (sq : Int32 → List ls_E) (r fx fy fz : Int32) (a1 a2 a3 a4 a10 a11 a12 a13 a14 a15 : Nat → Int32), i + (k + 1) = 43 → ls_I c a1 a2 a3 a4 a5 a6 a7 a8 a9 a13 a14 a15 sq r d W D → n ≠ r → (top = 0 ∨ (top = r ∧ ls_rd a3 n ≠ r)) → ls_cp a8 a9 sq n → i + 1 ≤ (sq n).length →
        wX_lift_98 post (wX_lift_2 post n top (k + 1)) n top (nI i) fs fr fe fc fm fx fy fz a1 a2 a3 a4 a5 a6 a7 a8 a9 a10 a11 a12 a13 a14 a15 a16 a17 a18 a19 := by
      intro i sq r fx fy fz a1 a2 a3 a4 a10 a11 a12 a13 a14 a15 hk hI nr ht cp hi
      refine ls_rotn fs fr fe fc fm fx fy fz a1 a2 a3 a4 a5 a6 a7 a8 a9 a10 a11 a12 a13 a14 a15 a16 a17 a18 a19 hc0 hc hcap hI hn nr cp (fun sq' r' ex ey ez b1 b2 b3 b4 b10 b11 b12 b13 b14 b15 hI' ra cp' lt => nm_r (nI_1 i) ?_)
      refine ih (i + 1) sq' r' ex ey ez b1 b2 b3 b4 b10 b11 b12 b13 b14 b15 (by omega) hI' ?_ cp' (by omega)
      rcases ht with ht | ⟨ht, hq⟩
      · exact Or.inl ht
      · have e : r' = r := by rw [ra.1, if_neg hq]
        rw [e]; exact Or.inr ⟨ht, nr⟩
    intro i sq r fx fy fz a1 a2 a3 a4 a10 a11 a12 a13 a14 a15 hk hI ht cp hi
    have nT := ls_I_T hI hn
    have Sn := ls_L_S hI.1.1 nT
    refine pk_le 43 i (fun z => ?_) (fun _ => ⟨Sn.1.1, nm_r (show a3 n.toNatClampNeg = ls_rd a3 n from rfl) (br_c (fun z => ?_) (fun z => ?_))⟩)
    · have := (hI.1.2 n (Or.inr nT)).2.1
      exact absurd z (by omega)
    · exact hp sq r fx fy fz a1 a2 a3 a4 a10 a11 a12 a13 a14 a15 hI z (ht.imp id (fun w => w.1)) cp
    have nr : n ≠ r := by
      rcases ht with ht | ht
      · intro w; exact z (by rw [w, ht]; exact hI.2.2.2.1)
      · exact ht.2
    obtain ⟨b, hb, hpW⟩ := ls_I_up hI hn nr
    have pT := ls_I_T hI hpW
    have Sp := ls_L_S hI.1.1 pT
    have ht' : top = 0 ∨ (top = r ∧ ls_rd a3 n ≠ r) := ht.imp id (fun w => ⟨w.1, fun v => z (by rw [v, w.1])⟩)
    refine ⟨Sp.1.1, nm_r (show a3 (ls_rd a3 n).toNatClampNeg = ls_rd a3 (ls_rd a3 n) from rfl) (br_c (fun zg => ?_) (fun zg => ?_))⟩
    · exact R98 i sq r fx fy fz a1 a2 a3 a4 a10 a11 a12 a13 a14 a15 hk hI nr ht' cp hi
    have pr : ls_rd a3 n ≠ r := by
      rcases ht' with w | w
      · intro v; exact zg (by rw [v, w]; exact hI.2.2.2.1)
      · exact w.2
    obtain ⟨bg, hbg, hgW⟩ := ls_I_up hI hpW pr
    have gT := ls_I_T hI hgW
    have Sg := ls_L_S hI.1.1 gT
    have R95n : wX_lift_95 post (wX_lift_2 post n top (k + 1)) n top (nI i) n fs fr fe fc fm fx fy fz a1 a2 a3 a4 a5 a6 a7 a8 a9 a10 a11 a12 a13 a14 a15 a16 a17 a18 a19 := by
      refine ls_rotn fs fr fe fc fm fx fy fz a1 a2 a3 a4 a5 a6 a7 a8 a9 a10 a11 a12 a13 a14 a15 a16 a17 a18 a19 hc0 hc hcap hI hn nr cp (fun sq' r' ex ey ez b1 b2 b3 b4 b10 b11 b12 b13 b14 b15 hI' ra cp' lt => ?_)
      have e : r' = r := by rw [ra.1, if_neg pr]
      refine R98 i sq' r' ex ey ez b1 b2 b3 b4 b10 b11 b12 b13 b14 b15 hk hI' (by rw [e]; exact nr) ?_ cp' (by omega)
      refine ht.imp id (fun w => ⟨by rw [e]; exact w.1, fun v => zg ?_⟩)
      rw [ra.2.2.2.1, e] at v
      rw [v]; exact w.1.symm
    have R95p : wX_lift_95 post (wX_lift_2 post n top (k + 1)) n top (nI i) (ls_rd a3 n) fs fr fe fc fm fx fy fz a1 a2 a3 a4 a5 a6 a7 a8 a9 a10 a11 a12 a13 a14 a15 a16 a17 a18 a19 := by
      have nP : n ∈ ls_id (sq (ls_rd a3 n)) := (ls_S_mem Sp n).mpr (Or.inr ⟨b, by rw [hb]; exact ls_self hI.1.1 nT⟩)
      have pG : ls_rd a3 n ∈ ls_id (sq (ls_rd a3 (ls_rd a3 n))) := (ls_S_mem Sg _).mpr (Or.inr ⟨bg, by rw [hbg]; exact ls_self hI.1.1 pT⟩)
      have nG := ls_sub_sub hI.1.1 pG nP
      have lnp : (sq n).length < (sq (ls_rd a3 n)).length := by have := ls_S_lt Sp b; rw [hb] at this; exact this
      have lpg : (sq (ls_rd a3 n)).length < (sq (ls_rd a3 (ls_rd a3 n))).length := by have := ls_S_lt Sg bg; rw [hbg] at this; exact this
      have np : n ≠ ls_rd a3 n := fun v => by rw [← v] at lnp; omega
      have ng : n ≠ ls_rd a3 (ls_rd a3 n) := fun v => by rw [← v] at lpg; omega
      refine ls_rotate fs fr fe fc fm fx fy fz a1 a2 a3 a4 a5 a6 a7 a8 a9 a10 a11 a12 a13 a14 a15 a16 a17 a18 a19 hc0 hc hcap hI hpW pr (cp _ nP).1 (cp _ nP).2 (cp _ nG).1 (cp _ nG).2 (fun sq' r' ex ey ez b1 b2 b3 b4 b10 b11 b12 b13 b14 b15 hI' ra => ?_)
      have en : sq' n = sq n := ra.2.2.1 n np ng
      have nr' : n ≠ r' := by
        rw [ra.1]
        split
        · exact np
        · exact nr
      refine R98 i sq' r' ex ey ez b1 b2 b3 b4 b10 b11 b12 b13 b14 b15 hk hI' nr' ?_ (fun y hy => ?_) (by rw [en]; exact hi)
      · refine ht.imp id (fun w => ?_)
        have gr : ls_rd a3 (ls_rd a3 n) ≠ r := fun v => zg (by rw [v]; exact w.1.symm)
        have e : r' = r := by rw [ra.1, if_neg gr]
        rw [e]
        refine ⟨w.1, ?_⟩
        rcases ra.2.2.2.2 n np ng with v | v
        · rw [v]; exact pr
        · rw [v]; exact gr
      · by_cases y1 : y = ls_rd a3 n
        · rw [y1]; exact cp _ nP
        · by_cases y2 : y = ls_rd a3 (ls_rd a3 n)
          · rw [y2]; exact cp _ nG
          · rw [ra.2.2.1 y y1 y2] at hy; exact cp y hy
    have R81 : ∀ z0 : Int32, wX_lift_81 post (wX_lift_2 post n top (k + 1)) n top (nI i) (ls_rd a3 n) z0 fs fr fe fc fm fx fy fz a1 a2 a3 a4 a5 a6 a7 a8 a9 a10 a11 a12 a13 a14 a15 a16 a17 a18 a19 := fun z0 => br_c (fun _ => R95n) (fun _ => R95p)
    have R73 : ∀ z0 z1 : Int32, wX_lift_73 post (wX_lift_2 post n top (k + 1)) n top (nI i) (ls_rd a3 n) z0 z1 fs fr fe fc fm fx fy fz a1 a2 a3 a4 a5 a6 a7 a8 a9 a10 a11 a12 a13 a14 a15 a16 a17 a18 a19 := fun z0 z1 => br_c (fun _ => R81 _) (fun _ => R81 _)
    have R57 : ∀ z0 : Int32, wX_lift_57 post (wX_lift_2 post n top (k + 1)) n top (nI i) (ls_rd a3 n) z0 fs fr fe fc fm fx fy fz a1 a2 a3 a4 a5 a6 a7 a8 a9 a10 a11 a12 a13 a14 a15 a16 a17 a18 a19 := fun z0 => ⟨Sp.1.1, br_c (fun _ => R73 _ _) (fun _ => R73 _ _)⟩
    exact ⟨Sg.1.1, br_c (fun _ => R57 _) (fun _ => R57 _)⟩
/-- lift to the root -/
theorem ls_lift0 {post : St2 → Prop} (fs fr fe fc fm fx fy fz : Int32) (a1 a2 a3 a4 a5 a6 a7 a8 a9 a10 a11 a12 a13 a14 a15 a16 a17 a18 a19 : Nat → Int32) {n r d : Int32} {c : Int} {sq : Int32 → List ls_E} {W D : List ls_E} (hc0 : 0 ≤ c) (hc : c ≤ 60) (hcap : fc.toInt = c) (hn : n ∈ ls_id W) (hI : ls_I c a1 a2 a3 a4 a5 a6 a7 a8 a9 a13 a14 a15 sq r d W D) (cp : ls_cp a8 a9 sq n)
    (hp : ∀ (sq : Int32 → List ls_E) (fx fy fz : Int32) (a1 a2 a3 a4 a10 a11 a12 a13 a14 a15 : Nat → Int32), ls_I c a1 a2 a3 a4 a5 a6 a7 a8 a9 a13 a14 a15 sq n d W D → post (fs, n, fe, fc, fm, fx, fy, fz, a1, a2, a3, a4, a5, a6, a7, a8, a9, a10, a11, a12, a13, a14, a15, a16, a17, a18, a19)) :
    wpX_lift post (fs, fr, fe, fc, fm, fx, fy, fz, a1, a2, a3, a4, a5, a6, a7, a8, a9, a10, a11, a12, a13, a14, a15, a16, a17, a18, a19) n 0 := by
  refine ⟨44, ls_lift_lp fs fr fe fc fm a5 a6 a7 a8 a9 a16 a17 a18 a19 hc0 hc hcap hn (fun sq r fx fy fz a1 a2 a3 a4 a10 a11 a12 a13 a14 a15 hI hu _ cp => br_t rfl (hp sq fx fy fz a1 a2 a3 a4 a10 a11 a12 a13 a14 a15 ?_)) 43 0 sq r fx fy fz a1 a2 a3 a4 a10 a11 a12 a13 a14 a15 (by omega) hI (Or.inl rfl) cp ?_⟩
  · have e : n = r := by
      by_cases z : n = r
      · exact z
      · obtain ⟨_, _, w⟩ := ls_I_up hI hn z
        rw [hu] at w
        exact absurd hI.1.1.1 (ls_I_T hI w)
    rw [e]; exact hI
  · exact List.length_pos_iff.mpr (ls_I_T hI hn)
/-- lift below the root -/
theorem ls_liftr {post : St2 → Prop} (fs fr fe fc fm fx fy fz : Int32) (a1 a2 a3 a4 a5 a6 a7 a8 a9 a10 a11 a12 a13 a14 a15 a16 a17 a18 a19 : Nat → Int32) {n r d : Int32} {c : Int} {sq : Int32 → List ls_E} {W D : List ls_E} (hc0 : 0 ≤ c) (hc : c ≤ 60) (hcap : fc.toInt = c) (hn : n ∈ ls_id W) (nr : n ≠ r) (hI : ls_I c a1 a2 a3 a4 a5 a6 a7 a8 a9 a13 a14 a15 sq r d W D) (cp : ls_cp a8 a9 sq n)
    (hp : ∀ (sq : Int32 → List ls_E) (fx fy fz : Int32) (a1 a2 a3 a4 a10 a11 a12 a13 a14 a15 : Nat → Int32), ls_I c a1 a2 a3 a4 a5 a6 a7 a8 a9 a13 a14 a15 sq r d W D → ls_rd a3 n = r → ls_cp a8 a9 sq n → post (fs, fr, fe, fc, fm, fx, fy, fz, a1, a2, a3, a4, a5, a6, a7, a8, a9, a10, a11, a12, a13, a14, a15, a16, a17, a18, a19)) :
    wpX_lift post (fs, fr, fe, fc, fm, fx, fy, fz, a1, a2, a3, a4, a5, a6, a7, a8, a9, a10, a11, a12, a13, a14, a15, a16, a17, a18, a19) n r := by
  have r0 := (ls_I_r hI).1
  refine ⟨44, ls_lift_lp fs fr fe fc fm a5 a6 a7 a8 a9 a16 a17 a18 a19 hc0 hc hcap hn (fun sq r' fx fy fz a1 a2 a3 a4 a10 a11 a12 a13 a14 a15 hI hu hr cp => br_f r0 (hp sq fx fy fz a1 a2 a3 a4 a10 a11 a12 a13 a14 a15 ?_ hu cp)) 43 0 sq r fx fy fz a1 a2 a3 a4 a10 a11 a12 a13 a14 a15 (by omega) hI (Or.inr ⟨rfl, nr⟩) cp ?_⟩
  · rcases hr with hr | hr
    · exact absurd hr r0
    · rw [hr]; exact hI
  · exact List.length_pos_iff.mpr (ls_I_T hI hn)
theorem ls_pos : ∀ (A A' : List ls_E) {B B' : List ls_E} {e e' : ls_E}, A ++ e :: B = A' ++ e' :: B' → (ls_id (A ++ e :: B)).Nodup → e.1 = e'.1 → A = A' ∧ e = e' ∧ B = B' := by
  intro A
  induction A with
  | nil =>
    intro A' B B' e e' h nd he
    cases A' with
    | nil =>
      obtain ⟨h1, h2⟩ := List.cons.inj h
      exact ⟨rfl, h1, h2⟩
    | cons y A' =>
      obtain ⟨h1, h2⟩ := List.cons.inj h
      have nd' : (e.1 :: ls_id B).Nodup := nd
      refine absurd ?_ (List.nodup_cons.mp nd').1
      show e.1 ∈ ls_id B
      rw [show B = A' ++ e' :: B' from h2, ls_id_app, he]
      exact List.mem_append_right _ (List.mem_cons_self)
  | cons x A ih =>
    intro A' B B' e e' h nd he
    have nd' : (x.1 :: ls_id (A ++ e :: B)).Nodup := nd
    cases A' with
    | nil =>
      obtain ⟨h1, h2⟩ := List.cons.inj h
      refine absurd ?_ (List.nodup_cons.mp nd').1
      rw [h1, ← he, ls_id_app]
      exact List.mem_append_right _ (List.mem_cons_self)
    | cons y A' =>
      obtain ⟨h1, h2⟩ := List.cons.inj h
      obtain ⟨i1, i2, i3⟩ := ih A' h2 (List.nodup_cons.mp nd').2 he
      exact ⟨by rw [h1, i1], i2, i3⟩
/-- a block is isolated: o the root, q its right child, m q's left child -/
def ls_Iso (a1 a2 a8 a9 : Nat → Int32) (sq : Int32 → List ls_E) (o q m : Int32) (A M B : List ls_E) (eo eq : ls_E) : Prop :=
  eo.1 = o ∧ eq.1 = q ∧ ls_rd a2 o = q ∧ ls_rd a1 q = m ∧ sq m = M ∧ sq q = M ++ eq :: B ∧ sq (ls_rd a1 o) = A ∧ sq (ls_rd a2 q) = B ∧ (ls_rd a8 o = 0 ∧ ls_rd a9 o = 2) ∧ (ls_rd a8 q = 0 ∧ ls_rd a9 q = 2)
theorem ls_isolate {post : Int32 → St2 → Prop} (fs fr fe fc fm fx fy fz : Int32) (a1 a2 a3 a4 a5 a6 a7 a8 a9 a10 a11 a12 a13 a14 a15 a16 a17 a18 a19 : Nat → Int32) {d : Int32} {c : Int} {sq : Int32 → List ls_E} {W D : List ls_E} {f t : Nat} (hc0 : 0 ≤ c) (hc : c ≤ 60) (hcap : fc.toInt = c) (hI : ls_I c a1 a2 a3 a4 a5 a6 a7 a8 a9 a13 a14 a15 sq fr d W D) (hft : f ≤ t) (ht : t + 1 < W.length)
    (hp : ∀ (sq : Int32 → List ls_E) (fr q m fx fy fz : Int32) (a1 a2 a3 a4 a7 a8 a9 a10 a11 a12 a13 a14 a15 : Nat → Int32) (A M B : List ls_E) (eo eq : ls_E), ls_I c a1 a2 a3 a4 a5 a6 a7 a8 a9 a13 a14 a15 sq fr d W D → W = A ++ eo :: (M ++ eq :: B) → A.length = f → M.length = t - f →
      ls_Iso a1 a2 a8 a9 sq fr q m A M B eo eq → post m (fs, fr, fe, fc, fm, fx, fy, fz, a1, a2, a3, a4, a5, a6, a7, a8, a9, a10, a11, a12, a13, a14, a15, a16, a17, a18, a19)) :
    wpX_isolate post (fs, fr, fe, fc, fm, fx, fy, fz, a1, a2, a3, a4, a5, a6, a7, a8, a9, a10, a11, a12, a13, a14, a15, a16, a17, a18, a19) (nI f) (nI t) := by
  have nd : (ls_id W).Nodup := by
    have := hI.2.2.2.2.2.1
    rw [ls_id_app, List.nodup_append] at this
    exact this.1
  unfold wpX_isolate
  refine ls_seek fs fr fe fc fm fx fy fz a1 a2 a3 a4 a5 a6 a7 a8 a9 a10 a11 a12 a13 a14 a15 a16 a17 a18 a19 hcap hI (by omega) (fun o sq a1 a2 a7 a8 a9 a10 a12 a13 a14 a15 A eo B' hI hW ho hA cp => ?_)
  have oW : o ∈ ls_id W := by rw [hW, ls_id_app]; exact List.mem_append_right _ (by rw [← ho]; exact List.mem_cons_self)
  refine ls_lift0 fs fr fe fc fm fx fy fz a1 a2 a3 a4 a5 a6 a7 a8 a9 a10 a11 a12 a13 a14 a15 a16 a17 a18 a19 hc0 hc hcap oW hI cp (fun sq fx fy fz a1 a2 a3 a4 a10 a11 a12 a13 a14 a15 hI => ?_)
  show wpX_seek _ (fs, o, fe, fc, fm, fx, fy, fz, a1, a2, a3, a4, a5, a6, a7, a8, a9, a10, a11, a12, a13, a14, a15, a16, a17, a18, a19) (nI t + 1)
  rw [nI_1]
  refine ls_seek fs o fe fc fm fx fy fz a1 a2 a3 a4 a5 a6 a7 a8 a9 a10 a11 a12 a13 a14 a15 a16 a17 a18 a19 hcap hI ht (fun q sq a1 a2 a7 a8 a9 a10 a12 a13 a14 a15 A2 eq B hI hW2 hq hA2 cp => ?_)
  have qW : q ∈ ls_id W := by rw [hW2, ls_id_app]; exact List.mem_append_right _ (by rw [← hq]; exact List.mem_cons_self)
  have qo : q ≠ o := by
    intro z
    obtain ⟨w, _⟩ := ls_pos A A2 (hW.symm.trans hW2) (by rw [← hW]; exact nd) (by rw [ho, hq, z])
    rw [w] at hA; omega
  refine ls_liftr fs o fe fc fm fx fy fz a1 a2 a3 a4 a5 a6 a7 a8 a9 a10 a11 a12 a13 a14 a15 a16 a17 a18 a19 hc0 hc hcap qW qo hI cp (fun sq fx fy fz a1 a2 a3 a4 a10 a11 a12 a13 a14 a15 hI hu cp => ?_)
  have qT := ls_I_T hI qW
  have Sq := ls_L_S hI.1.1 qT
  have oT := ls_I_T hI oW
  have So := ls_L_S hI.1.1 oT
  have so : sq o = W := hI.2.1
  have co := cp o (by rw [so]; exact qW)
  have cq := cp q (ls_self hI.1.1 qT)
  have eo' : W = sq (ls_rd a1 o) ++ (o, ls_ev c a5 a6 a7 o) :: sq (ls_rd a2 o) := by
    have := So.2.2.1
    rw [co.1, co.2, ls_P_02, ls_P_02, so] at this
    exact this
  have eq' : sq q = sq (ls_rd a1 q) ++ (q, ls_ev c a5 a6 a7 q) :: sq (ls_rd a2 q) := by
    have := Sq.2.2.1
    rw [cq.1, cq.2, ls_P_02, ls_P_02] at this
    exact this
  obtain ⟨p1, p2, p3⟩ := ls_pos A _ (hW.symm.trans eo') (by rw [← hW]; exact nd) ho
  obtain ⟨b, hb, _⟩ := ls_I_up hI qW qo
  rw [hu] at hb
  have hb2 : ls_rd a2 o = q := by
    cases b
    · exfalso
      have hb' : ls_rd a1 o = q := hb
      rw [hb', eq'] at p1
      have e3 : W = sq (ls_rd a1 q) ++ (q, ls_ev c a5 a6 a7 q) :: (sq (ls_rd a2 q) ++ eo :: B') := by
        rw [hW, p1]; simp
      obtain ⟨w, _⟩ := ls_pos A2 _ (hW2.symm.trans e3) (by rw [← hW2]; exact nd) hq
      have l := congrArg List.length p1
      rw [List.length_append, List.length_cons, ← w] at l
      omega
    · exact hb
  rw [hb2] at eo' p3
  have e4 : W = (A ++ eo :: sq (ls_rd a1 q)) ++ (q, ls_ev c a5 a6 a7 q) :: sq (ls_rd a2 q) := by
    rw [hW, p3, eq']; simp
  obtain ⟨v1, v2, v3⟩ := ls_pos A2 _ (hW2.symm.trans e4) (by rw [← hW2]; exact nd) hq
  have l := congrArg List.length v1
  rw [List.length_append, List.length_cons] at l
  refine ⟨Sq.1.1, hp sq o q (ls_rd a1 q) fx fy fz a1 a2 a3 a4 a7 a8 a9 a10 a11 a12 a13 a14 a15 A (sq (ls_rd a1 q)) (sq (ls_rd a2 q)) eo (q, ls_ev c a5 a6 a7 q) hI ?_ hA (by omega) ⟨ho, rfl, hb2, rfl, rfl, eq', p1.symm, rfl, co, cq⟩⟩
  rw [e4]; simp
end
section
/-! hang -/
theorem ls_hang28 {post : St2 → Prop} (fs fr fe fc fm fx fy fz : Int32) (a1 a2 a3 a4 a5 a6 a7 a8 a9 a10 a11 a12 a13 a14 a15 a16 a17 a18 a19 : Nat → Int32) {o1 o3 : Nat → Int32} {n q d : Int32} {c : Int} {sq : Int32 → List ls_E} {X W : List ls_E} (hc0 : 0 ≤ c) (hc : c ≤ 60) (hcap : fc.toInt = c)
    (hV : ls_V c o1 a2 o3 a4 a5 a6 a7 a8 a9 a13 a14 a15 sq q) (oT : sq fr ≠ []) (qs : q ∈ ls_id (sq q)) (rto : ls_rd a2 fr = q) (uo : ls_rd o3 fr = 0) (co : ls_rd a8 fr = 0 ∧ ls_rd a9 fr = 2) (cq : ls_rd a8 q = 0 ∧ ls_rd a9 q = 2) (okq : ls_ok q) (qo : q ≠ fr)
    (hrq : ls_rd a2 q ≠ 0 → sq (ls_rd a2 q) ≠ [] ∧ ls_rd o3 (ls_rd a2 q) = q ∧ ls_rd a2 q ≠ q) (vq : ls_v c (ls_ev c a5 a6 a7 q).1) (vo : ls_v c (ls_ev c a5 a6 a7 fr).1)
    (hn : n ≠ 0 → sq n ≠ [] ∧ n ≠ q ∧ n ≠ fr ∧ ls_rd a2 q ≠ n ∧ ∀ x b, sq x ≠ [] → x ≠ q → ls_ch o1 a2 b x ≠ n)
    (ndX : (ls_id X).Nodup) (lX : X.length ≤ 42) (cov : ∀ x, sq x ≠ [] → x ∈ ls_id X)
    (hW : W = sq (ls_rd o1 fr) ++ (fr, ls_ev c a5 a6 a7 fr) :: (sq n ++ (q, ls_ev c a5 a6 a7 q) :: sq (ls_rd a2 q)))
    (hd : d ≠ 0 → sq d ≠ [] ∧ d ≠ fr ∧ d ≠ q) (perm : (ls_id (W ++ sq d)).Perm (ls_id X))
    (k1 : ls_rd a1 q = n) (k2 : ∀ x, x ≠ q → ls_rd a1 x = ls_rd o1 x) (k3 : n ≠ 0 → ls_rd a3 n = q) (k4 : ∀ x, (x = n → n = 0) → ls_rd a3 x = ls_rd o3 x)
    (hp : ∀ (sq' : Int32 → List ls_E) (ex ey ez : Int32) (b4 b10 b11 b12 b13 b14 b15 : Nat → Int32), ls_I c a1 a2 a3 b4 a5 a6 a7 a8 a9 b13 b14 b15 sq' fr d W (sq d) → post (fs, fr, fe, fc, fm, ex, ey, ez, a1, a2, a3, b4, a5, a6, a7, a8, a9, b10, b11, b12, b13, b14, b15, a16, a17, a18, a19)) :
    wX_hang_28 post q fs fr fe fc fm fx fy fz a1 a2 a3 a4 a5 a6 a7 a8 a9 a10 a11 a12 a13 a14 a15 a16 a17 a18 a19 := by
  have q0 := okq.2
  have So := hV.1.2 fr oT (Ne.symm qo)
  have o0 : fr ≠ 0 := So.1.2
  have slf : ∀ y, sq y ≠ [] → y ∈ ls_id (sq y) := by
    intro y hy
    by_cases z : y = q
    · rw [z]; exact qs
    · exact ls_S_self (hV.1.2 y hy z)
  have uq : ls_rd o3 q = fr := by
    have := (So.2.1 true (show ls_rd a2 fr ≠ 0 by rw [rto]; exact q0)).2
    rw [ls_ch_t, rto] at this; exact this
  have ndW : (ls_id W).Nodup := by
    have := perm.nodup_iff.mpr ndX
    rw [ls_id_app, List.nodup_append] at this
    exact this.1
  have lenW : W.length + (sq d).length ≤ 42 := by
    have := perm.length_eq
    rw [ls_len_id, ls_len_id, List.length_append] at this
    omega
  generalize hQ' : sq n ++ (q, ls_ev c a5 a6 a7 q) :: sq (ls_rd a2 q) = Q at hW
  have Qne : Q ≠ [] := by rw [← hQ']; simp
  have Wne : W ≠ [] := by rw [hW]; simp
  have lenQ : Q.length ≤ 42 := by
    have := congrArg List.length hW
    rw [List.length_append, List.length_cons] at this
    omega
  have ndQ : (ls_id Q).Nodup := by
    refine List.Nodup.sublist ?_ ndW
    rw [hW]
    exact List.Sublist.map _ ((List.sublist_cons_self _ Q).trans (List.sublist_append_right _ _))
  have so : ls_up (ls_up sq q Q) fr W fr = W := ls_up_m
  have sqq : ls_up (ls_up sq q Q) fr W q = Q := by rw [ls_up_x qo, ls_up_m]
  have sy : ∀ y, y ≠ fr → y ≠ q → ls_up (ls_up sq q Q) fr W y = sq y := fun y h1 h2 => by rw [ls_up_x h1, ls_up_x h2]
  have s0 : ls_up (ls_up sq q Q) fr W 0 = [] := by rw [sy 0 (Ne.symm o0) (Ne.symm q0)]; exact hV.1.1
  have sn : ls_up (ls_up sq q Q) fr W n = sq n := by
    by_cases z : n = 0
    · rw [z, s0, hV.1.1]
    · exact sy n (hn z).2.2.1 (hn z).2.1
  have rfr : ls_rd a2 q ≠ 0 → ls_rd a2 q ≠ fr := by
    intro z w
    have u := (hrq z).2.1
    rw [w, uo] at u
    exact q0 u.symm
  have sr : ls_up (ls_up sq q Q) fr W (ls_rd a2 q) = sq (ls_rd a2 q) := by
    by_cases z : ls_rd a2 q = 0
    · rw [z, s0, hV.1.1]
    · exact sy _ (rfr z) (hrq z).2.2
  have dis : ls_rd o1 fr ≠ 0 → ls_rd o1 fr ≠ q := fun z => by
    have := ls_S_dis slf So z
    rw [ls_ch_t, rto] at this; exact this
  have sl : ls_up (ls_up sq q Q) fr W (ls_rd o1 fr) = sq (ls_rd o1 fr) := by
    by_cases z : ls_rd o1 fr = 0
    · rw [z, s0, hV.1.1]
    · exact sy _ (ls_S_ne So false) (dis z)
  have ncx : ∀ x b, sq x ≠ [] → x ≠ q → ls_ch o1 a2 b x ≠ 0 → ls_rd a3 (ls_ch o1 a2 b x) = ls_rd o3 (ls_ch o1 a2 b x) := by
    intro x b hx xq h0
    refine k4 _ (fun e => ?_)
    by_cases z : n = 0
    · exact z
    · exact absurd e ((hn z).2.2.2.2 x b hx xq)
  have L' : ls_L (ls_ch a1 a2) (ls_rd a3) (ls_rd a8) (ls_rd a9) (ls_ev c a5 a6 a7) (ls_up (ls_up sq q Q) fr W) 0 := by
    refine ⟨s0, fun x hx _ => ?_⟩
    by_cases xo : x = fr
    · rw [xo]
      refine ⟨So.1, fun b hb => ?_, ?_, ?_⟩
      · cases b
        · have hb' : ls_rd a1 fr ≠ 0 := hb
          rw [k2 fr (Ne.symm qo)] at hb'
          rw [ls_ch_f, k2 fr (Ne.symm qo), sl]
          exact ⟨(So.2.1 false hb').1, (ncx fr false oT (Ne.symm qo) hb').trans (So.2.1 false hb').2⟩
        · rw [ls_ch_t, rto, sqq]
          refine ⟨Qne, ?_⟩
          have := ncx fr true oT (Ne.symm qo) (by rw [ls_ch_t, rto]; exact q0)
          rw [ls_ch_t, rto] at this
          rw [this]; exact uq
      · rw [co.1, co.2, ls_P_02, ls_P_02, ls_ch_f, ls_ch_t, k2 fr (Ne.symm qo), rto, sl, sqq, so]
        exact hW
      · rw [so]; exact ndW
    · by_cases xq : x = q
      · rw [xq]
        refine ⟨okq, fun b hb => ?_, ?_, ?_⟩
        · cases b
          · have hb' : ls_rd a1 q ≠ 0 := hb
            rw [k1] at hb'
            rw [ls_ch_f, k1, sn]
            exact ⟨(hn hb').1, k3 hb'⟩
          · have hb' : ls_rd a2 q ≠ 0 := hb
            rw [ls_ch_t, sr]
            refine ⟨(hrq hb').1, ?_⟩
            rw [k4 _ (fun e => ?_)]
            · exact (hrq hb').2.1
            · by_cases z : n = 0
              · exact z
              · exact absurd e (hn z).2.2.2.1
        · rw [cq.1, cq.2, ls_P_02, ls_P_02, ls_ch_f, ls_ch_t, k1, sn, sr, sqq]
          exact hQ'.symm
        · rw [sqq]; exact ndQ
      · rw [sy x xo xq] at hx
        have Sx := hV.1.2 x hx xq
        refine ls_S_congr Sx (fun b => ?_) rfl rfl rfl (sy x xo xq) (fun b => ?_) (fun b hb => ncx x b hx xq hb)
        · cases b
          · exact k2 x xq
          · rfl
        · by_cases z : ls_ch o1 a2 b x = 0
          · rw [z, s0, hV.1.1]
          · have u := (Sx.2.1 b z).2
            refine sy _ (fun w => ?_) (fun w => ?_)
            · rw [w, uo] at u; exact Sx.1.2 u.symm
            · rw [w, uq] at u; exact xo u.symm
  refine ls_pullL fs fr fe fc fm fx fy fz a1 a2 a3 a4 a5 a6 a7 a8 a9 a10 a11 a12 a13 a14 a15 a16 a17 a18 a19 (n := q) hc0 hc hcap L' (by rw [sqq]; exact Qne) cq.1 cq.2 (fun b => ?_) (by rw [sqq]; exact lenQ) vq (fun ex ey ez b4 b10 b11 b12 b13 b14 b15 f1 q1 => ?_)
  · cases b
    · rw [ls_ch_f, k1, sn]
      by_cases z : n = 0
      · exact hV.2 _ (Or.inl z)
      · exact hV.2 _ (Or.inr (hn z).1)
    · rw [ls_ch_t, sr]
      by_cases z : ls_rd a2 q = 0
      · exact hV.2 _ (Or.inl z)
      · exact hV.2 _ (Or.inr (hrq z).1)
  refine ls_pullL fs fr fe fc fm ex ey ez a1 a2 a3 b4 a5 a6 a7 a8 a9 b10 b11 b12 b13 b14 b15 a16 a17 a18 a19 (n := fr) hc0 hc hcap L' (by rw [so]; exact Wne) co.1 co.2 (fun b => ?_) (by rw [so]; omega) vo (fun ex ey ez d4 d10 d11 d12 d13 d14 d15 f2 q2 => ?_)
  · cases b
    · rw [ls_ch_f, k2 fr (Ne.symm qo), sl]
      by_cases z : ls_rd o1 fr = 0
      · exact f1 _ _ (by rw [z]; exact Ne.symm q0) (hV.2 _ (Or.inl z))
      · exact f1 _ _ (dis z) (hV.2 _ (Or.inr (So.2.1 false z).1))
    · rw [ls_ch_t, rto]; exact q1
  have sd : ls_up (ls_up sq q Q) fr W d = sq d := by
    by_cases z : d = 0
    · rw [z, s0, hV.1.1]
    · exact sy d (hd z).2.1 (hd z).2.2
  have qT : sq q ≠ [] := ls_mem_ne qs
  refine hp (ls_up (ls_up sq q Q) fr W) ex ey ez d4 d10 d11 d12 d13 d14 d15 ⟨⟨L', fun x hx => ?_⟩, so, sd, ?_, Wne, perm.nodup_iff.mpr ndX, lenW, fun x hx => ?_, fun z => (hd z).1⟩
  · by_cases xo : x = fr
    · rw [xo]; exact q2
    · by_cases xq : x = q
      · rw [xq]; exact f2 _ _ qo q1
      · rw [sy x xo xq] at hx ⊢
        exact f2 _ _ xo (f1 _ _ xq (hV.2 x hx))
  · rw [k4 fr (fun e => ?_)]
    · exact uo
    · by_cases z : n = 0
      · exact z
      · exact absurd e.symm (hn z).2.2.1
  · refine perm.mem_iff.mpr (cov x ?_)
    by_cases xo : x = fr
    · rw [xo]; exact oT
    · by_cases xq : x = q
      · rw [xq]; exact qT
      · rw [sy x xo xq] at hx; exact hx
theorem ls_hang {post : St2 → Prop} (fs fr fe fc fm fx fy fz : Int32) (a1 a2 a3 a4 a5 a6 a7 a8 a9 a10 a11 a12 a13 a14 a15 a16 a17 a18 a19 : Nat → Int32) {n q d : Int32} {c : Int} {sq : Int32 → List ls_E} {X W : List ls_E} (hc0 : 0 ≤ c) (hc : c ≤ 60) (hcap : fc.toInt = c)
    (hV : ls_V c a1 a2 a3 a4 a5 a6 a7 a8 a9 a13 a14 a15 sq q) (oT : sq fr ≠ []) (qs : q ∈ ls_id (sq q)) (rto : ls_rd a2 fr = q) (uo : ls_rd a3 fr = 0) (co : ls_rd a8 fr = 0 ∧ ls_rd a9 fr = 2) (cq : ls_rd a8 q = 0 ∧ ls_rd a9 q = 2) (okq : ls_ok q) (qo : q ≠ fr)
    (hrq : ls_rd a2 q ≠ 0 → sq (ls_rd a2 q) ≠ [] ∧ ls_rd a3 (ls_rd a2 q) = q ∧ ls_rd a2 q ≠ q) (vq : ls_v c (ls_ev c a5 a6 a7 q).1) (vo : ls_v c (ls_ev c a5 a6 a7 fr).1)
    (hn : n ≠ 0 → sq n ≠ [] ∧ n ≠ q ∧ n ≠ fr ∧ ls_rd a2 q ≠ n ∧ ∀ x b, sq x ≠ [] → x ≠ q → ls_ch a1 a2 b x ≠ n)
    (ndX : (ls_id X).Nodup) (lX : X.length ≤ 42) (cov : ∀ x, sq x ≠ [] → x ∈ ls_id X)
    (hW : W = sq (ls_rd a1 fr) ++ (fr, ls_ev c a5 a6 a7 fr) :: (sq n ++ (q, ls_ev c a5 a6 a7 q) :: sq (ls_rd a2 q)))
    (hd : d ≠ 0 → sq d ≠ [] ∧ d ≠ fr ∧ d ≠ q) (perm : (ls_id (W ++ sq d)).Perm (ls_id X))
    (hp : ∀ (sq' : Int32 → List ls_E) (ex ey ez : Int32) (b1 b3 b4 b10 b11 b12 b13 b14 b15 : Nat → Int32), ls_I c b1 a2 b3 b4 a5 a6 a7 a8 a9 b13 b14 b15 sq' fr d W (sq d) → post (fs, fr, fe, fc, fm, ex, ey, ez, b1, a2, b3, b4, a5, a6, a7, a8, a9, b10, b11, b12, b13, b14, b15, a16, a17, a18, a19)) :
    wpX_hang post (fs, fr, fe, fc, fm, fx, fy, fz, a1, a2, a3, a4, a5, a6, a7, a8, a9, a10, a11, a12, a13, a14, a15, a16, a17, a18, a19) n := by
  have So := hV.1.2 fr oT (Ne.symm qo)
  have k1 : ls_rd (upd a1 q.toNatClampNeg n) q = n := ls_rd_us
  have k2 : ∀ x, x ≠ q → ls_rd (upd a1 q.toNatClampNeg n) x = ls_rd a1 x := fun x hx => ls_rd_un okq hx
  refine ⟨So.1.1, nm_r (show a2 fr.toNatClampNeg = q from rto) ⟨okq.1, nm_e (br_c (fun z => ?_) (fun z => ?_))⟩⟩
  · exact ls_hang28 fs fr fe fc fm fx fy fz (upd a1 q.toNatClampNeg n) a2 a3 a4 a5 a6 a7 a8 a9 a10 a11 a12 a13 a14 a15 a16 a17 a18 a19 hc0 hc hcap hV oT qs rto uo co cq okq qo hrq vq vo hn ndX lX cov hW hd perm k1 k2 (fun w => absurd z w) (fun _ _ => rfl)
      (fun sq' ex ey ez b4 b10 b11 b12 b13 b14 b15 h => hp sq' ex ey ez _ _ b4 b10 b11 b12 b13 b14 b15 h)
  · have okn := (hV.1.2 n (hn z).1 (hn z).2.1).1
    refine ⟨okn.1, nm_e ?_⟩
    exact ls_hang28 fs fr fe fc fm fx fy fz (upd a1 q.toNatClampNeg n) a2 (upd a3 n.toNatClampNeg q) a4 a5 a6 a7 a8 a9 a10 a11 a12 a13 a14 a15 a16 a17 a18 a19 hc0 hc hcap hV oT qs rto uo co cq okq qo hrq vq vo hn ndX lX cov hW hd perm k1 k2 (fun w => ls_rd_us) (fun x hx => ls_rd_un okn (fun e => z (hx e)))
      (fun sq' ex ey ez b4 b10 b11 b12 b13 b14 b15 h => hp sq' ex ey ez _ _ b4 b10 b11 b12 b13 b14 b15 h)
end
section
/-! what an isolated block gives -/
theorem ls_iso_f {c : Int} {a1 a2 a3 a4 a5 a6 a7 a8 a9 a13 a14 a15 : Nat → Int32} {sq : Int32 → List ls_E} {fr d q m : Int32} {W D A M B : List ls_E} {eo eq : ls_E}
    (hI : ls_I c a1 a2 a3 a4 a5 a6 a7 a8 a9 a13 a14 a15 sq fr d W D) (hW : W = A ++ eo :: (M ++ eq :: B)) (iso : ls_Iso a1 a2 a8 a9 sq fr q m A M B eo eq) :
    sq fr ≠ [] ∧ q ∈ ls_id (sq q) ∧ ls_ok q ∧ q ≠ fr ∧ (ls_rd a2 q ≠ 0 → sq (ls_rd a2 q) ≠ [] ∧ ls_rd a3 (ls_rd a2 q) = q ∧ ls_rd a2 q ≠ q) ∧ ls_v c (ls_tr c (ls_rd a5 q) (ls_rd a6 q)) ∧ ls_v c (ls_tr c (ls_rd a5 fr) (ls_rd a6 fr)) ∧
      (m ≠ 0 → sq m ≠ [] ∧ ls_rd a3 m = q ∧ m ≠ q ∧ m ≠ fr ∧ ls_rd a2 q ≠ m) ∧ q ∈ ls_id W ∧ (m ≠ 0 → ls_rd a1 fr ≠ m) ∧ sq q ≠ [] := by
  obtain ⟨i1, i2, i3, i4, i5, i6, i7, i8, i9, i10⟩ := iso
  obtain ⟨hV, h1, h2, h3, h4, h5, h6, h7, h8⟩ := hI
  have oT : sq fr ≠ [] := by rw [h1]; exact h4
  have qT : sq q ≠ [] := by rw [i6]; simp
  have So := ls_L_S hV.1 oT
  have Sq := ls_L_S hV.1 qT
  have q0 := Sq.1.2
  have uq : ls_rd a3 q = fr := by
    have := (So.2.1 true (show ls_rd a2 fr ≠ 0 by rw [i3]; exact q0)).2
    rw [ls_ch_t, i3] at this; exact this
  have qo : q ≠ fr := fun z => by rw [z, h3] at uq; exact So.1.2 uq.symm
  have hm : m ≠ 0 → sq m ≠ [] ∧ ls_rd a3 m = q := by
    intro z
    have := Sq.2.1 false (show ls_rd a1 q ≠ 0 by rw [i4]; exact z)
    rw [ls_ch_f, i4] at this; exact this
  refine ⟨oT, ls_self hV.1 qT, Sq.1, qo, fun z => ⟨(Sq.2.1 true z).1, (Sq.2.1 true z).2, ls_S_ne Sq true⟩, ?_, ?_, fun z => ⟨(hm z).1, (hm z).2, ?_, ?_, ?_⟩, ?_, fun z w => ?_, qT⟩
  · refine (hV.2 q (Or.inr qT)).2.2.1 (q, ls_ev c a5 a6 a7 q) ?_
    rw [Sq.2.2.1]; simp
  · refine (hV.2 fr (Or.inr oT)).2.2.1 (fr, ls_ev c a5 a6 a7 fr) ?_
    rw [So.2.2.1]; simp
  · rw [← i4]; exact ls_S_ne Sq false
  · intro w
    have u := (hm z).2
    rw [w, h3] at u
    exact q0 u.symm
  · have := ls_S_dis (fun y hy => ls_self hV.1 hy) Sq (show ls_rd a1 q ≠ 0 by rw [i4]; exact z)
    rw [ls_ch_f, ls_ch_t, i4] at this
    exact Ne.symm this
  · rw [hW, ls_id_app]
    refine List.mem_append_right _ (List.mem_cons_of_mem _ ?_)
    show q ∈ ls_id (M ++ eq :: B)
    rw [ls_id_app]
    exact List.mem_append_right _ (by rw [← i2]; exact List.mem_cons_self)
  · have u := (So.2.1 false (show ls_rd a1 fr ≠ 0 by rw [w]; exact z)).2
    rw [ls_ch_f, w, (hm z).2] at u
    exact qo u
theorem ls_id_3 (A M B : List ls_E) (x y : Int32) (t u : ls_T × Bool) : ls_id (A ++ (x, t) :: (M ++ (y, u) :: B)) = ls_id A ++ x :: (ls_id M ++ y :: ls_id B) := by
  rw [ls_id_app]
  show ls_id A ++ x :: ls_id (M ++ (y, u) :: B) = _
  rw [ls_id_app]; rfl
theorem ls_id_3' (A M B : List ls_E) (e g : ls_E) : ls_id (A ++ e :: (M ++ g :: B)) = ls_id A ++ e.1 :: (ls_id M ++ g.1 :: ls_id B) := ls_id_3 A M B e.1 g.1 e.2 g.2
/-- the block comes back, turned or painted -/
theorem ls_rehang {post : St2 → Prop} (fs fr fe fc fm fx fy fz : Int32) (a1 a2 a3 a4 a5 a6 a7 a8 a9 a10 a11 a12 a13 a14 a15 a16 a17 a18 a19 : Nat → Int32) {o1 o2 o7 o8 o9 o13 o14 o15 : Nat → Int32} {q m : Int32} {c : Int} {sq sq1 : Int32 → List ls_E} {W A M B : List ls_E} {eo eq : ls_E} (hc0 : 0 ≤ c) (hc : c ≤ 60) (hcap : fc.toInt = c)
    (hI : ls_I c o1 o2 a3 a4 a5 a6 o7 o8 o9 o13 o14 o15 sq fr 0 W []) (hW : W = A ++ eo :: (M ++ eq :: B)) (iso : ls_Iso o1 o2 o8 o9 sq fr q m A M B eo eq)
    (V1 : ls_V c a1 a2 a3 a4 a5 a6 a7 a8 a9 a13 a14 a15 sq1 q) (f1 : ∀ x, x ≠ m → sq1 x = sq x) (g1 : (ls_id (sq1 m)).Perm (ls_id (sq m))) (r1 : ls_ag m o1 a1) (r2 : ls_ag m o2 a2) (r8 : ls_ag m o8 a8) (r9 : ls_ag m o9 a9)
    (hp : ∀ (sq' : Int32 → List ls_E) (W' : List ls_E) (ex ey ez : Int32) (b1 b3 b4 b10 b11 b12 b13 b14 b15 : Nat → Int32), ls_I c b1 a2 b3 b4 a5 a6 a7 a8 a9 b13 b14 b15 sq' fr 0 W' [] → (ls_id W').Perm (ls_id W) → post (fs, fr, fe, fc, fm, ex, ey, ez, b1, a2, b3, b4, a5, a6, a7, a8, a9, b10, b11, b12, b13, b14, b15, a16, a17, a18, a19)) :
    wpX_hang post (fs, fr, fe, fc, fm, fx, fy, fz, a1, a2, a3, a4, a5, a6, a7, a8, a9, a10, a11, a12, a13, a14, a15, a16, a17, a18, a19) m := by
  obtain ⟨k1, k2, k3, k4, k5, k6, k7, k8, k9, k10, k11⟩ := ls_iso_f hI hW iso
  obtain ⟨i1, i2, i3, i4, i5, i6, i7, i8, i9, i10⟩ := iso
  obtain ⟨hV, h1, h2, h3, h4, h5, h6, h7, h8⟩ := hI
  rw [List.append_nil] at h5 h7
  have frm : fr ≠ m := by
    by_cases z : m = 0
    · rw [z]; exact (ls_L_S hV.1 k1).1.2
    · exact Ne.symm (k8 z).2.2.2.1
  have qm : q ≠ m := by
    by_cases z : m = 0
    · rw [z]; exact k3.2
    · exact Ne.symm (k8 z).2.2.1
  have nil : sq1 m = [] ↔ sq m = [] := by
    have := g1.length_eq
    rw [ls_len_id, ls_len_id] at this
    rw [← List.length_eq_zero_iff, ← List.length_eq_zero_iff, this]
  have T1 : ∀ x, sq1 x ≠ [] → sq x ≠ [] := by
    intro x hx
    by_cases z : x = m
    · rw [z] at hx ⊢; exact fun w => hx (nil.mpr w)
    · rw [f1 x z] at hx; exact hx
  have el : sq1 (ls_rd a1 fr) = A := by
    rw [r1 fr frm]
    by_cases z : ls_rd o1 fr = m
    · have m0 : m = 0 := by
        by_cases w : m = 0
        · exact w
        · exact absurd z (k10 w)
      rw [← i7, z, m0, hV.1.1, V1.1.1]
    · rw [f1 _ z]; exact i7
  have er : sq1 (ls_rd a2 q) = B := by
    rw [r2 q qm]
    by_cases z : ls_rd o2 q = m
    · have m0 : m = 0 := by
        by_cases w : m = 0
        · exact w
        · exact absurd z (k8 w).2.2.2.2
      rw [← i8, z, m0, hV.1.1, V1.1.1]
    · rw [f1 _ z]; exact i8
  refine ls_hang fs fr fe fc fm fx fy fz a1 a2 a3 a4 a5 a6 a7 a8 a9 a10 a11 a12 a13 a14 a15 a16 a17 a18 a19 (n := m) (q := q) (d := 0) (X := W) (sq := sq1) hc0 hc hcap V1 (by rw [f1 fr frm]; exact k1) (by rw [f1 q qm]; exact k2) (by rw [r2 fr frm]; exact i3) h3 (by rw [r8 fr frm, r9 fr frm]; exact i9) (by rw [r8 q qm, r9 q qm]; exact i10) k3 k4
    (fun z => ?_) k6 k7 (fun z => ⟨?_, (k8 z).2.2.1, (k8 z).2.2.2.1, ?_, fun x b hx xq w => ?_⟩) h5 (by simp at h6; exact h6) (fun x hx => h7 x (T1 x hx)) rfl (fun z => absurd rfl z) ?_ (fun sq' ex ey ez b1 b3 b4 b10 b11 b12 b13 b14 b15 hI' => ?_)
  · rw [r2 q qm] at z ⊢
    have z' := k5 z
    by_cases w : ls_rd o2 q = m
    · exact absurd w (k8 (by rw [← w]; exact z)).2.2.2.2
    · rw [f1 _ w]; exact z'
  · exact fun w => (k8 z).1 (nil.mp w)
  · rw [r2 q qm]; exact (k8 z).2.2.2.2
  · have S := V1.1.2 x hx xq
    have u := (S.2.1 b (by rw [w]; exact z)).2
    rw [w, (k8 z).2.1] at u
    exact xq u.symm
  · rw [V1.1.1, List.append_nil, el, er, ls_id_3, hW, ls_id_3', i1, i2]
    rw [i5] at g1
    exact List.Perm.append_left _ (List.Perm.cons _ (List.Perm.append_right _ g1))
  · rw [V1.1.1] at hI'
    refine hp sq' _ ex ey ez b1 b3 b4 b10 b11 b12 b13 b14 b15 hI' ?_
    rw [el, er, ls_id_3, hW, ls_id_3', i1, i2]
    rw [i5] at g1
    exact List.Perm.append_left _ (List.Perm.cons _ (List.Perm.append_right _ g1))
/-- the block is taken out -/
theorem ls_hang0 {post : St2 → Prop} (fs fr fe fc fm fx fy fz : Int32) (a1 a2 a3 a4 a5 a6 a7 a8 a9 a10 a11 a12 a13 a14 a15 a16 a17 a18 a19 : Nat → Int32) {q m : Int32} {c : Int} {sq : Int32 → List ls_E} {W A M B : List ls_E} {eo eq : ls_E} (hc0 : 0 ≤ c) (hc : c ≤ 60) (hcap : fc.toInt = c)
    (hI : ls_I c a1 a2 a3 a4 a5 a6 a7 a8 a9 a13 a14 a15 sq fr 0 W []) (hW : W = A ++ eo :: (M ++ eq :: B)) (iso : ls_Iso a1 a2 a8 a9 sq fr q m A M B eo eq)
    (hp : ∀ (sq' : Int32 → List ls_E) (W' : List ls_E) (ex ey ez : Int32) (b1 b3 b4 b10 b11 b12 b13 b14 b15 : Nat → Int32), ls_I c b1 a2 b3 b4 a5 a6 a7 a8 a9 b13 b14 b15 sq' fr m W' M → (ls_id (W' ++ M)).Perm (ls_id W) → post (fs, fr, fe, fc, fm, ex, ey, ez, b1, a2, b3, b4, a5, a6, a7, a8, a9, b10, b11, b12, b13, b14, b15, a16, a17, a18, a19)) :
    wpX_hang post (fs, fr, fe, fc, fm, fx, fy, fz, a1, a2, a3, a4, a5, a6, a7, a8, a9, a10, a11, a12, a13, a14, a15, a16, a17, a18, a19) 0 := by
  obtain ⟨k1, k2, k3, k4, k5, k6, k7, k8, k9, k10, k11⟩ := ls_iso_f hI hW iso
  obtain ⟨i1, i2, i3, i4, i5, i6, i7, i8, i9, i10⟩ := iso
  obtain ⟨hV, h1, h2, h3, h4, h5, h6, h7, h8⟩ := hI
  rw [List.append_nil] at h5 h7
  have pm : (ls_id ((sq (ls_rd a1 fr) ++ (fr, ls_ev c a5 a6 a7 fr) :: (sq 0 ++ (q, ls_ev c a5 a6 a7 q) :: sq (ls_rd a2 q))) ++ sq m)).Perm (ls_id W) := by
    rw [ls_id_app, ls_id_3, hW, ls_id_3', i1, i2, i5, i7, i8, hV.1.1, List.append_assoc]
    exact List.Perm.append_left _ (List.Perm.cons _ (List.perm_append_comm (l₁ := q :: ls_id B)))
  refine ls_hang fs fr fe fc fm fx fy fz a1 a2 a3 a4 a5 a6 a7 a8 a9 a10 a11 a12 a13 a14 a15 a16 a17 a18 a19 (n := 0) (q := q) (d := m) (X := W) (sq := sq) hc0 hc hcap ⟨ls_L_weak hV.1 q, hV.2⟩ k1 k2 i3 h3 i9 i10 k3 k4 k5 k6 k7 (fun z => absurd rfl z) h5 (by simp at h6; exact h6) h7 rfl (fun z => ⟨(k8 z).1, (k8 z).2.2.2.1, (k8 z).2.2.1⟩) pm (fun sq' ex ey ez b1 b3 b4 b10 b11 b12 b13 b14 b15 hI' => ?_)
  rw [i5] at hI' pm
  exact hp sq' _ ex ey ez b1 b3 b4 b10 b11 b12 b13 b14 b15 hI' pm
theorem ls_nochild {c : Int} {a1 a2 a3 a4 a5 a6 a7 a8 a9 a13 a14 a15 : Nat → Int32} {sq : Int32 → List ls_E} {r d : Int32} {W D : List ls_E} (hI : ls_I c a1 a2 a3 a4 a5 a6 a7 a8 a9 a13 a14 a15 sq r d W D) (d0 : d ≠ 0) {x : Int32} (hx : sq x ≠ []) (b : Bool) : ls_ch a1 a2 b x ≠ d := by
  intro w
  have hm := hI.2.2.2.2.2.2.2.1 x hx
  rw [ls_id_app] at hm
  have S := ls_L_S hI.1.1 hx
  rcases List.mem_append.mp hm with z | z
  · exact ls_I_ned hI (ls_I_ch hI z b (by rw [w]; exact d0)) w
  · rw [← hI.2.2.1] at z
    have l1 := ls_sub_len hI.1.1 z
    have l2 := ls_S_lt S b
    rw [w] at l2
    omega
/-- the loose tree is put in -/
theorem ls_hangd {post : St2 → Prop} (fs fr fe fc fm fx fy fz : Int32) (a1 a2 a3 a4 a5 a6 a7 a8 a9 a10 a11 a12 a13 a14 a15 a16 a17 a18 a19 : Nat → Int32) {q m d : Int32} {c : Int} {sq : Int32 → List ls_E} {W D A B : List ls_E} {eo eq : ls_E} (hc0 : 0 ≤ c) (hc : c ≤ 60) (hcap : fc.toInt = c)
    (hI : ls_I c a1 a2 a3 a4 a5 a6 a7 a8 a9 a13 a14 a15 sq fr d W D) (d0 : d ≠ 0) (hW : W = A ++ eo :: ([] ++ eq :: B)) (iso : ls_Iso a1 a2 a8 a9 sq fr q m A [] B eo eq)
    (hp : ∀ (sq' : Int32 → List ls_E) (W' : List ls_E) (ex ey ez : Int32) (b1 b3 b4 b10 b11 b12 b13 b14 b15 : Nat → Int32), ls_I c b1 a2 b3 b4 a5 a6 a7 a8 a9 b13 b14 b15 sq' fr 0 W' [] → (ls_id W').Perm (ls_id (W ++ D)) → post (fs, fr, fe, fc, fm, ex, ey, ez, b1, a2, b3, b4, a5, a6, a7, a8, a9, b10, b11, b12, b13, b14, b15, a16, a17, a18, a19)) :
    wpX_hang post (fs, fr, fe, fc, fm, fx, fy, fz, a1, a2, a3, a4, a5, a6, a7, a8, a9, a10, a11, a12, a13, a14, a15, a16, a17, a18, a19) d := by
  have ned := fun x hx => ls_I_ned hI (x := x) hx
  have rW := (ls_I_r hI).2
  have nc := fun x hx b => ls_nochild hI d0 (x := x) hx b
  obtain ⟨k1, k2, k3, k4, k5, k6, k7, k8, k9, k10, k11⟩ := ls_iso_f hI hW iso
  obtain ⟨i1, i2, i3, i4, i5, i6, i7, i8, i9, i10⟩ := iso
  obtain ⟨hV, h1, h2, h3, h4, h5, h6, h7, h8⟩ := hI
  have pm : (ls_id (sq (ls_rd a1 fr) ++ (fr, ls_ev c a5 a6 a7 fr) :: (sq d ++ (q, ls_ev c a5 a6 a7 q) :: sq (ls_rd a2 q)))).Perm (ls_id (W ++ D)) := by
    rw [ls_id_app W D, ls_id_3, hW, ls_id_3', i1, i2, i7, i8, h2, List.append_assoc]
    exact List.Perm.append_left _ (List.Perm.cons _ (List.perm_append_comm (l₂ := q :: ls_id B)))
  refine ls_hang fs fr fe fc fm fx fy fz a1 a2 a3 a4 a5 a6 a7 a8 a9 a10 a11 a12 a13 a14 a15 a16 a17 a18 a19 (n := d) (q := q) (d := 0) (X := W ++ D) (sq := sq) hc0 hc hcap ⟨ls_L_weak hV.1 q, hV.2⟩ k1 k2 i3 h3 i9 i10 k3 k4 k5 k6 k7 (fun z => ⟨by rw [h2]; exact h8 z, Ne.symm (ned q k9), Ne.symm (ned fr rW), nc q k11 true, fun x b hx _ => nc x hx b⟩) h5 (by rw [List.length_append]; exact h6) h7 rfl (fun z => absurd rfl z) (by rw [hV.1.1, List.append_nil]; exact pm) (fun sq' ex ey ez b1 b3 b4 b10 b11 b12 b13 b14 b15 hI' => ?_)
  rw [hV.1.1] at hI'
  exact hp sq' _ ex ey ez b1 b3 b4 b10 b11 b12 b13 b14 b15 hI' pm
/-- a loose node is forgotten -/
theorem ls_drop {c : Int} {a1 a2 a3 a4 a5 a6 a7 a8 a9 a13 a14 a15 : Nat → Int32} {sq : Int32 → List ls_E} {r d : Int32} {W D : List ls_E} (hI : ls_I c a1 a2 a3 a4 a5 a6 a7 a8 a9 a13 a14 a15 sq r d W D) (d0 : d ≠ 0) (hD : D.length = 1) : ls_I c a1 a2 a3 a4 a5 a6 a7 a8 a9 a13 a14 a15 (ls_up sq d []) r 0 W [] ∧ ls_id D = [d] := by
  have rW := (ls_I_r hI).2
  have rd := ls_I_ned hI rW
  have nc := fun x hx b => ls_nochild hI d0 (x := x) hx b
  obtain ⟨hV, h1, h2, h3, h4, h5, h6, h7, h8⟩ := hI
  have idD : ls_id D = [d] := by
    have dD : d ∈ ls_id D := by rw [← h2]; exact ls_self hV.1 (by rw [h2]; exact h8 d0)
    have l : (ls_id D).length = 1 := by rw [ls_len_id]; exact hD
    obtain ⟨y, hy⟩ := List.length_eq_one_iff.mp l
    rw [hy] at dD ⊢
    rw [List.mem_singleton.mp dD]
  have z0 : ls_up sq d [] 0 = [] := by rw [ls_up_x (Ne.symm d0)]; exact hV.1.1
  have T' : ∀ x, ls_up sq d [] x ≠ [] → x ≠ d ∧ sq x ≠ [] := by
    intro x hx
    by_cases z : x = d
    · rw [z, ls_up_m] at hx; exact absurd rfl hx
    · rw [ls_up_x z] at hx; exact ⟨z, hx⟩
  refine ⟨⟨⟨⟨z0, fun x hx _ => ?_⟩, fun x hx => ?_⟩, by rw [ls_up_x rd]; exact h1, z0, h3, h4, ?_, ?_, fun x hx => ?_, fun z => absurd rfl z⟩, idD⟩
  · obtain ⟨xd, xT⟩ := T' x hx
    exact ls_S_congr (ls_L_S hV.1 xT) (fun _ => rfl) rfl rfl rfl (ls_up_x xd) (fun b => ls_up_x (nc x xT b)) (fun _ _ => rfl)
  · rcases hx with hx | hx
    · rw [hx, z0, ← hV.1.1]; exact hV.2 0 (Or.inl rfl)
    · obtain ⟨xd, xT⟩ := T' x hx
      rw [ls_up_x xd]; exact hV.2 x (Or.inr xT)
  · rw [List.append_nil]
    rw [ls_id_app, List.nodup_append] at h5
    exact h5.1
  · simp; omega
  · obtain ⟨xd, xT⟩ := T' x hx
    have := h7 x xT
    rw [ls_id_app, idD] at this
    rw [List.append_nil]
    rcases List.mem_append.mp this with w | w
    · exact w
    · exact absurd (List.mem_singleton.mp w) xd
/-- a node is set up: a loose tree of one node -/
theorem ls_setUp {post : St2 → Prop} (fs fr fe fc fm fx fy fz : Int32) (a1 a2 a3 a4 a5 a6 a7 a8 a9 a10 a11 a12 a13 a14 a15 a16 a17 a18 a19 : Nat → Int32) {n k m v : Int32} {c : Int} {sq : Int32 → List ls_E} (hc0 : 0 ≤ c) (hc : c ≤ 60) (hcap : fc.toInt = c) (hV : ls_V c a1 a2 a3 a4 a5 a6 a7 a8 a9 a13 a14 a15 sq 0) (hn : sq n = []) (ok : ls_ok n) (hv : ls_v c (ls_tr c k m))
    (hp : ∀ (e : ls_E) (ex ey ez : Int32) (b1 b2 b3 b4 b5 b6 b7 b8 b9 b10 b11 b12 b13 b14 b15 : Nat → Int32), ls_V c b1 b2 b3 b4 b5 b6 b7 b8 b9 b13 b14 b15 (ls_up sq n [e]) 0 → e.1 = n → ls_ag n a1 b1 → ls_ag n a2 b2 → ls_ag n a3 b3 → ls_rd b3 n = 0 → ls_ag n a8 b8 → ls_ag n a9 b9 → ls_rd b1 n = 0 → ls_rd b2 n = 0 → ls_rd b8 n = 0 → ls_rd b9 n = 2 →
      post (fs, fr, fe, fc, fm, ex, ey, ez, b1, b2, b3, b4, b5, b6, b7, b8, b9, b10, b11, b12, b13, b14, b15, a16, a17, a18, a19)) :
    wpX_setUp post (fs, fr, fe, fc, fm, fx, fy, fz, a1, a2, a3, a4, a5, a6, a7, a8, a9, a10, a11, a12, a13, a14, a15, a16, a17, a18, a19) n k m v := by
  refine ⟨ok.1, nm_e ⟨ok.1, nm_e ⟨ok.1, nm_e ⟨ok.1, nm_e ⟨ok.1, nm_e ⟨ok.1, nm_e ⟨ok.1, nm_e ⟨ok.1, nm_e ?_⟩⟩⟩⟩⟩⟩⟩⟩
  generalize hb1 : upd a1 n.toNatClampNeg 0 = b1
  generalize hb2 : upd a2 n.toNatClampNeg 0 = b2
  generalize hb3 : upd a3 n.toNatClampNeg 0 = b3
  generalize hb5 : upd a5 n.toNatClampNeg k = b5
  generalize hb6 : upd a6 n.toNatClampNeg m = b6
  generalize hb7 : upd a7 n.toNatClampNeg (vp_nar .boolean v) = b7
  generalize hb8 : upd a8 n.toNatClampNeg 0 = b8
  generalize hb9 : upd a9 n.toNatClampNeg 2 = b9
  have g1 : ls_ag n a1 b1 := by rw [← hb1]; exact ls_ag_u ok _
  have g2 : ls_ag n a2 b2 := by rw [← hb2]; exact ls_ag_u ok _
  have g3 : ls_ag n a3 b3 := by rw [← hb3]; exact ls_ag_u ok _
  have g5 : ls_ag n a5 b5 := by rw [← hb5]; exact ls_ag_u ok _
  have g6 : ls_ag n a6 b6 := by rw [← hb6]; exact ls_ag_u ok _
  have g7 : ls_ag n a7 b7 := by rw [← hb7]; exact ls_ag_u ok _
  have g8 : ls_ag n a8 b8 := by rw [← hb8]; exact ls_ag_u ok _
  have g9 : ls_ag n a9 b9 := by rw [← hb9]; exact ls_ag_u ok _
  have e1 : ls_rd b1 n = 0 := by rw [← hb1]; exact ls_rd_us
  have e2 : ls_rd b2 n = 0 := by rw [← hb2]; exact ls_rd_us
  have e3 : ls_rd b3 n = 0 := by rw [← hb3]; exact ls_rd_us
  have e5 : ls_rd b5 n = k := by rw [← hb5]; exact ls_rd_us
  have e6 : ls_rd b6 n = m := by rw [← hb6]; exact ls_rd_us
  have e8 : ls_rd b8 n = 0 := by rw [← hb8]; exact ls_rd_us
  have e9 : ls_rd b9 n = 2 := by rw [← hb9]; exact ls_rd_us
  have n0 := ok.2
  have z0 : ls_up sq n [(n, ls_ev c b5 b6 b7 n)] 0 = [] := by rw [ls_up_x (Ne.symm n0)]; exact hV.1.1
  have ce : ∀ b, ls_ch b1 b2 b n = 0 := by
    intro b
    cases b
    · exact e1
    · exact e2
  have L' : ls_L (ls_ch b1 b2) (ls_rd b3) (ls_rd b8) (ls_rd b9) (ls_ev c b5 b6 b7) (ls_up sq n [(n, ls_ev c b5 b6 b7 n)]) 0 := by
    refine ⟨z0, fun x hx _ => ?_⟩
    by_cases xn : x = n
    · rw [xn]
      refine ⟨ok, fun b hb => absurd (ce b) hb, ?_, ?_⟩
      · rw [ce, ce, z0, ls_P_nil, ls_up_m]; rfl
      · rw [ls_up_m]
        show [n].Nodup
        simp
    · rw [ls_up_x xn] at hx
      have S := ls_L_S hV.1 hx
      refine ls_S_congr S (fun b => ?_) (g8 x xn) (g9 x xn) ?_ (ls_up_x xn) (fun b => ?_) (fun b hb => g3 _ (fun w => (S.2.1 b hb).1 (by rw [w]; exact hn)))
      · cases b
        · exact g1 x xn
        · exact g2 x xn
      · unfold ls_ev; rw [g5 x xn, g6 x xn, g7 x xn]
      · by_cases w : ls_ch a1 a2 b x = 0
        · rw [w, z0, hV.1.1]
        · exact ls_up_x (fun y => (S.2.1 b w).1 (by rw [y]; exact hn))
  refine ls_pullL fs fr fe fc fm fx fy fz b1 b2 b3 a4 b5 b6 b7 b8 b9 a10 a11 a12 a13 a14 a15 a16 a17 a18 a19 (n := n) hc0 hc hcap L' (by rw [ls_up_m]; simp) e8 e9 (fun b => ?_) (by rw [ls_up_m]; simp) ?_ (fun ex ey ez b4 b10 b11 b12 b13 b14 b15 f1 q1 => ?_)
  · rw [ce, z0, ← hV.1.1]; exact hV.2 0 (Or.inl rfl)
  · show ls_v c (ls_tr c (ls_rd b5 n) (ls_rd b6 n))
    rw [e5, e6]; exact hv
  · refine hp (n, ls_ev c b5 b6 b7 n) ex ey ez b1 b2 b3 b4 b5 b6 b7 b8 b9 b10 b11 b12 b13 b14 b15 ⟨L', fun x hx => ?_⟩ rfl g1 g2 g3 e3 g8 g9 e1 e2 e8 e9
    by_cases xn : x = n
    · rw [xn]; exact q1
    · rw [ls_up_x xn] at hx ⊢
      exact f1 _ _ xn (hV.2 x hx)
end
section
/-! the operations keep: some list of entries+2 nodes -/
def ls_sp (a16 : Nat → Int32) (k : Nat) (W : List ls_E) : Prop := ∀ i, i < k → ls_ok (a16 i) ∧ a16 i ∉ ls_id W ∧ ∀ j, j < i → a16 i ≠ a16 j
def ls_K (fs fe fc fm : Int32) (a16 : Nat → Int32) (c m e : Nat) (W : List ls_E) : Prop :=
  fs = nI (40 - e) ∧ fe = nI e ∧ fc = nI c ∧ fm = nI m ∧ 4 ≤ c ∧ c ≤ 60 ∧ e ≤ m ∧ m ≤ 40 ∧ W.length = e + 2 ∧ ls_sp a16 (40 - e) W
def ls_U (u : St2) (c m e : Nat) (W : List ls_E) : Prop := match u with
  | (fs, fr, fe, fc, fm, fx, fy, fz, a1, a2, a3, a4, a5, a6, a7, a8, a9, a10, a11, a12, a13, a14, a15, a16, a17, a18, a19) => ∃ sq, ls_I (c : Int) a1 a2 a3 a4 a5 a6 a7 a8 a9 a13 a14 a15 sq fr 0 W [] ∧ ls_K fs fe fc fm a16 c m e W
def ls_GS (u : St2) (c m : Nat) : Prop := ∃ e W, ls_U u c m e W
theorem ls_K_perm {fs fe fc fm : Int32} {a16 : Nat → Int32} {c m e : Nat} {W W' : List ls_E} (h : ls_K fs fe fc fm a16 c m e W) (p : (ls_id W').Perm (ls_id W)) : ls_K fs fe fc fm a16 c m e W' := by
  obtain ⟨h1, h2, h3, h4, h5, h6, h7, h8, h9, h10⟩ := h
  have l := p.length_eq
  rw [ls_len_id, ls_len_id] at l
  exact ⟨h1, h2, h3, h4, h5, h6, h7, h8, by omega, fun i hi => ⟨(h10 i hi).1, fun z => (h10 i hi).2.1 (p.mem_iff.mp z), (h10 i hi).2.2⟩⟩
theorem ls_K_cap {fs fe fc fm : Int32} {a16 : Nat → Int32} {c m e : Nat} {W : List ls_E} (h : ls_K fs fe fc fm a16 c m e W) : 0 ≤ (c : Int) ∧ (c : Int) ≤ 60 ∧ fc.toInt = (c : Int) := by
  obtain ⟨h1, h2, h3, h4, h5, h6, h7, h8, h9, h10⟩ := h
  exact ⟨by omega, by omega, by rw [h3, nI_toInt (by omega)]⟩
theorem ls_good {post : Int32 → Prop} (fs fr fe fc fm fx fy fz : Int32) (a1 a2 a3 a4 a5 a6 a7 a8 a9 a10 a11 a12 a13 a14 a15 a16 a17 a18 a19 : Nat → Int32) {p0 p1 : Int32} {e : Nat} (he : fe = nI e) (he2 : e < 1000) (h0 : post 0) (h1 : ∀ f t : Nat, p0 = nI f → p1 = nI t → f ≤ t → t ≤ e → post 1) : wpX_good post (fs, fr, fe, fc, fm, fx, fy, fz, a1, a2, a3, a4, a5, a6, a7, a8, a9, a10, a11, a12, a13, a14, a15, a16, a17, a18, a19) p0 p1 := by
  refine br_c (fun _ => h0) (fun z0 => br_c (fun _ => h0) (fun z1 => br_c (fun _ => h0) (fun z2 => ?_)))
  obtain ⟨f, hf, ef⟩ := nI_of z0
  rw [Int32.lt_iff_toInt_lt] at z1 z2
  have ff : p0.toInt = (f : Int) := by rw [ef, nI_toInt hf]
  have ee : fe.toInt = (e : Int) := by rw [he, nI_toInt (by omega)]
  have z3 : ¬ p1 < 0 := by rw [Int32.lt_iff_toInt_lt, ls_i0]; omega
  obtain ⟨t, ht, et⟩ := nI_of z3
  have tt : p1.toInt = (t : Int) := by rw [et, nI_toInt ht]
  exact h1 f t ef et (by omega) (by omega)
theorem ls_m_in {c : Int} {a1 a2 a3 a4 a5 a6 a7 a8 a9 a13 a14 a15 : Nat → Int32} {sq : Int32 → List ls_E} {fr d q m : Int32} {W D A M B : List ls_E} {eo eq : ls_E}
    (hI : ls_I c a1 a2 a3 a4 a5 a6 a7 a8 a9 a13 a14 a15 sq fr d W D) (hW : W = A ++ eo :: (M ++ eq :: B)) (iso : ls_Iso a1 a2 a8 a9 sq fr q m A M B eo eq) : vp_in m 43 := by
  by_cases z : m = 0
  · rw [z]; exact ls_in0
  · exact (ls_L_S hI.1.1 ((ls_iso_f hI hW iso).2.2.2.2.2.2.2.1 z).1).1.1
theorem ls_reverse {post : Int32 → St2 → Prop} (fs fr fe fc fm fx fy fz : Int32) (a1 a2 a3 a4 a5 a6 a7 a8 a9 a10 a11 a12 a13 a14 a15 a16 a17 a18 a19 : Nat → Int32) {p0 p1 : Int32} {c m e : Nat} {W : List ls_E} {sq : Int32 → List ls_E} (hI : ls_I (c : Int) a1 a2 a3 a4 a5 a6 a7 a8 a9 a13 a14 a15 sq fr 0 W []) (hK : ls_K fs fe fc fm a16 c m e W)
    (hp : ∀ r u, ls_GS u c m → post r u) : wpX_reverse post (fs, fr, fe, fc, fm, fx, fy, fz, a1, a2, a3, a4, a5, a6, a7, a8, a9, a10, a11, a12, a13, a14, a15, a16, a17, a18, a19) p0 p1 := by
  obtain ⟨c0, c1, cc⟩ := ls_K_cap hK
  have hK' := hK
  obtain ⟨h1, h2, h3, h4, h5, h6, h7, h8, h9, h10⟩ := hK'
  unfold wpX_reverse
  refine ls_good fs fr fe fc fm fx fy fz a1 a2 a3 a4 a5 a6 a7 a8 a9 a10 a11 a12 a13 a14 a15 a16 a17 a18 a19 h2 (by omega) (br_t rfl (hp _ _ ⟨e, W, sq, hI, hK⟩)) (fun f t ef et hft hte => br_f (by decide) ?_)
  rw [ef, et]
  refine ls_isolate fs fr fe fc fm fx fy fz a1 a2 a3 a4 a5 a6 a7 a8 a9 a10 a11 a12 a13 a14 a15 a16 a17 a18 a19 c0 c1 cc hI hft (by omega) (fun sq fr q b fx fy fz a1 a2 a3 a4 a7 a8 a9 a10 a11 a12 a13 a14 a15 A M B eo eq hI hW hA hM iso => ?_)
  have k8 := (ls_iso_f hI hW iso).2.2.2.2.2.2.2.1
  refine ls_turnV fs fr fe fc fm fx fy fz a1 a2 a3 a4 a5 a6 a7 a8 a9 a10 a11 a12 a13 a14 a15 a16 a17 a18 a19 (m := b) (e := q) ⟨ls_L_weak hI.1.1 q, hI.1.2⟩ (fun z => ⟨(k8 z).1, (k8 z).2.1, (k8 z).2.2.1⟩) (fun sq1 b1 b2 b8 b13 b14 b15 V1 f1 g1 r1 r2 r8 => ?_)
  refine ls_rehang fs fr fe fc fm fx fy fz b1 b2 a3 a4 a5 a6 a7 b8 a9 a10 a11 a12 b13 b14 b15 a16 a17 a18 a19 c0 c1 cc hI hW iso V1 f1 (by rw [g1, ls_id_rev]; exact List.reverse_perm _) r1 r2 r8 (ls_ag_r _ _) (fun sq' W' ex ey ez d1 d3 d4 d10 d11 d12 d13 d14 d15 hI' pm => ?_)
  exact hp _ _ ⟨e, W', sq', hI', ls_K_perm hK pm⟩
theorem ls_setVoid {post : Int32 → St2 → Prop} (fs fr fe fc fm fx fy fz : Int32) (a1 a2 a3 a4 a5 a6 a7 a8 a9 a10 a11 a12 a13 a14 a15 a16 a17 a18 a19 : Nat → Int32) {p0 p1 p2 : Int32} {c m e : Nat} {W : List ls_E} {sq : Int32 → List ls_E} (hI : ls_I (c : Int) a1 a2 a3 a4 a5 a6 a7 a8 a9 a13 a14 a15 sq fr 0 W []) (hK : ls_K fs fe fc fm a16 c m e W)
    (hp : ∀ r u, ls_GS u c m → post r u) : wpX_setVoid post (fs, fr, fe, fc, fm, fx, fy, fz, a1, a2, a3, a4, a5, a6, a7, a8, a9, a10, a11, a12, a13, a14, a15, a16, a17, a18, a19) p0 p1 p2 := by
  obtain ⟨c0, c1, cc⟩ := ls_K_cap hK
  have hK' := hK
  obtain ⟨h1, h2, h3, h4, h5, h6, h7, h8, h9, h10⟩ := hK'
  unfold wpX_setVoid
  refine ls_good fs fr fe fc fm fx fy fz a1 a2 a3 a4 a5 a6 a7 a8 a9 a10 a11 a12 a13 a14 a15 a16 a17 a18 a19 h2 (by omega) (br_t rfl (hp _ _ ⟨e, W, sq, hI, hK⟩)) (fun f t ef et hft hte => br_f (by decide) ?_)
  rw [ef, et]
  refine ls_isolate fs fr fe fc fm fx fy fz a1 a2 a3 a4 a5 a6 a7 a8 a9 a10 a11 a12 a13 a14 a15 a16 a17 a18 a19 c0 c1 cc hI hft (by omega) (fun sq fr q b fx fy fz a1 a2 a3 a4 a7 a8 a9 a10 a11 a12 a13 a14 a15 A M B eo eq hI hW hA hM iso => ?_)
  have k8 := (ls_iso_f hI hW iso).2.2.2.2.2.2.2.1
  have bin := ls_m_in hI hW iso
  have go : ∀ (d : Bool) (z : Int32), wX_setVoid_62 post b z (if d = true then 1 else 0) b fs fr fe fc fm fx fy fz a1 a2 a3 a4 a5 a6 a7 a8 a9 a10 a11 a12 a13 a14 a15 a16 a17 a18 a19 := by
    intro d z
    refine ls_paintV fs fr fe fc fm fx fy fz a1 a2 a3 a4 a5 a6 a7 a8 a9 a10 a11 a12 a13 a14 a15 a16 a17 a18 a19 (m := b) (e := q) (d := d) cc ⟨ls_L_weak hI.1.1 q, hI.1.2⟩ (fun z => ⟨(k8 z).1, (k8 z).2.1, (k8 z).2.2.1⟩) (fun sq1 b7 b9 b10 b12 b13 b14 b15 V1 f1 g1 r7 r9 => ?_)
    refine ls_rehang fs fr fe fc fm fx fy fz a1 a2 a3 a4 a5 a6 b7 a8 b9 b10 a11 b12 b13 b14 b15 a16 a17 a18 a19 c0 c1 cc hI hW iso V1 f1 (by rw [g1, ls_id_pt]) (ls_ag_r _ _) (ls_ag_r _ _) (ls_ag_r _ _) r9 (fun sq' W' ex ey ez d1 d3 d4 d10 d11 d12 d13 d14 d15 hI' pm => ?_)
    exact hp _ _ ⟨e, W', sq', hI', ls_K_perm hK pm⟩
  have go2 : ∀ z : Int32, wX_setVoid_48 post p2 b z fs fr fe fc fm fx fy fz a1 a2 a3 a4 a5 a6 a7 a8 a9 a10 a11 a12 a13 a14 a15 a16 a17 a18 a19 := fun z => br_c (fun _ => go false z) (fun _ => go true z)
  exact br_c (fun _ => ⟨bin, bin, go2 _⟩) (fun _ => ⟨bin, go2 _⟩)
theorem ls_remove {post : Int32 → St2 → Prop} (fs fr fe fc fm fx fy fz : Int32) (a1 a2 a3 a4 a5 a6 a7 a8 a9 a10 a11 a12 a13 a14 a15 a16 a17 a18 a19 : Nat → Int32) {p0 : Int32} {c m e : Nat} {W : List ls_E} {sq : Int32 → List ls_E} (hI : ls_I (c : Int) a1 a2 a3 a4 a5 a6 a7 a8 a9 a13 a14 a15 sq fr 0 W []) (hK : ls_K fs fe fc fm a16 c m e W)
    (hp : ∀ r u, ls_GS u c m → post r u) : wpX_remove post (fs, fr, fe, fc, fm, fx, fy, fz, a1, a2, a3, a4, a5, a6, a7, a8, a9, a10, a11, a12, a13, a14, a15, a16, a17, a18, a19) p0 := by
  obtain ⟨c0, c1, cc⟩ := ls_K_cap hK
  have hK' := hK
  obtain ⟨h1, h2, h3, h4, h5, h6, h7, h8, h9, h10⟩ := hK'
  unfold wpX_remove
  refine br_c (fun _ => hp _ _ ⟨e, W, sq, hI, hK⟩) (fun z0 => br_c (fun z1 => ?_) (fun _ => hp _ _ ⟨e, W, sq, hI, hK⟩))
  obtain ⟨f, hf, ef⟩ := nI_of z0
  have fe' : f < e := by
    rw [Int32.lt_iff_toInt_lt, ef, h2, nI_toInt hf, nI_toInt (by omega)] at z1
    omega
  rw [ef, nI_1]
  refine ls_isolate fs fr fe fc fm fx fy fz a1 a2 a3 a4 a5 a6 a7 a8 a9 a10 a11 a12 a13 a14 a15 a16 a17 a18 a19 c0 c1 cc hI (by omega) (by omega) (fun sq fr q b fx fy fz a1 a2 a3 a4 a7 a8 a9 a10 a11 a12 a13 a14 a15 A M B eo eq hI hW hA hM iso => ?_)
  have bin := ls_m_in hI hW iso
  have b0 : b ≠ 0 := by
    intro z
    have := iso.2.2.2.2.1
    rw [z, hI.1.1.1] at this
    rw [← this] at hM
    rw [List.length_nil] at hM; omega
  refine ls_hang0 fs fr fe fc fm fx fy fz a1 a2 a3 a4 a5 a6 a7 a8 a9 a10 a11 a12 a13 a14 a15 a16 a17 a18 a19 c0 c1 cc hI hW iso (fun sq' W' ex ey ez b1 b3 b4 b10 b11 b12 b13 b14 b15 hI' pm => ?_)
  obtain ⟨hI2, idM⟩ := ls_drop hI' b0 (by omega)
  have okb : ls_ok b := ⟨bin, b0⟩
  have pl := pm.length_eq
  rw [ls_len_id, ls_len_id, List.length_append, hM] at pl
  have nd : (ls_id (W' ++ M)).Nodup := hI'.2.2.2.2.2.1
  rw [ls_id_app, idM] at nd pm
  have bW : b ∈ ls_id W := pm.mem_iff.mp (List.mem_append_right _ (List.mem_singleton.mpr rfl))
  have bW' : b ∉ ls_id W' := fun z => (List.nodup_append.mp nd).2.2 b z b (List.mem_singleton.mpr rfl) rfl
  refine ⟨by rw [h1]; exact vp_in_nI (by omega) (by decide), nm_e (nm_e (nm_e ⟨bin, hp _ _ ⟨e - 1, W', _, hI2, ?_, ?_, h3, h4, h5, h6, by omega, h8, by omega, fun i hi => ?_⟩⟩))⟩
  · rw [h1, nI_1, show 40 - e + 1 = 40 - (e - 1) by omega]
  · rw [h2, show (1 : Int32) = nI 1 from rfl, pk_sub (by omega)]
  · rw [h1, nI_clamp (by omega)]
    by_cases z : i = 40 - e
    · rw [z, pk_us]
      refine ⟨okb, bW', fun j hj w => ?_⟩
      rw [pk_un (by omega)] at w
      exact (h10 j hj).2.1 (by rw [← w]; exact bW)
    · rw [pk_un z]
      refine ⟨(h10 i (by omega)).1, fun w => (h10 i (by omega)).2.1 (pm.mem_iff.mp (List.mem_append_left _ w)), fun j hj w => ?_⟩
      rw [pk_un (by omega)] at w
      exact (h10 i (by omega)).2.2 j hj w
theorem ls_move {post : Int32 → St2 → Prop} (fs fr fe fc fm fx fy fz : Int32) (a1 a2 a3 a4 a5 a6 a7 a8 a9 a10 a11 a12 a13 a14 a15 a16 a17 a18 a19 : Nat → Int32) {p0 p1 p2 : Int32} {c m e : Nat} {W : List ls_E} {sq : Int32 → List ls_E} (hI : ls_I (c : Int) a1 a2 a3 a4 a5 a6 a7 a8 a9 a13 a14 a15 sq fr 0 W []) (hK : ls_K fs fe fc fm a16 c m e W)
    (hp : ∀ r u, ls_GS u c m → post r u) : wpX_move post (fs, fr, fe, fc, fm, fx, fy, fz, a1, a2, a3, a4, a5, a6, a7, a8, a9, a10, a11, a12, a13, a14, a15, a16, a17, a18, a19) p0 p1 p2 := by
  obtain ⟨c0, c1, cc⟩ := ls_K_cap hK
  have hK' := hK
  obtain ⟨h1, h2, h3, h4, h5, h6, h7, h8, h9, h10⟩ := hK'
  unfold wpX_move
  refine ls_good fs fr fe fc fm fx fy fz a1 a2 a3 a4 a5 a6 a7 a8 a9 a10 a11 a12 a13 a14 a15 a16 a17 a18 a19 h2 (by omega) (br_t rfl (hp _ _ ⟨e, W, sq, hI, hK⟩)) (fun f t ef et hft hte => br_f (by decide) ?_)
  have e4 : p1 - p0 = nI (t - f) := by rw [ef, et, pk_sub hft]
  refine nm_r e4 (br_c (fun _ => hp _ _ ⟨e, W, sq, hI, hK⟩) (fun z0 => br_c (fun z1 => ?_) (fun _ => hp _ _ ⟨e, W, sq, hI, hK⟩)))
  obtain ⟨g, hg, eg⟩ := nI_of z0
  have ge : g ≤ e - (t - f) := by
    rw [h2, pk_sub (by omega), Int32.le_iff_toInt_le, eg, nI_toInt hg, nI_toInt (by omega)] at z1
    omega
  refine br_c (fun _ => hp _ _ ⟨e, W, sq, hI, hK⟩) (fun z2 => ?_)
  have tf : t - f ≠ 0 := fun w => z2 (by rw [w]; rfl)
  rw [ef, et]
  refine ls_isolate fs fr fe fc fm fx fy fz a1 a2 a3 a4 a5 a6 a7 a8 a9 a10 a11 a12 a13 a14 a15 a16 a17 a18 a19 c0 c1 cc hI hft (by omega) (fun sq fr q b fx fy fz a1 a2 a3 a4 a7 a8 a9 a10 a11 a12 a13 a14 a15 A M B eo eq hI hW hA hM iso => ?_)
  have b0 : b ≠ 0 := by
    intro z
    have := iso.2.2.2.2.1
    rw [z, hI.1.1.1] at this
    rw [← this] at hM
    rw [List.length_nil] at hM; omega
  refine ls_hang0 fs fr fe fc fm fx fy fz a1 a2 a3 a4 a5 a6 a7 a8 a9 a10 a11 a12 a13 a14 a15 a16 a17 a18 a19 c0 c1 cc hI hW iso (fun sq W1 fx fy fz a1 a3 a4 a10 a11 a12 a13 a14 a15 hI1 pm => ?_)
  have pl := pm.length_eq
  rw [ls_len_id, ls_len_id, List.length_append, hM] at pl
  rw [eg]
  refine ls_isolate fs fr fe fc fm fx fy fz a1 a2 a3 a4 a5 a6 a7 a8 a9 a10 a11 a12 a13 a14 a15 a16 a17 a18 a19 c0 c1 cc hI1 (Nat.le_refl g) (by omega) (fun sq fr q2 b2 fx fy fz a1 a2 a3 a4 a7 a8 a9 a10 a11 a12 a13 a14 a15 A2 M2 B2 eo2 eq2 hI2 hW2 hA2 hM2 iso2 => ?_)
  have m2 : M2 = [] := List.length_eq_zero_iff.mp (by omega)
  rw [m2] at hW2 iso2
  refine ls_hangd fs fr fe fc fm fx fy fz a1 a2 a3 a4 a5 a6 a7 a8 a9 a10 a11 a12 a13 a14 a15 a16 a17 a18 a19 c0 c1 cc hI2 b0 hW2 iso2 (fun sq' W' ex ey ez b1 b3 b4 b10 b11 b12 b13 b14 b15 hI' pm2 => ?_)
  exact hp _ _ ⟨e, W', sq', hI', ls_K_perm hK (pm2.trans pm)⟩
theorem ls_place {post : St2 → Prop} (fs fr fe fc fm fx fy fz : Int32) (a1 a2 a3 a4 a5 a6 a7 a8 a9 a10 a11 a12 a13 a14 a15 a16 a17 a18 a19 : Nat → Int32) {kd am vd : Int32} {pos c m e : Nat} {W : List ls_E} {sq : Int32 → List ls_E} (hI : ls_I (c : Int) a1 a2 a3 a4 a5 a6 a7 a8 a9 a13 a14 a15 sq fr 0 W []) (hK : ls_K fs fe fc fm a16 c m e W) (he : e < m) (hpos : pos ≤ e) (hv : ls_v (c : Int) (ls_tr (c : Int) kd am))
    (hp : ∀ (sq : Int32 → List ls_E) (W : List ls_E) (fs fr fe fx fy fz : Int32) (a1 a2 a3 a4 a5 a6 a7 a8 a9 a10 a11 a12 a13 a14 a15 : Nat → Int32), ls_I (c : Int) a1 a2 a3 a4 a5 a6 a7 a8 a9 a13 a14 a15 sq fr 0 W [] → ls_K fs fe fc fm a16 c m (e + 1) W → post (fs, fr, fe, fc, fm, fx, fy, fz, a1, a2, a3, a4, a5, a6, a7, a8, a9, a10, a11, a12, a13, a14, a15, a16, a17, a18, a19)) :
    wpX_place post (fs, fr, fe, fc, fm, fx, fy, fz, a1, a2, a3, a4, a5, a6, a7, a8, a9, a10, a11, a12, a13, a14, a15, a16, a17, a18, a19) (nI pos) kd am vd := by
  obtain ⟨c0, c1, cc⟩ := ls_K_cap hK
  have hK' := hK
  obtain ⟨h1, h2, h3, h4, h5, h6, h7, h8, h9, h10⟩ := hK'
  have e1 : fs - 1 = nI (40 - (e + 1)) := by rw [h1, show (1 : Int32) = nI 1 from rfl, pk_sub (by omega)]; rfl
  obtain ⟨okn, nW, dist⟩ := h10 (40 - (e + 1)) (by omega)
  unfold wpX_place
  refine nm_r e1 ⟨vp_in_nI (by omega) (by decide), nm_r (show a16 (nI (40 - (e + 1))).toNatClampNeg = a16 (40 - (e + 1)) by rw [nI_clamp (by omega)]) ?_⟩
  generalize a16 (40 - (e + 1)) = n at okn nW dist
  have nT : sq n = [] := by
    by_cases z : sq n = []
    · exact z
    · have := hI.2.2.2.2.2.2.2.1 n z
      rw [List.append_nil] at this
      exact absurd this nW
  refine ls_setUp (nI (40 - (e + 1))) fr fe fc fm fx fy fz a1 a2 a3 a4 a5 a6 a7 a8 a9 a10 a11 a12 a13 a14 a15 a16 a17 a18 a19 c0 c1 cc hI.1 nT okn hv (fun en fx fy fz a1 a2 a3 a4 a5 a6 a7 a8 a9 a10 a11 a12 a13 a14 a15 hV ene g1 g2 g3 u3 g8 g9 _ _ _ _ => ?_)
  have frn : fr ≠ n := fun z => by
    have := hI.2.1
    rw [z, nT] at this
    exact hI.2.2.2.2.1 this.symm
  have hI1 : ls_I (c : Int) a1 a2 a3 a4 a5 a6 a7 a8 a9 a13 a14 a15 (ls_up sq n [en]) fr n W [en] := by
    obtain ⟨hV0, i1, i2, i3, i4, i5, i6, i7, i8⟩ := hI
    rw [List.append_nil] at i5 i7
    refine ⟨hV, by rw [ls_up_x frn]; exact i1, ls_up_m, by rw [g3 fr frn]; exact i3, i4, ?_, ?_, fun x hx => ?_, fun _ => by simp⟩
    · rw [ls_id_app, List.nodup_append]
      refine ⟨i5, by show [en.1].Nodup; simp, fun a ha b hb w => ?_⟩
      have hb' : b = en.1 := List.mem_singleton.mp hb
      rw [w, hb', ene] at ha
      exact nW ha
    · simp; omega
    · rw [ls_id_app]
      by_cases z : x = n
      · exact List.mem_append_right _ (List.mem_singleton.mpr (z.trans ene.symm))
      · rw [ls_up_x z] at hx
        exact List.mem_append_left _ (i7 x hx)
  refine ls_isolate (nI (40 - (e + 1))) fr fe fc fm fx fy fz a1 a2 a3 a4 a5 a6 a7 a8 a9 a10 a11 a12 a13 a14 a15 a16 a17 a18 a19 c0 c1 cc hI1 (Nat.le_refl pos) (by omega) (fun sq fr q2 b2 fx fy fz a1 a2 a3 a4 a7 a8 a9 a10 a11 a12 a13 a14 a15 A2 M2 B2 eo2 eq2 hI2 hW2 hA2 hM2 iso2 => ?_)
  have m2 : M2 = [] := List.length_eq_zero_iff.mp (by omega)
  rw [m2] at hW2 iso2
  refine ls_hangd (nI (40 - (e + 1))) fr fe fc fm fx fy fz a1 a2 a3 a4 a5 a6 a7 a8 a9 a10 a11 a12 a13 a14 a15 a16 a17 a18 a19 c0 c1 cc hI2 okn.2 hW2 iso2 (fun sq' W' ex ey ez b1 b3 b4 b10 b11 b12 b13 b14 b15 hI' pm2 => ?_)
  have pl := pm2.length_eq
  rw [ls_len_id, ls_len_id, List.length_append] at pl
  simp only [List.length_cons, List.length_nil] at pl
  refine nm_r (show fe + 1 = nI (e + 1) by rw [h2, nI_1]) (hp sq' W' _ fr _ ex ey ez b1 a2 b3 b4 a5 a6 a7 a8 a9 b10 b11 b12 b13 b14 b15 hI' ⟨rfl, rfl, h3, h4, h5, h6, by omega, h8, by omega, fun i hi => ?_⟩)
  obtain ⟨j1, j2, j3⟩ := h10 i (by omega)
  refine ⟨j1, fun w => ?_, j3⟩
  have := pm2.mem_iff.mp w
  rw [ls_id_app] at this
  rcases List.mem_append.mp this with v | v
  · exact j2 v
  · have v' : a16 i = en.1 := List.mem_singleton.mp v
    rw [ene] at v'
    exact dist i hi v'.symm
end
section
theorem ls_insert {post : Int32 → St2 → Prop} (fs fr fe fc fm fx fy fz : Int32) (a1 a2 a3 a4 a5 a6 a7 a8 a9 a10 a11 a12 a13 a14 a15 a16 a17 a18 a19 : Nat → Int32) {p0 p1 p2 : Int32} {c m e : Nat} {W : List ls_E} {sq : Int32 → List ls_E} (hI : ls_I (c : Int) a1 a2 a3 a4 a5 a6 a7 a8 a9 a13 a14 a15 sq fr 0 W []) (hK : ls_K fs fe fc fm a16 c m e W)
    (hp : ∀ r u, ls_GS u c m → post r u) : wpX_insert post (fs, fr, fe, fc, fm, fx, fy, fz, a1, a2, a3, a4, a5, a6, a7, a8, a9, a10, a11, a12, a13, a14, a15, a16, a17, a18, a19) p0 p1 p2 := by
  obtain ⟨c0, c1, cc⟩ := ls_K_cap hK
  have hK' := hK
  obtain ⟨h1, h2, h3, h4, h5, h6, h7, h8, h9, h10⟩ := hK'
  have same : ls_GS (fs, fr, fe, fc, fm, fx, fy, fz, a1, a2, a3, a4, a5, a6, a7, a8, a9, a10, a11, a12, a13, a14, a15, a16, a17, a18, a19) c m := ⟨e, W, sq, hI, hK⟩
  unfold wpX_insert
  refine br_c (fun _ => hp _ _ same) (fun zr => br_c (fun _ => hp _ _ same) (fun z0 => br_c (fun z1 => br_c (fun _ => hp _ _ same) (fun z2 => br_c (fun z3 => ?_) (fun _ => hp _ _ same))) (fun _ => hp _ _ same)))
  obtain ⟨f, hf, ef⟩ := nI_of z0
  have fe' : f ≤ e := by
    rw [Int32.le_iff_toInt_le, ef, h2, nI_toInt hf, nI_toInt (by omega)] at z1
    omega
  have em : e < m := by
    rcases Nat.lt_or_ge e m with w | w
    · exact w
    · exact absurd (by rw [h2, h4, show e = m by omega]) zr
  have go : ∀ z0 : Int32, (¬ p2 < z0 → p2 ≤ fc → ls_v (c : Int) (ls_tr (c : Int) p1 p2)) → wX_insert_53 post p0 p1 p2 z0 fs fr fe fc fm fx fy fz a1 a2 a3 a4 a5 a6 a7 a8 a9 a10 a11 a12 a13 a14 a15 a16 a17 a18 a19 := by
    intro z hz
    refine br_c (fun _ => hp _ _ same) (fun y0 => br_c (fun y1 => ?_) (fun _ => hp _ _ same))
    rw [ef]
    exact ls_place fs fr fe fc fm fx fy fz a1 a2 a3 a4 a5 a6 a7 a8 a9 a10 a11 a12 a13 a14 a15 a16 a17 a18 a19 hI hK em fe' (hz y0 y1) (fun sq W fs fr fe fx fy fz a1 a2 a3 a4 a5 a6 a7 a8 a9 a10 a11 a12 a13 a14 a15 hI hK => hp _ _ ⟨e + 1, W, sq, hI, hK⟩)
  refine br_c (fun k0 => go _ (fun y0 y1 => ?_)) (fun k0 => go _ (fun y0 y1 => ?_))
  · rw [Int32.lt_iff_toInt_lt, h3, sb_negT (by omega)] at y0
    rw [Int32.le_iff_toInt_le, cc] at y1
    unfold ls_tr ls_v
    rw [if_pos k0]
    dsimp only
    omega
  · rw [Int32.lt_iff_toInt_lt, ls_i0] at y0
    rw [Int32.le_iff_toInt_le, cc] at y1
    unfold ls_tr ls_v
    rw [if_neg k0]
    split
    · dsimp only; omega
    · split <;> dsimp only <;> omega
theorem ls_copy125 {post : Int32 → St2 → Prop} {c m g len : Nat} (fc fm : Int32) (a16 a17 a18 a19 : Nat → Int32) (hv : ∀ j, j < len → ls_v (c : Int) (ls_tr (c : Int) (a17 j) (a18 j))) (hl : len ≤ 40)
    (hp : ∀ r u, ls_GS u c m → post r u) :
    ∀ (k i e : Nat) (sq : Int32 → List ls_E) (W : List ls_E) (fs fr fe fx fy fz : Int32) (a1 a2 a3 a4 a5 a6 a7 a8 a9 a10 a11 a12 a13 a14 a15 : Nat → Int32), i + k = len → ls_I (c : Int) a1 a2 a3 a4 a5 a6 a7 a8 a9 a13 a14 a15 sq fr 0 W [] → ls_K fs fe fc fm a16 c m e W → e + k ≤ m → g + i ≤ e →
      wX_copy_125 post (nI g) (nI len) (k + 1) (nI i) fs fr fe fc fm fx fy fz a1 a2 a3 a4 a5 a6 a7 a8 a9 a10 a11 a12 a13 a14 a15 a16 a17 a18 a19 := by
  intro k
  induction k with
  | zero =>
    intro i e sq W fs fr fe fx fy fz a1 a2 a3 a4 a5 a6 a7 a8 a9 a10 a11 a12 a13 a14 a15 hk hI hK he hg
    exact pk_le len i (fun _ => hp _ _ ⟨e, W, sq, hI, hK⟩) (fun z => absurd z (by omega))
  | succ k ih =>
    intro i e sq W fs fr fe fx fy fz a1 a2 a3 a4 a5 a6 a7 a8 a9 a10 a11 a12 a13 a14 a15 hk hI hK he hg
    refine pk_le len i (fun z => absurd z (by omega)) (fun _ => ⟨pk_in i 40 (by omega), pk_in i 40 (by omega), pk_in i 40 (by omega), ?_⟩)
    rw [nI_add, nI_clamp (by omega)]
    refine ls_place fs fr fe fc fm fx fy fz a1 a2 a3 a4 a5 a6 a7 a8 a9 a10 a11 a12 a13 a14 a15 a16 a17 a18 a19 hI hK (by omega) hg (hv i (by omega)) (fun sq W fs fr fe fx fy fz a1 a2 a3 a4 a5 a6 a7 a8 a9 a10 a11 a12 a13 a14 a15 hI hK => nm_r (nI_1 i) ?_)
    exact ih (i + 1) (e + 1) sq W fs fr fe fx fy fz a1 a2 a3 a4 a5 a6 a7 a8 a9 a10 a11 a12 a13 a14 a15 (by omega) hI hK (by omega) (by omega)
theorem ls_copy51 {post : Int32 → St2 → Prop} {c m e f g len : Nat} {W : List ls_E} (fs fe fc fm : Int32) (a5 a6 a16 : Nat → Int32) (hl : len ≤ 40) (hf : f + len ≤ e) (hg : g ≤ e) (hm : e + len ≤ m) (hK : ls_K fs fe fc fm a16 c m e W)
    (hp : ∀ r u, ls_GS u c m → post r u) :
    ∀ (k i : Nat) (sq : Int32 → List ls_E) (fr fx fy fz : Int32) (a1 a2 a3 a4 a7 a8 a9 a10 a11 a12 a13 a14 a15 a17 a18 a19 : Nat → Int32), i + k = len → ls_I (c : Int) a1 a2 a3 a4 a5 a6 a7 a8 a9 a13 a14 a15 sq fr 0 W [] → (∀ j, j < i → ls_v (c : Int) (ls_tr (c : Int) (a17 j) (a18 j))) →
      wX_copy_51 post (nI f) (nI g) (nI len) (k + 1) (nI i) fs fr fe fc fm fx fy fz a1 a2 a3 a4 a5 a6 a7 a8 a9 a10 a11 a12 a13 a14 a15 a16 a17 a18 a19 := by
  obtain ⟨c0, c1, cc⟩ := ls_K_cap hK
  have hK' := hK
  obtain ⟨h1, h2, h3, h4, h5, h6, h7, h8, h9, h10⟩ := hK'
  intro k
  induction k with
  | zero =>
    intro i sq fr fx fy fz a1 a2 a3 a4 a7 a8 a9 a10 a11 a12 a13 a14 a15 a17 a18 a19 hk hI hv
    refine pk_le len i (fun _ => ⟨len + 1, ?_⟩) (fun z => absurd z (by omega))
    exact ls_copy125 fc fm a16 a17 a18 a19 (fun j hj => hv j (by omega)) hl hp len 0 e sq W fs fr fe fx fy fz a1 a2 a3 a4 a5 a6 a7 a8 a9 a10 a11 a12 a13 a14 a15 (by omega) hI hK hm (by omega)
  | succ k ih =>
    intro i sq fr fx fy fz a1 a2 a3 a4 a7 a8 a9 a10 a11 a12 a13 a14 a15 a17 a18 a19 hk hI hv
    refine pk_le len i (fun z => absurd z (by omega)) (fun _ => ?_)
    rw [nI_add, show nI (f + i) + 1 = nI (f + i + 1) from nI_1 _]
    refine ls_isolate fs fr fe fc fm fx fy fz a1 a2 a3 a4 a5 a6 a7 a8 a9 a10 a11 a12 a13 a14 a15 a16 a17 a18 a19 c0 c1 cc hI (by omega) (by omega) (fun sq fr q b fx fy fz a1 a2 a3 a4 a7 a8 a9 a10 a11 a12 a13 a14 a15 A M B eo eq hI hW hA hM iso => ?_)
    have bin := ls_m_in hI hW iso
    have b0 : b ≠ 0 := by
      intro z
      have := iso.2.2.2.2.1
      rw [z, hI.1.1.1] at this
      rw [← this] at hM
      rw [List.length_nil] at hM; omega
    have bT := ((ls_iso_f hI hW iso).2.2.2.2.2.2.2.1 b0).1
    have vb : ls_v (c : Int) (ls_tr (c : Int) (ls_rd a5 b) (ls_rd a6 b)) := by
      refine (hI.1.2 b (Or.inr bT)).2.2.1 (b, ls_ev (c : Int) a5 a6 a7 b) ?_
      rw [(ls_L_S hI.1.1 bT).2.2.1]; simp
    have ii : vp_in (nI i) 40 := vp_in_nI (by omega) (by decide)
    refine ⟨bin, ii, nm_e ⟨bin, ii, nm_e ⟨bin, ii, nm_e (nm_r (nI_1 i) ?_)⟩⟩⟩
    rw [nI_clamp (by omega)]
    refine ih (i + 1) sq fr fx fy fz a1 a2 a3 a4 a7 a8 a9 a10 a11 a12 a13 a14 a15 _ _ _ (by omega) hI (fun j hj => ?_)
    by_cases z : j = i
    · rw [z, pk_us, pk_us]; exact vb
    · rw [pk_un z, pk_un z]; exact hv j (by omega)
theorem ls_copy {post : Int32 → St2 → Prop} (fs fr fe fc fm fx fy fz : Int32) (a1 a2 a3 a4 a5 a6 a7 a8 a9 a10 a11 a12 a13 a14 a15 a16 a17 a18 a19 : Nat → Int32) {p0 p1 p2 : Int32} {c m e : Nat} {W : List ls_E} {sq : Int32 → List ls_E} (hI : ls_I (c : Int) a1 a2 a3 a4 a5 a6 a7 a8 a9 a13 a14 a15 sq fr 0 W []) (hK : ls_K fs fe fc fm a16 c m e W)
    (hp : ∀ r u, ls_GS u c m → post r u) : wpX_copy post (fs, fr, fe, fc, fm, fx, fy, fz, a1, a2, a3, a4, a5, a6, a7, a8, a9, a10, a11, a12, a13, a14, a15, a16, a17, a18, a19) p0 p1 p2 := by
  have hK' := hK
  obtain ⟨h1, h2, h3, h4, h5, h6, h7, h8, h9, h10⟩ := hK'
  have same : ls_GS (fs, fr, fe, fc, fm, fx, fy, fz, a1, a2, a3, a4, a5, a6, a7, a8, a9, a10, a11, a12, a13, a14, a15, a16, a17, a18, a19) c m := ⟨e, W, sq, hI, hK⟩
  unfold wpX_copy
  refine ls_good fs fr fe fc fm fx fy fz a1 a2 a3 a4 a5 a6 a7 a8 a9 a10 a11 a12 a13 a14 a15 a16 a17 a18 a19 h2 (by omega) (br_t rfl (hp _ _ same)) (fun f t ef et hft hte => br_f (by decide) ?_)
  refine br_c (fun _ => hp _ _ same) (fun z0 => br_c (fun z1 => ?_) (fun _ => hp _ _ same))
  obtain ⟨g, hg, eg⟩ := nI_of z0
  have ge : g ≤ e := by
    rw [Int32.le_iff_toInt_le, eg, h2, nI_toInt hg, nI_toInt (by omega)] at z1
    omega
  refine nm_r (show p1 - p0 = nI (t - f) by rw [ef, et, pk_sub hft]) (br_c (fun z2 => ⟨t - f + 1, ?_⟩) (fun _ => hp _ _ same))
  have em : e + (t - f) ≤ m := by
    rw [h2, h4, nI_add, Int32.le_iff_toInt_le, nI_toInt (by omega), nI_toInt (by omega)] at z2
    omega
  rw [ef, eg]
  exact ls_copy51 fs fe fc fm a5 a6 a16 (by omega) (by omega) ge em hK hp (t - f) 0 sq fr fx fy fz a1 a2 a3 a4 a7 a8 a9 a10 a11 a12 a13 a14 a15 a17 a18 a19 (by omega) hI (fun j hj => absurd hj (by omega))
end
section
/-! the law's own methods -/
theorem ls_red_any {post : Int32 → Prop} {p0 p1 : Int32} (hp : ∀ r, post r) : wpL_red post () p0 p1 := by
  refine br_c (fun z => ⟨fun w => ?_, hp _⟩) (fun _ => hp _)
  rw [w] at z
  exact absurd z (by decide)
theorem ls_red {post : Int32 → Prop} {p0 : Int32} {N : Nat} (hN : 1 ≤ N) (hN2 : N < 2 ^ 31) (hp : ∀ j, j < N → post (nI j)) : wpL_red post () p0 (nI N) := by
  refine br_t (show nI 1 ≤ nI N from nI_le hN hN2) ⟨nI_ne0 hN hN2, ?_⟩
  obtain ⟨j, hj, ej⟩ := pk_andE p0 (m := 2147483647) 31 (by decide)
  rw [ej, pk_rem hj hN hN2]
  exact hp _ (Nat.mod_lt _ hN)
theorem ls_lturn {post : St2 → Prop} (fs fr fe fc fm fx fy fz : Int32) (a1 a2 a3 a4 a5 a6 a7 a8 a9 a10 a11 a12 a13 a14 a15 a16 a17 a18 a19 : Nat → Int32) {p1 p2 p3 p4 : Int32} {c m e : Nat} {W : List ls_E} {sq : Int32 → List ls_E} (hI : ls_I (c : Int) a1 a2 a3 a4 a5 a6 a7 a8 a9 a13 a14 a15 sq fr 0 W []) (hK : ls_K fs fe fc fm a16 c m e W)
    (hp : ∀ u, ls_GS u c m → post u) : wpL_turn post (fs, fr, fe, fc, fm, fx, fy, fz, a1, a2, a3, a4, a5, a6, a7, a8, a9, a10, a11, a12, a13, a14, a15, a16, a17, a18, a19) p1 p2 p3 p4 := by
  have hp' : ∀ (r : Int32) (u : St2), ls_GS u c m → (match u with | (fs, fr, fe, fc, fm, fx, fy, fz, a1, a2, a3, a4, a5, a6, a7, a8, a9, a10, a11, a12, a13, a14, a15, a16, a17, a18, a19) => post (fs, fr, fe, fc, fm, fx, fy, fz, a1, a2, a3, a4, a5, a6, a7, a8, a9, a10, a11, a12, a13, a14, a15, a16, a17, a18, a19)) := by
    rintro r ⟨fs, fr, fe, fc, fm, fx, fy, fz, a1, a2, a3, a4, a5, a6, a7, a8, a9, a10, a11, a12, a13, a14, a15, a16, a17, a18, a19⟩ h
    exact hp _ h
  unfold wpL_turn wpX_size
  dsimp only
  refine ls_red_any (fun r2 => ls_red_any (fun r3 => nm_e (br_c (fun _ => br_c (fun _ => ?_) (fun _ => br_c (fun _ => ?_) (fun _ => br_c (fun _ => br_c (fun _ => ?_) (fun _ => ?_)) (fun _ => ?_)))) (fun _ => nm_e ?_))))
  · exact ls_red_any (fun r => ls_move fs fr fe fc fm fx fy fz a1 a2 a3 a4 a5 a6 a7 a8 a9 a10 a11 a12 a13 a14 a15 a16 a17 a18 a19 hI hK hp')
  · exact ls_red_any (fun r => ls_copy fs fr fe fc fm fx fy fz a1 a2 a3 a4 a5 a6 a7 a8 a9 a10 a11 a12 a13 a14 a15 a16 a17 a18 a19 hI hK hp')
  · exact ls_remove fs fr fe fc fm fx fy fz a1 a2 a3 a4 a5 a6 a7 a8 a9 a10 a11 a12 a13 a14 a15 a16 a17 a18 a19 hI hK hp'
  · exact ls_reverse fs fr fe fc fm fx fy fz a1 a2 a3 a4 a5 a6 a7 a8 a9 a10 a11 a12 a13 a14 a15 a16 a17 a18 a19 hI hK hp'
  · exact ls_setVoid fs fr fe fc fm fx fy fz a1 a2 a3 a4 a5 a6 a7 a8 a9 a10 a11 a12 a13 a14 a15 a16 a17 a18 a19 hI hK hp'
  · exact br_c (fun _ => ls_red_any (fun r => ls_insert fs fr fe fc fm fx fy fz a1 a2 a3 a4 a5 a6 a7 a8 a9 a10 a11 a12 a13 a14 a15 a16 a17 a18 a19 hI hK hp')) (fun _ => ls_red_any (fun r => ls_insert fs fr fe fc fm fx fy fz a1 a2 a3 a4 a5 a6 a7 a8 a9 a10 a11 a12 a13 a14 a15 a16 a17 a18 a19 hI hK hp'))
/-- the entries from f to t -/
def ls_blk (W : List ls_E) (f t : Nat) : List ls_T := ls_g 2 ((W.drop (f + 1)).take (t - f))
theorem ls_blk_eq {W A M B : List ls_E} {eo eq : ls_E} {f t : Nat} (hW : W = A ++ eo :: (M ++ eq :: B)) (hA : A.length = f) (hM : M.length = t - f) : ls_blk W f t = ls_g 2 M := by
  unfold ls_blk
  have e1 : W.drop (f + 1) = M ++ eq :: B := by
    rw [hW, show A ++ eo :: (M ++ eq :: B) = (A ++ [eo]) ++ (M ++ eq :: B) by simp, List.drop_left' (by simp [hA])]
  rw [e1, List.take_left' hM]
theorem ls_blk_app (W : List ls_E) {f h t : Nat} (h1 : f ≤ h) (h2 : h ≤ t) : ls_blk W f t = ls_blk W f h ++ ls_blk W h t := by
  unfold ls_blk
  rw [← ls_g_app_e (Or.inr rfl)]
  congr 1
  have e : W.drop (h + 1) = (W.drop (f + 1)).drop (h - f) := by
    rw [List.drop_drop]; congr 1; omega
  rw [e, show t - f = (h - f) + (t - h) by omega, List.take_add]
theorem ls_blk_v {c : Int} {W : List ls_E} (h : ∀ e ∈ W, ls_v c e.2.1) (f t : Nat) : ∀ y ∈ ls_blk W f t, ls_v c y :=
  ls_g_v (fun e he => h e (List.mem_of_mem_drop (List.mem_of_mem_take he))) 2
theorem ls_load {post : St2 → Prop} (fs fr fe fc fm fx fy fz : Int32) (a1 a2 a3 a4 a5 a6 a7 a8 a9 a10 a11 a12 a13 a14 a15 a16 a17 a18 a19 : Nat → Int32) {f t c m e : Nat} {W : List ls_E} {sq : Int32 → List ls_E} (hI : ls_I (c : Int) a1 a2 a3 a4 a5 a6 a7 a8 a9 a13 a14 a15 sq fr 0 W []) (hK : ls_K fs fe fc fm a16 c m e W) (hft : f ≤ t) (hte : t ≤ e)
    (hp : ∀ (sq : Int32 → List ls_E) (fr fx fy fz : Int32) (a1 a2 a3 a4 a7 a8 a9 a10 a11 a12 a13 a14 a15 : Nat → Int32), ls_I (c : Int) a1 a2 a3 a4 a5 a6 a7 a8 a9 a13 a14 a15 sq fr 0 W [] → ls_M (c : Int) fx fy fz (ls_blk W f t) → post (fs, fr, fe, fc, fm, fx, fy, fz, a1, a2, a3, a4, a5, a6, a7, a8, a9, a10, a11, a12, a13, a14, a15, a16, a17, a18, a19)) :
    wpX_load post (fs, fr, fe, fc, fm, fx, fy, fz, a1, a2, a3, a4, a5, a6, a7, a8, a9, a10, a11, a12, a13, a14, a15, a16, a17, a18, a19) (nI f) (nI t) := by
  obtain ⟨c0, c1, cc⟩ := ls_K_cap hK
  obtain ⟨h1, h2, h3, h4, h5, h6, h7, h8, h9, h10⟩ := hK
  unfold wpX_load
  refine ls_isolate fs fr fe fc fm fx fy fz a1 a2 a3 a4 a5 a6 a7 a8 a9 a10 a11 a12 a13 a14 a15 a16 a17 a18 a19 c0 c1 cc hI hft (by omega) (fun sq fr q b fx fy fz a1 a2 a3 a4 a7 a8 a9 a10 a11 a12 a13 a14 a15 A M B eo eq hI hW hA hM iso => ?_)
  have bin := ls_m_in hI hW iso
  obtain ⟨j1, j2⟩ := ls_ix2 bin
  have qm : ls_Q (c : Int) a4 a13 a14 a15 b (sq b) := by
    by_cases z : b = 0
    · exact hI.1.2 b (Or.inl z)
    · exact hI.1.2 b (Or.inr ((ls_iso_f hI hW iso).2.2.2.2.2.2.2.1 z).1)
  have mm := qm.2.2.2 2 (by omega)
  rw [iso.2.2.2.2.1, ← ls_blk_eq hW hA hM] at mm
  refine nm_e ⟨j1, nm_e ⟨j1, nm_e ⟨j1, nm_e ?_⟩⟩⟩
  rw [j2]
  exact hp sq fr _ _ _ a1 a2 a3 a4 a7 a8 a9 a10 a11 a12 a13 a14 a15 hI mm
theorem ls_W_v {c : Int} {a1 a2 a3 a4 a5 a6 a7 a8 a9 a13 a14 a15 : Nat → Int32} {sq : Int32 → List ls_E} {fr : Int32} {W : List ls_E} (hI : ls_I c a1 a2 a3 a4 a5 a6 a7 a8 a9 a13 a14 a15 sq fr 0 W []) : ∀ e ∈ W, ls_v c e.2.1 := by
  have rT : sq fr ≠ [] := by rw [hI.2.1]; exact hI.2.2.2.2.1
  have := (hI.1.2 fr (Or.inr rT)).2.2.1
  rw [hI.2.1] at this
  exact this
theorem ls_blk_len {W : List ls_E} (f t : Nat) : (ls_blk W f t).length ≤ W.length := by
  refine Nat.le_trans (ls_g_len _ _) ?_
  rw [List.length_take, List.length_drop]; omega
theorem ls_good1 {post : Int32 → Prop} (fs fr fe fc fm fx fy fz : Int32) (a1 a2 a3 a4 a5 a6 a7 a8 a9 a10 a11 a12 a13 a14 a15 a16 a17 a18 a19 : Nat → Int32) {f t e : Nat} (he : fe = nI e) (hft : f ≤ t) (hte : t ≤ e) (he2 : e < 1000) (h1 : post 1) : wpX_good post (fs, fr, fe, fc, fm, fx, fy, fz, a1, a2, a3, a4, a5, a6, a7, a8, a9, a10, a11, a12, a13, a14, a15, a16, a17, a18, a19) (nI f) (nI t) :=
  br_f (nI_pos (by omega)) (br_f (nI_nlt hft (by omega)) (br_f (by rw [he]; exact nI_nlt hte (by omega)) h1))
theorem ls_run {post : Int32 → St2 → Prop} (fs fr fe fc fm fx fy fz : Int32) (a1 a2 a3 a4 a5 a6 a7 a8 a9 a10 a11 a12 a13 a14 a15 a16 a17 a18 a19 : Nat → Int32) {f t c m e : Nat} {x : Int32} {W : List ls_E} {sq : Int32 → List ls_E} (hI : ls_I (c : Int) a1 a2 a3 a4 a5 a6 a7 a8 a9 a13 a14 a15 sq fr 0 W []) (hK : ls_K fs fe fc fm a16 c m e W) (hft : f ≤ t) (hte : t ≤ e) (x0 : 0 ≤ x.toInt) (x1 : x.toInt ≤ (c : Int))
    (hp : ∀ (r : Int32) (sq : Int32 → List ls_E) (fr fx fy fz : Int32) (a1 a2 a3 a4 a7 a8 a9 a10 a11 a12 a13 a14 a15 : Nat → Int32), ls_I (c : Int) a1 a2 a3 a4 a5 a6 a7 a8 a9 a13 a14 a15 sq fr 0 W [] → r.toInt = ls_F (ls_blk W f t) x.toInt → post r (fs, fr, fe, fc, fm, fx, fy, fz, a1, a2, a3, a4, a5, a6, a7, a8, a9, a10, a11, a12, a13, a14, a15, a16, a17, a18, a19)) :
    wpX_run post (fs, fr, fe, fc, fm, fx, fy, fz, a1, a2, a3, a4, a5, a6, a7, a8, a9, a10, a11, a12, a13, a14, a15, a16, a17, a18, a19) (nI f) (nI t) x := by
  obtain ⟨c0, c1, cc⟩ := ls_K_cap hK
  have hK' := hK
  obtain ⟨h1, h2, h3, h4, h5, h6, h7, h8, h9, h10⟩ := hK'
  have hv := ls_blk_v (ls_W_v hI) f t
  have hl := ls_blk_len (W := W) f t
  obtain ⟨k1, k2, k3, k4⟩ := ls_key c0 _ hv
  have bd := ls_A_bd c1 _ hv
  unfold wpX_run
  refine ls_good1 fs fr fe fc fm fx fy fz a1 a2 a3 a4 a5 a6 a7 a8 a9 a10 a11 a12 a13 a14 a15 a16 a17 a18 a19 h2 hft hte (by omega) (br_f (by decide) (br_f (by rw [Int32.lt_iff_toInt_lt, ls_i0]; omega) (br_t (by rw [Int32.le_iff_toInt_le, cc]; omega) ?_)))
  refine ls_load fs fr fe fc fm fx fy fz a1 a2 a3 a4 a5 a6 a7 a8 a9 a10 a11 a12 a13 a14 a15 a16 a17 a18 a19 hI hK hft hte (fun sq fr fx fy fz a1 a2 a3 a4 a7 a8 a9 a10 a11 a12 a13 a14 a15 hI mm => ?_)
  obtain ⟨m1, m2, m3⟩ := mm
  refine ls_wclamp (by rw [m2, m3]; exact k2) (fun r er => hp r sq fr fx fy fz a1 a2 a3 a4 a7 a8 a9 a10 a11 a12 a13 a14 a15 hI ?_)
  rw [er, ls_add (by rw [m1]; omega) (by rw [m1]; omega), m1, m2, m3]
  exact (k4 _ x0 x1).symm
theorem ls_w116 {post : Int32 → St2 → Prop} (fs fr fe fc fm fx fy fz : Int32) (a1 a2 a3 a4 a5 a6 a7 a8 a9 a10 a11 a12 a13 a14 a15 a16 a17 a18 a19 : Nat → Int32) {x4 x5 : Int32} (b1 : -100000 ≤ x4.toInt) (b2 : x4.toInt ≤ 100000) (b3 : -100000 ≤ x5.toInt) (b4 : x5.toInt ≤ 100000)
    (hp : ∀ r : Int32, r.toInt = (if x4.toInt ≤ x5.toInt then x5.toInt - x4.toInt + 1 else 0) → post r (fs, fr, fe, fc, fm, fx, fy, fz, a1, a2, a3, a4, a5, a6, a7, a8, a9, a10, a11, a12, a13, a14, a15, a16, a17, a18, a19)) : wX_openings_116 post x4 x5 fs fr fe fc fm fx fy fz a1 a2 a3 a4 a5 a6 a7 a8 a9 a10 a11 a12 a13 a14 a15 a16 a17 a18 a19 := by
  refine br_c (fun z => hp _ ?_) (fun z => hp _ ?_)
  · rw [Int32.le_iff_toInt_le] at z
    have e1 := ls_sub (x := x5) (y := x4) (by omega) (by omega)
    have i1 : (1 : Int32).toInt = 1 := by decide
    rw [if_pos z, ls_add (by rw [e1, i1]; omega) (by rw [e1, i1]; omega), e1, i1]
  · rw [Int32.le_iff_toInt_le] at z
    rw [if_neg z]; exact ls_i0
theorem ls_w101 {post : Int32 → St2 → Prop} (fs fr fe fc fm fx fy fz : Int32) (a1 a2 a3 a4 a5 a6 a7 a8 a9 a10 a11 a12 a13 a14 a15 a16 a17 a18 a19 : Nat → Int32) {x4 x5 : Int32} {c : Int} (hc : fc.toInt = c) (c0 : 0 ≤ c) (c1 : c ≤ 60) (b1 : -100000 ≤ x4.toInt) (b2 : x4.toInt ≤ 100000) (b3 : -100000 ≤ x5.toInt) (b4 : x5.toInt ≤ 100000)
    (hp : ∀ r : Int32, r.toInt = (if x4.toInt ≤ min c x5.toInt then min c x5.toInt - x4.toInt + 1 else 0) → post r (fs, fr, fe, fc, fm, fx, fy, fz, a1, a2, a3, a4, a5, a6, a7, a8, a9, a10, a11, a12, a13, a14, a15, a16, a17, a18, a19)) : wX_openings_101 post x4 x5 fs fr fe fc fm fx fy fz a1 a2 a3 a4 a5 a6 a7 a8 a9 a10 a11 a12 a13 a14 a15 a16 a17 a18 a19 := by
  refine br_c (fun z => ls_w116 fs fr fe fc fm fx fy fz a1 a2 a3 a4 a5 a6 a7 a8 a9 a10 a11 a12 a13 a14 a15 a16 a17 a18 a19 b1 b2 b3 b4 (fun r er => hp r ?_)) (fun z => ls_w116 fs fr fe fc fm fx fy fz a1 a2 a3 a4 a5 a6 a7 a8 a9 a10 a11 a12 a13 a14 a15 a16 a17 a18 a19 b1 b2 (by omega) (by omega) (fun r er => hp r ?_))
  · rw [Int32.le_iff_toInt_le, hc] at z
    rw [er, show min c x5.toInt = x5.toInt by omega]
  · rw [Int32.le_iff_toInt_le, hc] at z
    rw [er, hc, show min c x5.toInt = c by omega]
theorem ls_w91 {post : Int32 → St2 → Prop} (fs fr fe fc fm fx fy fz : Int32) (a1 a2 a3 a4 a5 a6 a7 a8 a9 a10 a11 a12 a13 a14 a15 a16 a17 a18 a19 : Nat → Int32) {x4 x5 : Int32} {c : Int} (hc : fc.toInt = c) (c0 : 0 ≤ c) (c1 : c ≤ 60) (b1 : -100000 ≤ x4.toInt) (b2 : x4.toInt ≤ 100000) (b3 : -100000 ≤ x5.toInt) (b4 : x5.toInt ≤ 100000)
    (hp : ∀ r : Int32, r.toInt = (if max 0 x4.toInt ≤ min c x5.toInt then min c x5.toInt - max 0 x4.toInt + 1 else 0) → post r (fs, fr, fe, fc, fm, fx, fy, fz, a1, a2, a3, a4, a5, a6, a7, a8, a9, a10, a11, a12, a13, a14, a15, a16, a17, a18, a19)) : wX_openings_91 post x4 x5 fs fr fe fc fm fx fy fz a1 a2 a3 a4 a5 a6 a7 a8 a9 a10 a11 a12 a13 a14 a15 a16 a17 a18 a19 := by
  refine br_c (fun z => ls_w101 fs fr fe fc fm fx fy fz a1 a2 a3 a4 a5 a6 a7 a8 a9 a10 a11 a12 a13 a14 a15 a16 a17 a18 a19 hc c0 c1 b1 b2 b3 b4 (fun r er => hp r ?_)) (fun z => ls_w101 fs fr fe fc fm fx fy fz a1 a2 a3 a4 a5 a6 a7 a8 a9 a10 a11 a12 a13 a14 a15 a16 a17 a18 a19 hc c0 c1 (by rw [ls_i0]; omega) (by rw [ls_i0]; omega) b3 b4 (fun r er => hp r ?_))
  · rw [Int32.le_iff_toInt_le, ls_i0] at z
    rw [er, show max 0 x4.toInt = x4.toInt by omega]
  · rw [Int32.le_iff_toInt_le, ls_i0] at z
    rw [er, ls_i0, show max 0 x4.toInt = 0 by omega]
theorem ls_w68 {post : Int32 → St2 → Prop} (fs fr fe fc fm fx fy fz : Int32) (a1 a2 a3 a4 a5 a6 a7 a8 a9 a10 a11 a12 a13 a14 a15 a16 a17 a18 a19 : Nat → Int32) {y z0 : Int32} {c : Int} (hc : fc.toInt = c) (c0 : 0 ≤ c) (c1 : c ≤ 60) (b1 : -100000 ≤ z0.toInt) (b2 : z0.toInt ≤ 100000) (y0 : 0 ≤ y.toInt) (y1 : y.toInt ≤ 60) (x1 : -5000 ≤ fx.toInt) (x2 : fx.toInt ≤ 5000)
    (hp : ∀ r : Int32, r.toInt = (if max 0 z0.toInt ≤ min c (ls_last c fx.toInt fz.toInt y.toInt) then min c (ls_last c fx.toInt fz.toInt y.toInt) - max 0 z0.toInt + 1 else 0) → post r (fs, fr, fe, fc, fm, fx, fy, fz, a1, a2, a3, a4, a5, a6, a7, a8, a9, a10, a11, a12, a13, a14, a15, a16, a17, a18, a19)) : wX_openings_68 post y z0 fs fr fe fc fm fx fy fz a1 a2 a3 a4 a5 a6 a7 a8 a9 a10 a11 a12 a13 a14 a15 a16 a17 a18 a19 := by
  unfold ls_last at hp
  refine br_c (fun z => ls_w91 fs fr fe fc fm fx fy fz a1 a2 a3 a4 a5 a6 a7 a8 a9 a10 a11 a12 a13 a14 a15 a16 a17 a18 a19 hc c0 c1 b1 b2 (by omega) (by omega) (fun r er => hp r ?_)) (fun z => ?_)
  · rw [er, if_pos (show y.toInt = fz.toInt by rw [z]), hc]
  · have e1 := ls_sub (x := y) (y := fx) (by omega) (by omega)
    refine ls_w91 fs fr fe fc fm fx fy fz a1 a2 a3 a4 a5 a6 a7 a8 a9 a10 a11 a12 a13 a14 a15 a16 a17 a18 a19 hc c0 c1 b1 b2 (by rw [e1]; omega) (by rw [e1]; omega) (fun r er => hp r ?_)
    rw [er, if_neg (show ¬ y.toInt = fz.toInt from fun w => z (Int32.toInt_inj.mp w)), e1]
theorem ls_openings {post : Int32 → St2 → Prop} (fs fr fe fc fm fx fy fz : Int32) (a1 a2 a3 a4 a5 a6 a7 a8 a9 a10 a11 a12 a13 a14 a15 a16 a17 a18 a19 : Nat → Int32) {f t c m e : Nat} {y : Int32} {W : List ls_E} {sq : Int32 → List ls_E} (hI : ls_I (c : Int) a1 a2 a3 a4 a5 a6 a7 a8 a9 a13 a14 a15 sq fr 0 W []) (hK : ls_K fs fe fc fm a16 c m e W) (hft : f ≤ t) (hte : t ≤ e) (y0 : 0 ≤ y.toInt) (y1 : y.toInt ≤ (c : Int))
    (hp : ∀ (r : Int32) (sq : Int32 → List ls_E) (fr fx fy fz : Int32) (a1 a2 a3 a4 a7 a8 a9 a10 a11 a12 a13 a14 a15 : Nat → Int32), ls_I (c : Int) a1 a2 a3 a4 a5 a6 a7 a8 a9 a13 a14 a15 sq fr 0 W [] → r.toInt = ls_cnt (c : Int) (ls_A (ls_blk W f t)) (ls_F (ls_blk W f t) 0) (ls_F (ls_blk W f t) c) y.toInt → post r (fs, fr, fe, fc, fm, fx, fy, fz, a1, a2, a3, a4, a5, a6, a7, a8, a9, a10, a11, a12, a13, a14, a15, a16, a17, a18, a19)) :
    wpX_openings post (fs, fr, fe, fc, fm, fx, fy, fz, a1, a2, a3, a4, a5, a6, a7, a8, a9, a10, a11, a12, a13, a14, a15, a16, a17, a18, a19) (nI f) (nI t) y := by
  obtain ⟨c0, c1, cc⟩ := ls_K_cap hK
  have hK' := hK
  obtain ⟨h1, h2, h3, h4, h5, h6, h7, h8, h9, h10⟩ := hK'
  have hv := ls_blk_v (ls_W_v hI) f t
  have hl := ls_blk_len (W := W) f t
  obtain ⟨k1, k2, k3, k4⟩ := ls_key c0 _ hv
  have bd := ls_A_bd c1 _ hv
  unfold wpX_openings
  refine ls_good1 fs fr fe fc fm fx fy fz a1 a2 a3 a4 a5 a6 a7 a8 a9 a10 a11 a12 a13 a14 a15 a16 a17 a18 a19 h2 hft hte (by omega) (br_f (by decide) (br_f (by rw [Int32.lt_iff_toInt_lt, ls_i0]; omega) (br_t (by rw [Int32.le_iff_toInt_le, cc]; omega) ?_)))
  refine ls_load fs fr fe fc fm fx fy fz a1 a2 a3 a4 a5 a6 a7 a8 a9 a10 a11 a12 a13 a14 a15 a16 a17 a18 a19 hI hK hft hte (fun sq fr fx fy fz a1 a2 a3 a4 a7 a8 a9 a10 a11 a12 a13 a14 a15 hI mm => ?_)
  obtain ⟨m1, m2, m3⟩ := mm
  have hp := fun r => hp r sq fr fx fy fz a1 a2 a3 a4 a7 a8 a9 a10 a11 a12 a13 a14 a15 hI
  unfold ls_cnt ls_first at hp
  rw [← m1, ← m2, ← m3] at hp
  refine br_c (fun z => hp _ ?_) (fun z => br_c (fun z2 => br_c (fun z3 => ?_) (fun z3 => ?_)) (fun z2 => hp _ ?_))
  · rw [Int32.lt_iff_toInt_lt] at z
    rw [if_pos z]; exact ls_i0
  · rw [Int32.lt_iff_toInt_lt] at z
    rw [Int32.le_iff_toInt_le] at z2
    refine ls_w68 fs fr fe fc fm fx fy fz a1 a2 a3 a4 a5 a6 a7 a8 a9 a10 a11 a12 a13 a14 a15 a16 a17 a18 a19 cc c0 c1 (by rw [ls_i0]; omega) (by rw [ls_i0]; omega) y0 (by omega) (by rw [m1]; omega) (by rw [m1]; omega) (fun r er => hp r ?_)
    rw [er, if_neg z, if_pos z2, if_pos (show y.toInt = fy.toInt by rw [z3]), ls_i0]
  · rw [Int32.lt_iff_toInt_lt] at z
    rw [Int32.le_iff_toInt_le] at z2
    have e1 := ls_sub (x := y) (y := fx) (by rw [m1]; omega) (by rw [m1]; omega)
    refine ls_w68 fs fr fe fc fm fx fy fz a1 a2 a3 a4 a5 a6 a7 a8 a9 a10 a11 a12 a13 a14 a15 a16 a17 a18 a19 cc c0 c1 (by rw [e1, m1]; omega) (by rw [e1, m1]; omega) y0 (by omega) (by rw [m1]; omega) (by rw [m1]; omega) (fun r er => hp r ?_)
    rw [er, if_neg z, if_pos z2, if_neg (show ¬ y.toInt = fy.toInt from fun w => z3 (Int32.toInt_inj.mp w)), e1]
  · rw [Int32.lt_iff_toInt_lt] at z
    rw [Int32.le_iff_toInt_le] at z2
    rw [if_neg z, if_neg z2]; exact ls_i0
theorem ls_G_bd (c A lo hi y : Int) (h : 0 ≤ c) : 0 ≤ ls_G c A lo hi y ∧ ls_G c A lo hi y ≤ c + 1 := by
  unfold ls_G
  split
  · omega
  · split <;> omega
theorem ls_holds116 {post : Int32 → St2 → Prop} {f t c m e : Nat} {W : List ls_E} (fs fe fc fm : Int32) (a5 a6 a16 a17 a18 a19 : Nat → Int32) (hK : ls_K fs fe fc fm a16 c m e W) (hft : f ≤ t) (hte : t ≤ e)
    (hp : ∀ u, ls_U u c m e W → post 1 u) :
    ∀ (k i : Nat) (s : Int32) (sq : Int32 → List ls_E) (fr fx fy fz : Int32) (a1 a2 a3 a4 a7 a8 a9 a10 a11 a12 a13 a14 a15 : Nat → Int32), i + k = 61 → ls_I (c : Int) a1 a2 a3 a4 a5 a6 a7 a8 a9 a13 a14 a15 sq fr 0 W [] → s.toInt = ls_G (c : Int) (ls_A (ls_blk W f t)) (ls_F (ls_blk W f t) 0) (ls_F (ls_blk W f t) c) (min (i : Int) (c + 1)) →
      wL_holds_116 post fc (nI f) (nI t) (k + 1) s (nI i) fs fr fe fc fm fx fy fz a1 a2 a3 a4 a5 a6 a7 a8 a9 a10 a11 a12 a13 a14 a15 a16 a17 a18 a19 := by
  obtain ⟨c0, c1, cc⟩ := ls_K_cap hK
  have hK' := hK
  obtain ⟨h1, h2, h3, h4, h5, h6, h7, h8, h9, h10⟩ := hK'
  intro k
  induction k with
  | zero =>
    intro i s sq fr fx fy fz a1 a2 a3 a4 a7 a8 a9 a10 a11 a12 a13 a14 a15 hk hI hs
    have hv := ls_blk_v (ls_W_v hI) f t
    obtain ⟨k1, k2, k3, k4⟩ := ls_key c0 _ hv
    refine pk_lt 60 i (fun _ => br_t ?_ (hp _ ⟨sq, hI, hK⟩)) (fun z => absurd z (by omega))
    have i1 : (1 : Int32).toInt = 1 := by decide
    rw [show min (i : Int) (c + 1) = (c : Int) + 1 by omega, ls_G_c k2 k3] at hs
    refine Int32.toInt_inj.mp ?_
    rw [hs, ls_add (by rw [cc, i1]; omega) (by rw [cc, i1]; omega), cc, i1]
  | succ k ih =>
    intro i s sq fr fx fy fz a1 a2 a3 a4 a7 a8 a9 a10 a11 a12 a13 a14 a15 hk hI hs
    have hv := ls_blk_v (ls_W_v hI) f t
    obtain ⟨k1, k2, k3, k4⟩ := ls_key c0 _ hv
    have b1 := ls_G_bd (c : Int) (ls_A (ls_blk W f t)) (ls_F (ls_blk W f t) 0) (ls_F (ls_blk W f t) c) (min (i : Int) (c + 1)) c0
    refine pk_lt 60 i (fun z => absurd z (by omega)) (fun _ => ?_)
    refine pk_lt c i (fun z => nm_r (nI_1 i) ?_) (fun z => ?_) h3 rfl (by omega) (by omega)
    · refine ih (i + 1) s sq fr fx fy fz a1 a2 a3 a4 a7 a8 a9 a10 a11 a12 a13 a14 a15 (by omega) hI ?_
      rw [hs]; congr 1; omega
    · have yi : (nI i).toInt = (i : Int) := nI_toInt (by omega)
      refine ls_openings fs fr fe fc fm fx fy fz a1 a2 a3 a4 a5 a6 a7 a8 a9 a10 a11 a12 a13 a14 a15 a16 a17 a18 a19 hI hK hft hte (by rw [yi]; omega) (by rw [yi]; omega) (fun r sq fr fx fy fz a1 a2 a3 a4 a7 a8 a9 a10 a11 a12 a13 a14 a15 hI er => ?_)
      rw [yi] at er
      have nn := ls_cnt_nn (c : Int) (ls_A (ls_blk W f t)) (ls_F (ls_blk W f t) 0) (ls_F (ls_blk W f t) c) (i : Int)
      have st := ls_G_s (y := (i : Int)) (A := ls_A (ls_blk W f t)) c0 k2
      have b2 := ls_G_bd (c : Int) (ls_A (ls_blk W f t)) (ls_F (ls_blk W f t) 0) (ls_F (ls_blk W f t) c) ((i : Int) + 1) c0
      rw [show min (i : Int) (c + 1) = (i : Int) by omega] at hs b1
      refine br_t (by rw [Int32.le_iff_toInt_le, ls_i0, er]; exact nn) (nm_e (nm_r (nI_1 i) ?_))
      refine ih (i + 1) (s + r) sq fr fx fy fz a1 a2 a3 a4 a7 a8 a9 a10 a11 a12 a13 a14 a15 (by omega) hI ?_
      rw [ls_add (by rw [hs, er]; omega) (by rw [hs, er]; omega), hs, er, show min ((i + 1 : Nat) : Int) (c + 1) = (i : Int) + 1 by omega]
      exact st.symm
theorem ls_holds {post : Int32 → St2 → Prop} (fs fr fe fc fm fx fy fz : Int32) (a1 a2 a3 a4 a5 a6 a7 a8 a9 a10 a11 a12 a13 a14 a15 a16 a17 a18 a19 : Nat → Int32) {p1 p2 p3 p4 : Int32} {c m e : Nat} {W : List ls_E} {sq : Int32 → List ls_E} (hI : ls_I (c : Int) a1 a2 a3 a4 a5 a6 a7 a8 a9 a13 a14 a15 sq fr 0 W []) (hK : ls_K fs fe fc fm a16 c m e W)
    (hp : ∀ u, ls_U u c m e W → post 1 u) : wpL_holds post (fs, fr, fe, fc, fm, fx, fy, fz, a1, a2, a3, a4, a5, a6, a7, a8, a9, a10, a11, a12, a13, a14, a15, a16, a17, a18, a19) p1 p2 p3 p4 := by
  obtain ⟨c0, c1, cc⟩ := ls_K_cap hK
  have hK' := hK
  obtain ⟨h1, h2, h3, h4, h5, h6, h7, h8, h9, h10⟩ := hK'
  have hv := fun f t => ls_blk_v (ls_W_v hI) f t
  unfold wpL_holds wpX_size wpX_cap
  dsimp only
  rw [h2, nI_1]
  refine ls_red (by omega) (by omega) (fun f hf => ?_)
  rw [pk_sub (by omega), nI_1]
  refine ls_red (by omega) (by omega) (fun g hg => nm_r (nI_add f g) ?_)
  rw [pk_sub (by omega), nI_1]
  refine ls_red (by omega) (by omega) (fun h hh => nm_r (nI_add f h) ?_)
  rw [h3, nI_1]
  refine ls_red (by omega) (by omega) (fun x hx => ?_)
  have xi : (nI x).toInt = (x : Int) := nI_toInt (by omega)
  rw [← h2, ← h3]
  refine ls_run fs fr fe fc fm fx fy fz a1 a2 a3 a4 a5 a6 a7 a8 a9 a10 a11 a12 a13 a14 a15 a16 a17 a18 a19 hI hK (by omega) (by omega) (by rw [xi]; omega) (by rw [xi]; omega) (fun r1 sq fr fx fy fz a1 a2 a3 a4 a7 a8 a9 a10 a11 a12 a13 a14 a15 hI e1 => ?_)
  refine ls_run fs fr fe fc fm fx fy fz a1 a2 a3 a4 a5 a6 a7 a8 a9 a10 a11 a12 a13 a14 a15 a16 a17 a18 a19 hI hK (by omega) (by omega) (by rw [xi]; omega) (by rw [xi]; omega) (fun r2 sq fr fx fy fz a1 a2 a3 a4 a7 a8 a9 a10 a11 a12 a13 a14 a15 hI e2 => ?_)
  have rin := ls_F_in c0 _ (hv f (f + h)) (x := (nI x).toInt) (by rw [xi]; omega) (by rw [xi]; omega)
  rw [← e2] at rin
  refine ls_run fs fr fe fc fm fx fy fz a1 a2 a3 a4 a5 a6 a7 a8 a9 a10 a11 a12 a13 a14 a15 a16 a17 a18 a19 hI hK (by omega) (by omega) rin.1 rin.2 (fun r3 sq fr fx fy fz a1 a2 a3 a4 a7 a8 a9 a10 a11 a12 a13 a14 a15 hI e3 => ?_)
  refine br_t (Int32.toInt_inj.mp ?_) ⟨62, ?_⟩
  · rw [e1, e3, e2, ← ls_F_app, ← ls_blk_app W (by omega) (by omega)]
  · refine ls_holds116 fs fe fc fm a5 a6 a16 a17 a18 a19 hK (by omega) (by omega) hp 61 0 0 sq fr fx fy fz a1 a2 a3 a4 a7 a8 a9 a10 a11 a12 a13 a14 a15 (by omega) hI ?_
    obtain ⟨k1, k2, k3, k4⟩ := ls_key c0 _ (hv f (f + g))
    rw [show min ((0 : Nat) : Int) (c + 1) = 0 by omega, ls_G_0 k1]
    exact ls_i0
end
section
/-! the constructor -/
theorem ls_ok1 : ls_ok 1 := ⟨vp_in_iff.mpr (by decide), by decide⟩
theorem ls_ok2 : ls_ok 2 := ⟨vp_in_iff.mpr (by decide), by decide⟩
theorem ls_v00 {c : Int} (h : 0 ≤ c) : ls_v c (ls_tr c 0 0) := by
  unfold ls_tr ls_v
  rw [if_pos rfl, ls_i0]
  dsimp only
  omega
theorem ls_init_end {post : St2 → Prop} (fs fr fe fc fm fx fy fz : Int32) (a1 a2 a3 a4 a5 a6 a7 a8 a9 a10 a11 a12 a13 a14 a15 a16 a17 a18 a19 : Nat → Int32) {c m : Nat} (V0 : ls_V (c : Int) a1 a2 a3 a4 a5 a6 a7 a8 a9 a13 a14 a15 (fun _ => []) 0) (e1 : fs = nI 40) (e2 : fe = nI 0) (e3 : fc = nI c) (e4 : fm = nI m) (c1 : 4 ≤ c) (c2 : c ≤ 60) (m2 : m ≤ 40) (h16 : ∀ j, j < 40 → a16 j = nI (42 - j))
    (hp : ∀ u, ls_GS u c m → post u) :
    wpX_setUp (fun u => match u with | (fs, fr, fe, fc, fm, fx, fy, fz, a1, a2, a3, a4, a5, a6, a7, a8, a9, a10, a11, a12, a13, a14, a15, a16, a17, a18, a19) => wpX_setUp (fun u => match u with | (fs, fr, fe, fc, fm, fx, fy, fz, a1, a2, a3, a4, a5, a6, a7, a8, a9, a10, a11, a12, a13, a14, a15, a16, a17, a18, a19) => (∀ b2 : Nat → Int32, b2 = upd a2 1 2 → (∀ b3 : Nat → Int32, b3 = upd a3 2 1 → wpX_pull (fun u => match u with | (fs, fr, fe, fc, fm, fx, fy, fz, a1, a2, a3, a4, a5, a6, a7, a8, a9, a10, a11, a12, a13, a14, a15, a16, a17, a18, a19) => post (fs, 1, fe, fc, fm, fx, fy, fz, a1, a2, a3, a4, a5, a6, a7, a8, a9, a10, a11, a12, a13, a14, a15, a16, a17, a18, a19)) (fs, fr, fe, fc, fm, fx, fy, fz, a1, b2, b3, a4, a5, a6, a7, a8, a9, a10, a11, a12, a13, a14, a15, a16, a17, a18, a19) 1))) (fs, fr, fe, fc, fm, fx, fy, fz, a1, a2, a3, a4, a5, a6, a7, a8, a9, a10, a11, a12, a13, a14, a15, a16, a17, a18, a19) 2 0 0 0) (fs, fr, fe, fc, fm, fx, fy, fz, a1, a2, a3, a4, a5, a6, a7, a8, a9, a10, a11, a12, a13, a14, a15, a16, a17, a18, a19) 1 0 0 0 := by
  have c0 : 0 ≤ (c : Int) := by omega
  have c60 : (c : Int) ≤ 60 := by omega
  have cc : fc.toInt = (c : Int) := by rw [e3, nI_toInt (by omega)]
  have n12 : (1 : Int32) ≠ 2 := by decide
  have n10 : (1 : Int32) ≠ 0 := by decide
  have n20 : (2 : Int32) ≠ 0 := by decide
  refine ls_setUp fs fr fe fc fm fx fy fz a1 a2 a3 a4 a5 a6 a7 a8 a9 a10 a11 a12 a13 a14 a15 a16 a17 a18 a19 c0 c60 cc V0 rfl ls_ok1 (ls_v00 c0) (fun en fx fy fz a1 a2 a3 a4 a5 a6 a7 a8 a9 a10 a11 a12 a13 a14 a15 V1 h1 _ _ _ u3 _ _ u1 u2 u8 u9 => ?_)
  refine ls_setUp fs fr fe fc fm fx fy fz a1 a2 a3 a4 a5 a6 a7 a8 a9 a10 a11 a12 a13 a14 a15 a16 a17 a18 a19 c0 c60 cc V1 (ls_up_x (Ne.symm n12)) ls_ok2 (ls_v00 c0) (fun en2 fx fy fz b1 b2 b3 a4 a5 a6 a7 b8 b9 a10 a11 a12 a13 a14 a15 V2 h2 g1 g2 g3 w3 g8 g9 w1 w2 w8 w9 => ?_)
  have k1 : ls_rd b1 1 = 0 := by rw [g1 1 n12]; exact u1
  have k2 : ls_rd b2 1 = 0 := by rw [g2 1 n12]; exact u2
  have k3 : ls_rd b3 1 = 0 := by rw [g3 1 n12]; exact u3
  have k8 : ls_rd b8 1 = 0 := by rw [g8 1 n12]; exact u8
  have k9 : ls_rd b9 1 = 2 := by rw [g9 1 n12]; exact u9
  refine nm_e (nm_e ?_)
  generalize hd2 : upd b2 1 2 = d2
  generalize hd3 : upd b3 2 1 = d3
  have l1 : ls_rd d2 1 = 2 := by rw [← hd2]; exact ls_rd_us
  have l2 : ls_rd d2 2 = 0 := by rw [← hd2]; exact (ls_rd_un ls_ok1 (Ne.symm n12)).trans w2
  have l3 : ls_rd d3 2 = 1 := by rw [← hd3]; exact ls_rd_us
  have l4 : ls_rd d3 1 = 0 := by rw [← hd3]; exact (ls_rd_un ls_ok2 n12).trans k3
  have s2 : ls_up (ls_up (fun _ => []) 1 [en]) 2 [en2] 2 = [en2] := ls_up_m
  have S2 := ls_L_S V2.1 (show ls_up (ls_up (fun _ => []) 1 [en]) 2 [en2] 2 ≠ [] by rw [s2]; simp)
  have S1 := ls_L_S V2.1 (show ls_up (ls_up (fun _ => []) 1 [en]) 2 [en2] 1 ≠ [] by rw [ls_up_x n12, ls_up_m]; simp)
  have q1 := V2.2 1 (Or.inr (by rw [ls_up_x n12, ls_up_m]; simp))
  have q2 := V2.2 2 (Or.inr (by rw [s2]; simp))
  have q0 := V2.2 0 (Or.inl rfl)
  have en1 : en = (1, ls_ev (c : Int) a5 a6 a7 1) := by
    have := S1.2.2.1
    rw [ls_up_x n12, ls_up_m, ls_ch_f, ls_ch_t, k1, k2, V2.1.1, ls_P_nil] at this
    exact (List.cons.inj this).1
  generalize hsq : ls_up (ls_up (ls_up (fun _ => []) 1 [en]) 2 [en2]) 1 [en, en2] = sq
  have t1 : sq 1 = [en, en2] := by rw [← hsq]; exact ls_up_m
  have t2 : sq 2 = [en2] := by rw [← hsq, ls_up_x (Ne.symm n12)]; exact ls_up_m
  have tx : ∀ x, x ≠ 1 → x ≠ 2 → sq x = [] := by
    intro x x1 x2
    rw [← hsq, ls_up_x x1, ls_up_x x2, ls_up_x x1]
  have t0 : sq 0 = [] := tx 0 (Ne.symm n10) (Ne.symm n20)
  have idW : ls_id [en, en2] = [1, 2] := by
    show [en.1, en2.1] = [1, 2]
    rw [h1, h2]
  have ndW : (ls_id [en, en2]).Nodup := by rw [idW]; decide
  have L' : ls_L (ls_ch b1 d2) (ls_rd d3) (ls_rd b8) (ls_rd b9) (ls_ev (c : Int) a5 a6 a7) sq 0 := by
    refine ⟨t0, fun x hx _ => ?_⟩
    by_cases x1 : x = 1
    · rw [x1]
      refine ⟨ls_ok1, fun b hb => ?_, ?_, by rw [t1]; exact ndW⟩
      · cases b
        · exact absurd k1 hb
        · rw [ls_ch_t, l1, t2, l3]
          exact ⟨by simp, rfl⟩
      · rw [k8, k9, ls_P_02, ls_P_02, ls_ch_f, ls_ch_t, k1, l1, t0, t1, t2, en1]; rfl
    · by_cases x2 : x = 2
      · rw [x2]
        refine ⟨ls_ok2, fun b hb => ?_, ?_, ?_⟩
        · cases b
          · exact absurd w1 hb
          · exact absurd l2 hb
        · have := S2.2.2.1
          rw [s2, ls_ch_f, ls_ch_t, w1, w2, V2.1.1] at this
          rw [ls_ch_f, ls_ch_t, w1, l2, t0, t2]
          exact this
        · rw [t2]
          show [en2.1].Nodup
          simp
      · exact absurd (tx x x1 x2) hx
  have q0' : ls_Q (c : Int) a4 a13 a14 a15 0 [] := by rw [V2.1.1] at q0; exact q0
  rw [s2] at q2
  rw [ls_up_x n12, ls_up_m] at q1
  refine ls_pullL fs fr fe fc fm fx fy fz b1 d2 d3 a4 a5 a6 a7 b8 b9 a10 a11 a12 a13 a14 a15 a16 a17 a18 a19 (n := 1) c0 c60 cc L' (by rw [t1]; simp) k8 k9 (fun b => ?_) (by rw [t1]; simp) ?_ (fun ex ey ez b4 b10 b11 b12 b13 b14 b15 f1 p1 => ?_)
  · cases b
    · rw [ls_ch_f, k1, t0]; exact q0'
    · rw [ls_ch_t, l1, t2]; exact q2
  · have := q1.2.2.1 en (List.mem_singleton.mpr rfl)
    rw [en1] at this
    exact this
  · refine hp _ ⟨0, [en, en2], sq, ⟨⟨L', fun x hx => ?_⟩, t1, t0, l4, by simp, by rw [List.append_nil]; exact ndW, by simp, fun x hx => ?_, fun z => absurd rfl z⟩, e1, e2, e3, e4, c1, c2, by omega, m2, rfl, fun i hi => ?_⟩
    · by_cases x1 : x = 1
      · rw [x1]; exact p1
      · refine f1 _ _ x1 ?_
        by_cases x2 : x = 2
        · rw [x2, t2]; exact q2
        · have x0 : x = 0 := hx.elim id (fun z => absurd (tx x x1 x2) z)
          rw [x0, t0]; exact q0'
    · rw [List.append_nil, idW]
      by_cases x1 : x = 1
      · rw [x1]; simp
      · by_cases x2 : x = 2
        · rw [x2]; simp
        · exact absurd (tx x x1 x2) hx
    · rw [h16 i (by omega), idW]
      refine ⟨⟨vp_in_nI (by omega) (by decide), nI_ne0 (by omega) (by omega)⟩, fun w => ?_, fun j hj w => ?_⟩
      · rcases List.mem_cons.mp w with w | w
        · have := (nI_eq (a := 42 - i) (b := 1) (by omega) (by omega)).mp w
          omega
        · have := (nI_eq (a := 42 - i) (b := 2) (by omega) (by omega)).mp (List.mem_singleton.mp w)
          omega
      · rw [h16 j (by omega)] at w
        have := (nI_eq (by omega) (by omega)).mp w
        omega
theorem ls_init209 {post : St2 → Prop} {mc ms kc ks c m : Nat} (fr fe fc fm fx fy fz : Int32) (a1 a2 a3 a4 a5 a6 a7 a8 a9 a10 a11 a12 a13 a14 a15 a17 a18 a19 : Nat → Int32) (V0 : ls_V (c : Int) a1 a2 a3 a4 a5 a6 a7 a8 a9 a13 a14 a15 (fun _ => []) 0) (e2 : fe = nI 0) (e3 : fc = nI c) (e4 : fm = nI m) (c1 : 4 ≤ c) (c2 : c ≤ 60) (m2 : m ≤ 40)
    (hp : ∀ u, ls_GS u c m → post u) : ∀ (k i : Nat) (a16 : Nat → Int32), i + k = 40 → (∀ j, j < i → a16 j = nI (42 - j)) → wX_init_209 post mc ms kc ks fr fe fc fm fx fy fz (k + 1) (nI (42 - i)) (nI i) a1 a2 a3 a4 a5 a6 a7 a8 a9 a10 a11 a12 a13 a14 a15 a16 a17 a18 a19 := by
  intro k
  induction k with
  | zero =>
    intro i a16 hk h
    have i40 : i = 40 := by omega
    refine pk_le (42 - i) 2 (fun _ => ?_) (fun z => absurd z (by omega)) (by rfl) (by rfl) (by omega) (by omega)
    exact ls_init_end (nI i) fr fe fc fm fx fy fz a1 a2 a3 a4 a5 a6 a7 a8 a9 a10 a11 a12 a13 a14 a15 a16 a17 a18 a19 V0 (by rw [i40]) e2 e3 e4 c1 c2 m2 (fun j hj => h j (by omega)) hp
  | succ k ih =>
    intro i a16 hk h
    refine pk_le (42 - i) 2 (fun z => absurd z (by omega)) (fun _ => ?_) (by rfl) (by rfl) (by omega) (by omega)
    have em : nI (42 - i) + (-1) = nI (42 - (i + 1)) := by
      rw [show 42 - i = (42 - (i + 1)) + 1 by omega, pk_m1]
    refine ⟨vp_in_nI (by omega) (by decide), nm_e (nm_r (nI_1 i) (nm_r em ?_))⟩
    rw [nI_clamp (by omega)]
    refine ih (i + 1) _ (by omega) (fun j hj => ?_)
    by_cases z : j = i
    · rw [z, pk_us]
    · rw [pk_un z]; exact h j (by omega)
theorem ls_init183 {post : St2 → Prop} {mc ms kc ks c m : Nat} (fc fm : Int32) (e3 : fc = nI c) (e4 : fm = nI m) (c1 : 4 ≤ c) (c2 : c ≤ 60) (m2 : m ≤ 40)
    (hp : ∀ u, ls_GS u c m → post u) : ∀ (k i : Nat) (a15 : Nat → Int32), i + k = 172 → (∀ j, j < i → a15 j = fc) → wX_init_183 post mc ms kc ks 0 0 0 fc fm 0 0 0 (k + 1) (nI i) (fun _ => 0) (fun _ => 0) (fun _ => 0) (fun _ => 0) (fun _ => 0) (fun _ => 0) (fun _ => 0) (fun _ => 0) (fun _ => 0) (fun _ => 0) (fun _ => 0) (fun _ => 0) (fun _ => 0) (fun _ => 0) a15 (fun _ => 0) (fun _ => 0) (fun _ => 0) (fun _ => 0) := by
  intro k
  induction k with
  | zero =>
    intro i a15 hk h
    refine pk_le 172 i (fun _ => ⟨41, ?_⟩) (fun z => absurd z (by omega))
    refine ls_init209 0 0 fc fm 0 0 0 (fun _ => 0) (fun _ => 0) (fun _ => 0) (fun _ => 0) (fun _ => 0) (fun _ => 0) (fun _ => 0) (fun _ => 0) (fun _ => 0) (fun _ => 0) (fun _ => 0) (fun _ => 0) (fun _ => 0) (fun _ => 0) a15 (fun _ => 0) (fun _ => 0) (fun _ => 0) ?_ rfl e3 e4 c1 c2 m2 hp 40 0 (fun _ => 0) (by omega) (fun j hj => absurd hj (by omega))
    refine ⟨⟨rfl, fun x hx _ => absurd rfl hx⟩, fun x hx => ⟨rfl, by simp, fun e he => absurd he List.not_mem_nil, fun v hv => ?_⟩⟩
    have x0 : x = 0 := hx.elim id (fun z => absurd rfl z)
    have g : ls_g v [] = [] := List.length_eq_zero_iff.mp (Nat.le_zero.mp (ls_g_len v []))
    rw [g, x0]
    refine ⟨ls_i0, ls_i0, ?_⟩
    show (a15 (4 * (0 : Int32).toNatClampNeg + v)).toInt = (c : Int)
    rw [sb_cl0, h _ (by omega), e3, nI_toInt (by omega)]
  | succ k ih =>
    intro i a15 hk h
    refine pk_le 172 i (fun z => absurd z (by omega)) (fun _ => ⟨pk_in i 172 (by omega), nm_e (nm_r (nI_1 i) ?_)⟩)
    rw [nI_clamp (by omega)]
    refine ih (i + 1) _ (by omega) (fun j hj => ?_)
    by_cases z : j = i
    · rw [z, pk_us]
    · rw [pk_un z]; exact h j (by omega)
theorem ls_nIof {r : Int32} (h : 0 ≤ r.toInt) : ∃ k : Nat, r = nI k ∧ (k : Int) = r.toInt := by
  obtain ⟨j, hj, e⟩ := nI_of (x := r) (by rw [Int32.lt_iff_toInt_lt, ls_i0]; omega)
  exact ⟨j, e, by rw [e, nI_toInt hj]⟩
theorem ls_init {post : St2 → Prop} {p0 p1 : Int32} (hp : ∀ u c m, ls_GS u c m → post u) : wpX_init post 19 1195 (0, 0, 0, 0, 0, 0, 0, 0) p0 p1 := by
  unfold wpX_init
  refine ⟨by decide, by decide, by decide, by decide, by decide, by decide, by decide, by decide, by decide, by decide, by decide, by decide, by decide, by decide, by decide, by decide, by decide, by decide, by decide, by decide, by decide, by decide, by decide, by decide, by decide, by decide, by decide, by decide, by decide, by decide, by decide, by decide, by decide, by decide, by decide, by decide, by decide, by decide, ?_⟩
  have i2 : (2 : Int32).toInt = 2 := by decide
  have i4 : (4 : Int32).toInt = 4 := by decide
  have i40 : (40 : Int32).toInt = 40 := by decide
  have i60 : (60 : Int32).toInt = 60 := by decide
  refine ls_wclamp (by rw [i4, i60]; decide) (fun fc efc => ls_wclamp (by rw [i2, i40]; decide) (fun fm efm => ⟨173, ?_⟩))
  have b1 := ls_cl_in (x := p0.toInt) (lo := 4) (hi := 60) (by decide)
  have b2 := ls_cl_in (x := p1.toInt) (lo := 2) (hi := 40) (by decide)
  rw [i4, i60] at efc
  rw [i2, i40] at efm
  obtain ⟨c, ec, kc⟩ := ls_nIof (r := fc) (by omega)
  obtain ⟨m, em, km⟩ := ls_nIof (r := fm) (by omega)
  exact ls_init183 fc fm ec em (by omega) (by omega) (by omega) (fun u h => hp u c m h) 172 0 (fun _ => 0) (by omega) (fun j hj => absurd hj (by omega))
end
section
theorem ls_cell {post : Int32 → Prop} {L : Nat} {xs : Nat → Int32} {j : Nat} (hL : L ≤ 260) (hj : j < 1000) (hp : ∀ r, post r) : wpL_cell post L xs () (nI j) :=
  pk_le L j (fun _ => hp _) (fun z => ⟨vp_in_nI z (by omega), hp _⟩)
theorem ls_law25 {L : Nat} {xs : Nat → Int32} {kc ks c m : Nat} (hL : L ≤ 260) : ∀ (k i : Nat) (fs fr fe fc fm fx fy fz : Int32) (a1 a2 a3 a4 a5 a6 a7 a8 a9 a10 a11 a12 a13 a14 a15 a16 a17 a18 a19 : Nat → Int32), L ≤ i + k → i ≤ 300 → ls_GS (fs, fr, fe, fc, fm, fx, fy, fz, a1, a2, a3, a4, a5, a6, a7, a8, a9, a10, a11, a12, a13, a14, a15, a16, a17, a18, a19) c m → wL_law_25 (fun r => r = 1) L xs kc ks (k + 1) (nI i) fs fr fe fc fm fx fy fz a1 a2 a3 a4 a5 a6 a7 a8 a9 a10 a11 a12 a13 a14 a15 a16 a17 a18 a19 := by
  intro k
  induction k with
  | zero =>
    intro i fs fr fe fc fm fx fy fz a1 a2 a3 a4 a5 a6 a7 a8 a9 a10 a11 a12 a13 a14 a15 a16 a17 a18 a19 hk hi hG
    exact pk_le L i (fun _ => rfl) (fun z => absurd z (by omega))
  | succ k ih =>
    intro i fs fr fe fc fm fx fy fz a1 a2 a3 a4 a5 a6 a7 a8 a9 a10 a11 a12 a13 a14 a15 a16 a17 a18 a19 hk hi hG
    refine pk_le L i (fun _ => rfl) (fun z => ?_)
    have a1' : nI i + 1 = nI (i + 1) := nI_1 i
    have a2' : nI i + 2 = nI (i + 2) := nI_add i 2
    have a3' : nI i + 3 = nI (i + 3) := nI_add i 3
    have a4' : nI i + 4 = nI (i + 4) := nI_add i 4
    have a5' : nI i + 5 = nI (i + 5) := nI_add i 5
    refine ls_cell hL (by omega) (fun c0 => nm_e ?_)
    rw [a1']
    refine ls_cell hL (by omega) (fun c1 => ?_)
    rw [a2']
    refine ls_cell hL (by omega) (fun c2 => ?_)
    rw [a3']
    refine ls_cell hL (by omega) (fun c3 => ?_)
    obtain ⟨e, W, sq, hI, hK⟩ := hG
    refine ls_lturn fs fr fe fc fm fx fy fz a1 a2 a3 a4 a5 a6 a7 a8 a9 a10 a11 a12 a13 a14 a15 a16 a17 a18 a19 hI hK ?_
    rintro ⟨fsq, frq, feq, fcq, fmq, fxq, fyq, fzq, a1q, a2q, a3q, a4q, a5q, a6q, a7q, a8q, a9q, a10q, a11q, a12q, a13q, a14q, a15q, a16q, a17q, a18q, a19q⟩ ⟨e, W, sq, hI, hK⟩
    dsimp only
    rw [a4']
    refine ls_cell hL (by omega) (fun c4 => ?_)
    rw [a5']
    refine ls_cell hL (by omega) (fun c5 => ?_)
    refine ls_holds fsq frq feq fcq fmq fxq fyq fzq a1q a2q a3q a4q a5q a6q a7q a8q a9q a10q a11q a12q a13q a14q a15q a16q a17q a18q a19q hI hK ?_
    rintro ⟨fsw, frw, few, fcw, fmw, fxw, fyw, fzw, a1w, a2w, a3w, a4w, a5w, a6w, a7w, a8w, a9w, a10w, a11w, a12w, a13w, a14w, a15w, a16w, a17w, a18w, a19w⟩ hU
    refine br_f (by decide) (nm_r (nI_add i 6) ?_)
    exact ih (i + 6) fsw frw few fcw fmw fxw fyw fzw a1w a2w a3w a4w a5w a6w a7w a8w a9w a10w a11w a12w a13w a14w a15w a16w a17w a18w a19w (by omega) (by omega) ⟨e, W, hU⟩
theorem i_vc (xs : Nat → Int32) (L : Nat) (hL : L ≤ 260) : wpL_law (fun r => r = 1) L xs := by
  unfold wpL_law
  refine ls_cell (j := 0) hL (by omega) (fun c0 => ls_cell (j := 1) hL (by omega) (fun c1 => ⟨19, 1195, by decide, by decide, ls_init ?_⟩))
  rintro ⟨fs, fr, fe, fc, fm, fx, fy, fz, a1, a2, a3, a4, a5, a6, a7, a8, a9, a10, a11, a12, a13, a14, a15, a16, a17, a18, a19⟩ c m h
  exact ⟨301, ls_law25 hL 300 2 fs fr fe fc fm fx fy fz a1 a2 a3 a4 a5 a6 a7 a8 a9 a10 a11 a12 a13 a14 a15 a16 a17 a18 a19 (by omega) (by omega) h⟩
end
