section
section
variable {l w s p d e : Int32} {a1 a2 a3 a4 a5 a6 a7 a8 a9 a10 : Nat → Int32}
theorem dh_in {i : Int32} {n : Nat} (h : decide (¬ (i < 0 ∨ n ≤ i.toNatClampNeg)) = true) : vp_in i n := by
  have h' : ¬ (i < 0 ∨ n ≤ i.toNatClampNeg) := of_decide_eq_true h
  exact h'
theorem dh_in64 {x : Int32} (h0 : ¬ x < 0) (h : ¬ 64 ≤ x) : vp_in x 64 := by
  rcases pk_ix x (n := 64) (by decide) with z | z | ⟨j, hj, rfl⟩
  · exact absurd z h0
  · exact absurd z h
  · exact vp_in_nI hj (by decide)
/-- the number of hooks -/
def dh_c (y x : Int32) : Int32 := if y < 0 then x else x + 1
def dh_cnt (f : Nat → Int32) : Int32 := dh_c (f 3) (dh_c (f 2) (dh_c (f 1) (dh_c (f 0) 0)))
theorem dh_hooks_s {post : Int32 → Prop} {n : Nat} {x1 : Int32} (i : Nat) (hi : i < 4)
    (h : wX_hooks_4 post l w s p d e a1 a2 a3 a4 a5 a6 a7 a8 a9 a10 n (dh_c (a6 i) x1) (nI (i + 1))) :
    wX_hooks_4 post l w s p d e a1 a2 a3 a4 a5 a6 a7 a8 a9 a10 (n + 1) x1 (nI i) := by
  refine pk_le 4 i (fun z => absurd z (by omega)) (fun _ => ⟨pk_in i 4 hi, ?_⟩)
  rw [nI_clamp (show i < 2 ^ 31 by omega)]
  unfold dh_c at h
  by_cases g : a6 i < 0
  · rw [if_pos g] at h
    exact br_t g (nm_r (nI_1 i) h)
  · rw [if_neg g] at h
    exact br_f g (nm_e (nm_r (nI_1 i) h))
theorem dh_hooks {post : Int32 → Prop} {r : Int32} (hr : dh_cnt a6 = r) (h : post r) : wpX_hooks post (l, w, s, p, d, e, a1, a2, a3, a4, a5, a6, a7, a8, a9, a10) := by
  subst hr
  refine Exists.intro 5 ?_
  refine dh_hooks_s 0 (by decide) ?_
  refine dh_hooks_s 1 (by decide) ?_
  refine dh_hooks_s 2 (by decide) ?_
  refine dh_hooks_s 3 (by decide) ?_
  exact pk_le 4 4 (fun _ => h) (fun z => absurd z (by omega))
/-- the slot of a hook -/
def dh_sl (y a k x : Int32) : Int32 := if y = a then k else x
def dh_slot (f : Nat → Int32) (a : Int32) : Int32 := dh_sl (f 3) a 3 (dh_sl (f 2) a 2 (dh_sl (f 1) a 1 (dh_sl (f 0) a 0 (-1))))
theorem dh_slot_s {post : Int32 → Prop} {n : Nat} {a x2 : Int32} (i : Nat) (hi : i < 4)
    (h : wX_slotOf_4 post a l w s p d e a1 a2 a3 a4 a5 a6 a7 a8 a9 a10 n (dh_sl (a6 i) a (nI i) x2) (nI (i + 1))) :
    wX_slotOf_4 post a l w s p d e a1 a2 a3 a4 a5 a6 a7 a8 a9 a10 (n + 1) x2 (nI i) := by
  refine pk_le 4 i (fun z => absurd z (by omega)) (fun _ => ⟨pk_in i 4 hi, ?_⟩)
  rw [nI_clamp (show i < 2 ^ 31 by omega)]
  unfold dh_sl at h
  by_cases g : a6 i = a
  · rw [if_pos g] at h
    exact br_t g (nm_r (nI_1 i) h)
  · rw [if_neg g] at h
    exact br_f g (nm_r (nI_1 i) h)
theorem dh_slotOf {post : Int32 → Prop} {a r : Int32} (hr : dh_slot a6 a = r) (h : post r) : wpX_slotOf post (l, w, s, p, d, e, a1, a2, a3, a4, a5, a6, a7, a8, a9, a10) a := by
  subst hr
  refine Exists.intro 5 ?_
  refine dh_slot_s 0 (by decide) ?_
  refine dh_slot_s 1 (by decide) ?_
  refine dh_slot_s 2 (by decide) ?_
  refine dh_slot_s 3 (by decide) ?_
  exact pk_le 4 4 (fun _ => h) (fun z => absurd z (by omega))
/-- the length of an instruction -/
def dh_len (k : Int32) : Int32 := if k = 0 then 1 else if k = 7 then 1 else if k = 5 then 3 else 2
theorem dh_lengthOf {post : Int32 → Prop} {k r : Int32} (hr : dh_len k = r) (h : post r) : wpX_lengthOf post (l, w, s, p, d, e, a1, a2, a3, a4, a5, a6, a7, a8, a9, a10) k := by
  subst hr
  unfold dh_len at h
  refine br_c (fun g => ?_) (fun g => br_c (fun g2 => ?_) (fun g2 => br_c (fun g3 => ?_) (fun g3 => ?_)))
  · rw [if_pos g] at h
    exact h
  · rw [if_neg g, if_pos g2] at h
    exact h
  · rw [if_neg g, if_neg g2, if_pos g3] at h
    exact h
  · rw [if_neg g, if_neg g2, if_neg g3] at h
    exact h
theorem dh_isStart1 {post : Int32 → Prop} {x : Int32} (h0 : ¬ x < 0) (h1 : ¬ l ≤ x) (h2 : vp_in x 64) (h3 : ¬ a3 x.toNatClampNeg = 0) (h : post 1) : wpX_isStart post (l, w, s, p, d, e, a1, a2, a3, a4, a5, a6, a7, a8, a9, a10) x :=
  br_f h0 (br_f h1 (And.intro h2 (br_f h3 h)))
theorem dh_isStart0 {post : Int32 → Prop} {x : Int32} (h0 : ¬ x < 0) (h1 : ¬ l ≤ x) (h2 : vp_in x 64) (h3 : a3 x.toNatClampNeg = 0) (h : post 0) : wpX_isStart post (l, w, s, p, d, e, a1, a2, a3, a4, a5, a6, a7, a8, a9, a10) x :=
  br_f h0 (br_f h1 (And.intro h2 (br_t h3 h)))
theorem dh_emit {post : St2 → Prop} {k : Nat} {b : Int32} (hk : k < 64)
    (h : post (nI (k + 1), w, s, p, d, e, upd a1 k b, upd a2 k b, upd a3 k 0, a4, a5, a6, a7, a8, a9, a10)) :
    wpX_emit post (nI k, w, s, p, d, e, a1, a2, a3, a4, a5, a6, a7, a8, a9, a10) b := by
  have e1 : (nI k).toNatClampNeg = k := nI_clamp (by omega)
  refine And.intro (pk_in k 64 hk) (nm_r (e' := upd a1 k b) (by rw [e1]) ?_)
  refine And.intro (pk_in k 64 hk) (nm_r (e' := upd a2 k b) (by rw [e1]) ?_)
  refine And.intro (pk_in k 64 hk) (nm_r (e' := upd a3 k 0) (by rw [e1]) ?_)
  exact nm_r (nI_1 k) h
theorem dh_fit {k m : Nat} (hk : k + m ≤ 64) : nI k + nI m ≤ 64 := by
  rw [nI_add]
  exact nI_le (b := 64) hk (by decide)
theorem dh_app1 {post : Int32 → St2 → Prop} {k : Nat} {b x y : Int32} (hk : k + 1 ≤ 64) (h6 : dh_cnt a6 = 0) (hb : dh_len b = 1)
    (h : post (nI k) (nI (k + 1), w, s, p, d, e, upd a1 k b, upd a2 k b, upd (upd a3 k 0) k 1, a4, a5, a6, a7, a8, a9, a10)) :
    wpX_append post (nI k, w, s, p, d, e, a1, a2, a3, a4, a5, a6, a7, a8, a9, a10) b x y := by
  have e1 : (nI k).toNatClampNeg = k := nI_clamp (by omega)
  refine dh_hooks h6 ?_
  refine br_t (by decide) ?_
  refine dh_lengthOf hb ?_
  refine br_t (dh_fit (m := 1) hk) ?_
  refine dh_emit (by omega) ?_
  refine And.intro (pk_in k 64 (by omega)) (nm_r (e' := upd (upd a3 k 0) k 1) (by rw [e1]) ?_)
  refine br_t (by decide) ?_
  exact br_t (by decide) h
theorem dh_app2 {post : Int32 → St2 → Prop} {k : Nat} {b x y : Int32} (hk : k + 2 ≤ 64) (h6 : dh_cnt a6 = 0) (hb : dh_len b = 2)
    (h : post (nI k) (nI (k + 1 + 1), w, s, p, d, e, upd (upd a1 k b) (k + 1) x, upd (upd a2 k b) (k + 1) x, upd (upd (upd a3 k 0) k 1) (k + 1) 0, a4, a5, a6, a7, a8, a9, a10)) :
    wpX_append post (nI k, w, s, p, d, e, a1, a2, a3, a4, a5, a6, a7, a8, a9, a10) b x y := by
  have e1 : (nI k).toNatClampNeg = k := nI_clamp (by omega)
  refine dh_hooks h6 ?_
  refine br_t (by decide) ?_
  refine dh_lengthOf hb ?_
  refine br_t (dh_fit (m := 2) hk) ?_
  refine dh_emit (by omega) ?_
  refine And.intro (pk_in k 64 (by omega)) (nm_r (e' := upd (upd a3 k 0) k 1) (by rw [e1]) ?_)
  refine br_f (by decide) ?_
  refine dh_emit (by omega) ?_
  exact br_t (by decide) h
theorem dh_app3 {post : Int32 → St2 → Prop} {k : Nat} {b x y : Int32} (hk : k + 3 ≤ 64) (h6 : dh_cnt a6 = 0) (hb : dh_len b = 3)
    (h : post (nI k) (nI (k + 1 + 1 + 1), w, s, p, d, e, upd (upd (upd a1 k b) (k + 1) x) (k + 1 + 1) y, upd (upd (upd a2 k b) (k + 1) x) (k + 1 + 1) y, upd (upd (upd (upd a3 k 0) k 1) (k + 1) 0) (k + 1 + 1) 0, a4, a5, a6, a7, a8, a9, a10)) :
    wpX_append post (nI k, w, s, p, d, e, a1, a2, a3, a4, a5, a6, a7, a8, a9, a10) b x y := by
  have e1 : (nI k).toNatClampNeg = k := nI_clamp (by omega)
  refine dh_hooks h6 ?_
  refine br_t (by decide) ?_
  refine dh_lengthOf hb ?_
  refine br_t (dh_fit (m := 3) hk) ?_
  refine dh_emit (by omega) ?_
  refine And.intro (pk_in k 64 (by omega)) (nm_r (e' := upd (upd a3 k 0) k 1) (by rw [e1]) ?_)
  refine br_f (by decide) ?_
  refine dh_emit (by omega) ?_
  refine br_f (by decide) ?_
  exact dh_emit (by omega) h
/-- an append while a hook is set -/
theorem dh_appH {post : Int32 → St2 → Prop} {b x y r : Int32} (h6 : dh_cnt a6 = r) (hr : ¬ r ≤ 0) (h : post (-3) (l, w, s, p, d, e, a1, a2, a3, a4, a5, a6, a7, a8, a9, a10)) :
    wpX_append post (l, w, s, p, d, e, a1, a2, a3, a4, a5, a6, a7, a8, a9, a10) b x y := by
  refine dh_hooks h6 ?_
  exact br_f hr h
theorem dh_badReg {post : Int32 → Prop} {r : Int32} (h0 : ¬ r < 0) (h3 : r ≤ 3) (h : post 0) : wpX_badReg post (l, w, s, p, d, e, a1, a2, a3, a4, a5, a6, a7, a8, a9, a10) r := br_f h0 (br_t h3 h)
theorem dh_badT {post : Int32 → Prop} {r : Int32} (h0 : ¬ r < -128) (h3 : r ≤ 127) (h : post 0) : wpX_badTarget post (l, w, s, p, d, e, a1, a2, a3, a4, a5, a6, a7, a8, a9, a10) r := br_f h0 (br_t h3 h)
theorem dh_asByte {post : Int32 → Prop} {x r : Int32} (hr : (if 0 ≤ x then x else x + 256) = r) (h : post r) : wpX_asByte post (l, w, s, p, d, e, a1, a2, a3, a4, a5, a6, a7, a8, a9, a10) x := by
  subst hr
  refine br_c (fun g => ?_) (fun g => ?_)
  · rw [if_pos g] at h
    exact h
  · rw [if_neg g] at h
    exact h
theorem dh_setReg {post : Int32 → St2 → Prop} {k : Nat} {v : Int32} (hk : k < 4) (h : post 0 (l, w, s, p, d, e, a1, a2, a3, a4, a5, a6, a7, a8, upd a9 k v, a10)) : wpX_setRegister post (l, w, s, p, d, e, a1, a2, a3, a4, a5, a6, a7, a8, a9, a10) (nI k) v := by
  unfold wpX_setRegister
  refine dh_badReg (r := nI k) (nI_pos (n := k) (by omega)) (nI_le (a := k) (b := 3) (by omega) (by decide)) ?_
  refine br_t rfl ?_
  exact And.intro (pk_in k 4 hk) (nm_r (e' := upd a9 k v) (by rw [nI_clamp (by omega)]) h)
theorem dh_register {post : Int32 → Prop} {k : Nat} {r : Int32} (hk : k < 4) (hr : a9 k = r) (h : post r) : wpX_register post (l, w, s, p, d, e, a1, a2, a3, a4, a5, a6, a7, a8, a9, a10) (nI k) := by
  unfold wpX_register
  refine dh_badReg (r := nI k) (nI_pos (n := k) (by omega)) (nI_le (a := k) (b := 3) (by omega) (by decide)) ?_
  refine br_t rfl ?_
  refine And.intro (pk_in k 4 hk) ?_
  rw [nI_clamp (by omega), hr]
  exact h
end
end
section
/-- the bytes of the law's program, and where an instruction begins -/
def dh_P : Nat → Int32 := upd (upd (upd (upd (upd (upd (upd (upd (upd (upd (upd (upd (upd (fun _ => 0) 0 6) 1 6) 2 2) 3 1) 4 5) 5 1) 6 249) 7 0) 8 1) 9 0) 10 8) 11 2) 12 7
def dh_T : Nat → Int32 := upd (upd (upd (upd (upd (upd (upd (upd (upd (upd (upd (upd (upd (upd (upd (upd (upd (upd (upd (upd (fun _ => 0) 0 0) 0 1) 1 0) 2 0) 2 1) 3 0) 4 0) 4 1) 5 0) 6 0) 7 0) 7 1) 8 0) 8 1) 9 0) 10 0) 10 1) 11 0) 12 0) 12 1
section
variable {l w s p d e : Int32} {a1 a2 a3 a4 a5 a6 a7 a8 a9 a10 : Nat → Int32}
theorem dh_headOf {post : Int32 → Prop} {a r1 r2 r : Int32} (i1 : vp_in (a + 0) 64) (h1 : dh_len (a1 (a + 0).toNatClampNeg) = r1) (n1 : ¬ 3 ≤ 0 + r1) (i2 : vp_in (a + (0 + r1)) 64) (h2 : dh_len (a1 (a + (0 + r1)).toNatClampNeg) = r2) (hr : 0 + r1 + r2 = r) (h3 : 3 ≤ r) (h : post r) : wpX_headOf post (l, w, s, p, d, e, a1, a2, a3, a4, a5, a6, a7, a8, a9, a10) a := by
  refine Exists.intro 3 ?_
  refine br_f (by decide) (br_f (by decide) (And.intro i1 ?_))
  refine dh_lengthOf h1 ?_
  refine nm_e (nm_e ?_)
  refine br_f (by decide) (br_f n1 (And.intro i2 ?_))
  refine dh_lengthOf h2 ?_
  refine nm_r hr (nm_e ?_)
  exact br_f (by decide) (br_t h3 h)
/-- does the head that is looked at meet a head that stands? -/
def dh_mt (y z a n x : Int32) : Int32 := if y < 0 then x else if y + z ≤ a then x else if a + n ≤ y then x else 1
def dh_meets (f g : Nat → Int32) (a n : Int32) : Int32 := dh_mt (f 3) (g 3) a n (dh_mt (f 2) (g 2) a n (dh_mt (f 1) (g 1) a n (dh_mt (f 0) (g 0) a n 0)))
theorem dh_meets_s {post : Int32 → Prop} {n : Nat} {a m x3 : Int32} (i : Nat) (hi : i < 4)
    (h : wX_meetsHead_5 post a m l w s p d e a1 a2 a3 a4 a5 a6 a7 a8 a9 a10 n (dh_mt (a6 i) (a7 i) a m x3) (nI (i + 1))) :
    wX_meetsHead_5 post a m l w s p d e a1 a2 a3 a4 a5 a6 a7 a8 a9 a10 (n + 1) x3 (nI i) := by
  have hv : vp_in (nI i) 4 := pk_in i 4 hi
  refine pk_le 4 i (fun z => absurd z (by omega)) (fun _ => ⟨hv, ?_⟩)
  rw [nI_clamp (show i < 2 ^ 31 by omega)]
  unfold dh_mt at h
  by_cases g : a6 i < 0
  · rw [if_pos g] at h
    exact br_t g (nm_r (nI_1 i) h)
  · rw [if_neg g] at h
    refine br_f g ⟨hv, hv, ?_⟩
    by_cases g2 : a6 i + a7 i ≤ a
    · rw [if_pos g2] at h
      exact br_t g2 (nm_r (nI_1 i) h)
    · rw [if_neg g2] at h
      refine br_f g2 ⟨hv, ?_⟩
      by_cases g3 : a + m ≤ a6 i
      · rw [if_pos g3] at h
        exact br_t g3 (nm_r (nI_1 i) h)
      · rw [if_neg g3] at h
        exact br_f g3 (nm_r (nI_1 i) h)
theorem dh_meetsHead {post : Int32 → Prop} {a m r : Int32} (hr : dh_meets a6 a7 a m = r) (hb : narrow .boolean (.int r) = .int r) (h : post r) : wpX_meetsHead post (l, w, s, p, d, e, a1, a2, a3, a4, a5, a6, a7, a8, a9, a10) a m := by
  subst hr
  refine Exists.intro 5 ?_
  refine dh_meets_s 0 (by decide) ?_
  refine dh_meets_s 1 (by decide) ?_
  refine dh_meets_s 2 (by decide) ?_
  refine dh_meets_s 3 (by decide) ?_
  exact pk_le 4 4 (fun _ => ⟨hb, h⟩) (fun z => absurd z (by omega))
/-- the target of an instruction -/
def dh_sg (b : Int32) : Int32 := if b ≤ 127 then b else b - 256
def dh_tgt (f : Nat → Int32) (x : Int32) : Int32 :=
  if f x.toNatClampNeg < 4 then -1000 else if f x.toNatClampNeg ≤ 6 then (x + dh_len (f x.toNatClampNeg)) + dh_sg (f ((x + dh_len (f x.toNatClampNeg)) - 1).toNatClampNeg) else -1000
theorem dh_targetOf {post : Int32 → Prop} {x r : Int32} (i1 : vp_in x 64) (i2 : vp_in ((x + dh_len (a1 x.toNatClampNeg)) - 1) 64) (hr : dh_tgt a1 x = r) (h : post r) : wpX_targetOf post (l, w, s, p, d, e, a1, a2, a3, a4, a5, a6, a7, a8, a9, a10) x := by
  subst hr
  unfold dh_tgt at h
  refine And.intro i1 (nm_e ?_)
  by_cases g : a1 x.toNatClampNeg < 4
  · rw [if_pos g] at h
    exact br_t g h
  · rw [if_neg g] at h
    refine br_f g ?_
    by_cases g2 : a1 x.toNatClampNeg ≤ 6
    · rw [if_pos g2] at h
      refine br_t g2 ?_
      refine dh_lengthOf rfl ?_
      refine And.intro i2 (nm_e ?_)
      unfold dh_sg at h
      by_cases g3 : a1 ((x + dh_len (a1 x.toNatClampNeg)) - 1).toNatClampNeg ≤ 127
      · rw [if_pos g3] at h
        exact br_t g3 h
      · rw [if_neg g3] at h
        exact br_f g3 (nm_e h)
    · rw [if_neg g2] at h
      exact br_f g2 h
/-- no instruction of the program aims inside the head (a, m) -/
def dh_aok (a m : Int32) (i : Nat) : Bool := decide (dh_T i = 0) || (decide (dh_tgt dh_P (nI i) ≤ a) || decide (a + m ≤ dh_tgt dh_P (nI i)))
theorem dh_aok8 : ∀ i, i < 13 → dh_aok 8 4 i = true := by decide +kernel
theorem dh_aok0 : ∀ i, i < 13 → dh_aok 0 4 i = true := by decide +kernel
theorem dh_aok10 : ∀ i, i < 13 → dh_aok 10 3 i = true := by decide +kernel
theorem dh_tin : ∀ i, i < 13 → ¬ ((nI i + dh_len (dh_P (nI i).toNatClampNeg)) - 1 < 0 ∨ 64 ≤ ((nI i + dh_len (dh_P (nI i).toNatClampNeg)) - 1).toNatClampNeg) := by decide +kernel
theorem dh_aim_s {post : Int32 → Prop} {n : Nat} {a m : Int32} (i : Nat) (hi : i < 13) (hok : dh_aok a m i = true)
    (h : wX_aimedInside_5 post a m 13 w s p d e dh_P a2 dh_T a4 a5 a6 a7 a8 a9 a10 n 0 (nI (i + 1))) :
    wX_aimedInside_5 post a m 13 w s p d e dh_P a2 dh_T a4 a5 a6 a7 a8 a9 a10 (n + 1) 0 (nI i) := by
  have hv : vp_in (nI i) 64 := pk_in i 64 (by omega)
  have hc : (nI i).toNatClampNeg = i := nI_clamp (by omega)
  refine pk_le 13 i (fun z => absurd z (by omega)) (fun _ => ⟨hv, ?_⟩)
  by_cases g : dh_T (nI i).toNatClampNeg = 0
  · exact br_t g (nm_r (nI_1 i) h)
  · refine br_f g ?_
    refine dh_targetOf hv (dh_tin i hi) rfl ?_
    refine br_t rfl ?_
    rw [hc] at g
    by_cases g2 : dh_tgt dh_P (nI i) ≤ a
    · exact br_t g2 (nm_r (nI_1 i) h)
    · refine br_f g2 ?_
      have g3 : a + m ≤ dh_tgt dh_P (nI i) := by
        unfold dh_aok at hok
        rw [decide_eq_false g, decide_eq_false g2] at hok
        exact of_decide_eq_true hok
      exact br_t g3 (nm_r (nI_1 i) h)
theorem dh_aimed {post : Int32 → Prop} {a m : Int32} (hok : ∀ i, i < 13 → dh_aok a m i = true) (h : post 0) : wpX_aimedInside post (13, w, s, p, d, e, dh_P, a2, dh_T, a4, a5, a6, a7, a8, a9, a10) a m :=
  pk_loop (σ := Unit) (fun n i _ => wX_aimedInside_5 post a m 13 w s p d e dh_P a2 dh_T a4 a5 a6 a7 a8 a9 a10 n 0 (nI i)) (fun _ _ => True) 13 0 () (by omega) trivial
    (fun n _ _ => pk_le 13 13 (fun _ => ⟨rfl, h⟩) (fun z => absurd z (by omega)))
    (fun n i _ hi _ hw => dh_aim_s i hi (hok i hi) (hw () trivial))
theorem dh_put {post : St2 → Prop} {k : Nat} {b b' : Int32} (hk : k < 64) (hb : b = b') (h : post (l, nI (k + 1), s, p, d, e, a1, a2, a3, a4, upd a5 k b', a6, a7, a8, a9, a10)) : wpX_put post (l, nI k, s, p, d, e, a1, a2, a3, a4, a5, a6, a7, a8, a9, a10) b := by
  refine And.intro (pk_in k 64 hk) (nm_r (e' := upd a5 k b') (by rw [hb, nI_clamp (by omega)]) ?_)
  exact nm_r (nI_1 k) h
theorem dh_putA {post : St2 → Prop} {k : Nat} {x hi lo : Int32} (hk : k + 2 ≤ 64) (h1 : (x + 256) >>> ((8 : Int32) &&& 31) = hi) (h2 : (x + 256) &&& 255 = lo)
    (h : post (l, nI (k + 1 + 1), s, p, d, e, a1, a2, a3, a4, upd (upd a5 k hi) (k + 1) lo, a6, a7, a8, a9, a10)) : wpX_putAddress post (l, nI k, s, p, d, e, a1, a2, a3, a4, a5, a6, a7, a8, a9, a10) x := by
  unfold wpX_putAddress
  refine dh_put (k := k) (by omega) h1 ?_
  exact dh_put (by omega) h2 h
/-- a displaced instruction: a call, a where, an inc or dec, a ret -/
theorem dh_rel6 {post : St2 → Prop} {k : Nat} {x t hi lo : Int32} (i1 : vp_in x 64) (i2 : vp_in ((x + dh_len (a1 x.toNatClampNeg)) - 1) 64) (hkd : a1 x.toNatClampNeg = 6) (ht : dh_tgt a1 x = t) (hk : k + 3 ≤ 64)
    (h1 : (t + 256) >>> ((8 : Int32) &&& 31) = hi) (h2 : (t + 256) &&& 255 = lo)
    (h : post (l, nI (k + 1 + 1 + 1), s, p, d, e, a1, a2, a3, a4, upd (upd (upd a5 k 12) (k + 1) hi) (k + 1 + 1) lo, a6, a7, a8, a9, a10)) : wpX_relocate post (l, nI k, s, p, d, e, a1, a2, a3, a4, a5, a6, a7, a8, a9, a10) x := by
  refine And.intro i1 (nm_r hkd ?_)
  refine dh_targetOf i1 i2 ht ?_
  refine br_f (by decide) (br_f (by decide) (br_t rfl ?_))
  refine dh_put (by omega) rfl ?_
  exact dh_putA (by omega) h1 h2 h
theorem dh_rel8 {post : St2 → Prop} {k : Nat} {x y hi lo : Int32} (i1 : vp_in x 64) (i2 : vp_in ((x + dh_len (a1 x.toNatClampNeg)) - 1) 64) (hkd : a1 x.toNatClampNeg = 8) (j1 : vp_in (x + 1) 64) (hy : a1 (x + 1).toNatClampNeg = y) (hk : k + 4 ≤ 64)
    (h1 : (x + 2 + 256) >>> ((8 : Int32) &&& 31) = hi) (h2 : (x + 2 + 256) &&& 255 = lo)
    (h : post (l, nI (k + 1 + 1 + 1 + 1), s, p, d, e, a1, a2, a3, a4, upd (upd (upd (upd a5 k 13) (k + 1) y) (k + 1 + 1) hi) (k + 1 + 1 + 1) lo, a6, a7, a8, a9, a10)) : wpX_relocate post (l, nI k, s, p, d, e, a1, a2, a3, a4, a5, a6, a7, a8, a9, a10) x := by
  refine And.intro i1 (nm_r hkd ?_)
  refine dh_targetOf i1 i2 rfl ?_
  refine br_f (by decide) (br_f (by decide) (br_f (by decide) (br_t rfl ?_)))
  refine dh_put (by omega) rfl ?_
  refine And.intro j1 ?_
  refine dh_put (by omega) hy ?_
  exact dh_putA (by omega) h1 h2 h
theorem dh_rel1 {post : St2 → Prop} {k : Nat} {x y c : Int32} (i1 : vp_in x 64) (i2 : vp_in ((x + dh_len (a1 x.toNatClampNeg)) - 1) 64) (hkd : a1 x.toNatClampNeg = c) (hc : c = 1 ∨ c = 2) (j1 : vp_in (x + 1) 64) (hy : a1 (x + 1).toNatClampNeg = y) (hk : k + 2 ≤ 64)
    (h : post (l, nI (k + 1 + 1), s, p, d, e, a1, a2, a3, a4, upd (upd a5 k c) (k + 1) y, a6, a7, a8, a9, a10)) : wpX_relocate post (l, nI k, s, p, d, e, a1, a2, a3, a4, a5, a6, a7, a8, a9, a10) x := by
  have n4 : ¬ c = 4 := by rcases hc with z | z <;> rw [z] <;> decide
  have n5 : ¬ c = 5 := by rcases hc with z | z <;> rw [z] <;> decide
  have n6 : ¬ c = 6 := by rcases hc with z | z <;> rw [z] <;> decide
  have n8 : ¬ c = 8 := by rcases hc with z | z <;> rw [z] <;> decide
  have n0 : ¬ c ≤ 0 := by rcases hc with z | z <;> rw [z] <;> decide
  have n3 : ¬ 4 ≤ c := by rcases hc with z | z <;> rw [z] <;> decide
  refine And.intro i1 (nm_r hkd ?_)
  refine dh_targetOf i1 i2 rfl ?_
  refine br_f n4 (br_f n5 (br_f n6 (br_f n8 ?_)))
  refine dh_put (by omega) rfl ?_
  refine br_f n0 (br_f n3 ?_)
  refine And.intro j1 ?_
  exact dh_put (by omega) hy h
theorem dh_rel7 {post : St2 → Prop} {k : Nat} {x : Int32} (i1 : vp_in x 64) (i2 : vp_in ((x + dh_len (a1 x.toNatClampNeg)) - 1) 64) (hkd : a1 x.toNatClampNeg = 7) (hk : k + 1 ≤ 64)
    (h : post (l, nI (k + 1), s, p, d, e, a1, a2, a3, a4, upd a5 k 7, a6, a7, a8, a9, a10)) : wpX_relocate post (l, nI k, s, p, d, e, a1, a2, a3, a4, a5, a6, a7, a8, a9, a10) x := by
  refine And.intro i1 (nm_r hkd ?_)
  refine dh_targetOf i1 i2 rfl ?_
  refine br_f (by decide) (br_f (by decide) (br_f (by decide) (br_f (by decide) ?_)))
  refine dh_put (by omega) rfl ?_
  exact br_f (by decide) (br_t (by decide) h)
/-- what a hook writes into the area, from place k on -/
def dh_A8 (k : Nat) (c : Int32) (f : Nat → Int32) : Nat → Int32 :=
  upd (upd (upd (upd (upd (upd (upd (upd (upd (upd (upd f k 10) (k + 1) c) (k + 2) 1) (k + 3) 0) (k + 4) 13) (k + 5) 2) (k + 6) 1) (k + 7) 12) (k + 8) 9) (k + 9) 1) (k + 10) 12
def dh_A0 (k : Nat) (c : Int32) (f : Nat → Int32) : Nat → Int32 :=
  upd (upd (upd (upd (upd (upd (upd (upd (upd (upd f k 10) (k + 1) c) (k + 2) 12) (k + 3) 1) (k + 4) 8) (k + 5) 2) (k + 6) 1) (k + 7) 9) (k + 8) 1) (k + 9) 4
def dh_A10 (k : Nat) (c : Int32) (f : Nat → Int32) : Nat → Int32 :=
  upd (upd (upd (upd (upd (upd (upd (upd (upd (upd f k 10) (k + 1) c) (k + 2) 13) (k + 3) 2) (k + 4) 1) (k + 5) 12) (k + 6) 7) (k + 7) 9) (k + 8) 1) (k + 9) 13
theorem dh_disp8 {post : St2 → Prop} {q : Nat} (hq : q < 4) (h : ∀ w' f, post (l, w', s, p, d, e, dh_P, a2, a3, f, dh_A8 (q * 16) (nI q) a5, a6, a7, a8, a9, a10)) : wpX_displace post (l, w, s, p, d, e, dh_P, a2, a3, a4, a5, a6, a7, a8, a9, a10) (nI q) 8 4 := by
  refine nm_r (pk_mul q 16) ?_
  refine dh_put (by omega) rfl ?_
  refine dh_put (by omega) rfl ?_
  refine Exists.intro 3 ?_
  refine br_f (by decide) (br_f (by decide) (And.intro (dh_in (by decide)) (nm_e ?_)))
  refine dh_rel1 (dh_in (by decide)) (dh_in (by decide +kernel)) (c := 1) (by decide +kernel) (Or.inl rfl) (dh_in (by decide)) (y := 0) (by decide +kernel) (by omega) ?_
  refine And.intro (dh_in (by decide)) ?_
  refine dh_lengthOf (r := 2) (by decide +kernel) ?_
  refine nm_r (e' := 10) (by decide) (nm_r (e' := 1) (by decide) ?_)
  refine br_f (by decide) (br_f (by decide) (And.intro (dh_in (by decide)) (nm_e ?_)))
  refine dh_rel8 (dh_in (by decide)) (dh_in (by decide +kernel)) (by decide +kernel) (dh_in (by decide)) (y := 2) (by decide +kernel) (by omega) (hi := 1) (by decide +kernel) (lo := 12) (by decide +kernel) ?_
  refine And.intro (dh_in (by decide)) ?_
  refine dh_lengthOf (r := 2) (by decide +kernel) ?_
  refine nm_r (e' := 12) (by decide) (nm_r (e' := 2) (by decide) ?_)
  refine br_f (by decide) (br_t (by decide) ?_)
  refine dh_put (by omega) rfl ?_
  exact dh_putA (by omega) (hi := 1) (by decide +kernel) (lo := 12) (by decide +kernel) (h _ _)
theorem dh_disp0 {post : St2 → Prop} {q : Nat} (hq : q < 4) (h : ∀ w' f, post (l, w', s, p, d, e, dh_P, a2, a3, f, dh_A0 (q * 16) (nI q) a5, a6, a7, a8, a9, a10)) : wpX_displace post (l, w, s, p, d, e, dh_P, a2, a3, a4, a5, a6, a7, a8, a9, a10) (nI q) 0 4 := by
  refine nm_r (pk_mul q 16) ?_
  refine dh_put (by omega) rfl ?_
  refine dh_put (by omega) rfl ?_
  refine Exists.intro 3 ?_
  refine br_f (by decide) (br_f (by decide) (And.intro (dh_in (by decide)) (nm_e ?_)))
  refine dh_rel6 (dh_in (by decide)) (dh_in (by decide +kernel)) (by decide +kernel) (t := 8) (by decide +kernel) (by omega) (hi := 1) (by decide +kernel) (lo := 8) (by decide +kernel) ?_
  refine And.intro (dh_in (by decide)) ?_
  refine dh_lengthOf (r := 2) (by decide +kernel) ?_
  refine nm_r (e' := 2) (by decide) (nm_r (e' := 1) (by decide) ?_)
  refine br_f (by decide) (br_f (by decide) (And.intro (dh_in (by decide)) (nm_e ?_)))
  refine dh_rel1 (dh_in (by decide)) (dh_in (by decide +kernel)) (c := 2) (by decide +kernel) (Or.inr rfl) (dh_in (by decide)) (y := 1) (by decide +kernel) (by omega) ?_
  refine And.intro (dh_in (by decide)) ?_
  refine dh_lengthOf (r := 2) (by decide +kernel) ?_
  refine nm_r (e' := 4) (by decide) (nm_r (e' := 2) (by decide) ?_)
  refine br_f (by decide) (br_t (by decide) ?_)
  refine dh_put (by omega) rfl ?_
  exact dh_putA (by omega) (hi := 1) (by decide +kernel) (lo := 4) (by decide +kernel) (h _ _)
theorem dh_disp10 {post : St2 → Prop} {q : Nat} (hq : q < 4) (h : ∀ w' f, post (l, w', s, p, d, e, dh_P, a2, a3, f, dh_A10 (q * 16) (nI q) a5, a6, a7, a8, a9, a10)) : wpX_displace post (l, w, s, p, d, e, dh_P, a2, a3, a4, a5, a6, a7, a8, a9, a10) (nI q) 10 3 := by
  refine nm_r (pk_mul q 16) ?_
  refine dh_put (by omega) rfl ?_
  refine dh_put (by omega) rfl ?_
  refine Exists.intro 3 ?_
  refine br_f (by decide) (br_f (by decide) (And.intro (dh_in (by decide)) (nm_e ?_)))
  refine dh_rel8 (dh_in (by decide)) (dh_in (by decide +kernel)) (by decide +kernel) (dh_in (by decide)) (y := 2) (by decide +kernel) (by omega) (hi := 1) (by decide +kernel) (lo := 12) (by decide +kernel) ?_
  refine And.intro (dh_in (by decide)) ?_
  refine dh_lengthOf (r := 2) (by decide +kernel) ?_
  refine nm_r (e' := 12) (by decide) (nm_r (e' := 1) (by decide) ?_)
  refine br_f (by decide) (br_f (by decide) (And.intro (dh_in (by decide)) (nm_e ?_)))
  refine dh_rel7 (dh_in (by decide)) (dh_in (by decide +kernel)) (by decide +kernel) (by omega) ?_
  refine And.intro (dh_in (by decide)) ?_
  refine dh_lengthOf (r := 1) (by decide +kernel) ?_
  refine nm_r (e' := 13) (by decide) (nm_r (e' := 2) (by decide) ?_)
  refine br_f (by decide) (br_t (by decide) ?_)
  refine dh_put (by omega) rfl ?_
  exact dh_putA (by omega) (hi := 1) (by decide +kernel) (lo := 13) (by decide +kernel) (h _ _)
/-- the head is overwritten -/
def dh_C3 (k : Nat) (hi lo : Int32) (f : Nat → Int32) : Nat → Int32 := upd (upd (upd f k 9) (k + 1) hi) (k + 2) lo
def dh_C4 (k : Nat) (hi lo : Int32) (f : Nat → Int32) : Nat → Int32 := upd (upd (upd (upd f k 9) (k + 1) hi) (k + 2) lo) (k + 3) 255
theorem dh_ow3 {post : St2 → Prop} {k : Nat} {c hi lo : Int32} (hk : k + 4 ≤ 64) (e1 : ((512 + (c * 16)) + 256) >>> ((8 : Int32) &&& 31) = hi) (e2 : ((512 + (c * 16)) + 256) &&& 255 = lo)
    (h : post (l, w, s, p, d, e, a1, dh_C3 k hi lo a2, a3, a4, a5, a6, a7, a8, a9, a10)) : wpX_overwrite post (l, w, s, p, d, e, a1, a2, a3, a4, a5, a6, a7, a8, a9, a10) c (nI k) 3 := by
  have k1 : nI k + 1 = nI (k + 1) := nI_1 k
  have k2 : nI k + 2 = nI (k + 2) := nI_add k 2
  refine nm_e ?_
  refine And.intro (pk_in k 64 (by omega)) (nm_r (e' := upd a2 k 9) (by rw [nI_clamp (by omega)]) ?_)
  refine And.intro (pk_in (k + 1) 64 (by omega) k1) (nm_r (e' := upd (upd a2 k 9) (k + 1) hi) (by rw [e1, k1, nI_clamp (by omega)]) ?_)
  refine And.intro (pk_in (k + 2) 64 (by omega) k2) (nm_r (e' := upd (upd (upd a2 k 9) (k + 1) hi) (k + 2) lo) (by rw [e2, k2, nI_clamp (by omega)]) ?_)
  refine Exists.intro 1 ?_
  exact br_t (by decide) h
theorem dh_ow4 {post : St2 → Prop} {k : Nat} {c hi lo : Int32} (hk : k + 4 ≤ 64) (e1 : ((512 + (c * 16)) + 256) >>> ((8 : Int32) &&& 31) = hi) (e2 : ((512 + (c * 16)) + 256) &&& 255 = lo)
    (h : post (l, w, s, p, d, e, a1, dh_C4 k hi lo a2, a3, a4, a5, a6, a7, a8, a9, a10)) : wpX_overwrite post (l, w, s, p, d, e, a1, a2, a3, a4, a5, a6, a7, a8, a9, a10) c (nI k) 4 := by
  have k1 : nI k + 1 = nI (k + 1) := nI_1 k
  have k2 : nI k + 2 = nI (k + 2) := nI_add k 2
  have k3 : nI k + 3 = nI (k + 3) := nI_add k 3
  refine nm_e ?_
  refine And.intro (pk_in k 64 (by omega)) (nm_r (e' := upd a2 k 9) (by rw [nI_clamp (by omega)]) ?_)
  refine And.intro (pk_in (k + 1) 64 (by omega) k1) (nm_r (e' := upd (upd a2 k 9) (k + 1) hi) (by rw [e1, k1, nI_clamp (by omega)]) ?_)
  refine And.intro (pk_in (k + 2) 64 (by omega) k2) (nm_r (e' := upd (upd (upd a2 k 9) (k + 1) hi) (k + 2) lo) (by rw [e2, k2, nI_clamp (by omega)]) ?_)
  refine Exists.intro 2 ?_
  refine br_f (by decide) ?_
  refine And.intro (pk_in (k + 3) 64 (by omega) k3) (nm_r (e' := dh_C4 k hi lo a2) (by rw [k3, nI_clamp (by omega)]; rfl) ?_)
  refine nm_r (e' := 4) (by decide) ?_
  exact br_t (by decide) h
theorem dh_hook8 {post : Int32 → St2 → Prop} {q : Nat} {hi lo : Int32} (hq : q < 4) (hs : dh_slot a6 8 = -1) (hf : dh_slot a6 (-1) = nI q) (hm : dh_meets a6 a7 8 4 = 0)
    (e1 : ((512 + (nI q * 16)) + 256) >>> ((8 : Int32) &&& 31) = hi) (e2 : ((512 + (nI q * 16)) + 256) &&& 255 = lo)
    (h : ∀ w' f, post 4 (13, w', s, p, d, e, dh_P, dh_C4 8 hi lo a2, dh_T, f, dh_A8 (q * 16) (nI q) a5, upd a6 q 8, upd a7 q 4, upd a8 q 0, a9, a10)) :
    wpX_hook post (13, w, s, p, d, e, dh_P, a2, dh_T, a4, a5, a6, a7, a8, a9, a10) 8 := by
  have hv : vp_in (nI q) 4 := pk_in q 4 hq
  have hc : (nI q).toNatClampNeg = q := nI_clamp (by omega)
  refine br_f (by decide) (br_t (by decide) ?_)
  refine dh_slotOf hs ?_
  refine br_t (by decide) ?_
  refine dh_slotOf hf ?_
  refine br_t (nI_pos' (by omega)) ?_
  refine dh_isStart1 (by decide) (by decide) (dh_in (by decide)) (by decide +kernel) ?_
  refine br_f (by decide) (br_t (by decide) ?_)
  refine dh_headOf (dh_in (by decide)) (r1 := 2) (by decide +kernel) (by decide) (dh_in (by decide)) (r2 := 2) (by decide +kernel) (r := 4) (by decide) (by decide) ?_
  refine dh_meetsHead hm rfl ?_
  refine dh_aimed dh_aok8 ?_
  refine br_t rfl (br_t rfl ?_)
  refine And.intro hv (nm_r (e' := upd a6 q 8) (by rw [hc]) ?_)
  refine And.intro hv (nm_r (e' := upd a7 q 4) (by rw [hc]) ?_)
  refine And.intro hv (nm_r (e' := upd a8 q 0) (by rw [hc]) ?_)
  refine dh_disp8 hq (fun w' f => ?_)
  exact dh_ow4 (k := 8) (by decide) e1 e2 (h w' f)
theorem dh_hook0 {post : Int32 → St2 → Prop} {q : Nat} {hi lo : Int32} (hq : q < 4) (hs : dh_slot a6 0 = -1) (hf : dh_slot a6 (-1) = nI q) (hm : dh_meets a6 a7 0 4 = 0)
    (e1 : ((512 + (nI q * 16)) + 256) >>> ((8 : Int32) &&& 31) = hi) (e2 : ((512 + (nI q * 16)) + 256) &&& 255 = lo)
    (h : ∀ w' f, post 4 (13, w', s, p, d, e, dh_P, dh_C4 0 hi lo a2, dh_T, f, dh_A0 (q * 16) (nI q) a5, upd a6 q 0, upd a7 q 4, upd a8 q 0, a9, a10)) :
    wpX_hook post (13, w, s, p, d, e, dh_P, a2, dh_T, a4, a5, a6, a7, a8, a9, a10) 0 := by
  have hv : vp_in (nI q) 4 := pk_in q 4 hq
  have hc : (nI q).toNatClampNeg = q := nI_clamp (by omega)
  refine br_f (by decide) (br_t (by decide) ?_)
  refine dh_slotOf hs ?_
  refine br_t (by decide) ?_
  refine dh_slotOf hf ?_
  refine br_t (nI_pos' (by omega)) ?_
  refine dh_isStart1 (by decide) (by decide) (dh_in (by decide)) (by decide +kernel) ?_
  refine br_f (by decide) (br_t (by decide) ?_)
  refine dh_headOf (dh_in (by decide)) (r1 := 2) (by decide +kernel) (by decide) (dh_in (by decide)) (r2 := 2) (by decide +kernel) (r := 4) (by decide) (by decide) ?_
  refine dh_meetsHead hm rfl ?_
  refine dh_aimed dh_aok0 ?_
  refine br_t rfl (br_t rfl ?_)
  refine And.intro hv (nm_r (e' := upd a6 q 0) (by rw [hc]) ?_)
  refine And.intro hv (nm_r (e' := upd a7 q 4) (by rw [hc]) ?_)
  refine And.intro hv (nm_r (e' := upd a8 q 0) (by rw [hc]) ?_)
  refine dh_disp0 hq (fun w' f => ?_)
  exact dh_ow4 (k := 0) (by decide) e1 e2 (h w' f)
theorem dh_hook10 {post : Int32 → St2 → Prop} {q : Nat} {hi lo : Int32} (hq : q < 4) (hs : dh_slot a6 10 = -1) (hf : dh_slot a6 (-1) = nI q) (hm : dh_meets a6 a7 10 3 = 0)
    (e1 : ((512 + (nI q * 16)) + 256) >>> ((8 : Int32) &&& 31) = hi) (e2 : ((512 + (nI q * 16)) + 256) &&& 255 = lo)
    (h : ∀ w' f, post 3 (13, w', s, p, d, e, dh_P, dh_C3 10 hi lo a2, dh_T, f, dh_A10 (q * 16) (nI q) a5, upd a6 q 10, upd a7 q 3, upd a8 q 0, a9, a10)) :
    wpX_hook post (13, w, s, p, d, e, dh_P, a2, dh_T, a4, a5, a6, a7, a8, a9, a10) 10 := by
  have hv : vp_in (nI q) 4 := pk_in q 4 hq
  have hc : (nI q).toNatClampNeg = q := nI_clamp (by omega)
  refine br_f (by decide) (br_t (by decide) ?_)
  refine dh_slotOf hs ?_
  refine br_t (by decide) ?_
  refine dh_slotOf hf ?_
  refine br_t (nI_pos' (by omega)) ?_
  refine dh_isStart1 (by decide) (by decide) (dh_in (by decide)) (by decide +kernel) ?_
  refine br_f (by decide) (br_t (by decide) ?_)
  refine dh_headOf (dh_in (by decide)) (r1 := 2) (by decide +kernel) (by decide) (dh_in (by decide)) (r2 := 1) (by decide +kernel) (r := 3) (by decide) (by decide) ?_
  refine dh_meetsHead hm rfl ?_
  refine dh_aimed dh_aok10 ?_
  refine br_t rfl (br_t rfl ?_)
  refine And.intro hv (nm_r (e' := upd a6 q 10) (by rw [hc]) ?_)
  refine And.intro hv (nm_r (e' := upd a7 q 3) (by rw [hc]) ?_)
  refine And.intro hv (nm_r (e' := upd a8 q 0) (by rw [hc]) ?_)
  refine dh_disp10 hq (fun w' f => ?_)
  exact dh_ow3 (k := 10) (by decide) e1 e2 (h w' f)
/-- a hook at 10 over a head at 8; a hook where no instruction begins -/
theorem dh_hook10U {post : Int32 → St2 → Prop} {q : Nat} (hq : q < 4) (hs : dh_slot a6 10 = -1) (hf : dh_slot a6 (-1) = nI q) (hm : dh_meets a6 a7 10 3 = 1)
    (h : post (-4) (13, w, s, p, d, e, dh_P, a2, dh_T, a4, a5, a6, a7, a8, a9, a10)) : wpX_hook post (13, w, s, p, d, e, dh_P, a2, dh_T, a4, a5, a6, a7, a8, a9, a10) 10 := by
  refine br_f (by decide) (br_t (by decide) ?_)
  refine dh_slotOf hs ?_
  refine br_t (by decide) ?_
  refine dh_slotOf hf ?_
  refine br_t (nI_pos' (by omega)) ?_
  refine dh_isStart1 (by decide) (by decide) (dh_in (by decide)) (by decide +kernel) ?_
  refine br_f (by decide) (br_t (by decide) ?_)
  refine dh_headOf (dh_in (by decide)) (r1 := 2) (by decide +kernel) (by decide) (dh_in (by decide)) (r2 := 1) (by decide +kernel) (r := 3) (by decide) (by decide) ?_
  refine dh_meetsHead hm rfl ?_
  refine dh_aimed dh_aok10 ?_
  exact br_f (by decide) h
theorem dh_hook5U {post : Int32 → St2 → Prop} {q : Nat} (hq : q < 4) (hs : dh_slot a6 5 = -1) (hf : dh_slot a6 (-1) = nI q)
    (h : post (-4) (13, w, s, p, d, e, dh_P, a2, dh_T, a4, a5, a6, a7, a8, a9, a10)) : wpX_hook post (13, w, s, p, d, e, dh_P, a2, dh_T, a4, a5, a6, a7, a8, a9, a10) 5 := by
  refine br_f (by decide) (br_t (by decide) ?_)
  refine dh_slotOf hs ?_
  refine br_t (by decide) ?_
  refine dh_slotOf hf ?_
  refine br_t (nI_pos' (by omega)) ?_
  refine dh_isStart0 (by decide) (by decide) (dh_in (by decide)) (by decide +kernel) ?_
  exact br_t rfl h
end
end
section
section
variable {l w s p d e : Int32} {a1 a2 a3 a4 a5 a6 a7 a8 a9 a10 : Nat → Int32}
/-- the byte at an address -/
def dh_ft (f g : Nat → Int32) (x : Int32) : Int32 :=
  if x < 512 then (if x < 0 then 255 else if 64 ≤ x then 255 else f x.toNatClampNeg) else if 64 ≤ x - 512 then 255 else g (x - 512).toNatClampNeg
theorem dh_far0 {x : Int32} (h : ¬ x < 512) : ¬ x - 512 < 0 := by
  have h0 : ¬ x < 0 := by
    intro z
    exact h (Int32.lt_trans z (by decide))
  obtain ⟨j, hj, rfl⟩ := nI_of h0
  have hj2 : 512 ≤ j := by
    rcases Nat.lt_or_ge j 512 with z | z
    · exact absurd (nI_lt (b := 512) z (by decide)) h
    · exact z
  have e1 : nI j - 512 = nI (j - 512) := pk_sub (b := 512) hj2
  rw [e1]
  exact nI_pos (by omega)
theorem dh_fetch {post : Int32 → Prop} {x r : Int32} (hr : dh_ft a2 a5 x = r) (h : post r) : wpX_fetch post (l, w, s, p, d, e, a1, a2, a3, a4, a5, a6, a7, a8, a9, a10) x := by
  subst hr
  unfold dh_ft at h
  by_cases g : x < 512
  · rw [if_pos g] at h
    refine br_t g ?_
    by_cases g2 : x < 0
    · rw [if_pos g2] at h
      exact br_t g2 h
    · rw [if_neg g2] at h
      refine br_f g2 ?_
      by_cases g3 : 64 ≤ x
      · rw [if_pos g3] at h
        exact br_t g3 h
      · rw [if_neg g3] at h
        exact br_f g3 (And.intro (dh_in64 g2 g3) h)
  · rw [if_neg g] at h
    refine br_f g (nm_e ?_)
    by_cases g3 : 64 ≤ x - 512
    · rw [if_pos g3] at h
      exact br_t g3 h
    · rw [if_neg g3] at h
      exact br_f g3 (And.intro (dh_in64 (dh_far0 g) g3) h)
theorem dh_fetchA {post : Int32 → Prop} {x b1 b2 q : Int32} (h1 : dh_ft a2 a5 x = b1) (h2 : dh_ft a2 a5 (x + 1) = b2) (hq : ((b1 * 256) + b2) - 256 = q) (h : post q) : wpX_fetchAddress post (l, w, s, p, d, e, a1, a2, a3, a4, a5, a6, a7, a8, a9, a10) x := by
  subst hq
  unfold wpX_fetchAddress
  refine dh_fetch h1 ?_
  exact dh_fetch h2 h
theorem dh_signed {post : Int32 → Prop} {b r : Int32} (hr : dh_sg b = r) (h : post r) : wpX_signed post (l, w, s, p, d, e, a1, a2, a3, a4, a5, a6, a7, a8, a9, a10) b := by
  subst hr
  unfold dh_sg at h
  by_cases g : b ≤ 127
  · rw [if_pos g] at h
    exact br_t g h
  · rw [if_neg g] at h
    exact br_f g h
theorem dh_enter {post : St2 → Prop} {b t : Int32} (h : post (l, w, 1, t, d, e, a1, a2, a3, a4, a5, a6, a7, a8, a9, upd a10 0 b)) : wpX_enter post (l, w, 0, p, d, e, a1, a2, a3, a4, a5, a6, a7, a8, a9, a10) b t := by
  refine br_f (by decide) (And.intro (dh_in (by decide)) (nm_r (e' := upd a10 0 b) (by rw [sb_cl0]) ?_))
  exact nm_r (e' := 1) (by decide) h
theorem dh_leave {post : St2 → Prop} {q : Int32} (hq : a10 0 = q) (h : post (l, w, 0, q, d, e, a1, a2, a3, a4, a5, a6, a7, a8, a9, a10)) : wpX_leave post (l, w, 1, p, d, e, a1, a2, a3, a4, a5, a6, a7, a8, a9, a10) := by
  refine br_f (by decide) (nm_r (e' := 0) (by decide) (And.intro (dh_in (by decide)) ?_))
  exact nm_r (e' := q) (by rw [sb_cl0]; exact hq) h
theorem dh_change1 {post : St2 → Prop} {k : Nat} {x y : Int32} (hk : k < 4) (h : post (l, w, s, p, d, e, a1, a2, a3, a4, a5, a6, a7, a8, upd a9 k (a9 k + 1), a10)) : wpX_change post (l, w, s, p, d, e, a1, a2, a3, a4, a5, a6, a7, a8, a9, a10) 1 (nI k) x y := by
  have hc : (nI k).toNatClampNeg = k := nI_clamp (by omega)
  refine br_t rfl (And.intro (pk_in k 4 hk) (And.intro (pk_in k 4 hk) ?_))
  exact nm_r (e' := upd a9 k (a9 k + 1)) (by rw [hc]) h
theorem dh_change2 {post : St2 → Prop} {k : Nat} {x y : Int32} (hk : k < 4) (h : post (l, w, s, p, d, e, a1, a2, a3, a4, a5, a6, a7, a8, upd a9 k (a9 k - 1), a10)) : wpX_change post (l, w, s, p, d, e, a1, a2, a3, a4, a5, a6, a7, a8, a9, a10) 2 (nI k) x y := by
  have hc : (nI k).toNatClampNeg = k := nI_clamp (by omega)
  refine br_f (by decide) (br_t rfl (And.intro (pk_in k 4 hk) (And.intro (pk_in k 4 hk) ?_)))
  exact nm_r (e' := upd a9 k (a9 k - 1)) (by rw [hc]) h
/-- one step of execute, by the kind of the byte at pc: inc, dec, branch (taken, not taken), call, ret, halt -/
theorem dh_x1 {post : St2 → Prop} {k : Nat} {b q d' : Int32} (h0 : dh_ft a2 a5 p = 1) (h1 : dh_ft a2 a5 (p + 1) = b) (hb : b &&& 3 = nI k) (hk : k < 4) (hd : d + 1 = d') (hq : p + 2 = q)
    (h : post (l, w, s, q, d', e, a1, a2, a3, a4, a5, a6, a7, a8, upd a9 k (a9 k + 1), a10)) : wpX_execute post (l, w, s, p, d, e, a1, a2, a3, a4, a5, a6, a7, a8, a9, a10) := by
  unfold wpX_execute
  refine dh_fetch h0 ?_
  refine br_f (by decide) (br_f (by decide) (nm_r hd ?_))
  refine br_t (by decide) ?_
  unfold wpX_executePlain
  refine dh_lengthOf (r := 2) (by decide) ?_
  refine nm_r hq ?_
  refine dh_fetch h1 ?_
  refine nm_r hb ?_
  refine br_f (by decide) (br_f (by decide) (br_f (by decide) (br_f (by decide) (br_f (by decide) ?_))))
  exact dh_change1 hk h
theorem dh_x2 {post : St2 → Prop} {k : Nat} {b q d' : Int32} (h0 : dh_ft a2 a5 p = 2) (h1 : dh_ft a2 a5 (p + 1) = b) (hb : b &&& 3 = nI k) (hk : k < 4) (hd : d + 1 = d') (hq : p + 2 = q)
    (h : post (l, w, s, q, d', e, a1, a2, a3, a4, a5, a6, a7, a8, upd a9 k (a9 k - 1), a10)) : wpX_execute post (l, w, s, p, d, e, a1, a2, a3, a4, a5, a6, a7, a8, a9, a10) := by
  unfold wpX_execute
  refine dh_fetch h0 ?_
  refine br_f (by decide) (br_f (by decide) (nm_r hd ?_))
  refine br_t (by decide) ?_
  unfold wpX_executePlain
  refine dh_lengthOf (r := 2) (by decide) ?_
  refine nm_r hq ?_
  refine dh_fetch h1 ?_
  refine nm_r hb ?_
  refine br_f (by decide) (br_f (by decide) (br_f (by decide) (br_f (by decide) (br_f (by decide) ?_))))
  exact dh_change2 hk h
theorem dh_x5t {post : St2 → Prop} {k : Nat} {b c t q d' : Int32} (h0 : dh_ft a2 a5 p = 5) (h1 : dh_ft a2 a5 (p + 1) = b) (hb : b &&& 3 = nI k) (hk : k < 4) (h2 : dh_ft a2 a5 (p + 2) = c) (ht : dh_sg c = t) (hd : d + 1 = d') (hr : ¬ a9 k = 0) (hq : p + 3 + t = q)
    (h : post (l, w, s, q, d', e, a1, a2, a3, a4, a5, a6, a7, a8, a9, a10)) : wpX_execute post (l, w, s, p, d, e, a1, a2, a3, a4, a5, a6, a7, a8, a9, a10) := by
  have hc : (nI k).toNatClampNeg = k := nI_clamp (by omega)
  unfold wpX_execute
  refine dh_fetch h0 ?_
  refine br_f (by decide) (br_f (by decide) (nm_r hd ?_))
  refine br_t (by decide) ?_
  unfold wpX_executePlain
  refine dh_lengthOf (r := 3) (by decide) ?_
  refine nm_e ?_
  refine dh_fetch h1 ?_
  refine nm_r hb ?_
  refine br_f (by decide) (br_f (by decide) (br_f (by decide) (br_t rfl ?_)))
  refine dh_fetch h2 ?_
  refine dh_signed ht ?_
  refine And.intro (pk_in k 4 hk) ?_
  exact br_f (by rw [hc]; exact hr) (nm_r hq h)
theorem dh_x5f {post : St2 → Prop} {k : Nat} {b c t q d' : Int32} (h0 : dh_ft a2 a5 p = 5) (h1 : dh_ft a2 a5 (p + 1) = b) (hb : b &&& 3 = nI k) (hk : k < 4) (h2 : dh_ft a2 a5 (p + 2) = c) (ht : dh_sg c = t) (hd : d + 1 = d') (hr : a9 k = 0) (hq : p + 3 = q)
    (h : post (l, w, s, q, d', e, a1, a2, a3, a4, a5, a6, a7, a8, a9, a10)) : wpX_execute post (l, w, s, p, d, e, a1, a2, a3, a4, a5, a6, a7, a8, a9, a10) := by
  have hc : (nI k).toNatClampNeg = k := nI_clamp (by omega)
  unfold wpX_execute
  refine dh_fetch h0 ?_
  refine br_f (by decide) (br_f (by decide) (nm_r hd ?_))
  refine br_t (by decide) ?_
  unfold wpX_executePlain
  refine dh_lengthOf (r := 3) (by decide) ?_
  refine nm_r hq ?_
  refine dh_fetch h1 ?_
  refine nm_r hb ?_
  refine br_f (by decide) (br_f (by decide) (br_f (by decide) (br_t rfl ?_)))
  refine dh_fetch h2 ?_
  refine dh_signed ht ?_
  refine And.intro (pk_in k 4 hk) ?_
  exact br_t (by rw [hc]; exact hr) h
theorem dh_x6 {post : St2 → Prop} {b t u q d' : Int32} (h0 : dh_ft a2 a5 p = 6) (h1 : dh_ft a2 a5 (p + 1) = b) (ht : dh_sg b = t) (hd : d + 1 = d') (hu : p + 2 = u) (hq : u + t = q)
    (h : post (l, w, 1, q, d', e, a1, a2, a3, a4, a5, a6, a7, a8, a9, upd a10 0 u)) : wpX_execute post (l, w, 0, p, d, e, a1, a2, a3, a4, a5, a6, a7, a8, a9, a10) := by
  subst hq
  unfold wpX_execute
  refine dh_fetch h0 ?_
  refine br_f (by decide) (br_f (by decide) (nm_r hd ?_))
  refine br_t (by decide) ?_
  unfold wpX_executePlain
  refine dh_lengthOf (r := 2) (by decide) ?_
  refine nm_r hu ?_
  refine dh_fetch h1 ?_
  refine nm_e ?_
  refine br_f (by decide) (br_f (by decide) (br_f (by decide) (br_f (by decide) (br_t rfl ?_))))
  refine dh_signed ht ?_
  exact dh_enter h
theorem dh_x7 {post : St2 → Prop} {q d' : Int32} (h0 : dh_ft a2 a5 p = 7) (hd : d + 1 = d') (hq : a10 0 = q)
    (h : post (l, w, 0, q, d', e, a1, a2, a3, a4, a5, a6, a7, a8, a9, a10)) : wpX_execute post (l, w, 1, p, d, e, a1, a2, a3, a4, a5, a6, a7, a8, a9, a10) := by
  unfold wpX_execute
  refine dh_fetch h0 ?_
  refine br_f (by decide) (br_f (by decide) (nm_r hd ?_))
  refine br_t (by decide) ?_
  unfold wpX_executePlain
  refine dh_lengthOf (r := 1) (by decide) ?_
  refine nm_e ?_
  refine dh_fetch rfl ?_
  refine nm_e ?_
  refine br_f (by decide) (br_t rfl ?_)
  exact dh_leave hq h
theorem dh_x0 {post : St2 → Prop} {d' : Int32} (h0 : dh_ft a2 a5 p = 0) (hd : d + 1 = d') (h : post (l, w, s, p, d', 1, a1, a2, a3, a4, a5, a6, a7, a8, a9, a10)) : wpX_execute post (l, w, s, p, d, e, a1, a2, a3, a4, a5, a6, a7, a8, a9, a10) := by
  unfold wpX_execute
  refine dh_fetch h0 ?_
  refine br_f (by decide) (br_f (by decide) (nm_r hd ?_))
  refine br_t (by decide) ?_
  unfold wpX_executePlain
  refine dh_lengthOf (r := 1) (by decide) ?_
  refine nm_e ?_
  refine dh_fetch rfl ?_
  refine nm_e ?_
  exact br_t rfl h
/-- far, count, far call, fixed -/
theorem dh_x9 {post : St2 → Prop} {b1 b2 q : Int32} (h0 : dh_ft a2 a5 p = 9) (h1 : dh_ft a2 a5 (p + 1) = b1) (h2 : dh_ft a2 a5 (p + 1 + 1) = b2) (hq : ((b1 * 256) + b2) - 256 = q)
    (h : post (l, w, s, q, d, e, a1, a2, a3, a4, a5, a6, a7, a8, a9, a10)) : wpX_execute post (l, w, s, p, d, e, a1, a2, a3, a4, a5, a6, a7, a8, a9, a10) := by
  unfold wpX_execute
  refine dh_fetch h0 ?_
  refine br_t rfl ?_
  exact dh_fetchA h1 h2 hq h
theorem dh_x10 {post : St2 → Prop} {k : Nat} {b q : Int32} (h0 : dh_ft a2 a5 p = 10) (h1 : dh_ft a2 a5 (p + 1) = b) (hb : b &&& 3 = nI k) (hk : k < 4) (hq : p + 2 = q)
    (h : post (l, w, s, q, d, e, a1, a2, a3, a4, a5, a6, a7, upd a8 k (a8 k + 1), a9, a10)) : wpX_execute post (l, w, s, p, d, e, a1, a2, a3, a4, a5, a6, a7, a8, a9, a10) := by
  have hc : (nI k).toNatClampNeg = k := nI_clamp (by omega)
  unfold wpX_execute
  refine dh_fetch h0 ?_
  refine br_f (by decide) (br_t rfl ?_)
  refine dh_fetch h1 ?_
  refine nm_r hb ?_
  refine And.intro (pk_in k 4 hk) (And.intro (pk_in k 4 hk) ?_)
  refine nm_r (e' := upd a8 k (a8 k + 1)) (by rw [hc]) ?_
  exact nm_r hq h
theorem dh_x12 {post : St2 → Prop} {b1 b2 u q d' : Int32} (h0 : dh_ft a2 a5 p = 12) (h1 : dh_ft a2 a5 (p + 1) = b1) (h2 : dh_ft a2 a5 (p + 1 + 1) = b2) (hd : d + 1 = d') (hq : ((b1 * 256) + b2) - 256 = q) (hu : p + 3 = u)
    (h : post (l, w, 1, q, d', e, a1, a2, a3, a4, a5, a6, a7, a8, a9, upd a10 0 u)) : wpX_execute post (l, w, 0, p, d, e, a1, a2, a3, a4, a5, a6, a7, a8, a9, a10) := by
  subst hu
  unfold wpX_execute
  refine dh_fetch h0 ?_
  refine br_f (by decide) (br_f (by decide) (nm_r hd ?_))
  refine br_f (by decide) ?_
  refine br_f (by decide) (br_t rfl ?_)
  refine dh_fetchA h1 h2 hq ?_
  exact dh_enter h
theorem dh_x13 {post : St2 → Prop} {k : Nat} {b b1 b2 v q d' : Int32} (h0 : dh_ft a2 a5 p = 13) (h1 : dh_ft a2 a5 (p + 1) = b) (hb : b &&& 3 = nI k) (hk : k < 4) (h2 : dh_ft a2 a5 (p + 2) = b1) (h3 : dh_ft a2 a5 (p + 2 + 1) = b2) (hv : ((b1 * 256) + b2) - 256 = v) (hd : d + 1 = d') (hq : p + 4 = q)
    (h : post (l, w, s, q, d', e, a1, a2, a3, a4, a5, a6, a7, a8, upd a9 k v, a10)) : wpX_execute post (l, w, s, p, d, e, a1, a2, a3, a4, a5, a6, a7, a8, a9, a10) := by
  have hc : (nI k).toNatClampNeg = k := nI_clamp (by omega)
  unfold wpX_execute
  refine dh_fetch h0 ?_
  refine br_f (by decide) (br_f (by decide) (nm_r hd ?_))
  refine br_f (by decide) ?_
  refine br_f (by decide) (br_f (by decide) ?_)
  refine dh_fetch h1 ?_
  refine nm_r hb ?_
  refine dh_fetchA h2 h3 hv ?_
  refine nm_r hq ?_
  refine br_t rfl (And.intro (pk_in k 4 hk) ?_)
  exact nm_r (e' := upd a9 k v) (by rw [hc]) h
/-- may the machine execute at p? -/
def dh_okpc (x : Int32) : Bool := decide (512 ≤ x) || (decide (¬ x < 0) && (decide (¬ 13 ≤ x) && decide (¬ dh_T x.toNatClampNeg = 0)))
theorem dh_go {post : Int32 → St2 → Prop} {n x : Nat} (hx : x < 1000) (hd : ¬ d = 200) (hp : dh_okpc p = true)
    (h : wX_run_99 post (wX_run_38 post n) (nI x) 13 w s p d 0 a1 a2 dh_T a4 a5 a6 a7 a8 a9 a10) : wX_run_38 post (n + 1) (nI x) 13 w s p d 0 a1 a2 dh_T a4 a5 a6 a7 a8 a9 a10 := by
  refine br_f (nI_ge (b := 1000) hx (by decide)) (br_t rfl (br_f hd ?_))
  by_cases g : 512 ≤ p
  · exact br_t g h
  · refine br_f g ?_
    unfold dh_okpc at hp
    rw [decide_eq_false g, Bool.false_or, Bool.and_eq_true, Bool.and_eq_true] at hp
    obtain ⟨q1, q2, q3⟩ := hp
    have z1 : ¬ p < 0 := of_decide_eq_true q1
    have z2 : ¬ 13 ≤ p := of_decide_eq_true q2
    have z3 : ¬ dh_T p.toNatClampNeg = 0 := of_decide_eq_true q3
    have z4 : vp_in p 64 := by
      rcases pk_ix p (n := 13) (by decide) with z | z | ⟨j, hj, rfl⟩
      · exact absurd z z1
      · exact absurd z z2
      · exact vp_in_nI (by omega) (by decide)
    refine dh_isStart1 z1 z2 z4 z3 ?_
    exact br_f (by decide) h
/-- run's loop ends -/
theorem dh_fin {post : Int32 → St2 → Prop} {n x : Nat} (hx : x < 1000) (h : post 1 (l, w, s, p, d, 1, a1, a2, a3, a4, a5, a6, a7, a8, a9, a10)) : wX_run_38 post (n + 1) (nI x) l w s p d 1 a1 a2 a3 a4 a5 a6 a7 a8 a9 a10 := by
  refine br_f (nI_ge (b := 1000) hx (by decide)) ?_
  exact br_f (by decide) h
theorem dh_d200 {k : Nat} (h : k < 200) : ¬ nI k = 200 := by
  intro z
  have := (nI_eq (a := k) (b := 200) (by omega) (by decide)).mp z
  omega
end
end
section
/-- the tables of the four configurations -/
def dh_H0 : Nat → Int32 := upd (upd (upd (upd (fun _ => 0) 0 (-1)) 1 (-1)) 2 (-1)) 3 (-1)
def dh_CFF : Nat → Int32 := dh_C3 10 3 48 dh_P
def dh_AFF : Nat → Int32 := dh_A10 (3 * 16) (nI 3) (fun _ => 0)
def dh_HFF : Nat → Int32 := upd dh_H0 3 10
def dh_NFF : Nat → Int32 := upd (fun _ => 0) 3 3
def dh_KFF : Nat → Int32 := upd (fun _ => 0) 3 0
def dh_CTF : Nat → Int32 := dh_C4 8 3 48 dh_P
def dh_ATF : Nat → Int32 := dh_A8 (3 * 16) (nI 3) (fun _ => 0)
def dh_HTF : Nat → Int32 := upd dh_H0 3 8
def dh_NTF : Nat → Int32 := upd (fun _ => 0) 3 4
def dh_KTF : Nat → Int32 := upd (fun _ => 0) 3 0
def dh_CFT : Nat → Int32 := dh_C3 10 3 32 (dh_C4 0 3 48 dh_P)
def dh_AFT : Nat → Int32 := dh_A10 (2 * 16) (nI 2) (dh_A0 (3 * 16) (nI 3) (fun _ => 0))
def dh_HFT : Nat → Int32 := upd (upd dh_H0 3 0) 2 10
def dh_NFT : Nat → Int32 := upd (upd (fun _ => 0) 3 4) 2 3
def dh_KFT : Nat → Int32 := upd (upd (fun _ => 0) 3 0) 2 0
def dh_CTT : Nat → Int32 := dh_C4 0 3 32 (dh_C4 8 3 48 dh_P)
def dh_ATT : Nat → Int32 := dh_A0 (2 * 16) (nI 2) (dh_A8 (3 * 16) (nI 3) (fun _ => 0))
def dh_HTT : Nat → Int32 := upd (upd dh_H0 3 8) 2 0
def dh_NTT : Nat → Int32 := upd (upd (fun _ => 0) 3 4) 2 4
def dh_KTT : Nat → Int32 := upd (upd (fun _ => 0) 3 0) 2 0
def dh_K3 (K : Nat → Int32) : Nat → Int32 := upd K 3 (K 3 + 1)
def dh_K32 (K : Nat → Int32) : Nat → Int32 := upd (upd K 3 (K 3 + 1)) 2 (upd K 3 (K 3 + 1) 2 + 1)
def dh_K23 (K : Nat → Int32) : Nat → Int32 := upd (upd K 2 (K 2 + 1)) 3 (upd K 2 (K 2 + 1) 3 + 1)
def dh_RF (R : Nat → Int32) : Nat → Int32 := upd (upd (upd R 0 (R 0 + 1)) 2 12) 1 (upd (upd R 0 (R 0 + 1)) 2 12 1 - 1)
theorem dh_lapFF {post : Int32 → St2 → Prop} {w : Int32} {M : Nat → Int32} (n x dn : Nat) (K R Z : Nat → Int32) (hx : x + 7 < 1000) (hd : dn + 5 < 200)
    (h : wX_run_38 post n (nI (x + 7)) 13 w 0 4 (nI (dn + 5)) 0 dh_P dh_CFF dh_T M dh_AFF dh_HFF dh_NFF (dh_K3 K) (dh_RF R) (upd Z 0 2)) :
    wX_run_38 post (n + 7) (nI x) 13 w 0 0 (nI dn) 0 dh_P dh_CFF dh_T M dh_AFF dh_HFF dh_NFF K R Z := by
  refine dh_go (by omega) (dh_d200 (by omega)) (by decide +kernel) ?_
  refine dh_x6 (b := 6) (t := 6) (u := 2) (q := 8) (by decide +kernel) (by decide +kernel) (by decide +kernel) (nI_1 _) (by decide +kernel) (by decide +kernel) ?_
  refine nm_r (nI_1 _) ?_
  refine dh_go (by omega) (dh_d200 (by omega)) (by decide +kernel) ?_
  refine dh_x1 (k := 0) (b := 0) (q := 10) (by decide +kernel) (by decide +kernel) (by decide +kernel) (by decide +kernel) (nI_1 _) (by decide +kernel) ?_
  refine nm_r (nI_1 _) ?_
  refine dh_go (by omega) (dh_d200 (by omega)) (by decide +kernel) ?_
  refine dh_x9 (b1 := 3) (b2 := 48) (q := 560) (by decide +kernel) (by decide +kernel) (by decide +kernel) (by decide +kernel) ?_
  refine nm_r (nI_1 _) ?_
  refine dh_go (by omega) (dh_d200 (by omega)) (by decide +kernel) ?_
  refine dh_x10 (k := 3) (b := 3) (q := 562) (by decide +kernel) (by decide +kernel) (by decide +kernel) (by decide +kernel) (by decide +kernel) ?_
  refine nm_r (nI_1 _) ?_
  refine dh_go (by omega) (dh_d200 (by omega)) (by decide +kernel) ?_
  refine dh_x13 (k := 2) (b := 2) (b1 := 1) (b2 := 12) (v := 12) (q := 566) (by decide +kernel) (by decide +kernel) (by decide +kernel) (by decide +kernel) (by decide +kernel) (by decide +kernel) (by decide +kernel) (nI_1 _) (by decide +kernel) ?_
  refine nm_r (nI_1 _) ?_
  refine dh_go (by omega) (dh_d200 (by omega)) (by decide +kernel) ?_
  refine dh_x7 (q := 2) (by decide +kernel) (nI_1 _) pk_us ?_
  refine nm_r (nI_1 _) ?_
  refine dh_go (by omega) (dh_d200 (by omega)) (by decide +kernel) ?_
  refine dh_x2 (k := 1) (b := 1) (q := 4) (by decide +kernel) (by decide +kernel) (by decide +kernel) (by decide +kernel) (nI_1 _) (by decide +kernel) ?_
  refine nm_r (nI_1 _) ?_
  exact h
theorem dh_lapTF {post : Int32 → St2 → Prop} {w : Int32} {M : Nat → Int32} (n x dn : Nat) (K R Z : Nat → Int32) (hx : x + 8 < 1000) (hd : dn + 5 < 200)
    (h : wX_run_38 post n (nI (x + 8)) 13 w 0 4 (nI (dn + 5)) 0 dh_P dh_CTF dh_T M dh_ATF dh_HTF dh_NTF (dh_K3 K) (dh_RF R) (upd Z 0 2)) :
    wX_run_38 post (n + 8) (nI x) 13 w 0 0 (nI dn) 0 dh_P dh_CTF dh_T M dh_ATF dh_HTF dh_NTF K R Z := by
  refine dh_go (by omega) (dh_d200 (by omega)) (by decide +kernel) ?_
  refine dh_x6 (b := 6) (t := 6) (u := 2) (q := 8) (by decide +kernel) (by decide +kernel) (by decide +kernel) (nI_1 _) (by decide +kernel) (by decide +kernel) ?_
  refine nm_r (nI_1 _) ?_
  refine dh_go (by omega) (dh_d200 (by omega)) (by decide +kernel) ?_
  refine dh_x9 (b1 := 3) (b2 := 48) (q := 560) (by decide +kernel) (by decide +kernel) (by decide +kernel) (by decide +kernel) ?_
  refine nm_r (nI_1 _) ?_
  refine dh_go (by omega) (dh_d200 (by omega)) (by decide +kernel) ?_
  refine dh_x10 (k := 3) (b := 3) (q := 562) (by decide +kernel) (by decide +kernel) (by decide +kernel) (by decide +kernel) (by decide +kernel) ?_
  refine nm_r (nI_1 _) ?_
  refine dh_go (by omega) (dh_d200 (by omega)) (by decide +kernel) ?_
  refine dh_x1 (k := 0) (b := 0) (q := 564) (by decide +kernel) (by decide +kernel) (by decide +kernel) (by decide +kernel) (nI_1 _) (by decide +kernel) ?_
  refine nm_r (nI_1 _) ?_
  refine dh_go (by omega) (dh_d200 (by omega)) (by decide +kernel) ?_
  refine dh_x13 (k := 2) (b := 2) (b1 := 1) (b2 := 12) (v := 12) (q := 568) (by decide +kernel) (by decide +kernel) (by decide +kernel) (by decide +kernel) (by decide +kernel) (by decide +kernel) (by decide +kernel) (nI_1 _) (by decide +kernel) ?_
  refine nm_r (nI_1 _) ?_
  refine dh_go (by omega) (dh_d200 (by omega)) (by decide +kernel) ?_
  refine dh_x9 (b1 := 1) (b2 := 12) (q := 12) (by decide +kernel) (by decide +kernel) (by decide +kernel) (by decide +kernel) ?_
  refine nm_r (nI_1 _) ?_
  refine dh_go (by omega) (dh_d200 (by omega)) (by decide +kernel) ?_
  refine dh_x7 (q := 2) (by decide +kernel) (nI_1 _) pk_us ?_
  refine nm_r (nI_1 _) ?_
  refine dh_go (by omega) (dh_d200 (by omega)) (by decide +kernel) ?_
  refine dh_x2 (k := 1) (b := 1) (q := 4) (by decide +kernel) (by decide +kernel) (by decide +kernel) (by decide +kernel) (nI_1 _) (by decide +kernel) ?_
  refine nm_r (nI_1 _) ?_
  exact h
theorem dh_lapFT {post : Int32 → St2 → Prop} {w : Int32} {M : Nat → Int32} (n x dn : Nat) (K R Z : Nat → Int32) (hx : x + 10 < 1000) (hd : dn + 5 < 200)
    (h : wX_run_38 post n (nI (x + 10)) 13 w 0 4 (nI (dn + 5)) 0 dh_P dh_CFT dh_T M dh_AFT dh_HFT dh_NFT (dh_K32 K) (dh_RF R) (upd Z 0 565)) :
    wX_run_38 post (n + 10) (nI x) 13 w 0 0 (nI dn) 0 dh_P dh_CFT dh_T M dh_AFT dh_HFT dh_NFT K R Z := by
  refine dh_go (by omega) (dh_d200 (by omega)) (by decide +kernel) ?_
  refine dh_x9 (b1 := 3) (b2 := 48) (q := 560) (by decide +kernel) (by decide +kernel) (by decide +kernel) (by decide +kernel) ?_
  refine nm_r (nI_1 _) ?_
  refine dh_go (by omega) (dh_d200 (by omega)) (by decide +kernel) ?_
  refine dh_x10 (k := 3) (b := 3) (q := 562) (by decide +kernel) (by decide +kernel) (by decide +kernel) (by decide +kernel) (by decide +kernel) ?_
  refine nm_r (nI_1 _) ?_
  refine dh_go (by omega) (dh_d200 (by omega)) (by decide +kernel) ?_
  refine dh_x12 (b1 := 1) (b2 := 8) (u := 565) (q := 8) (by decide +kernel) (by decide +kernel) (by decide +kernel) (nI_1 _) (by decide +kernel) (by decide +kernel) ?_
  refine nm_r (nI_1 _) ?_
  refine dh_go (by omega) (dh_d200 (by omega)) (by decide +kernel) ?_
  refine dh_x1 (k := 0) (b := 0) (q := 10) (by decide +kernel) (by decide +kernel) (by decide +kernel) (by decide +kernel) (nI_1 _) (by decide +kernel) ?_
  refine nm_r (nI_1 _) ?_
  refine dh_go (by omega) (dh_d200 (by omega)) (by decide +kernel) ?_
  refine dh_x9 (b1 := 3) (b2 := 32) (q := 544) (by decide +kernel) (by decide +kernel) (by decide +kernel) (by decide +kernel) ?_
  refine nm_r (nI_1 _) ?_
  refine dh_go (by omega) (dh_d200 (by omega)) (by decide +kernel) ?_
  refine dh_x10 (k := 2) (b := 2) (q := 546) (by decide +kernel) (by decide +kernel) (by decide +kernel) (by decide +kernel) (by decide +kernel) ?_
  refine nm_r (nI_1 _) ?_
  refine dh_go (by omega) (dh_d200 (by omega)) (by decide +kernel) ?_
  refine dh_x13 (k := 2) (b := 2) (b1 := 1) (b2 := 12) (v := 12) (q := 550) (by decide +kernel) (by decide +kernel) (by decide +kernel) (by decide +kernel) (by decide +kernel) (by decide +kernel) (by decide +kernel) (nI_1 _) (by decide +kernel) ?_
  refine nm_r (nI_1 _) ?_
  refine dh_go (by omega) (dh_d200 (by omega)) (by decide +kernel) ?_
  refine dh_x7 (q := 565) (by decide +kernel) (nI_1 _) pk_us ?_
  refine nm_r (nI_1 _) ?_
  refine dh_go (by omega) (dh_d200 (by omega)) (by decide +kernel) ?_
  refine dh_x2 (k := 1) (b := 1) (q := 567) (by decide +kernel) (by decide +kernel) (by decide +kernel) (by decide +kernel) (nI_1 _) (by decide +kernel) ?_
  refine nm_r (nI_1 _) ?_
  refine dh_go (by omega) (dh_d200 (by omega)) (by decide +kernel) ?_
  refine dh_x9 (b1 := 1) (b2 := 4) (q := 4) (by decide +kernel) (by decide +kernel) (by decide +kernel) (by decide +kernel) ?_
  refine nm_r (nI_1 _) ?_
  exact h
theorem dh_lapTT {post : Int32 → St2 → Prop} {w : Int32} {M : Nat → Int32} (n x dn : Nat) (K R Z : Nat → Int32) (hx : x + 11 < 1000) (hd : dn + 5 < 200)
    (h : wX_run_38 post n (nI (x + 11)) 13 w 0 4 (nI (dn + 5)) 0 dh_P dh_CTT dh_T M dh_ATT dh_HTT dh_NTT (dh_K23 K) (dh_RF R) (upd Z 0 549)) :
    wX_run_38 post (n + 11) (nI x) 13 w 0 0 (nI dn) 0 dh_P dh_CTT dh_T M dh_ATT dh_HTT dh_NTT K R Z := by
  refine dh_go (by omega) (dh_d200 (by omega)) (by decide +kernel) ?_
  refine dh_x9 (b1 := 3) (b2 := 32) (q := 544) (by decide +kernel) (by decide +kernel) (by decide +kernel) (by decide +kernel) ?_
  refine nm_r (nI_1 _) ?_
  refine dh_go (by omega) (dh_d200 (by omega)) (by decide +kernel) ?_
  refine dh_x10 (k := 2) (b := 2) (q := 546) (by decide +kernel) (by decide +kernel) (by decide +kernel) (by decide +kernel) (by decide +kernel) ?_
  refine nm_r (nI_1 _) ?_
  refine dh_go (by omega) (dh_d200 (by omega)) (by decide +kernel) ?_
  refine dh_x12 (b1 := 1) (b2 := 8) (u := 549) (q := 8) (by decide +kernel) (by decide +kernel) (by decide +kernel) (nI_1 _) (by decide +kernel) (by decide +kernel) ?_
  refine nm_r (nI_1 _) ?_
  refine dh_go (by omega) (dh_d200 (by omega)) (by decide +kernel) ?_
  refine dh_x9 (b1 := 3) (b2 := 48) (q := 560) (by decide +kernel) (by decide +kernel) (by decide +kernel) (by decide +kernel) ?_
  refine nm_r (nI_1 _) ?_
  refine dh_go (by omega) (dh_d200 (by omega)) (by decide +kernel) ?_
  refine dh_x10 (k := 3) (b := 3) (q := 562) (by decide +kernel) (by decide +kernel) (by decide +kernel) (by decide +kernel) (by decide +kernel) ?_
  refine nm_r (nI_1 _) ?_
  refine dh_go (by omega) (dh_d200 (by omega)) (by decide +kernel) ?_
  refine dh_x1 (k := 0) (b := 0) (q := 564) (by decide +kernel) (by decide +kernel) (by decide +kernel) (by decide +kernel) (nI_1 _) (by decide +kernel) ?_
  refine nm_r (nI_1 _) ?_
  refine dh_go (by omega) (dh_d200 (by omega)) (by decide +kernel) ?_
  refine dh_x13 (k := 2) (b := 2) (b1 := 1) (b2 := 12) (v := 12) (q := 568) (by decide +kernel) (by decide +kernel) (by decide +kernel) (by decide +kernel) (by decide +kernel) (by decide +kernel) (by decide +kernel) (nI_1 _) (by decide +kernel) ?_
  refine nm_r (nI_1 _) ?_
  refine dh_go (by omega) (dh_d200 (by omega)) (by decide +kernel) ?_
  refine dh_x9 (b1 := 1) (b2 := 12) (q := 12) (by decide +kernel) (by decide +kernel) (by decide +kernel) (by decide +kernel) ?_
  refine nm_r (nI_1 _) ?_
  refine dh_go (by omega) (dh_d200 (by omega)) (by decide +kernel) ?_
  refine dh_x7 (q := 549) (by decide +kernel) (nI_1 _) pk_us ?_
  refine nm_r (nI_1 _) ?_
  refine dh_go (by omega) (dh_d200 (by omega)) (by decide +kernel) ?_
  refine dh_x2 (k := 1) (b := 1) (q := 551) (by decide +kernel) (by decide +kernel) (by decide +kernel) (by decide +kernel) (nI_1 _) (by decide +kernel) ?_
  refine nm_r (nI_1 _) ?_
  refine dh_go (by omega) (dh_d200 (by omega)) (by decide +kernel) ?_
  refine dh_x9 (b1 := 1) (b2 := 4) (q := 4) (by decide +kernel) (by decide +kernel) (by decide +kernel) (by decide +kernel) ?_
  refine nm_r (nI_1 _) ?_
  exact h
theorem dh_RF0 (R : Nat → Int32) : dh_RF R 0 = R 0 + 1 := by simp [dh_RF, upd]
theorem dh_RF1 (R : Nat → Int32) : dh_RF R 1 = R 1 - 1 := by simp [dh_RF, upd]
theorem dh_RF2 (R : Nat → Int32) : dh_RF R 2 = 12 := by simp [dh_RF, upd]
theorem dh_RF3 (R : Nat → Int32) : dh_RF R 3 = R 3 := by simp [dh_RF, upd]
/-- all laps that are left, and the halt -/
theorem dh_laps {post : Int32 → St2 → Prop} {w b2 : Int32} {C M A H N : Nat → Int32} {KF ZF : (Nat → Int32) → Nat → Int32} {c : Nat} (hc : c ≤ 12)
    (k3 : ∀ K, KF K 3 = K 3 + 1) (k2 : ∀ K, KF K 2 = K 2 + b2)
    (f4 : dh_ft C A 4 = 5) (f5 : dh_ft C A (4 + 1) = 1) (f6 : dh_ft C A (4 + 2) = 249) (f7 : dh_ft C A 7 = 0)
    (lap : ∀ (n x dn : Nat) (K R Z : Nat → Int32), x + c < 1000 → dn + 5 < 200 → wX_run_38 post n (nI (x + c)) 13 w 0 4 (nI (dn + 5)) 0 dh_P C dh_T M A H N (KF K) (dh_RF R) (ZF Z) → wX_run_38 post (n + c) (nI x) 13 w 0 0 (nI dn) 0 dh_P C dh_T M A H N K R Z) :
    ∀ (m x dn : Nat) (K R Z : Nat → Int32), R 1 = nI (m + 1) → x + 13 * (m + 1) + 2 < 1000 → dn + 6 * (m + 1) + 1 < 200 →
      (∀ K' R' Z' : Nat → Int32, R' 0 = R 0 + nI (m + 1) → R' 1 = 0 → R' 2 = 12 → R' 3 = R 3 → K' 3 = K 3 + nI (m + 1) → K' 2 = K 2 + b2 * nI (m + 1) → post 1 (13, w, 0, 7, nI (dn + 6 * (m + 1) + 1), 1, dh_P, C, dh_T, M, A, H, N, K', R', Z')) →
      ∃ n, wX_run_38 post n (nI x) 13 w 0 0 (nI dn) 0 dh_P C dh_T M A H N K R Z := by
  intro m
  induction m with
  | zero =>
    intro x dn K R Z h1 hx hd hp
    have r1 : dh_RF R 1 = 0 := by
      rw [dh_RF1, h1, nI_pred]
      rfl
    have e1 : dn + 6 * (0 + 1) + 1 = dn + 5 + 1 + 1 := by omega
    rw [e1] at hp
    refine ⟨3 + c, lap _ _ _ _ _ _ (by omega) (by omega) ?_⟩
    refine dh_go (by omega) (dh_d200 (by omega)) (by decide +kernel) ?_
    refine dh_x5f (k := 1) (b := 1) (c := 249) (t := -7) (q := 7) f4 f5 (by decide +kernel) (by decide) f6 (by decide +kernel) (nI_1 _) r1 (by decide +kernel) ?_
    refine nm_r (nI_1 _) ?_
    refine dh_go (by omega) (dh_d200 (by omega)) (by decide +kernel) ?_
    refine dh_x0 f7 (nI_1 _) ?_
    refine nm_r (nI_1 _) ?_
    refine dh_fin (by omega) ?_
    refine hp _ _ _ ?_ r1 (dh_RF2 R) (dh_RF3 R) ?_ ?_
    · exact dh_RF0 R
    · exact k3 K
    · rw [k2, show nI (0 + 1) = 1 from rfl, Int32.mul_one]
  | succ m ih =>
    intro x dn K R Z h1 hx hd hp
    have r1 : dh_RF R 1 = nI (m + 1) := by
      rw [dh_RF1, h1, nI_pred]
    have hp' : ∀ K' R' Z' : Nat → Int32, R' 0 = dh_RF R 0 + nI (m + 1) → R' 1 = 0 → R' 2 = 12 → R' 3 = dh_RF R 3 → K' 3 = KF K 3 + nI (m + 1) → K' 2 = KF K 2 + b2 * nI (m + 1) → post 1 (13, w, 0, 7, nI (dn + 6 + 6 * (m + 1) + 1), 1, dh_P, C, dh_T, M, A, H, N, K', R', Z') := by
      intro K' R' Z' q0 q1 q2 q3 q4 q5
      have e1 : dn + 6 + 6 * (m + 1) + 1 = dn + 6 * (m + 1 + 1) + 1 := by omega
      rw [e1]
      refine hp K' R' Z' ?_ q1 q2 ?_ ?_ ?_
      · rw [q0, dh_RF0, nI_succ (m + 1), Int32.add_assoc, Int32.add_comm 1]
      · rw [q3, dh_RF3]
      · rw [q4, k3, nI_succ (m + 1), Int32.add_assoc, Int32.add_comm 1]
      · rw [q5, k2, nI_succ (m + 1)]
        grind
    obtain ⟨n, hn⟩ := ih (x + c + 1) (dn + 6) (KF K) (dh_RF R) (ZF Z) r1 (by omega) (by omega) hp'
    refine ⟨n + 1 + c, lap _ _ _ _ _ _ (by omega) (by omega) ?_⟩
    refine dh_go (by omega) (dh_d200 (by omega)) (by decide +kernel) ?_
    refine dh_x5t (k := 1) (b := 1) (c := 249) (t := -7) (q := 0) f4 f5 (by decide +kernel) (by decide) f6 (by decide +kernel) (nI_1 _) (by rw [r1]; exact nI_ne0 (by omega) (by omega)) (by decide +kernel) ?_
    refine nm_r (nI_1 _) ?_
    exact hn
end
section
section
variable {l w s p d e : Int32} {a1 a2 a3 a4 a5 a6 a7 a8 a9 a10 : Nat → Int32}
theorem dh_call {post : Int32 → St2 → Prop} {k : Nat} (hk : k + 2 ≤ 64) (h6 : dh_cnt a6 = 0)
    (h : post (nI k) (nI (k + 1 + 1), w, s, p, d, e, upd (upd a1 k 6) (k + 1) 6, upd (upd a2 k 6) (k + 1) 6, upd (upd (upd a3 k 0) k 1) (k + 1) 0, a4, a5, a6, a7, a8, a9, a10)) :
    wpX_call post (nI k, w, s, p, d, e, a1, a2, a3, a4, a5, a6, a7, a8, a9, a10) 6 := by
  unfold wpX_call
  refine dh_badT (by decide) (by decide) ?_
  refine br_t rfl ?_
  refine dh_asByte (r := 6) (by decide) ?_
  exact dh_app2 (k := k) hk h6 (by decide) h
theorem dh_dec {post : Int32 → St2 → Prop} {k : Nat} {r : Int32} (hk : k + 2 ≤ 64) (h6 : dh_cnt a6 = 0) (r0 : ¬ r < 0) (r3 : r ≤ 3)
    (h : post (nI k) (nI (k + 1 + 1), w, s, p, d, e, upd (upd a1 k 2) (k + 1) r, upd (upd a2 k 2) (k + 1) r, upd (upd (upd a3 k 0) k 1) (k + 1) 0, a4, a5, a6, a7, a8, a9, a10)) :
    wpX_dec post (nI k, w, s, p, d, e, a1, a2, a3, a4, a5, a6, a7, a8, a9, a10) r := by
  unfold wpX_dec
  refine dh_badReg r0 r3 ?_
  refine br_t rfl ?_
  exact dh_app2 (k := k) hk h6 (by decide) h
theorem dh_inc {post : Int32 → St2 → Prop} {k : Nat} {r : Int32} (hk : k + 2 ≤ 64) (h6 : dh_cnt a6 = 0) (r0 : ¬ r < 0) (r3 : r ≤ 3)
    (h : post (nI k) (nI (k + 1 + 1), w, s, p, d, e, upd (upd a1 k 1) (k + 1) r, upd (upd a2 k 1) (k + 1) r, upd (upd (upd a3 k 0) k 1) (k + 1) 0, a4, a5, a6, a7, a8, a9, a10)) :
    wpX_inc post (nI k, w, s, p, d, e, a1, a2, a3, a4, a5, a6, a7, a8, a9, a10) r := by
  unfold wpX_inc
  refine dh_badReg r0 r3 ?_
  refine br_t rfl ?_
  exact dh_app2 (k := k) hk h6 (by decide) h
theorem dh_where {post : Int32 → St2 → Prop} {k : Nat} {r : Int32} (hk : k + 2 ≤ 64) (h6 : dh_cnt a6 = 0) (r0 : ¬ r < 0) (r3 : r ≤ 3)
    (h : post (nI k) (nI (k + 1 + 1), w, s, p, d, e, upd (upd a1 k 8) (k + 1) r, upd (upd a2 k 8) (k + 1) r, upd (upd (upd a3 k 0) k 1) (k + 1) 0, a4, a5, a6, a7, a8, a9, a10)) :
    wpX_where post (nI k, w, s, p, d, e, a1, a2, a3, a4, a5, a6, a7, a8, a9, a10) r := by
  unfold wpX_where
  refine dh_badReg r0 r3 ?_
  refine br_t rfl ?_
  exact dh_app2 (k := k) hk h6 (by decide) h
theorem dh_branch {post : Int32 → St2 → Prop} {k : Nat} {r : Int32} (hk : k + 3 ≤ 64) (h6 : dh_cnt a6 = 0) (r0 : ¬ r < 0) (r3 : r ≤ 3)
    (h : post (nI k) (nI (k + 1 + 1 + 1), w, s, p, d, e, upd (upd (upd a1 k 5) (k + 1) r) (k + 1 + 1) 249, upd (upd (upd a2 k 5) (k + 1) r) (k + 1 + 1) 249, upd (upd (upd (upd a3 k 0) k 1) (k + 1) 0) (k + 1 + 1) 0, a4, a5, a6, a7, a8, a9, a10)) :
    wpX_branch post (nI k, w, s, p, d, e, a1, a2, a3, a4, a5, a6, a7, a8, a9, a10) r (-7) := by
  unfold wpX_branch
  refine dh_badReg r0 r3 ?_
  refine br_t rfl ?_
  refine dh_badT (by decide) (by decide) ?_
  refine br_t rfl ?_
  refine dh_asByte (r := 249) (by decide) ?_
  exact dh_app3 (k := k) hk h6 (by decide) h
theorem dh_halt {post : Int32 → St2 → Prop} {k : Nat} (hk : k + 1 ≤ 64) (h6 : dh_cnt a6 = 0)
    (h : post (nI k) (nI (k + 1), w, s, p, d, e, upd a1 k 0, upd a2 k 0, upd (upd a3 k 0) k 1, a4, a5, a6, a7, a8, a9, a10)) :
    wpX_halt post (nI k, w, s, p, d, e, a1, a2, a3, a4, a5, a6, a7, a8, a9, a10) := by
  unfold wpX_halt
  exact dh_app1 (k := k) hk h6 (by decide) h
theorem dh_back {post : Int32 → St2 → Prop} {k : Nat} (hk : k + 1 ≤ 64) (h6 : dh_cnt a6 = 0)
    (h : post (nI k) (nI (k + 1), w, s, p, d, e, upd a1 k 7, upd a2 k 7, upd (upd a3 k 0) k 1, a4, a5, a6, a7, a8, a9, a10)) :
    wpX_giveBack post (nI k, w, s, p, d, e, a1, a2, a3, a4, a5, a6, a7, a8, a9, a10) := by
  unfold wpX_giveBack
  exact dh_app1 (k := k) hk h6 (by decide) h
theorem dh_incH {post : Int32 → St2 → Prop} {r c : Int32} (h6 : dh_cnt a6 = c) (hc : ¬ c ≤ 0) (r0 : ¬ r < 0) (r3 : r ≤ 3) (h : post (-3) (l, w, s, p, d, e, a1, a2, a3, a4, a5, a6, a7, a8, a9, a10)) :
    wpX_inc post (l, w, s, p, d, e, a1, a2, a3, a4, a5, a6, a7, a8, a9, a10) r := by
  unfold wpX_inc
  refine dh_badReg r0 r3 ?_
  refine br_t rfl ?_
  exact dh_appH h6 hc h
theorem dh_callsS {post : Int32 → Prop} {q : Nat} {a r : Int32} (h0 : ¬ a < 0) (h1 : a < 64) (hs : dh_slot a6 a = nI q) (hq : q < 4) (hr : a8 q = r) (h : post r) : wpX_calls post (l, w, s, p, d, e, a1, a2, a3, a4, a5, a6, a7, a8, a9, a10) a := by
  refine br_f h0 (br_t h1 ?_)
  refine dh_slotOf hs ?_
  refine br_t (nI_pos' (by omega)) (And.intro (pk_in q 4 hq) ?_)
  rw [nI_clamp (by omega), hr]
  exact h
theorem dh_callsN {post : Int32 → Prop} {a : Int32} (h0 : ¬ a < 0) (h1 : a < 64) (hs : dh_slot a6 a = -1) (h : post (-3)) : wpX_calls post (l, w, s, p, d, e, a1, a2, a3, a4, a5, a6, a7, a8, a9, a10) a := by
  refine br_f h0 (br_t h1 ?_)
  refine dh_slotOf hs ?_
  exact br_f (by decide) h
theorem dh_peek {post : Int32 → Prop} {x r : Int32} (h0 : ¬ x < 0) (h1 : x < l) (i : vp_in x 64) (hr : a1 x.toNatClampNeg = r) (h : post r) : wpX_peek post (l, w, s, p, d, e, a1, a2, a3, a4, a5, a6, a7, a8, a9, a10) x := by
  subst hr
  exact br_f h0 (br_t h1 (And.intro i h))
theorem dh_unhook8 {post : Int32 → St2 → Prop} {r : Int32} (hs : dh_slot a6 8 = nI 3) (h7 : a7 3 = 4) (hr : a8 3 = r) (h : ∀ f g, post r (l, w, s, p, d, e, a1, f, a3, a4, a5, g, a7, a8, a9, a10)) : wpX_unhook post (l, w, s, p, d, e, a1, a2, a3, a4, a5, a6, a7, a8, a9, a10) 8 := by
  have hv : vp_in (nI 3) 4 := pk_in 3 4 (by decide)
  have hc : (nI 3).toNatClampNeg = 3 := nI_clamp (by decide)
  have h7' : a7 (nI 3).toNatClampNeg = 4 := by rw [hc]; exact h7
  subst hr
  refine br_f (by decide) (br_t (by decide) ?_)
  refine dh_slotOf hs ?_
  refine br_t (by decide) ?_
  refine Exists.intro 5 ?_
  refine And.intro hv (br_f (by rw [h7']; decide) (And.intro (dh_in (by decide)) (And.intro (dh_in (by decide)) (nm_e (nm_r (e' := 1) (by decide) ?_)))))
  refine And.intro hv (br_f (by rw [h7']; decide) (And.intro (dh_in (by decide)) (And.intro (dh_in (by decide)) (nm_e (nm_r (e' := 2) (by decide) ?_)))))
  refine And.intro hv (br_f (by rw [h7']; decide) (And.intro (dh_in (by decide)) (And.intro (dh_in (by decide)) (nm_e (nm_r (e' := 3) (by decide) ?_)))))
  refine And.intro hv (br_f (by rw [h7']; decide) (And.intro (dh_in (by decide)) (And.intro (dh_in (by decide)) (nm_e (nm_r (e' := 4) (by decide) ?_)))))
  refine And.intro hv (br_t (by rw [h7']; decide) (And.intro hv (nm_e (And.intro hv ?_))))
  rw [hc]
  exact h _ _
/-- a run that begins at address 0 begins there -/
theorem dh_entry_s {post : Int32 → Prop} {n : Nat} (i : Nat) (hi : i < 4) (h : wX_entry_4 post 0 l w s p d e a1 a2 a3 a4 a5 a6 a7 a8 a9 a10 n 0 (nI (i + 1))) :
    wX_entry_4 post 0 l w s p d e a1 a2 a3 a4 a5 a6 a7 a8 a9 a10 (n + 1) 0 (nI i) := by
  have hv : vp_in (nI i) 4 := pk_in i 4 hi
  refine pk_le 4 i (fun z => absurd z (by omega)) (fun _ => ⟨hv, ?_⟩)
  refine br_c (fun g => ?_) (fun g => And.intro hv (br_t (Int32.not_lt.mp g) ?_))
  · exact br_t rfl (nm_r (nI_1 i) h)
  · exact br_t rfl (nm_r (nI_1 i) h)
theorem dh_entry {post : Int32 → Prop} (h : post 0) : wpX_entry post (l, w, s, p, d, e, a1, a2, a3, a4, a5, a6, a7, a8, a9, a10) 0 := by
  refine Exists.intro 5 ?_
  refine dh_entry_s 0 (by decide) ?_
  refine dh_entry_s 1 (by decide) ?_
  refine dh_entry_s 2 (by decide) ?_
  refine dh_entry_s 3 (by decide) ?_
  exact pk_le 4 4 (fun _ => h) (fun z => absurd z (by omega))
theorem dh_run {post : Int32 → St2 → Prop} (h : ∃ n, wX_run_38 post n (nI 0) l w 0 0 (nI 0) 0 a1 a2 a3 a4 a5 a6 a7 a8 a9 a10) : wpX_run post (l, w, s, p, d, e, a1, a2, a3, a4, a5, a6, a7, a8, a9, a10) 0 := by
  refine br_f (by decide) (br_t (by decide) ?_)
  refine dh_entry ?_
  exact h
theorem dh_init_s {post : St2 → Prop} {mc ms kc ks n : Nat} {am7 am15 am23 am31 am39 am46 am53 am60 am67 am75 : Nat → Int32} (i : Nat) (hi : i < 4)
    (h : wX_init_82 post mc ms kc ks l w s p d e n (nI (i + 1)) am7 am15 am23 am31 am39 (upd am46 i (-1)) am53 am60 am67 am75) :
    wX_init_82 post mc ms kc ks l w s p d e (n + 1) (nI i) am7 am15 am23 am31 am39 am46 am53 am60 am67 am75 := by
  refine pk_le 4 i (fun z => absurd z (by omega)) (fun _ => ⟨pk_in i 4 hi, ?_⟩)
  exact nm_r (e' := upd am46 i (-1)) (by rw [nI_clamp (by omega)]) (nm_r (nI_1 i) h)
theorem dh_init {post : St2 → Prop} (h : post (l, w, s, p, d, e, (fun _ => 0), (fun _ => 0), (fun _ => 0), (fun _ => 0), (fun _ => 0), dh_H0, (fun _ => 0), (fun _ => 0), (fun _ => 0), (fun _ => 0))) :
    wpX_init post 10 344 (l, w, s, p, d, e) := by
  unfold wpX_init
  refine ⟨by decide, by decide, by decide, by decide, by decide, by decide, by decide, by decide, by decide, by decide, by decide, by decide, by decide, by decide, by decide, by decide, by decide, by decide, by decide, by decide, ?_⟩
  refine Exists.intro 5 ?_
  refine dh_init_s 0 (by decide) ?_
  refine dh_init_s 1 (by decide) ?_
  refine dh_init_s 2 (by decide) ?_
  refine dh_init_s 3 (by decide) ?_
  exact pk_le 4 4 (fun _ => h) (fun z => absurd z (by omega))
theorem dh_six (j : Nat) : nI (0 + 6 * (j + 1) + 1) = 6 * nI (j + 1) + 1 := by
  have h : (6 : Int32) * nI (j + 1) = nI (6 * (j + 1)) := pk_mul 6 (j + 1)
  rw [h, nI_1, Nat.zero_add]
end
end
section
def dh_R0 (v y : Int32) : Nat → Int32 := upd (upd (fun _ => 0) 0 v) 1 y
theorem dh_R00 (v y : Int32) : dh_R0 v y 0 = v := by simp [dh_R0, upd]
theorem dh_R01 (v y : Int32) : dh_R0 v y 1 = y := by simp [dh_R0, upd]
theorem dh_R03 (v y : Int32) : dh_R0 v y 3 = 0 := by simp [dh_R0, upd]
theorem dh_FFk3 (K : Nat → Int32) : dh_K3 K 3 = K 3 + 1 := by simp [dh_K3, upd]
theorem dh_FFk2 (K : Nat → Int32) : dh_K3 K 2 = K 2 + 0 := by simp [dh_K3, upd]
theorem dh_cFF {post : Int32 → St0 → Prop} {mc ms kc ks j : Nat} {v : Int32} (hj : j < 16) (h : post 1 ()) :
    wL_lawOf_101 post mc ms v (nI (j + 1)) 12 0 0 kc ks 13 0 0 0 0 0 dh_P dh_P dh_T (fun _ => 0) (fun _ => 0) dh_H0 (fun _ => 0) (fun _ => 0) (dh_R0 v (nI (j + 1))) (fun _ => 0) := by
  refine br_t rfl ?_
  refine br_t rfl ?_
  unfold wL_lawOf_134
  refine dh_hook10 (q := 3) (hi := 3) (lo := 48) (by decide) (by decide +kernel) (by decide +kernel) (by decide +kernel) (by decide +kernel) (by decide +kernel) (fun w10 f10 => ?_)
  refine dh_hook5U (q := 2) (by decide) (by decide +kernel) (by decide +kernel) ?_
  refine dh_incH (c := 1) (by decide +kernel) (by decide) (by decide) (by decide) ?_
  refine dh_run ?_
  refine dh_laps (C := dh_CFF) (A := dh_AFF) (H := dh_HFF) (N := dh_NFF) (KF := dh_K3) (ZF := fun Z => upd Z 0 2) (c := 7) (b2 := 0) (by decide) dh_FFk3 dh_FFk2 (by decide +kernel) (by decide +kernel) (by decide +kernel) (by decide +kernel) dh_lapFF j 0 0 dh_KFF (dh_R0 v (nI (j + 1))) _ (dh_R01 v _) (by omega) (by omega) (fun K' R' Z' q0 q1 q2 q3 q4 q5 => ?_)
  rw [dh_R00] at q0
  rw [dh_R03] at q3
  rw [show dh_KFF 3 = 0 from (by decide +kernel), Int32.zero_add] at q4
  refine dh_callsN (by decide) (by decide) (by decide +kernel) ?_
  refine dh_callsN (by decide) (by decide) (by decide +kernel) ?_
  refine dh_callsS (q := 3) (by decide) (by decide) (by decide +kernel) (by decide) q4 ?_
  refine br_t rfl (br_t rfl (br_t rfl (br_t rfl ?_)))
  refine br_t rfl ?_
  refine br_t (dh_six j) ?_
  refine dh_register (k := 0) (by decide) q0 ?_
  refine br_t rfl ?_
  refine dh_register (k := 1) (by decide) q1 ?_
  refine br_t rfl ?_
  refine dh_register (k := 2) (by decide) q2 ?_
  refine br_t rfl ?_
  refine dh_register (k := 3) (by decide) q3 ?_
  refine br_t rfl ?_
  refine br_t rfl ?_
  refine br_t rfl ?_
  refine br_t rfl ?_
  refine br_t rfl ?_
  refine br_t rfl ?_
  refine br_t rfl ?_
  refine br_t rfl ?_
  refine br_t rfl (br_t rfl (br_t rfl ?_))
  refine br_t rfl ?_
  refine br_f (by decide) (br_t rfl ?_)
  refine br_t rfl ?_
  refine dh_peek (r := 1) (by decide) (by decide) (dh_in (by decide)) (by decide +kernel) ?_
  refine br_t rfl ?_
  refine dh_peek (r := 8) (by decide) (by decide) (dh_in (by decide)) (by decide +kernel) ?_
  refine br_t rfl ?_
  refine dh_peek (r := 249) (by decide) (by decide) (dh_in (by decide)) (by decide +kernel) ?_
  exact br_t rfl h
theorem dh_TFk3 (K : Nat → Int32) : dh_K3 K 3 = K 3 + 1 := by simp [dh_K3, upd]
theorem dh_TFk2 (K : Nat → Int32) : dh_K3 K 2 = K 2 + 0 := by simp [dh_K3, upd]
theorem dh_cTF {post : Int32 → St0 → Prop} {mc ms kc ks j : Nat} {v : Int32} (hj : j < 16) (h : post 1 ()) :
    wL_lawOf_101 post mc ms v (nI (j + 1)) 12 1 0 kc ks 13 0 0 0 0 0 dh_P dh_P dh_T (fun _ => 0) (fun _ => 0) dh_H0 (fun _ => 0) (fun _ => 0) (dh_R0 v (nI (j + 1))) (fun _ => 0) := by
  refine br_f (by decide) ?_
  refine dh_hook8 (q := 3) (hi := 3) (lo := 48) (by decide) (by decide +kernel) (by decide +kernel) (by decide +kernel) (by decide +kernel) (by decide +kernel) (fun w8 f8 => ?_)
  refine br_t rfl ?_
  unfold wL_lawOf_134
  refine dh_hook10U (q := 2) (by decide) (by decide +kernel) (by decide +kernel) (by decide +kernel) ?_
  refine dh_hook5U (q := 2) (by decide) (by decide +kernel) (by decide +kernel) ?_
  refine dh_incH (c := 1) (by decide +kernel) (by decide) (by decide) (by decide) ?_
  refine dh_run ?_
  refine dh_laps (C := dh_CTF) (A := dh_ATF) (H := dh_HTF) (N := dh_NTF) (KF := dh_K3) (ZF := fun Z => upd Z 0 2) (c := 8) (b2 := 0) (by decide) dh_TFk3 dh_TFk2 (by decide +kernel) (by decide +kernel) (by decide +kernel) (by decide +kernel) dh_lapTF j 0 0 dh_KTF (dh_R0 v (nI (j + 1))) _ (dh_R01 v _) (by omega) (by omega) (fun K' R' Z' q0 q1 q2 q3 q4 q5 => ?_)
  rw [dh_R00] at q0
  rw [dh_R03] at q3
  rw [show dh_KTF 3 = 0 from (by decide +kernel), Int32.zero_add] at q4
  refine dh_callsS (q := 3) (by decide) (by decide) (by decide +kernel) (by decide) q4 ?_
  refine dh_callsN (by decide) (by decide) (by decide +kernel) ?_
  refine dh_callsN (by decide) (by decide) (by decide +kernel) ?_
  refine br_t rfl (br_t rfl (br_t rfl (br_t rfl ?_)))
  refine br_t rfl ?_
  refine br_t (dh_six j) ?_
  refine dh_register (k := 0) (by decide) q0 ?_
  refine br_t rfl ?_
  refine dh_register (k := 1) (by decide) q1 ?_
  refine br_t rfl ?_
  refine dh_register (k := 2) (by decide) q2 ?_
  refine br_t rfl ?_
  refine dh_register (k := 3) (by decide) q3 ?_
  refine br_t rfl ?_
  refine br_f (by decide) ?_
  refine br_t rfl ?_
  refine br_t rfl ?_
  refine br_t rfl ?_
  refine br_f (by decide) ?_
  refine br_t rfl ?_
  refine br_f (by decide) ?_
  refine br_t rfl (br_t rfl (br_t rfl ?_))
  refine br_f (by decide) ?_
  refine dh_unhook8 (by decide +kernel) (by decide +kernel) q4 (fun f g => ?_)
  refine br_f (by decide) (br_t rfl ?_)
  refine br_t rfl ?_
  refine dh_peek (r := 1) (by decide) (by decide) (dh_in (by decide)) (by decide +kernel) ?_
  refine br_t rfl ?_
  refine dh_peek (r := 8) (by decide) (by decide) (dh_in (by decide)) (by decide +kernel) ?_
  refine br_t rfl ?_
  refine dh_peek (r := 249) (by decide) (by decide) (dh_in (by decide)) (by decide +kernel) ?_
  exact br_t rfl h
theorem dh_FTk3 (K : Nat → Int32) : dh_K32 K 3 = K 3 + 1 := by simp [dh_K32, upd]
theorem dh_FTk2 (K : Nat → Int32) : dh_K32 K 2 = K 2 + 1 := by simp [dh_K32, upd]
theorem dh_cFT {post : Int32 → St0 → Prop} {mc ms kc ks j : Nat} {v : Int32} (hj : j < 16) (h : post 1 ()) :
    wL_lawOf_101 post mc ms v (nI (j + 1)) 12 0 1 kc ks 13 0 0 0 0 0 dh_P dh_P dh_T (fun _ => 0) (fun _ => 0) dh_H0 (fun _ => 0) (fun _ => 0) (dh_R0 v (nI (j + 1))) (fun _ => 0) := by
  refine br_t rfl ?_
  refine br_f (by decide) ?_
  refine dh_hook0 (q := 3) (hi := 3) (lo := 48) (by decide) (by decide +kernel) (by decide +kernel) (by decide +kernel) (by decide +kernel) (by decide +kernel) (fun w0 f0 => ?_)
  unfold wL_lawOf_134
  refine dh_hook10 (q := 2) (hi := 3) (lo := 32) (by decide) (by decide +kernel) (by decide +kernel) (by decide +kernel) (by decide +kernel) (by decide +kernel) (fun w10 f10 => ?_)
  refine dh_hook5U (q := 1) (by decide) (by decide +kernel) (by decide +kernel) ?_
  refine dh_incH (c := 2) (by decide +kernel) (by decide) (by decide) (by decide) ?_
  refine dh_run ?_
  refine dh_laps (C := dh_CFT) (A := dh_AFT) (H := dh_HFT) (N := dh_NFT) (KF := dh_K32) (ZF := fun Z => upd Z 0 565) (c := 10) (b2 := 1) (by decide) dh_FTk3 dh_FTk2 (by decide +kernel) (by decide +kernel) (by decide +kernel) (by decide +kernel) dh_lapFT j 0 0 dh_KFT (dh_R0 v (nI (j + 1))) _ (dh_R01 v _) (by omega) (by omega) (fun K' R' Z' q0 q1 q2 q3 q4 q5 => ?_)
  rw [dh_R00] at q0
  rw [dh_R03] at q3
  rw [show dh_KFT 3 = 0 from (by decide +kernel), Int32.zero_add] at q4
  rw [show dh_KFT 2 = 0 from (by decide +kernel), Int32.zero_add, Int32.one_mul] at q5
  refine dh_callsN (by decide) (by decide) (by decide +kernel) ?_
  refine dh_callsS (q := 3) (by decide) (by decide) (by decide +kernel) (by decide) q4 ?_
  refine dh_callsS (q := 2) (by decide) (by decide) (by decide +kernel) (by decide) q5 ?_
  refine br_t rfl (br_t rfl (br_t rfl (br_t rfl ?_)))
  refine br_t rfl ?_
  refine br_t (dh_six j) ?_
  refine dh_register (k := 0) (by decide) q0 ?_
  refine br_t rfl ?_
  refine dh_register (k := 1) (by decide) q1 ?_
  refine br_t rfl ?_
  refine dh_register (k := 2) (by decide) q2 ?_
  refine br_t rfl ?_
  refine dh_register (k := 3) (by decide) q3 ?_
  refine br_t rfl ?_
  refine br_t rfl ?_
  refine br_t rfl ?_
  refine br_f (by decide) ?_
  refine br_t rfl ?_
  refine br_t rfl ?_
  refine br_t rfl ?_
  refine br_t rfl ?_
  refine br_t rfl (br_t rfl (br_t rfl ?_))
  refine br_t rfl ?_
  refine br_f (by decide) (br_t rfl ?_)
  refine br_t rfl ?_
  refine dh_peek (r := 1) (by decide) (by decide) (dh_in (by decide)) (by decide +kernel) ?_
  refine br_t rfl ?_
  refine dh_peek (r := 8) (by decide) (by decide) (dh_in (by decide)) (by decide +kernel) ?_
  refine br_t rfl ?_
  refine dh_peek (r := 249) (by decide) (by decide) (dh_in (by decide)) (by decide +kernel) ?_
  exact br_t rfl h
theorem dh_TTk3 (K : Nat → Int32) : dh_K23 K 3 = K 3 + 1 := by simp [dh_K23, upd]
theorem dh_TTk2 (K : Nat → Int32) : dh_K23 K 2 = K 2 + 1 := by simp [dh_K23, upd]
theorem dh_cTT {post : Int32 → St0 → Prop} {mc ms kc ks j : Nat} {v : Int32} (hj : j < 16) (h : post 1 ()) :
    wL_lawOf_101 post mc ms v (nI (j + 1)) 12 1 1 kc ks 13 0 0 0 0 0 dh_P dh_P dh_T (fun _ => 0) (fun _ => 0) dh_H0 (fun _ => 0) (fun _ => 0) (dh_R0 v (nI (j + 1))) (fun _ => 0) := by
  refine br_f (by decide) ?_
  refine dh_hook8 (q := 3) (hi := 3) (lo := 48) (by decide) (by decide +kernel) (by decide +kernel) (by decide +kernel) (by decide +kernel) (by decide +kernel) (fun w8 f8 => ?_)
  refine br_f (by decide) ?_
  refine dh_hook0 (q := 2) (hi := 3) (lo := 32) (by decide) (by decide +kernel) (by decide +kernel) (by decide +kernel) (by decide +kernel) (by decide +kernel) (fun w0 f0 => ?_)
  unfold wL_lawOf_134
  refine dh_hook10U (q := 1) (by decide) (by decide +kernel) (by decide +kernel) (by decide +kernel) ?_
  refine dh_hook5U (q := 1) (by decide) (by decide +kernel) (by decide +kernel) ?_
  refine dh_incH (c := 2) (by decide +kernel) (by decide) (by decide) (by decide) ?_
  refine dh_run ?_
  refine dh_laps (C := dh_CTT) (A := dh_ATT) (H := dh_HTT) (N := dh_NTT) (KF := dh_K23) (ZF := fun Z => upd Z 0 549) (c := 11) (b2 := 1) (by decide) dh_TTk3 dh_TTk2 (by decide +kernel) (by decide +kernel) (by decide +kernel) (by decide +kernel) dh_lapTT j 0 0 dh_KTT (dh_R0 v (nI (j + 1))) _ (dh_R01 v _) (by omega) (by omega) (fun K' R' Z' q0 q1 q2 q3 q4 q5 => ?_)
  rw [dh_R00] at q0
  rw [dh_R03] at q3
  rw [show dh_KTT 3 = 0 from (by decide +kernel), Int32.zero_add] at q4
  rw [show dh_KTT 2 = 0 from (by decide +kernel), Int32.zero_add, Int32.one_mul] at q5
  refine dh_callsS (q := 3) (by decide) (by decide) (by decide +kernel) (by decide) q4 ?_
  refine dh_callsS (q := 2) (by decide) (by decide) (by decide +kernel) (by decide) q5 ?_
  refine dh_callsN (by decide) (by decide) (by decide +kernel) ?_
  refine br_t rfl (br_t rfl (br_t rfl (br_t rfl ?_)))
  refine br_t rfl ?_
  refine br_t (dh_six j) ?_
  refine dh_register (k := 0) (by decide) q0 ?_
  refine br_t rfl ?_
  refine dh_register (k := 1) (by decide) q1 ?_
  refine br_t rfl ?_
  refine dh_register (k := 2) (by decide) q2 ?_
  refine br_t rfl ?_
  refine dh_register (k := 3) (by decide) q3 ?_
  refine br_t rfl ?_
  refine br_f (by decide) ?_
  refine br_t rfl ?_
  refine br_f (by decide) ?_
  refine br_t rfl ?_
  refine br_f (by decide) ?_
  refine br_t rfl ?_
  refine br_f (by decide) ?_
  refine br_t rfl (br_t rfl (br_t rfl ?_))
  refine br_f (by decide) ?_
  refine dh_unhook8 (by decide +kernel) (by decide +kernel) q4 (fun f g => ?_)
  refine br_f (by decide) (br_t rfl ?_)
  refine br_t rfl ?_
  refine dh_peek (r := 1) (by decide) (by decide) (dh_in (by decide)) (by decide +kernel) ?_
  refine br_t rfl ?_
  refine dh_peek (r := 8) (by decide) (by decide) (dh_in (by decide)) (by decide +kernel) ?_
  refine br_t rfl ?_
  refine dh_peek (r := 249) (by decide) (by decide) (dh_in (by decide)) (by decide +kernel) ?_
  exact br_t rfl h
theorem dh_lawOf {post : Int32 → St0 → Prop} (t v c : Int32) (h : post 1 ()) : wpL_lawOf post 178 2848 () t v c := by
  unfold wpL_lawOf
  refine ⟨by decide, by decide, 10, 344, by decide, by decide, ?_⟩
  obtain ⟨j, hj, ej⟩ := pk_andE t (m := 15) 4 (by decide)
  have e1 : 1 + (t &&& 15) = nI (j + 1) := by
    rw [ej, Nat.add_comm]
    exact nI_add 1 j
  refine dh_init ?_
  refine nm_r e1 ?_
  refine dh_call (k := 0) (by decide) (by decide +kernel) ?_
  refine dh_dec (k := 2) (by decide) (by decide +kernel) (by decide) (by decide) ?_
  refine dh_branch (k := 4) (by decide) (by decide +kernel) (by decide) (by decide) ?_
  refine dh_halt (k := 7) (by decide) (by decide +kernel) ?_
  refine dh_inc (k := 8) (by decide) (by decide +kernel) (by decide) (by decide) ?_
  refine dh_where (k := 10) (by decide) (by decide +kernel) (by decide) (by decide) ?_
  refine dh_back (k := 12) (by decide) (by decide +kernel) ?_
  refine dh_setReg (k := 0) (by decide) ?_
  refine dh_setReg (k := 1) (by decide) ?_
  refine br_c (fun _ => br_c (fun _ => ?_) (fun _ => ?_)) (fun _ => br_c (fun _ => ?_) (fun _ => ?_))
  · exact dh_cTT hj h
  · exact dh_cTF hj h
  · exact dh_cFT hj h
  · exact dh_cFF hj h
theorem dh_cell {post : Int32 → Prop} {L : Nat} {xs : Nat → Int32} (k : Nat) (hL : L ≤ 3) (hk : k < 3) (h : ∀ x, post x) : wpL_cellAt post L xs () (nI k) :=
  pk_le L k (fun _ => h 0) (fun z => And.intro (pk_in k L z) (h _))
theorem i_vc (xs : Nat → Int32) (L : Nat) (hL : L ≤ 3) : wpL_law (fun r => r = 1) L xs := by
  unfold wpL_law
  refine dh_cell 0 hL (by decide) (fun t => ?_)
  refine dh_cell 1 hL (by decide) (fun v => ?_)
  refine dh_cell 2 hL (by decide) (fun c => ?_)
  refine ⟨178, 2848, by decide, by decide, ?_⟩
  exact dh_lawOf t v c rfl
end
