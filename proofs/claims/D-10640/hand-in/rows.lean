section
/-- ticks that a size takes at a rate -/
def cn_k (sz ra : Nat) : Nat := (sz + ra - 1) / ra
theorem cn_k1 {sz ra : Nat} (h : 1 ≤ sz) (hr : 1 ≤ ra) : 1 ≤ cn_k sz ra := Nat.div_pos (by omega) (by omega)
theorem cn_k30 {sz ra : Nat} (h : sz ≤ 30) (hr : 1 ≤ ra) : cn_k sz ra ≤ 30 := Nat.div_le_of_le_mul (by omega)
theorem cn_kI {sz ra : Nat} (hs : sz ≤ 30) (h1 : 1 ≤ ra) (h9 : ra ≤ 9) : (nI sz + nI ra - 1) / nI ra = nI (cn_k sz ra) := by
  have e : nI sz + nI ra - 1 = nI (sz + ra - 1) := by
    rw [nI_add]
    exact pk_sub (a := sz + ra) (b := 1) (by omega)
  rw [e]
  exact pk_div (by omega) (by omega) (by omega)
theorem cn_i10 : vp_in 0 10 := pk_in 0 10 (by omega)
theorem cn_i5 : vp_in 0 5 := pk_in 0 5 (by omega)
theorem cn_z101 (x : Int32) : 101 * (0 : Int32) + x = x := by
  rw [show (101 * (0 : Int32)) = 0 by decide]
  exact Int32.zero_add x
theorem cn_z100 (x : Int32) : 100 * (0 : Int32) + x = x := by
  rw [show (100 * (0 : Int32)) = 0 by decide]
  exact Int32.zero_add x
theorem cn_n6 : ¬ (6 : Int32) = 0 := by decide
theorem cn_n10 : ¬ (10 : Int32) = 0 := by decide
theorem cn_n101 : ¬ (101 : Int32) = 0 := by decide
theorem cn_d6 {e : Nat} (h : e < 2 ^ 31) : nI e / 6 = nI (e / 6) := pk_div (d := 6) h (by omega) (by omega)
theorem cn_r6 {e : Nat} (h : e < 2 ^ 31) : nI e - nI e / 6 * 6 = nI (e % 6) := pk_rem (d := 6) h (by omega) (by omega)
theorem cn_d101 {e : Nat} (h : e < 2 ^ 31) : nI e / 101 = nI (e / 101) := pk_div (d := 101) h (by omega) (by omega)
theorem cn_r101 {e : Nat} (h : e < 2 ^ 31) : nI e - nI e / 101 * 101 = nI (e % 101) := pk_rem (d := 101) h (by omega) (by omega)
theorem cn_d10 {e : Nat} (h : e < 2 ^ 31) : nI e / 10 = nI (e / 10) := pk_div (d := 10) h (by omega) (by omega)
theorem cn_r10 {e : Nat} (h : e < 2 ^ 31) : nI e - nI e / 10 * 10 = nI (e % 10) := pk_rem (d := 10) h (by omega) (by omega)
theorem cn_fill {f s : Nat → Int32} {i k : Nat} {x : Int32} (hk : k = i) (h : ∀ j, j < i → s j = f j) (hx : x = f i) : ∀ j, j < i + 1 → upd s k x j = f j := by
  intro j hj
  rw [hk]
  by_cases e : j = i
  · rw [e, pk_us, hx]
  · rw [pk_un e]
    exact h j (by omega)
theorem cn_u1 {f : Nat → Int32} {k t : Nat} {x y : Int32} (hk : k = t) (hx : x = y) : ∀ v, v < 6 → upd f k x v = if v = t then y else f v := by
  intro v _
  subst hk hx
  rfl
theorem cn_u0 {f : Nat → Int32} {k : Nat} {x y : Int32} (hk : k = 0) (hx : x = y) : upd f k x 0 = y := by
  subst hk hx
  exact pk_us
/-- what two flags and their 'and' choose -/
theorem cn_andF {x y : Int32} {A B : Prop} (h : x = 0 ∨ y = 0) (a : A) : (x = 0 → A) ∧ (¬ x = 0 → ((y = 0 → A) ∧ (¬ y = 0 → B))) :=
  ⟨fun _ => a, fun hx => ⟨fun _ => a, fun hy => absurd h (fun z => z.elim hx hy)⟩⟩
theorem cn_andT {x y : Int32} {A B : Prop} (hx : x = 1) (hy : y = 1) (b : B) : (x = 0 → A) ∧ (¬ x = 0 → ((y = 0 → A) ∧ (¬ y = 0 → B))) :=
  ⟨fun z => absurd (hx.symm.trans z) (by decide), fun _ => ⟨fun z => absurd (hy.symm.trans z) (by decide), fun _ => b⟩⟩
/-- the busy ticks of contact 0 are those of [p, q) -/
def cn_Y (p q : Nat) (a : Nat → Int32) : Prop := ∀ t, t < 101 → a t = if p ≤ t ∧ t < q then 1 else 0
/-- contact 0 -/
def cn_C (fr to st en ra de : Nat) (a2 a3 a4 a5 a6 a7 : Nat → Int32) : Prop :=
  (fr < 6 ∧ to < 6 ∧ fr ≠ to ∧ st ≤ 100 ∧ en ≤ 100 ∧ 1 ≤ ra ∧ ra ≤ 9 ∧ de ≤ 9) ∧ a2 0 = nI fr ∧ a3 0 = nI to ∧ a4 0 = nI st ∧ a5 0 = nI en ∧ a6 0 = nI ra ∧ a7 0 = nI de
/-- when a bundle that is ready at x comes in over the live contact 0 -/
def cn_ci (st en q de k x : Nat) : Nat := if 1000000 ≤ x then 1000000 else if max (max x st) q + k ≤ en then max (max x st) q + k + de else 1000000
/-- the ends and the size as they are asked for -/
def cn_two (x : Int32) : Prop := ¬ x < 0 ∧ ¬ 36 ≤ x ∧ ¬ x / 6 = x - x / 6 * 6
def cn_some (x : Int32) : Prop := ¬ x < 1 ∧ ¬ 30 < x
def cn_span (x : Int32) : Prop := ¬ x < 0 ∧ ¬ x - x / 101 * 101 ≤ x / 101 ∧ ¬ 101 ≤ x / 101
def cn_term (x : Int32) : Prop := ¬ x < 10 ∧ ¬ 100 ≤ x
theorem cn_twoE {x : Int32} (h : cn_two x) : ∃ e : Nat, e < 36 ∧ e / 6 ≠ e % 6 ∧ x = nI e := by
  obtain ⟨h1, h2, h3⟩ := h
  obtain ⟨e, he, rfl⟩ := nI_of h1
  have h36 : e < 36 := by
    rcases Nat.lt_or_ge e 36 with z | z
    · exact z
    · exact absurd (nI_le z he) h2
  refine ⟨e, h36, fun z => h3 ?_, rfl⟩
  rw [cn_d6 he, show nI e - nI (e / 6) * 6 = nI (e % 6) by rw [← cn_d6 he]; exact cn_r6 he, z]
theorem cn_someE {x : Int32} (h : cn_some x) : ∃ s : Nat, 1 ≤ s ∧ s ≤ 30 ∧ x = nI s := by
  obtain ⟨h1, h2⟩ := h
  have h0 : ¬ x < 0 := fun z => h1 (Int32.lt_trans z (by decide))
  obtain ⟨s, hs, rfl⟩ := nI_of h0
  refine ⟨s, ?_, ?_, rfl⟩
  · rcases Nat.lt_or_ge s 1 with z | z
    · exact absurd (nI_lt z (by omega)) h1
    · exact z
  · rcases Nat.lt_or_ge 30 s with z | z
    · exact absurd (nI_lt z hs) h2
    · exact z
theorem cn_spanE {x : Int32} (h : cn_span x) : ∃ s : Nat, s < 10201 ∧ s / 101 < s % 101 ∧ x = nI s := by
  obtain ⟨h1, h2, h3⟩ := h
  obtain ⟨s, hs, rfl⟩ := nI_of h1
  rw [cn_r101 hs, cn_d101 hs] at h2
  rw [cn_d101 hs] at h3
  refine ⟨s, ?_, ?_, rfl⟩
  · rcases Nat.lt_or_ge (s / 101) 101 with z | z
    · omega
    · exact absurd (nI_le z (by omega)) h3
  · rcases Nat.lt_or_ge (s / 101) (s % 101) with z | z
    · exact z
    · exact absurd (nI_le z (by omega)) h2
theorem cn_termE {x : Int32} (h : cn_term x) : ∃ s : Nat, 10 ≤ s ∧ s < 100 ∧ x = nI s := by
  obtain ⟨h1, h2⟩ := h
  have h0 : ¬ x < 0 := fun z => h1 (Int32.lt_trans z (by decide))
  obtain ⟨s, hs, rfl⟩ := nI_of h0
  refine ⟨s, ?_, ?_, rfl⟩
  · rcases Nat.lt_or_ge s 10 with z | z
    · exact absurd (nI_lt z (by omega)) h1
    · exact z
  · rcases Nat.lt_or_ge s 100 with z | z
    · exact z
    · exact absurd (nI_le z hs) h2
theorem cn_endsT {post : Int32 → Prop} {x : Int32} (h : cn_two x) (H : post 1) : wpX_areEnds post () x :=
  br_f h.1 (br_f h.2.1 (And.intro cn_n6 (And.intro cn_n6 (br_f h.2.2 H))))
theorem cn_endsF {post : Int32 → Prop} {x : Int32} (h : ¬ cn_two x) (H : post 0) : wpX_areEnds post () x :=
  br_c (fun _ => H) (fun h1 => br_c (fun _ => H) (fun h2 => And.intro cn_n6 (And.intro cn_n6 (br_c (fun _ => H) (fun h3 => absurd ⟨h1, h2, h3⟩ h)))))
theorem cn_sizeT {post : Int32 → Prop} {x : Int32} (h : cn_some x) (H : post 1) : wpX_isSize post () x :=
  br_f h.1 (br_f h.2 H)
theorem cn_sizeF {post : Int32 → Prop} {x : Int32} (h : ¬ cn_some x) (H : post 0) : wpX_isSize post () x :=
  br_c (fun _ => H) (fun h1 => br_c (fun _ => H) (fun h2 => absurd ⟨h1, h2⟩ h))
theorem cn_spanT {post : Int32 → Prop} {x : Int32} (h : cn_span x) (H : post 1) : wpX_isSpan post () x :=
  br_f h.1 (And.intro cn_n101 (And.intro cn_n101 (br_f h.2.1 (And.intro cn_n101 (br_f h.2.2 H)))))
theorem cn_spanF {post : Int32 → Prop} {x : Int32} (h : ¬ cn_span x) (H : post 0) : wpX_isSpan post () x :=
  br_c (fun _ => H) (fun h1 => And.intro cn_n101 (And.intro cn_n101 (br_c (fun _ => H) (fun h2 => And.intro cn_n101 (br_c (fun _ => H) (fun h3 => absurd ⟨h1, h2, h3⟩ h))))))
theorem cn_termT {post : Int32 → Prop} {x : Int32} (h : cn_term x) (H : post 1) : wpX_areTerms post () x :=
  br_f h.1 (br_f h.2 H)
theorem cn_termF {post : Int32 → Prop} {x : Int32} (h : ¬ cn_term x) (H : post 0) : wpX_areTerms post () x :=
  br_c (fun _ => H) (fun h1 => br_c (fun _ => H) (fun h2 => absurd ⟨h1, h2⟩ h))
end
section
theorem cn_ticks {post : Int32 → Prop} {c b w r : Int32} {a1 a2 a3 a4 a5 a6 a7 a8 a9 a10 a11 a12 a13 a14 a15 a16 a17 a18 a19 a20 a21 : Nat → Int32} {sz ra : Nat} {x : Int32} (h6 : a6 0 = nI ra) (h1 : 1 ≤ ra) (h9 : ra ≤ 9) (hs : sz ≤ 30) (hx : x = nI sz) (H : post (nI (cn_k sz ra))) : wpX_ticksFor post (c, b, w, r, a1, a2, a3, a4, a5, a6, a7, a8, a9, a10, a11, a12, a13, a14, a15, a16, a17, a18, a19, a20, a21) 0 x := by
  have e6 : a6 (Int32.toNatClampNeg 0) = nI ra := h6
  refine And.intro cn_i10 (And.intro cn_i10 (And.intro ?_ ?_))
  · rw [e6]
    exact nI_ne0 (by omega) (by omega)
  · rw [e6, hx, cn_kI hs h1 h9]
    exact H
theorem cn_fb29 {post : Int32 → Prop} {c b w r : Int32} {a1 a2 a3 a4 a5 a6 a7 a8 a9 a10 a11 a12 a13 a14 a15 a16 a17 a18 a19 a20 a21 : Nat → Int32} {en p q B S k : Nat} (h5 : a5 0 = nI en) (hen : en ≤ 100) (hB : B < 2 ^ 30) (hk : 1 ≤ k) (hk9 : k ≤ 30) (hY : cn_Y p q a8) (hp : p ≤ B) (hS : S = max B q)
    (H : post (if S + k ≤ en then nI S else -1)) : ∃ fu, wX_firstBegin_29 post 0 (nI k) c b w r a1 a2 a3 a4 a5 a6 a7 a8 a9 a10 a11 a12 a13 a14 a15 a16 a17 a18 a19 a20 a21 fu 0 (nI B) := by
  refine pk_loop (fun n i s => wX_firstBegin_29 post 0 (nI k) c b w r a1 a2 a3 a4 a5 a6 a7 a8 a9 a10 a11 a12 a13 a14 a15 a16 a17 a18 a19 a20 a21 n s (nI i)) (fun i s => B ≤ i ∧ s = nI (i - S) ∧ i - S < k) (max en B) B 0 (by omega) ⟨by omega, by rw [show B - S = 0 by omega]; rfl, by omega⟩ ?_ ?_
  · intro n s h
    obtain ⟨h1, h2, h3⟩ := h
    refine And.intro cn_i10 (pk_le en (max en B) (fun _ => ?_) (fun z => absurd z (by omega)) h5)
    rw [if_neg (by omega)] at H
    exact H
  · intro n i s hi h hw
    obtain ⟨h1, h2, h3⟩ := h
    have hi' : i < en := by omega
    have e8 : a8 (101 * (0 : Int32) + nI i).toNatClampNeg = if p ≤ i ∧ i < q then 1 else 0 := by
      rw [cn_z101, nI_clamp (by omega)]
      exact hY i (by omega)
    refine And.intro cn_i10 (pk_le en i (fun z => absurd z (by omega)) (fun _ => And.intro (pk_in i 1010 (by omega) (cn_z101 _)) ?_) h5)
    by_cases hq : i < S
    · refine br_f (by rw [e8, if_pos ⟨by omega, by omega⟩]; decide) ?_
      exact pk_eq 0 k (fun z => absurd z (by omega)) (fun _ => nm_r (nI_1 i) (hw 0 ⟨by omega, by rw [show i + 1 - S = 0 by omega]; rfl, by omega⟩))
    · refine br_t (by rw [e8, if_neg (by omega)]) ?_
      refine pk_eq (i - S + 1) k (fun z => ?_) (fun z => nm_r (nI_1 i) (hw _ ⟨by omega, ?_, by omega⟩)) (by rw [h2, nI_1])
      · rw [if_pos (by omega)] at H
        have e : nI i - nI k + 1 = nI S := by
          rw [show nI i - nI k + 1 = nI i + 1 - nI k by grind, nI_1, pk_sub (by omega), show i + 1 - k = S by omega]
        rw [e]
        exact H
      · rw [h2, nI_1, show i + 1 - S = i - S + 1 by omega]
theorem cn_fb {post : Int32 → Prop} {c b w r : Int32} {a1 a2 a3 a4 a5 a6 a7 a8 a9 a10 a11 a12 a13 a14 a15 a16 a17 a18 a19 a20 a21 : Nat → Int32} {st en p q x k : Nat} (h4 : a4 0 = nI st) (h5 : a5 0 = nI en) (hst : st ≤ 100) (hen : en ≤ 100) (hx : x < 2 ^ 30) (hk : 1 ≤ k) (hk9 : k ≤ 30) (hY : cn_Y p q a8) (hp : p ≤ max x st)
    (H : post (if max (max x st) q + k ≤ en then nI (max (max x st) q) else -1)) : wpX_firstBegin post (c, b, w, r, a1, a2, a3, a4, a5, a6, a7, a8, a9, a10, a11, a12, a13, a14, a15, a16, a17, a18, a19, a20, a21) 0 (nI x) (nI k) := by
  have e4 : a4 (Int32.toNatClampNeg 0) = nI st := h4
  refine And.intro cn_i10 (pk_le x st (fun z => And.intro cn_i10 (nm_r e4 ?_)) (fun z => ?_) rfl e4)
  · rw [show max x st = st by omega] at H hp
    exact cn_fb29 h5 hen (by omega) hk hk9 hY hp rfl H
  · rw [show max x st = x by omega] at H hp
    exact cn_fb29 h5 hen (by omega) hk hk9 hY hp rfl H
theorem cn_comeN {post : Int32 → Prop} {c b w r : Int32} {a1 a2 a3 a4 a5 a6 a7 a8 a9 a10 a11 a12 a13 a14 a15 a16 a17 a18 a19 a20 a21 : Nat → Int32} {x2 x3 : Int32} (h : x2 = nI 1000000) (H : post (nI 1000000)) : wpX_comingIn post (c, b, w, r, a1, a2, a3, a4, a5, a6, a7, a8, a9, a10, a11, a12, a13, a14, a15, a16, a17, a18, a19, a20, a21) 0 x2 x3 :=
  And.intro cn_i10 (br_c (fun _ => pk_lt 1000000 1000000 (fun z => absurd z (by omega)) (fun _ => H) h) (fun _ => H))
theorem cn_comeC {post : Int32 → Prop} {c b w r : Int32} {a1 a2 a3 a4 a5 a6 a7 a8 a9 a10 a11 a12 a13 a14 a15 a16 a17 a18 a19 a20 a21 : Nat → Int32} {x2 x3 : Int32} (h : a1 0 = 1) (H : post (nI 1000000)) : wpX_comingIn post (c, b, w, r, a1, a2, a3, a4, a5, a6, a7, a8, a9, a10, a11, a12, a13, a14, a15, a16, a17, a18, a19, a20, a21) 0 x2 x3 :=
  And.intro cn_i10 (br_f (fun z => absurd (h.symm.trans z) (by decide)) H)
theorem cn_come {post : Int32 → Prop} {c b w r : Int32} {a1 a2 a3 a4 a5 a6 a7 a8 a9 a10 a11 a12 a13 a14 a15 a16 a17 a18 a19 a20 a21 : Nat → Int32} {fr to st en ra de p q x sz : Nat} {x2 x3 : Int32} (h1 : a1 0 = 0) (hC : cn_C fr to st en ra de a2 a3 a4 a5 a6 a7) (hs1 : 1 ≤ sz) (hs : sz ≤ 30) (hY : cn_Y p q a8) (hx : x < 1000000) (hp : p ≤ max x st)
    (e2 : x2 = nI x) (e3 : x3 = nI sz) (H : post (nI (cn_ci st en q de (cn_k sz ra) x))) : wpX_comingIn post (c, b, w, r, a1, a2, a3, a4, a5, a6, a7, a8, a9, a10, a11, a12, a13, a14, a15, a16, a17, a18, a19, a20, a21) 0 x2 x3 := by
  obtain ⟨⟨c1, c2, c3, c4, c5, c6, c7, c8⟩, k2, k3, k4, k5, k6, k7⟩ := hC
  have k1 := cn_k1 hs1 c6
  have k30 := cn_k30 hs c6
  subst e2
  refine And.intro cn_i10 (br_t h1 (pk_lt x 1000000 (fun _ => ?_) (fun z => absurd z (by omega))))
  refine cn_ticks k6 c6 c7 hs e3 (cn_fb k4 k5 c4 c5 (by omega) k1 k30 hY hp ?_)
  unfold cn_ci at H
  rw [if_neg (by omega)] at H
  by_cases z : max (max x st) q + cn_k sz ra ≤ en
  · rw [if_pos z] at H ⊢
    refine br_t (nI_pos' (by omega)) (And.intro cn_i10 ?_)
    rw [show a7 (Int32.toNatClampNeg 0) = nI de from k7, nI_add, nI_add]
    exact H
  · rw [if_neg z] at H ⊢
    exact br_f (by decide) H
end
section
theorem cn_sp3 {post : St2 → Prop} {c b w r : Int32} {a1 a2 a3 a4 a5 a6 a7 a8 a9 a10 a11 a12 a13 a14 a15 a16 a17 a18 a19 a20 a21 : Nat → Int32} {node ready : Nat} {x3 x4 : Int32} (hn : node < 6)
    (H : ∀ e1 : Nat → Int32, (∀ v, v < 6 → e1 v = nI (if v = node then ready else 1000000)) → ∃ fu, wX_spread_38 post x3 x4 c b w r fu 0 a1 a2 a3 a4 a5 a6 a7 a8 a9 a10 a11 a12 a13 a14 a15 a16 a17 a18 a19 e1 a21) :
    ∃ fu, wX_spread_3 post (nI node) (nI ready) x3 x4 c b w r fu 0 a1 a2 a3 a4 a5 a6 a7 a8 a9 a10 a11 a12 a13 a14 a15 a16 a17 a18 a19 a20 a21 := by
  refine pk_loop (fun n i s => wX_spread_3 post (nI node) (nI ready) x3 x4 c b w r n (nI i) a1 a2 a3 a4 a5 a6 a7 a8 a9 a10 a11 a12 a13 a14 a15 a16 a17 a18 a19 s a21) (fun i s => ∀ v, v < i → s v = nI (if v = node then ready else 1000000)) 6 0 a20 (by omega) (fun v hv => absurd hv (by omega)) ?_ ?_
  · intro n s h
    exact pk_le 6 6 (fun _ => H s h) (fun z => absurd z (by omega))
  · intro n i s hi h hw
    refine pk_le 6 i (fun z => absurd z (by omega)) (fun _ => pk_eq i node (fun z => ?_) (fun z => ?_))
    · refine And.intro (pk_in i 6 hi) (nm_e (nm_r (nI_1 i) (hw _ (cn_fill (nI_clamp (by omega)) h ?_))))
      rw [if_pos z]
    · refine And.intro (pk_in i 6 hi) (nm_e (nm_r (nI_1 i) (hw _ (cn_fill (nI_clamp (by omega)) h ?_))))
      rw [if_neg z]
      rfl
theorem cn_sp48 {post : St2 → Prop} {J : Int32 → (Nat → Int32) → (Nat → Int32) → (Nat → Int32) → (Nat → Int32) → (Nat → Int32) → (Nat → Int32) → (Nat → Int32) → (Nat → Int32) → (Nat → Int32) → (Nat → Int32) → (Nat → Int32) → (Nat → Int32) → (Nat → Int32) → (Nat → Int32) → (Nat → Int32) → (Nat → Int32) → (Nat → Int32) → (Nat → Int32) → (Nat → Int32) → (Nat → Int32) → (Nat → Int32) → Prop} {c b w r : Int32} {a1 a2 a3 a4 a5 a6 a7 a8 a9 a10 a11 a12 a13 a14 a15 a16 a17 a18 a19 a20 a21 : Nat → Int32} {x3 x4 x5 : Int32}
    (H : ∀ e2 : Nat → Int32, (∀ v, v < 6 → e2 v = a20 v) → ∃ fu, wX_spread_78 post J x3 x4 x5 c b w r fu 0 a1 a2 a3 a4 a5 a6 a7 a8 a9 a10 a11 a12 a13 a14 a15 a16 a17 a18 a19 a20 e2) :
    ∃ fu, wX_spread_48 post J x3 x4 x5 c b w r fu 0 a1 a2 a3 a4 a5 a6 a7 a8 a9 a10 a11 a12 a13 a14 a15 a16 a17 a18 a19 a20 a21 := by
  refine pk_loop (fun n i s => wX_spread_48 post J x3 x4 x5 c b w r n (nI i) a1 a2 a3 a4 a5 a6 a7 a8 a9 a10 a11 a12 a13 a14 a15 a16 a17 a18 a19 a20 s) (fun i s => ∀ v, v < i → s v = a20 v) 6 0 a21 (by omega) (fun v hv => absurd hv (by omega)) ?_ ?_
  · intro n s h
    exact pk_le 6 6 (fun _ => H s h) (fun z => absurd z (by omega))
  · intro n i s hi h hw
    exact pk_le 6 i (fun z => absurd z (by omega)) (fun _ => And.intro (pk_in i 6 hi) (And.intro (pk_in i 6 hi) (nm_e (nm_r (nI_1 i) (hw _ (cn_fill (nI_clamp (by omega)) h (by rw [nI_clamp (by omega)])))))))
theorem cn_sp78z {post : St2 → Prop} {J : Int32 → (Nat → Int32) → (Nat → Int32) → (Nat → Int32) → (Nat → Int32) → (Nat → Int32) → (Nat → Int32) → (Nat → Int32) → (Nat → Int32) → (Nat → Int32) → (Nat → Int32) → (Nat → Int32) → (Nat → Int32) → (Nat → Int32) → (Nat → Int32) → (Nat → Int32) → (Nat → Int32) → (Nat → Int32) → (Nat → Int32) → (Nat → Int32) → (Nat → Int32) → (Nat → Int32) → Prop} {b w r : Int32} {a1 a2 a3 a4 a5 a6 a7 a8 a9 a10 a11 a12 a13 a14 a15 a16 a17 a18 a19 a20 a21 : Nat → Int32} {i : Nat} {x3 x4 : Int32} (H : J (nI (i + 1)) a1 a2 a3 a4 a5 a6 a7 a8 a9 a10 a11 a12 a13 a14 a15 a16 a17 a18 a19 a20 a21) : ∃ fu, wX_spread_78 post J x3 x4 (nI i) 0 b w r fu 0 a1 a2 a3 a4 a5 a6 a7 a8 a9 a10 a11 a12 a13 a14 a15 a16 a17 a18 a19 a20 a21 :=
  ⟨0 + 1, pk_le 0 0 (fun _ => nm_r (nI_1 i) H) (fun z => absurd z (by omega))⟩
theorem cn_sp78 {post : St2 → Prop} {J : Int32 → (Nat → Int32) → (Nat → Int32) → (Nat → Int32) → (Nat → Int32) → (Nat → Int32) → (Nat → Int32) → (Nat → Int32) → (Nat → Int32) → (Nat → Int32) → (Nat → Int32) → (Nat → Int32) → (Nat → Int32) → (Nat → Int32) → (Nat → Int32) → (Nat → Int32) → (Nat → Int32) → (Nat → Int32) → (Nat → Int32) → (Nat → Int32) → (Nat → Int32) → (Nat → Int32) → Prop} {b w r : Int32} {a1 a2 a3 a4 a5 a6 a7 a8 a9 a10 a11 a12 a13 a14 a15 a16 a17 a18 a19 a20 a21 : Nat → Int32} {fr to x g y i : Nat} {x3 x4 : Int32} (h2 : a2 0 = nI fr) (h3 : a3 0 = nI to) (hfr : fr < 6) (hto : to < 6) (h21 : a21 fr = nI x) (h20 : a20 to = nI g) (hg : g < 2 ^ 31) (hy : y < 2 ^ 31)
    (hci : ∀ P : Int32 → Prop, P (nI y) → wpX_comingIn P (1, b, w, r, a1, a2, a3, a4, a5, a6, a7, a8, a9, a10, a11, a12, a13, a14, a15, a16, a17, a18, a19, a20, a21) 0 (nI x) x3)
    (H : ∀ e1 : Nat → Int32, (∀ v, v < 6 → e1 v = if v = to then nI (min g y) else a20 v) → J (nI (i + 1)) a1 a2 a3 a4 a5 a6 a7 a8 a9 a10 a11 a12 a13 a14 a15 a16 a17 a18 a19 e1 a21) :
    ∃ fu, wX_spread_78 post J x3 x4 (nI i) 1 b w r fu 0 a1 a2 a3 a4 a5 a6 a7 a8 a9 a10 a11 a12 a13 a14 a15 a16 a17 a18 a19 a20 a21 := by
  have e2 : a2 (Int32.toNatClampNeg 0) = nI fr := h2
  have e3 : a3 (Int32.toNatClampNeg 0) = nI to := h3
  have e21 : a21 (a2 (Int32.toNatClampNeg 0)).toNatClampNeg = nI x := by
    rw [e2, nI_clamp (by omega)]
    exact h21
  have k3 : (a3 (Int32.toNatClampNeg 0)).toNatClampNeg = to := by rw [e3, nI_clamp (by omega)]
  have e20 : a20 (a3 (Int32.toNatClampNeg 0)).toNatClampNeg = nI g := by rw [k3, h20]
  refine ⟨0 + 1 + 1, pk_le 1 0 (fun z => absurd z (by omega)) (fun _ => And.intro cn_i10 (And.intro (pk_in fr 6 hfr e2) ?_))⟩
  rw [e21]
  refine hci _ (And.intro cn_i10 (And.intro cn_i10 (And.intro (pk_in to 6 hto e3) (pk_le g y (fun z => ?_) (fun z => ?_) e20))))
  · refine And.intro cn_i10 (And.intro (pk_in to 6 hto e3) (And.intro (pk_in to 6 hto e3) (nm_e (nm_r (show (0 : Int32) + 1 = 1 by decide) (pk_le 1 1 (fun _ => nm_r (nI_1 i) (H _ (cn_u1 k3 ?_))) (fun z => absurd z (by omega)))))))
    rw [e20, show min g y = g by omega]
  · refine And.intro (pk_in to 6 hto e3) (nm_e (nm_r (show (0 : Int32) + 1 = 1 by decide) (pk_le 1 1 (fun _ => nm_r (nI_1 i) (H _ (cn_u1 k3 ?_))) (fun z => absurd z (by omega)))))
    rw [show min g y = y by omega]
theorem cn_sp38 {post : St2 → Prop} {c b w r : Int32} {a1 a2 a3 a4 a5 a6 a7 a8 a9 a10 a11 a12 a13 a14 a15 a16 a17 a18 a19 a20 a21 : Nat → Int32} {m : Nat} {x3 : Int32} (G : Nat → Nat → Nat) (hm : m ≤ 5) (h0 : ∀ v, v < 6 → a20 v = nI (G 0 v))
    (hs : ∀ (J : Int32 → (Nat → Int32) → (Nat → Int32) → (Nat → Int32) → (Nat → Int32) → (Nat → Int32) → (Nat → Int32) → (Nat → Int32) → (Nat → Int32) → (Nat → Int32) → (Nat → Int32) → (Nat → Int32) → (Nat → Int32) → (Nat → Int32) → (Nat → Int32) → (Nat → Int32) → (Nat → Int32) → (Nat → Int32) → (Nat → Int32) → (Nat → Int32) → (Nat → Int32) → (Nat → Int32) → Prop) (i : Nat) (e1 e2 : Nat → Int32), i < m → (∀ v, v < 6 → e1 v = nI (G i v)) → (∀ v, v < 6 → e2 v = nI (G i v)) → (∀ e3 : Nat → Int32, (∀ v, v < 6 → e3 v = nI (G (i + 1) v)) → J (nI (i + 1)) a1 a2 a3 a4 a5 a6 a7 a8 a9 a10 a11 a12 a13 a14 a15 a16 a17 a18 a19 e3 e2) → ∃ fu, wX_spread_78 post J x3 (nI m) (nI i) c b w r fu 0 a1 a2 a3 a4 a5 a6 a7 a8 a9 a10 a11 a12 a13 a14 a15 a16 a17 a18 a19 e1 e2)
    (H : ∀ e1 e2 : Nat → Int32, (∀ v, v < 6 → e1 v = nI (G m v)) → post (c, b, w, r, a1, a2, a3, a4, a5, a6, a7, a8, a9, a10, a11, a12, a13, a14, a15, a16, a17, a18, a19, e1, e2)) : ∃ fu, wX_spread_38 post x3 (nI m) c b w r fu 0 a1 a2 a3 a4 a5 a6 a7 a8 a9 a10 a11 a12 a13 a14 a15 a16 a17 a18 a19 a20 a21 := by
  refine pk_loop (σ := (Nat → Int32) × (Nat → Int32)) (fun n i s => wX_spread_38 post x3 (nI m) c b w r n (nI i) a1 a2 a3 a4 a5 a6 a7 a8 a9 a10 a11 a12 a13 a14 a15 a16 a17 a18 a19 s.1 s.2) (fun i s => ∀ v, v < 6 → s.1 v = nI (G i v)) m 0 (a20, a21) (by omega) h0 ?_ ?_
  · intro n s h
    exact pk_le m m (fun _ => H s.1 s.2 h) (fun z => absurd z (by omega))
  · intro n i s hi h hw
    exact pk_le m i (fun z => absurd z (by omega)) (fun _ => cn_sp48 (fun e2 he => hs _ i s.1 e2 hi h (fun v hv => by rw [he v hv]; exact h v hv) (fun e3 h3 => hw (e3, e2) h3)))
/-- early after i rounds -/
def cn_G (fr to node ready y i v : Nat) : Nat := if v = node then ready else if i ≠ 0 ∧ node = fr ∧ v = to then y else 1000000
theorem cn_Gs {fr to node ready y i v : Nat} (hne : fr ≠ to) (hy : y ≤ 1000000) (hr : ready ≤ 1000000) :
    (if v = to then min (cn_G fr to node ready y i to) (if node = fr then y else 1000000) else cn_G fr to node ready y i v) = cn_G fr to node ready y (i + 1) v := by
  unfold cn_G
  (repeat' split) <;> omega
theorem cn_Gfr {fr to node ready y i : Nat} (hne : fr ≠ to) : cn_G fr to node ready y i fr = if node = fr then ready else 1000000 := by
  unfold cn_G
  (repeat' split) <;> omega
theorem cn_Gle {fr to node ready y i v : Nat} (hy : y ≤ 1000000) (hr : ready ≤ 1000000) : cn_G fr to node ready y i v ≤ 1000000 := by
  unfold cn_G
  (repeat' split) <;> omega
/-- spread, from any state with these contacts, answers by y -/
def cn_SP (sz fr to lo : Nat) (y : Nat → Nat) (c : Int32) (a1 a2 a3 a4 a5 a6 a7 a8 : Nat → Int32) : Prop :=
  ∀ (post : St2 → Prop) (b w r : Int32) (a9 a10 a11 a12 a13 a14 a15 a16 a17 a18 a19 a20 a21 : Nat → Int32) (x1 x2 x3 x4 : Int32) (node j m : Nat), x1 = nI node → x2 = nI j → x3 = nI sz → x4 = nI m → node < 6 → lo ≤ j → j ≤ 300 → 1 ≤ m → m ≤ 5 →
    (∀ e1 e2 : Nat → Int32, (∀ v, v < 6 → e1 v = nI (if v = node then j else if node = fr ∧ v = to then y j else 1000000)) → post (c, b, w, r, a1, a2, a3, a4, a5, a6, a7, a8, a9, a10, a11, a12, a13, a14, a15, a16, a17, a18, a19, e1, e2)) → wpX_spread post (c, b, w, r, a1, a2, a3, a4, a5, a6, a7, a8, a9, a10, a11, a12, a13, a14, a15, a16, a17, a18, a19, a20, a21) x1 x2 x3 x4
theorem cn_SP0 {sz fr to lo : Nat} {a1 a2 a3 a4 a5 a6 a7 a8 : Nat → Int32} : cn_SP sz fr to lo (fun _ => 1000000) 0 a1 a2 a3 a4 a5 a6 a7 a8 := by
  intro post b w r a9 a10 a11 a12 a13 a14 a15 a16 a17 a18 a19 a20 a21 x1 x2 x3 x4 node j m ex1 ex2 ex3 ex4 hn hl hj hm hm5 H
  subst ex1 ex2 ex3 ex4
  refine cn_sp3 hn (fun e1 he => cn_sp38 (fun _ v => if v = node then j else 1000000) hm5 he (fun J i e1 e2 hi h1 h2 hJ => cn_sp78z (hJ e1 h1)) (fun e1 e2 h => H e1 e2 (fun v hv => ?_)))
  rw [h v hv]
  congr 1
  dsimp only
  (repeat' split) <;> omega
theorem cn_SP1 {sz fr to lo : Nat} {y : Nat → Nat} {a1 a2 a3 a4 a5 a6 a7 a8 : Nat → Int32} (h2 : a2 0 = nI fr) (h3 : a3 0 = nI to) (hfr : fr < 6) (hto : to < 6) (hne : fr ≠ to) (hy : ∀ j, lo ≤ j → j ≤ 300 → y j ≤ 1000000)
    (hci : ∀ (P : Int32 → Prop) (b w r : Int32) (a9 a10 a11 a12 a13 a14 a15 a16 a17 a18 a19 a20 a21 : Nat → Int32) (j : Nat), lo ≤ j → j ≤ 300 → P (nI (y j)) → wpX_comingIn P (1, b, w, r, a1, a2, a3, a4, a5, a6, a7, a8, a9, a10, a11, a12, a13, a14, a15, a16, a17, a18, a19, a20, a21) 0 (nI j) (nI sz)) : cn_SP sz fr to lo y 1 a1 a2 a3 a4 a5 a6 a7 a8 := by
  intro post b w r a9 a10 a11 a12 a13 a14 a15 a16 a17 a18 a19 a20 a21 x1 x2 x3 x4 node j m ex1 ex2 ex3 ex4 hn hl hj hm hm5 H
  subst ex1 ex2 ex3 ex4
  have hyj := hy j hl hj
  refine cn_sp3 hn (fun e1 he => cn_sp38 (cn_G fr to node j (y j)) hm5 ?_ (fun J i e1 e2 hi h1 h2' hJ => ?_) (fun e1 e2 h => H e1 e2 (fun v hv => ?_)))
  · intro v hv
    rw [he v hv]
    congr 1
  · refine cn_sp78 (x := if node = fr then j else 1000000) (g := cn_G fr to node j (y j) i to) (y := if node = fr then y j else 1000000) h2 h3 hfr hto ?_ (h1 to hto) ?_ ?_ ?_ (fun e3 h => hJ e3 (fun v hv => ?_))
    · rw [h2' fr hfr, cn_Gfr hne]
    · have := cn_Gle (fr := fr) (to := to) (node := node) (i := i) (v := to) hyj (show j ≤ 1000000 by omega)
      omega
    · split <;> omega
    · intro P hP
      by_cases z : node = fr
      · rw [if_pos z] at hP ⊢
        exact hci P b w r _ _ _ _ _ _ _ _ _ _ _ _ _ j hl hj hP
      · rw [if_neg z] at hP ⊢
        exact cn_comeN rfl hP
    · rw [h v hv, ← cn_Gs (i := i) hne hyj (show j ≤ 1000000 by omega), h1 v hv]
      split <;> rfl
  · rw [h v hv]
    congr 1
    unfold cn_G
    (repeat' split) <;> omega
theorem cn_SPC {sz fr to lo : Nat} {a1 a2 a3 a4 a5 a6 a7 a8 : Nat → Int32} (h1 : a1 0 = 1) (h2 : a2 0 = nI fr) (h3 : a3 0 = nI to) (hfr : fr < 6) (hto : to < 6) (hne : fr ≠ to) : cn_SP sz fr to lo (fun _ => 1000000) 1 a1 a2 a3 a4 a5 a6 a7 a8 :=
  cn_SP1 h2 h3 hfr hto hne (fun _ _ _ => Nat.le_refl _) (fun P b w r _ _ _ _ _ _ _ _ _ _ _ _ _ j _ _ hP => cn_comeC h1 hP)
theorem cn_SPL {sz fr to st en ra de p q lo : Nat} {a1 a2 a3 a4 a5 a6 a7 a8 : Nat → Int32} (h1 : a1 0 = 0) (hC : cn_C fr to st en ra de a2 a3 a4 a5 a6 a7) (hs1 : 1 ≤ sz) (hs : sz ≤ 30) (hY : cn_Y p q a8) (hp : p ≤ max lo st) :
    cn_SP sz fr to lo (cn_ci st en q de (cn_k sz ra)) 1 a1 a2 a3 a4 a5 a6 a7 a8 := by
  have hC' := hC
  obtain ⟨⟨c1, c2, c3, c4, c5, c6, c7, c8⟩, k2, k3, k4, k5, k6, k7⟩ := hC'
  refine cn_SP1 k2 k3 c1 c2 c3 (fun j _ _ => ?_) (fun P b w r _ _ _ _ _ _ _ _ _ _ _ _ _ j hl hj hP => cn_come h1 hC hs1 hs hY (by omega) (by omega) rfl rfl hP)
  unfold cn_ci
  (repeat' split) <;> omega
end
section
theorem cn_SPu {post : St2 → Prop} {c b w r : Int32} {a1 a2 a3 a4 a5 a6 a7 a8 a9 a10 a11 a12 a13 a14 a15 a16 a17 a18 a19 a20 a21 : Nat → Int32} {sz fr to lo node j m : Nat} {y : Nat → Nat} {x1 x2 x3 x4 : Int32} (h : cn_SP sz fr to lo y c a1 a2 a3 a4 a5 a6 a7 a8) (h1 : x1 = nI node) (h2 : x2 = nI j) (h3 : x3 = nI sz) (h4 : x4 = nI m) (hn : node < 6) (hl : lo ≤ j) (hj : j ≤ 300) (hm : 1 ≤ m) (hm5 : m ≤ 5)
    (H : ∀ e1 e2 : Nat → Int32, (∀ v, v < 6 → e1 v = nI (if v = node then j else if node = fr ∧ v = to then y j else 1000000)) → post (c, b, w, r, a1, a2, a3, a4, a5, a6, a7, a8, a9, a10, a11, a12, a13, a14, a15, a16, a17, a18, a19, e1, e2)) : wpX_spread post (c, b, w, r, a1, a2, a3, a4, a5, a6, a7, a8, a9, a10, a11, a12, a13, a14, a15, a16, a17, a18, a19, a20, a21) x1 x2 x3 x4 :=
  h post b w r a9 a10 a11 a12 a13 a14 a15 a16 a17 a18 a19 a20 a21 x1 x2 x3 x4 node j m h1 h2 h3 h4 hn hl hj hm hm5 H
theorem cn_twoI {e : Nat} (he : e < 36) (hne : e / 6 ≠ e % 6) : cn_two (nI e) := by
  refine ⟨nI_pos (by omega), nI_ge (b := 36) he (by omega), ?_⟩
  rw [cn_r6 (by omega), cn_d6 (by omega)]
  exact fun z => hne ((nI_eq (by omega) (by omega)).mp z)
theorem cn_someI {s : Nat} (h1 : 1 ≤ s) (h : s ≤ 30) : cn_some (nI s) := ⟨nI_nlt (b := 1) h1 (by omega), nI_nlt (a := 30) h (by omega)⟩
theorem cn_quoteN {post : Int32 → St2 → Prop} {c b w r : Int32} {a1 a2 a3 a4 a5 a6 a7 a8 a9 a10 a11 a12 a13 a14 a15 a16 a17 a18 a19 a20 a21 : Nat → Int32} {x s : Int32} (h : ¬ (cn_two x ∧ cn_some s)) (H : post (-1) (c, b, w, r, a1, a2, a3, a4, a5, a6, a7, a8, a9, a10, a11, a12, a13, a14, a15, a16, a17, a18, a19, a20, a21)) : wpX_quote post (c, b, w, r, a1, a2, a3, a4, a5, a6, a7, a8, a9, a10, a11, a12, a13, a14, a15, a16, a17, a18, a19, a20, a21) x s := by
  unfold wpX_quote
  by_cases h1 : cn_two x
  · exact cn_endsT h1 (br_f (by decide) (cn_sizeF (fun z => h ⟨h1, z⟩) (br_t rfl H)))
  · exact cn_endsF h1 (br_t rfl H)
theorem cn_quote {post : Int32 → St2 → Prop} {c b w r : Int32} {a1 a2 a3 a4 a5 a6 a7 a8 a9 a10 a11 a12 a13 a14 a15 a16 a17 a18 a19 a20 a21 : Nat → Int32} {sz lo e j : Nat} {y : Nat → Nat} {x s : Int32} (hSP : cn_SP sz (e / 6) (e % 6) lo y c a1 a2 a3 a4 a5 a6 a7 a8) (he : e < 36) (hne : e / 6 ≠ e % 6) (hx : x = nI e) (hs : s = nI sz) (hs1 : 1 ≤ sz) (hs30 : sz ≤ 30) (hw : w = nI j) (hl : lo ≤ j) (hj : j ≤ 300) (hy : y j ≤ 1000000)
    (H : ∀ d20 d21 : Nat → Int32, post (if y j < 1000000 then nI (y j) else -2) (c, b, w, r, a1, a2, a3, a4, a5, a6, a7, a8, a9, a10, a11, a12, a13, a14, a15, a16, a17, a18, a19, d20, d21)) : wpX_quote post (c, b, w, r, a1, a2, a3, a4, a5, a6, a7, a8, a9, a10, a11, a12, a13, a14, a15, a16, a17, a18, a19, a20, a21) x s := by
  subst hx hs
  unfold wpX_quote
  refine cn_endsT (cn_twoI he hne) (br_f (by decide) (cn_sizeT (cn_someI hs1 hs30) (br_f (by decide) (And.intro cn_n6 (cn_SPu (m := 5) hSP (cn_d6 (by omega)) hw rfl rfl (by omega) hl hj (by omega) (Nat.le_refl 5) (fun e1 e2 h => ?_))))))
  have e20 : e1 (nI e - nI e / 6 * 6).toNatClampNeg = nI (y j) := by
    rw [cn_r6 (by omega), nI_clamp (by omega), h (e % 6) (by omega), if_neg (by omega), if_pos ⟨rfl, rfl⟩]
  have k := H e1 e2
  refine And.intro cn_n6 (And.intro (pk_in (e % 6) 6 (by omega) (cn_r6 (by omega))) (nm_r e20 (pk_lt (y j) 1000000 (fun z => ?_) (fun z => ?_))))
  · rw [if_pos z] at k
    exact k
  · rw [if_neg (by omega)] at k
    exact k
/-- what reach gathers -/
def cn_rs (f : Nat → Bool) (s : Int32) : Nat → Int32
  | 0 => s
  | n + 1 => cn_rs f s n ||| (if f n then (1 : Int32) <<< (nI n &&& 31) else 0)
theorem cn_rsC {f g : Nat → Bool} {s : Int32} : ∀ n, (∀ v, v < n → f v = g v) → cn_rs f s n = cn_rs g s n
  | 0, _ => rfl
  | n + 1, h => by
    unfold cn_rs
    rw [cn_rsC n (fun v hv => h v (by omega)), h n (by omega)]
theorem cn_rs1 : ∀ a, a < 6 → cn_rs (fun v => decide (v = a)) ((1 : Int32) <<< (nI a &&& 31)) 6 = (1 : Int32) <<< (nI a &&& 31) := by decide +kernel
theorem cn_rs0 : ∀ a, a < 6 → cn_rs (fun _ => false) ((1 : Int32) <<< (nI a &&& 31)) 6 = (1 : Int32) <<< (nI a &&& 31) := by decide +kernel
theorem cn_rs2 : ∀ a, a < 6 → ∀ b, b < 6 → a ≠ b → cn_rs (fun v => decide (v = a) || decide (v = b)) ((1 : Int32) <<< (nI a &&& 31)) 6 = ((1 : Int32) <<< (nI a &&& 31)) + ((1 : Int32) <<< (nI b &&& 31)) := by decide +kernel
theorem cn_re38 {post : Int32 → St2 → Prop} {c b w r : Int32} {a1 a2 a3 a4 a5 a6 a7 a8 a9 a10 a11 a12 a13 a14 a15 a16 a17 a18 a19 a20 a21 : Nat → Int32} {E : Nat → Nat} {x3 s : Int32} (hE : ∀ v, v < 6 → E v ≤ 1000000) (h20 : ∀ v, v < 6 → a20 v = nI (E v))
    (H : post (cn_rs (fun v => decide (E v < 1000000 ∧ ¬ x3 < nI (E v))) s 6) (c, b, w, r, a1, a2, a3, a4, a5, a6, a7, a8, a9, a10, a11, a12, a13, a14, a15, a16, a17, a18, a19, a20, a21)) : ∃ fu, wX_reach_38 post x3 c b w r a1 a2 a3 a4 a5 a6 a7 a8 a9 a10 a11 a12 a13 a14 a15 a16 a17 a18 a19 a20 a21 fu s 0 := by
  refine pk_loop (fun n i z => wX_reach_38 post x3 c b w r a1 a2 a3 a4 a5 a6 a7 a8 a9 a10 a11 a12 a13 a14 a15 a16 a17 a18 a19 a20 a21 n z (nI i)) (fun i z => z = cn_rs (fun v => decide (E v < 1000000 ∧ ¬ x3 < nI (E v))) s i) 6 0 s (by omega) rfl ?_ ?_
  · intro n z h
    subst h
    exact pk_le 6 6 (fun _ => H) (fun z => absurd z (by omega))
  · intro n i z hi h hw
    have e20 : a20 (nI i).toNatClampNeg = nI (E i) := by rw [nI_clamp (by omega), h20 i hi]
    have hEi := hE i hi
    refine pk_le 6 i (fun z => absurd z (by omega)) (fun _ => And.intro (pk_in i 6 hi) (pk_le 1000000 (E i) (fun g => ?_) (fun g => And.intro (pk_in i 6 hi) (br_c (fun g2 => ?_) (fun g2 => ?_))) rfl e20))
    · refine nm_e (nm_r (nI_1 i) (hw _ ?_))
      show _ = cn_rs _ _ i ||| _
      rw [← h, if_neg (by intro q; have := of_decide_eq_true q; omega)]
    · refine nm_e (nm_r (nI_1 i) (hw _ ?_))
      rw [e20] at g2
      show _ = cn_rs _ _ i ||| _
      rw [← h, if_neg (by intro q; exact (of_decide_eq_true q).2 g2)]
    · refine nm_e (nm_r (nI_1 i) (hw _ ?_))
      rw [e20] at g2
      show _ = cn_rs _ _ i ||| _
      rw [← h, if_pos (decide_eq_true ⟨g, g2⟩)]
theorem cn_reachN {post : Int32 → St2 → Prop} {c b w r : Int32} {a1 a2 a3 a4 a5 a6 a7 a8 a9 a10 a11 a12 a13 a14 a15 a16 a17 a18 a19 a20 a21 : Nat → Int32} {x s t : Int32} (h : ¬ ((¬ x < 0 ∧ ¬ 6 ≤ x) ∧ cn_some s)) (H : post (-1) (c, b, w, r, a1, a2, a3, a4, a5, a6, a7, a8, a9, a10, a11, a12, a13, a14, a15, a16, a17, a18, a19, a20, a21)) : wpX_reach post (c, b, w, r, a1, a2, a3, a4, a5, a6, a7, a8, a9, a10, a11, a12, a13, a14, a15, a16, a17, a18, a19, a20, a21) x s t :=
  br_c (fun _ => H) (fun h1 => br_c (fun _ => H) (fun h2 => cn_sizeF (fun z => h ⟨⟨h1, h2⟩, z⟩) (br_t rfl H)))
theorem cn_reach {post : Int32 → St2 → Prop} {c b w r : Int32} {a1 a2 a3 a4 a5 a6 a7 a8 a9 a10 a11 a12 a13 a14 a15 a16 a17 a18 a19 a20 a21 : Nat → Int32} {sz fr to lo node j : Nat} {y : Nat → Nat} {x s t : Int32} (hSP : cn_SP sz fr to lo y c a1 a2 a3 a4 a5 a6 a7 a8) (hn : node < 6) (hx : x = nI node) (hs : s = nI sz) (hs1 : 1 ≤ sz) (hs30 : sz ≤ 30) (hw : w = nI j) (hl : lo ≤ j) (hj : j ≤ 300) (hy : y j ≤ 1000000) (E : Nat → Nat) (hE : ∀ v, E v = if v = node then j else if node = fr ∧ v = to then y j else 1000000)
    (H : ∀ d20 d21 : Nat → Int32, post (cn_rs (fun v => decide (E v < 1000000 ∧ ¬ t < nI (E v))) ((1 : Int32) <<< (nI node &&& 31)) 6) (c, b, w, r, a1, a2, a3, a4, a5, a6, a7, a8, a9, a10, a11, a12, a13, a14, a15, a16, a17, a18, a19, d20, d21)) : wpX_reach post (c, b, w, r, a1, a2, a3, a4, a5, a6, a7, a8, a9, a10, a11, a12, a13, a14, a15, a16, a17, a18, a19, a20, a21) x s t := by
  subst hx hs
  refine br_f (nI_pos (by omega)) (br_f (nI_ge (b := 6) hn (by omega)) (cn_sizeT (cn_someI hs1 hs30) (br_f (by decide) (cn_SPu (m := 5) hSP rfl hw rfl rfl hn hl hj (by omega) (Nat.le_refl 5) (fun e1 e2 h => nm_e (cn_re38 (E := E) (fun v hv => ?_) (fun v hv => ?_) (H e1 e2)))))))
  · rw [hE v]
    (repeat' split) <;> omega
  · rw [h v hv, hE v]
/-- only the node itself is reached -/
theorem cn_reachO {post : Int32 → St2 → Prop} {c b w r : Int32} {a1 a2 a3 a4 a5 a6 a7 a8 a9 a10 a11 a12 a13 a14 a15 a16 a17 a18 a19 a20 a21 : Nat → Int32} {sz fr to lo node j : Nat} {y : Nat → Nat} {x s t : Int32} (hSP : cn_SP sz fr to lo y c a1 a2 a3 a4 a5 a6 a7 a8) (hn : node < 6) (hx : x = nI node) (hs : s = nI sz) (hs1 : 1 ≤ sz) (hs30 : sz ≤ 30) (hw : w = nI j) (hl : lo ≤ j) (hj : j ≤ 300) (hy : y j ≤ 1000000) (ho : node = fr → y j = 1000000)
    (H : ∀ d20 d21 : Nat → Int32, post ((1 : Int32) <<< (nI node &&& 31)) (c, b, w, r, a1, a2, a3, a4, a5, a6, a7, a8, a9, a10, a11, a12, a13, a14, a15, a16, a17, a18, a19, d20, d21)) : wpX_reach post (c, b, w, r, a1, a2, a3, a4, a5, a6, a7, a8, a9, a10, a11, a12, a13, a14, a15, a16, a17, a18, a19, a20, a21) x s t := by
  refine cn_reach hSP hn hx hs hs1 hs30 hw hl hj hy _ (fun v => rfl) (fun d20 d21 => ?_)
  have k := H d20 d21
  by_cases ht : t < nI j
  · rw [← cn_rs0 node hn, cn_rsC (g := fun v => decide ((if v = node then j else if node = fr ∧ v = to then y j else 1000000) < 1000000 ∧ ¬ t < nI (if v = node then j else if node = fr ∧ v = to then y j else 1000000))) 6 ?_] at k
    · exact k
    · intro v hv
      refine (decide_eq_false ?_).symm
      rintro ⟨q1, q2⟩
      by_cases z : v = node
      · rw [if_pos z] at q2
        exact q2 ht
      · rw [if_neg z] at q1
        by_cases z2 : node = fr ∧ v = to
        · rw [if_pos z2, ho z2.1] at q1
          omega
        · rw [if_neg z2] at q1
          omega
  · rw [← cn_rs1 node hn, cn_rsC (g := fun v => decide ((if v = node then j else if node = fr ∧ v = to then y j else 1000000) < 1000000 ∧ ¬ t < nI (if v = node then j else if node = fr ∧ v = to then y j else 1000000))) 6 ?_] at k
    · exact k
    · intro v hv
      by_cases z : v = node
      · rw [decide_eq_true z, if_pos z]
        exact (decide_eq_true ⟨by omega, ht⟩).symm
      · rw [decide_eq_false z, if_neg z]
        refine (decide_eq_false ?_).symm
        rintro ⟨q1, q2⟩
        by_cases z2 : node = fr ∧ v = to
        · rw [if_pos z2, ho z2.1] at q1
          omega
        · rw [if_neg z2] at q1
          omega
/-- the node and its neighbour are reached -/
theorem cn_reach2 {post : Int32 → St2 → Prop} {c b w r : Int32} {a1 a2 a3 a4 a5 a6 a7 a8 a9 a10 a11 a12 a13 a14 a15 a16 a17 a18 a19 a20 a21 : Nat → Int32} {sz fr to lo j : Nat} {y : Nat → Nat} {x s t : Int32} (hSP : cn_SP sz fr to lo y c a1 a2 a3 a4 a5 a6 a7 a8) (hn : fr < 6) (hto : to < 6) (hne : fr ≠ to) (hx : x = nI fr) (hs : s = nI sz) (hs1 : 1 ≤ sz) (hs30 : sz ≤ 30) (hw : w = nI j) (hl : lo ≤ j) (hj : j ≤ 300) (hy : y j ≤ 1000) (ht : t = nI 1000)
    (H : ∀ d20 d21 : Nat → Int32, post (((1 : Int32) <<< (nI fr &&& 31)) + ((1 : Int32) <<< (nI to &&& 31))) (c, b, w, r, a1, a2, a3, a4, a5, a6, a7, a8, a9, a10, a11, a12, a13, a14, a15, a16, a17, a18, a19, d20, d21)) : wpX_reach post (c, b, w, r, a1, a2, a3, a4, a5, a6, a7, a8, a9, a10, a11, a12, a13, a14, a15, a16, a17, a18, a19, a20, a21) x s t := by
  refine cn_reach hSP hn hx hs hs1 hs30 hw hl hj (by omega) _ (fun v => rfl) (fun d20 d21 => ?_)
  have k := H d20 d21
  rw [← cn_rs2 fr hn to hto hne, cn_rsC (g := fun v => decide ((if v = fr then j else if fr = fr ∧ v = to then y j else 1000000) < 1000000 ∧ ¬ t < nI (if v = fr then j else if fr = fr ∧ v = to then y j else 1000000))) 6 ?_] at k
  · exact k
  · intro v hv
    by_cases z : v = fr
    · rw [decide_eq_true z, if_pos z, Bool.true_or]
      exact (decide_eq_true ⟨by omega, by rw [ht]; exact nI_nlt (by omega) (by omega)⟩).symm
    · rw [decide_eq_false z, if_neg z, Bool.false_or]
      by_cases z2 : v = to
      · rw [decide_eq_true z2, if_pos ⟨rfl, z2⟩]
        exact (decide_eq_true ⟨by omega, by rw [ht]; exact nI_nlt (by omega) (by omega)⟩).symm
      · rw [decide_eq_false z2, if_neg (fun q => z2 q.2)]
        exact (decide_eq_false (fun q => absurd q.1 (by omega))).symm
/-- in time at a ready time j -/
def cn_T (y : Nat → Nat) (t : Int32) (j : Nat) : Prop := y j < 1000000 ∧ ¬ t < nI (y j)
theorem cn_intime {post : Int32 → St2 → Prop} {c b w r : Int32} {a1 a2 a3 a4 a5 a6 a7 a8 a9 a10 a11 a12 a13 a14 a15 a16 a17 a18 a19 a20 a21 : Nat → Int32} {sz lo e j : Nat} {y : Nat → Nat} {x s x2 t : Int32} (hSP : cn_SP sz (e / 6) (e % 6) lo y c a1 a2 a3 a4 a5 a6 a7 a8) (he : e < 36) (hne : e / 6 ≠ e % 6) (hx : x = nI e) (hs : s = nI sz) (h2 : x2 = nI j) (hl : lo ≤ j) (hj : j ≤ 300) (hy : y j ≤ 1000000)
    (H1 : cn_T y t j → ∀ d20 d21 : Nat → Int32, post 1 (c, b, w, r, a1, a2, a3, a4, a5, a6, a7, a8, a9, a10, a11, a12, a13, a14, a15, a16, a17, a18, a19, d20, d21)) (H0 : ¬ cn_T y t j → ∀ d20 d21 : Nat → Int32, post 0 (c, b, w, r, a1, a2, a3, a4, a5, a6, a7, a8, a9, a10, a11, a12, a13, a14, a15, a16, a17, a18, a19, d20, d21)) : wpX_isInTime post (c, b, w, r, a1, a2, a3, a4, a5, a6, a7, a8, a9, a10, a11, a12, a13, a14, a15, a16, a17, a18, a19, a20, a21) x s x2 t := by
  subst hx hs
  refine And.intro cn_n6 (cn_SPu (m := 5) hSP (cn_d6 (by omega)) h2 rfl rfl (by omega) hl hj (by omega) (Nat.le_refl 5) (fun e1 e2 h => ?_))
  have e20 : e1 (nI e - nI e / 6 * 6).toNatClampNeg = nI (y j) := by
    rw [cn_r6 (by omega), nI_clamp (by omega), h (e % 6) (by omega), if_neg (by omega), if_pos ⟨rfl, rfl⟩]
  exact And.intro cn_n6 (And.intro (pk_in (e % 6) 6 (by omega) (cn_r6 (by omega))) (nm_r e20 (pk_le 1000000 (y j) (fun z => H0 (fun q => absurd q.1 (by omega)) e1 e2) (fun z => br_c (fun g => H0 (fun q => q.2 g) e1 e2) (fun g => H1 ⟨z, g⟩ e1 e2)))))
theorem cn_lt55 {post : Int32 → St2 → Prop} {c b w r : Int32} {a1 a2 a3 a4 a5 a6 a7 a8 a9 a10 a11 a12 a13 a14 a15 a16 a17 a18 a19 : Nat → Int32} {sz lo e j0 : Nat} {y : Nat → Nat} {t : Int32} (hSP : cn_SP sz (e / 6) (e % 6) lo y c a1 a2 a3 a4 a5 a6 a7 a8) (he : e < 36) (hne : e / 6 ≠ e % 6) (hl : lo ≤ j0) (hy : ∀ j, j ≤ 100 → y j ≤ 1000000)
    (H : ∀ (l : Nat) (d20 d21 : Nat → Int32), j0 ≤ l → l ≤ 100 → (∀ m, m ≤ 100 → (∀ j, j0 ≤ j → j ≤ m → cn_T y t j) → m ≤ l) → post (nI l) (c, b, w, r, a1, a2, a3, a4, a5, a6, a7, a8, a9, a10, a11, a12, a13, a14, a15, a16, a17, a18, a19, d20, d21)) :
    ∀ (d i l h : Nat) (d20 d21 : Nat → Int32), i + d = 8 → l ≤ h → h - l < 2 ^ d → j0 ≤ l → h ≤ 100 → (∀ m, m ≤ 100 → (∀ j, j0 ≤ j → j ≤ m → cn_T y t j) → m ≤ h) → wX_latest_55 post (nI e) (nI sz) t (d + 1) (nI l) (nI h) (nI i) c b w r a1 a2 a3 a4 a5 a6 a7 a8 a9 a10 a11 a12 a13 a14 a15 a16 a17 a18 a19 d20 d21 := by
  intro d
  induction d with
  | zero =>
    intro i l h d20 d21 hi hlh hd hj hh hm
    have e : h = l := by
      rw [Nat.pow_zero] at hd
      omega
    subst e
    exact pk_le 8 i (fun _ => H h d20 d21 hj hh hm) (fun z => absurd z (by omega))
  | succ d ih =>
    intro i l h d20 d21 hi hlh hd hj hh hm
    rw [Nat.pow_succ] at hd
    refine pk_le 8 i (fun z => absurd z (by omega)) (fun _ => pk_le h l (fun z => ?_) (fun z => ?_))
    · have e : h = l := by omega
      subst e
      exact H h d20 d21 hj hh hm
    · have em : nI l + nI h + 1 >>> ((1 : Int32) &&& 31) = nI l + nI h + 1 >>> ((1 : Int32) &&& 31) := rfl
      have emid : (nI l + nI h + 1) >>> ((1 : Int32) &&& 31) = nI ((l + h + 1) / 2) := by
        rw [nI_add, nI_1]
        exact pk_shrN (n := l + h + 1) (by omega) ((1 : Int32) &&& 31) 1 (by decide)
      refine nm_r emid (cn_intime (j := (l + h + 1) / 2) hSP he hne rfl rfl rfl (by omega) (by omega) (hy _ (by omega)) (fun hT e1 e2 => ?_) (fun hT e1 e2 => ?_))
      · exact br_f (by decide) (nm_r (nI_1 i) (ih (i + 1) ((l + h + 1) / 2) h e1 e2 (by omega) (by omega) (by omega) (by omega) hh hm))
      · refine br_t rfl (nm_r (pk_sub (a := (l + h + 1) / 2) (b := 1) (by omega)) (nm_r (nI_1 i) (ih (i + 1) l ((l + h + 1) / 2 - 1) e1 e2 (by omega) (by omega) (by omega) hj (by omega) (fun m h100 hmm => ?_))))
        rcases Nat.lt_or_ge m ((l + h + 1) / 2) with q | q
        · omega
        · exact absurd (hmm _ (by omega) q) hT
theorem cn_latestN {post : Int32 → St2 → Prop} {c b w r : Int32} {a1 a2 a3 a4 a5 a6 a7 a8 a9 a10 a11 a12 a13 a14 a15 a16 a17 a18 a19 a20 a21 : Nat → Int32} {x s t : Int32} (h : ¬ (cn_two x ∧ cn_some s)) (H : post (-1) (c, b, w, r, a1, a2, a3, a4, a5, a6, a7, a8, a9, a10, a11, a12, a13, a14, a15, a16, a17, a18, a19, a20, a21)) : wpX_latest post (c, b, w, r, a1, a2, a3, a4, a5, a6, a7, a8, a9, a10, a11, a12, a13, a14, a15, a16, a17, a18, a19, a20, a21) x s t := by
  unfold wpX_latest
  by_cases h1 : cn_two x
  · exact cn_endsT h1 (br_f (by decide) (cn_sizeF (fun z => h ⟨h1, z⟩) (br_t rfl H)))
  · exact cn_endsF h1 (br_t rfl H)
theorem cn_latest {post : Int32 → St2 → Prop} {c b w r : Int32} {a1 a2 a3 a4 a5 a6 a7 a8 a9 a10 a11 a12 a13 a14 a15 a16 a17 a18 a19 a20 a21 : Nat → Int32} {sz lo e j0 : Nat} {y : Nat → Nat} {x s t : Int32} (hSP : cn_SP sz (e / 6) (e % 6) lo y c a1 a2 a3 a4 a5 a6 a7 a8) (he : e < 36) (hne : e / 6 ≠ e % 6) (hx : x = nI e) (hs : s = nI sz) (hs1 : 1 ≤ sz) (hs30 : sz ≤ 30) (hw : w = nI j0) (hl : lo ≤ j0) (hj : j0 ≤ 300) (hy : ∀ j, y j ≤ 1000000)
    (H4 : ¬ (j0 ≤ 100 ∧ cn_T y t j0) → ∀ d20 d21 : Nat → Int32, post (-4) (c, b, w, r, a1, a2, a3, a4, a5, a6, a7, a8, a9, a10, a11, a12, a13, a14, a15, a16, a17, a18, a19, d20, d21))
    (H : ∀ (l : Nat) (d20 d21 : Nat → Int32), j0 ≤ 100 → cn_T y t j0 → j0 ≤ l → l ≤ 100 → (∀ m, m ≤ 100 → (∀ j, j0 ≤ j → j ≤ m → cn_T y t j) → m ≤ l) → post (nI l) (c, b, w, r, a1, a2, a3, a4, a5, a6, a7, a8, a9, a10, a11, a12, a13, a14, a15, a16, a17, a18, a19, d20, d21)) : wpX_latest post (c, b, w, r, a1, a2, a3, a4, a5, a6, a7, a8, a9, a10, a11, a12, a13, a14, a15, a16, a17, a18, a19, a20, a21) x s t := by
  subst hx hs hw
  unfold wpX_latest
  refine cn_endsT (cn_twoI he hne) (br_f (by decide) (cn_sizeT (cn_someI hs1 hs30) (br_f (by decide) (pk_lt 100 j0 (fun z => H4 (fun q => absurd q.1 (by omega)) a20 a21) (fun z => cn_intime hSP he hne rfl rfl rfl hl hj (hy _) (fun hT e1 e2 => br_f (by decide) ?_) (fun hT e1 e2 => br_t rfl (H4 (fun q => hT q.2) e1 e2)))))))
  exact ⟨8 + 1, cn_lt55 hSP he hne hl (fun j _ => hy j) (fun l d20 d21 h1 h2 h3 => H l d20 d21 z hT h1 h2 h3) 8 0 j0 100 e1 e2 (by omega) z (by omega) (Nat.le_refl _) (Nat.le_refl _) (fun m h100 _ => h100)⟩
theorem cn_routeN {post : Int32 → St2 → Prop} {c b w r : Int32} {a1 a2 a3 a4 a5 a6 a7 a8 a9 a10 a11 a12 a13 a14 a15 a16 a17 a18 a19 a20 a21 : Nat → Int32} {sz fr to lo j : Nat} {y : Nat → Nat} {x1 x2 x3 x4 : Int32} (hSP : cn_SP sz fr to lo y c a1 a2 a3 a4 a5 a6 a7 a8) (hfr : fr < 6) (hto : to < 6) (hne : fr ≠ to) (h1 : x1 = nI fr) (h2 : x2 = nI to) (h3 : x3 = nI j) (h4 : x4 = nI sz) (hl : lo ≤ j) (hj : j ≤ 300) (hy : y j = 1000000)
    (H : ∀ d20 d21 : Nat → Int32, post 1000000 (c, b, w, r, a1, a2, a3, a4, a5, a6, a7, a8, a9, a10, a11, a12, a13, a14, a15, a16, a17, a18, a19, d20, d21)) : wpX_findRoute post (c, b, w, r, a1, a2, a3, a4, a5, a6, a7, a8, a9, a10, a11, a12, a13, a14, a15, a16, a17, a18, a19, a20, a21) x1 x2 x3 x4 := by
  subst h2
  refine cn_SPu (m := 5) hSP h1 h3 h4 rfl hfr hl hj (by omega) (Nat.le_refl 5) (fun e1 e2 h => ?_)
  have e20 : e1 (nI to).toNatClampNeg = nI 1000000 := by
    rw [nI_clamp (by omega), h to hto, if_neg (by omega), if_pos ⟨rfl, rfl⟩, hy]
  exact And.intro (pk_in to 6 hto) (nm_r e20 (pk_lt 1000000 1000000 (fun z => absurd z (by omega)) (fun _ => H e1 e2)))
end
section
theorem cn_routeY {post : Int32 → St2 → Prop} {b w : Int32} {a1 a2 a3 a4 a5 a6 a7 a8 a9 a10 a11 a12 a13 a14 a15 a16 a17 a18 a19 a20 a21 : Nat → Int32} {r : Int32} {sz fr to st en ra de p q j S : Nat} {x1 x2 x3 x4 : Int32} (h1 : a1 0 = 0) (hC : cn_C fr to st en ra de a2 a3 a4 a5 a6 a7) (hs1 : 1 ≤ sz) (hs : sz ≤ 30) (hY : cn_Y p q a8) (hp : p ≤ max j st) (hj : j ≤ 300)
    (g1 : x1 = nI fr) (g2 : x2 = nI to) (g3 : x3 = nI j) (g4 : x4 = nI sz) (hS : S = max (max j st) q) (hf : S + cn_k sz ra ≤ en)
    (H : ∀ d18 d19 d20 d21 : Nat → Int32, d18 0 = 0 → d19 0 = nI S → post (nI (S + cn_k sz ra + de)) (1, b, w, 1, a1, a2, a3, a4, a5, a6, a7, a8, a9, a10, a11, a12, a13, a14, a15, a16, a17, d18, d19, d20, d21)) : wpX_findRoute post (1, b, w, r, a1, a2, a3, a4, a5, a6, a7, a8, a9, a10, a11, a12, a13, a14, a15, a16, a17, a18, a19, a20, a21) x1 x2 x3 x4 := by
  have hC' := hC
  obtain ⟨⟨c1, c2, c3, c4, c5, c6, c7, c8⟩, k2, k3, k4, k5, k6, k7⟩ := hC'
  have k1 := cn_k1 hs1 c6
  have k30 := cn_k30 hs c6
  subst g1 g2 g3 g4
  have hSP := cn_SPL (lo := j) h1 hC hs1 hs hY hp
  have ey : cn_ci st en q de (cn_k sz ra) j = S + cn_k sz ra + de := by
    unfold cn_ci
    rw [if_neg (by omega), ← hS, if_pos hf]
  refine cn_SPu (m := 5) hSP rfl rfl rfl rfl c1 (Nat.le_refl _) hj (by omega) (Nat.le_refl 5) (fun e1 e2 h => ?_)
  have e20 : e1 (nI to).toNatClampNeg = nI (S + cn_k sz ra + de) := by
    rw [nI_clamp (by omega), h to c2, if_neg (by omega), if_pos ⟨rfl, rfl⟩, ey]
  refine And.intro (pk_in to 6 c2) (nm_r e20 (pk_lt (S + cn_k sz ra + de) 1000000 (fun _ => ?_) (fun z => absurd z (by omega))))
  refine cn_SPu (m := 1) hSP rfl rfl rfl rfl c1 (Nat.le_refl _) hj (Nat.le_refl 1) (by omega) (fun e3 e4 h' => ⟨0 + 1, ?_⟩)
  have e20' : e3 (nI to).toNatClampNeg = nI (S + cn_k sz ra + de) := by
    rw [nI_clamp (by omega), h' to c2, if_neg (by omega), if_pos ⟨rfl, rfl⟩, ey]
  refine pk_le 5 1 (fun z => absurd z (by omega)) (fun _ => And.intro (pk_in to 6 c2) (pk_le (S + cn_k sz ra + de) (S + cn_k sz ra + de) (fun _ => ?_) (fun z => absurd z (by omega)) e20'))
  refine Exists.intro (0 + 1 + 1) (pk_le 1 0 (fun z => absurd z (by omega)) (fun _ => Exists.intro (0 + 1) (pk_le 0 0 (fun _ => ?_) (fun z => absurd z (by omega)) (by decide))))
  refine cn_ticks k6 c6 c7 hs rfl (And.intro cn_i5 (nm_e (cn_fb k4 k5 c4 c5 (by omega) k1 k30 hY hp ?_)))
  rw [← hS, if_pos hf]
  exact And.intro cn_i5 (nm_e (And.intro cn_i5 (And.intro cn_i10 (nm_e (And.intro cn_i10 (nm_e (nm_r (show (0 : Int32) + 1 = 1 by decide) (nm_e (pk_le 0 0 (fun _ => H _ _ e3 e4 (cn_u0 sb_cl0 rfl) (cn_u0 sb_cl0 rfl)) (fun z => absurd z (by omega)) (by decide))))))))))
theorem cn_setBusy {post : St2 → Prop} {c b w r : Int32} {a1 a2 a3 a4 a5 a6 a7 a8 a9 a10 a11 a12 a13 a14 a15 a16 a17 a18 a19 a20 a21 : Nat → Int32} {s k : Nat} {x2 x3 x4 v : Int32} (h2 : x2 = nI s) (h3 : x3 = nI k) (hv : vp_nar .boolean x4 = v) (hb : s + k ≤ 1010)
    (H : ∀ d8 : Nat → Int32, (∀ t, d8 t = if s ≤ t ∧ t < s + k then v else a8 t) → post (c, b, w, r, a1, a2, a3, a4, a5, a6, a7, d8, a9, a10, a11, a12, a13, a14, a15, a16, a17, a18, a19, a20, a21)) : wpX_setBusy post (c, b, w, r, a1, a2, a3, a4, a5, a6, a7, a8, a9, a10, a11, a12, a13, a14, a15, a16, a17, a18, a19, a20, a21) 0 x2 x3 x4 := by
  subst h2 h3 hv
  refine pk_loop (fun n i f => wX_setBusy_3 post 0 (nI s) (nI k) x4 c b w r n (nI i) a1 a2 a3 a4 a5 a6 a7 f a9 a10 a11 a12 a13 a14 a15 a16 a17 a18 a19 a20 a21) (fun i f => s ≤ i ∧ ∀ t, f t = if s ≤ t ∧ t < i then vp_nar .boolean x4 else a8 t) (s + k) s a8 (by omega) ⟨Nat.le_refl s, fun t => by rw [if_neg (by omega)]⟩ ?_ ?_
  · intro n f h
    exact pk_le (s + k) (s + k) (fun _ => H f h.2) (fun z => absurd z (by omega)) (nI_add s k)
  · intro n i f hi h hw
    obtain ⟨hsi, h⟩ := h
    refine pk_le (s + k) i (fun z => absurd z (by omega)) (fun _ => And.intro (pk_in i 1010 (by omega) (cn_z101 _)) (nm_e (nm_r (nI_1 i) (hw _ ⟨by omega, fun t => ?_⟩)))) (nI_add s k)
    rw [cn_z101, nI_clamp (by omega)]
    by_cases e : t = i
    · rw [e, pk_us, if_pos ⟨by omega, by omega⟩]
    · rw [pk_un e, h t]
      by_cases z : s ≤ t ∧ t < i
      · rw [if_pos z, if_pos ⟨z.1, by omega⟩]
      · rw [if_neg z, if_neg (by omega)]
theorem cn_last0 {post : Int32 → Prop} {c b w r : Int32} {a1 a2 a3 a4 a5 a6 a7 a8 a9 a10 a11 a12 a13 a14 a15 a16 a17 a18 a19 a20 a21 : Nat → Int32} (h15 : a15 0 = 0) (H : post (a9 0)) : wpX_lastNode post (c, b, w, r, a1, a2, a3, a4, a5, a6, a7, a8, a9, a10, a11, a12, a13, a14, a15, a16, a17, a18, a19, a20, a21) 0 :=
  And.intro cn_i10 (br_t h15 (And.intro cn_i10 H))
theorem cn_last1 {post : Int32 → Prop} {c b w r : Int32} {a1 a2 a3 a4 a5 a6 a7 a8 a9 a10 a11 a12 a13 a14 a15 a16 a17 a18 a19 a20 a21 : Nat → Int32} {to : Nat} (h15 : a15 0 = 1) (h16 : a16 0 = 0) (h3 : a3 0 = nI to) (H : post (nI to)) : wpX_lastNode post (c, b, w, r, a1, a2, a3, a4, a5, a6, a7, a8, a9, a10, a11, a12, a13, a14, a15, a16, a17, a18, a19, a20, a21) 0 := by
  have e15 : a15 (Int32.toNatClampNeg 0) = 1 := h15
  have e : 100 * (0 : Int32) + a15 (Int32.toNatClampNeg 0) - 1 = 0 := by
    rw [e15]
    decide
  have e16 : a16 (100 * (0 : Int32) + a15 (Int32.toNatClampNeg 0) - 1).toNatClampNeg = 0 := by
    rw [e]
    exact h16
  refine And.intro cn_i10 (br_f (by rw [e15]; decide) (And.intro cn_i10 (And.intro (pk_in 0 1000 (by omega) e) (And.intro (pk_in 0 10 (by omega) e16) ?_))))
  rw [e16, show a3 (Int32.toNatClampNeg 0) = nI to from h3]
  exact H
theorem cn_by {post : Int32 → Prop} {c b w r : Int32} {a1 a2 a3 a4 a5 a6 a7 a8 a9 a10 a11 a12 a13 a14 a15 a16 a17 a18 a19 a20 a21 : Nat → Int32} {sz ra de s : Nat} {x : Int32} (hx : x = 0) (h16 : a16 0 = 0) (h17 : a17 0 = nI s) (h11 : a11 0 = nI sz) (h6 : a6 0 = nI ra) (h7 : a7 0 = nI de) (h1 : 1 ≤ ra) (h9 : ra ≤ 9) (hs : sz ≤ 30) (H : post (nI (s + cn_k sz ra + de))) : wpX_comesInBy post (c, b, w, r, a1, a2, a3, a4, a5, a6, a7, a8, a9, a10, a11, a12, a13, a14, a15, a16, a17, a18, a19, a20, a21) 0 x := by
  have e : 100 * (0 : Int32) + x = 0 := by
    rw [hx]
    decide
  have e16 : a16 (100 * (0 : Int32) + x).toNatClampNeg = 0 := by
    rw [e]
    exact h16
  have e17 : a17 (100 * (0 : Int32) + x).toNatClampNeg = nI s := by
    rw [e]
    exact h17
  refine And.intro (pk_in 0 1000 (by omega) e) (nm_r e16 (And.intro (pk_in 0 1000 (by omega) e) (And.intro cn_i10 (cn_ticks h6 h1 h9 hs h11 (And.intro cn_i10 ?_)))))
  rw [e17, show a7 (Int32.toNatClampNeg 0) = nI de from h7, nI_add, nI_add]
  exact H
theorem cn_le0 {f : Nat → Int32} (h : f 0 = 0) : f (Int32.toNatClampNeg 0) ≤ 0 := by
  rw [show f (Int32.toNatClampNeg 0) = 0 from h]
  decide
theorem cn_ne {f g : Nat → Int32} {x y : Nat} (hf : f 0 = nI x) (hg : g 0 = nI y) (hx : x < 6) (hy : y < 6) (h : x ≠ y) : ¬ f 0 = g (Int32.toNatClampNeg 0) := by
  rw [hf, show g (Int32.toNatClampNeg 0) = nI y from hg]
  exact fun z => h ((nI_eq (by omega) (by omega)).mp z)
/-- a plan that finds no way -/
theorem cn_planN {post : St2 → Prop} {c b w r : Int32} {a1 a2 a3 a4 a5 a6 a7 a8 a9 a10 a11 a12 a13 a14 a15 a16 a17 a18 a19 a20 a21 : Nat → Int32} {sz fr to lo j : Nat} {y : Nat → Nat} (hSP : cn_SP sz fr to lo y c a1 a2 a3 a4 a5 a6 a7 a8) (hfr : fr < 6) (hto : to < 6) (hne : fr ≠ to) (h9 : a9 0 = nI fr) (h10 : a10 0 = nI to) (h11 : a11 0 = nI sz) (h15 : a15 0 = 0) (hw : w = nI j) (hl : lo ≤ j) (hj : j ≤ 300) (hy : y j = 1000000)
    (H : ∀ d13 d20 d21 : Nat → Int32, d13 0 = 0 → post (c, b, w, r, a1, a2, a3, a4, a5, a6, a7, a8, a9, a10, a11, a12, d13, a14, a15, a16, a17, a18, a19, d20, d21)) : wpX_plan post (c, b, w, r, a1, a2, a3, a4, a5, a6, a7, a8, a9, a10, a11, a12, a13, a14, a15, a16, a17, a18, a19, a20, a21) 0 :=
  And.intro cn_i10 (br_t (cn_le0 h15) (cn_last0 h15 (And.intro cn_i10 (nm_e (And.intro cn_i10 (br_f (cn_ne h9 h10 hfr hto hne) (And.intro cn_i10 (And.intro cn_i10
    (cn_routeN hSP hfr hto hne h9 h10 hw h11 hl hj hy (fun d20 d21 => pk_le 1000000 1000000 (fun _ => H _ d20 d21 (cn_u0 sb_cl0 rfl)) (fun z => absurd z (by omega))))))))))))
/-- a plan that finds a way too late -/
theorem cn_planL {post : St2 → Prop} {b w r : Int32} {a1 a2 a3 a4 a5 a6 a7 a8 a9 a10 a11 a12 a13 a14 a15 a16 a17 a18 a19 a20 a21 : Nat → Int32} {sz fr to st en ra de p q j S : Nat} (h1 : a1 0 = 0) (hC : cn_C fr to st en ra de a2 a3 a4 a5 a6 a7) (hs1 : 1 ≤ sz) (hs : sz ≤ 30) (hY : cn_Y p q a8) (hp : p ≤ max j st) (hj : j ≤ 300) (h9 : a9 0 = nI fr) (h10 : a10 0 = nI to) (h11 : a11 0 = nI sz) (h15 : a15 0 = 0) (hw : w = nI j)
    (hS : S = max (max j st) q) (hf : S + cn_k sz ra ≤ en) (hlate : ¬ nI (S + cn_k sz ra + de) ≤ a12 0)
    (H : ∀ d13 d18 d19 d20 d21 : Nat → Int32, d13 0 = 0 → post (1, b, w, 1, a1, a2, a3, a4, a5, a6, a7, a8, a9, a10, a11, a12, d13, a14, a15, a16, a17, d18, d19, d20, d21)) : wpX_plan post (1, b, w, r, a1, a2, a3, a4, a5, a6, a7, a8, a9, a10, a11, a12, a13, a14, a15, a16, a17, a18, a19, a20, a21) 0 := by
  have hC' := hC
  obtain ⟨⟨c1, c2, c3, c4, c5, c6, c7, c8⟩, k2, k3, k4, k5, k6, k7⟩ := hC'
  exact And.intro cn_i10 (br_t (cn_le0 h15) (cn_last0 h15 (And.intro cn_i10 (nm_e (And.intro cn_i10 (br_f (cn_ne h9 h10 c1 c2 c3) (And.intro cn_i10 (And.intro cn_i10
    (cn_routeY h1 hC hs1 hs hY hp hj h9 h10 hw h11 hS hf (fun d18 d19 d20 d21 _ _ => pk_le 1000000 (S + cn_k sz ra + de) (fun z => absurd z (by omega)) (fun _ => And.intro cn_i10 (br_f hlate (H _ d18 d19 d20 d21 (cn_u0 sb_cl0 rfl))))))))))))))
/-- a plan that books -/
theorem cn_planG {post : St2 → Prop} {b w r : Int32} {a1 a2 a3 a4 a5 a6 a7 a8 a9 a10 a11 a12 a13 a14 a15 a16 a17 a18 a19 a20 a21 : Nat → Int32} {sz fr to st en ra de p q j S : Nat} (h1 : a1 0 = 0) (hC : cn_C fr to st en ra de a2 a3 a4 a5 a6 a7) (hs1 : 1 ≤ sz) (hs : sz ≤ 30) (hY : cn_Y p q a8) (hp : p ≤ max j st) (hj : j ≤ 300) (h9 : a9 0 = nI fr) (h10 : a10 0 = nI to) (h11 : a11 0 = nI sz) (h15 : a15 0 = 0) (hw : w = nI j)
    (hS : S = max (max j st) q) (hf : S + cn_k sz ra ≤ en) (hgo : nI (S + cn_k sz ra + de) ≤ a12 0)
    (H : ∀ d8 d13 d15 d16 d17 d18 d19 d20 d21 : Nat → Int32, (∀ t, d8 t = if S ≤ t ∧ t < S + cn_k sz ra then 1 else a8 t) → d13 0 = 1 → d15 0 = 1 → d16 0 = 0 → d17 0 = nI S → post (1, b, w, 1, a1, a2, a3, a4, a5, a6, a7, d8, a9, a10, a11, a12, d13, a14, d15, d16, d17, d18, d19, d20, d21)) : wpX_plan post (1, b, w, r, a1, a2, a3, a4, a5, a6, a7, a8, a9, a10, a11, a12, a13, a14, a15, a16, a17, a18, a19, a20, a21) 0 := by
  have hC' := hC
  obtain ⟨⟨c1, c2, c3, c4, c5, c6, c7, c8⟩, k2, k3, k4, k5, k6, k7⟩ := hC'
  refine And.intro cn_i10 (br_t (cn_le0 h15) (cn_last0 h15 (And.intro cn_i10 (nm_e (And.intro cn_i10 (br_f (cn_ne h9 h10 c1 c2 c3) (And.intro cn_i10 (And.intro cn_i10
    (cn_routeY h1 hC hs1 hs hY hp hj h9 h10 hw h11 hS hf (fun d18 d19 d20 d21 h18 h19 => pk_le 1000000 (S + cn_k sz ra + de) (fun z => absurd z (by omega)) (fun _ => And.intro cn_i10 (br_t hgo (And.intro cn_i10 (nm_e (Exists.intro (0 + 1 + 1) ?_)))))))))))))))
  have e15 : a15 (Int32.toNatClampNeg 0) = 0 := h15
  have ei : 100 * (0 : Int32) + a15 (Int32.toNatClampNeg 0) = 0 := by
    rw [e15]
    decide
  have ec : (100 * (0 : Int32) + a15 (Int32.toNatClampNeg 0)).toNatClampNeg = 0 := by
    rw [ei]
    decide
  refine pk_le 1 0 (fun z => absurd z (by omega)) (fun _ => And.intro cn_i10 (br_f (by rw [e15]; decide) (And.intro cn_i5 (nm_r (show d18 (Int32.toNatClampNeg 0) = 0 from h18) (And.intro cn_i10 (And.intro (pk_in 0 1000 (by omega) ei) (nm_e (And.intro cn_i10 (And.intro cn_i5 (And.intro (pk_in 0 1000 (by omega) ei) (nm_e (And.intro cn_i10 (And.intro cn_i10 (nm_e (And.intro cn_i10 ?_)))))))))))))))
  refine cn_ticks k6 c6 c7 hs h11 (And.intro cn_i5 (cn_setBusy (v := 1) h19 rfl (by decide) (by omega) (fun d8 h8 => nm_r (show (0 : Int32) + 1 = 1 by decide) (pk_le 1 1 (fun _ => H _ _ _ _ _ _ _ _ _ h8 (cn_u0 sb_cl0 rfl) (cn_u0 sb_cl0 ?_) (cn_u0 ec rfl) (cn_u0 ec h19)) (fun z => absurd z (by omega))))))
  rw [e15]
  decide
theorem cn_retry0 {post : St2 → Prop} {c w r : Int32} {a1 a2 a3 a4 a5 a6 a7 a8 a9 a10 a11 a12 a13 a14 a15 a16 a17 a18 a19 a20 a21 : Nat → Int32} (H : post (c, 0, w, r, a1, a2, a3, a4, a5, a6, a7, a8, a9, a10, a11, a12, a13, a14, a15, a16, a17, a18, a19, a20, a21)) : wpX_retry post (c, 0, w, r, a1, a2, a3, a4, a5, a6, a7, a8, a9, a10, a11, a12, a13, a14, a15, a16, a17, a18, a19, a20, a21) :=
  Exists.intro (0 + 1) (pk_le 0 0 (fun _ => H) (fun z => absurd z (by omega)))
theorem cn_retryR {post : St2 → Prop} {c w r : Int32} {a1 a2 a3 a4 a5 a6 a7 a8 a9 a10 a11 a12 a13 a14 a15 a16 a17 a18 a19 a20 a21 : Nat → Int32} (h13 : a13 0 = 1) (H : post (c, 1, w, r, a1, a2, a3, a4, a5, a6, a7, a8, a9, a10, a11, a12, a13, a14, a15, a16, a17, a18, a19, a20, a21)) : wpX_retry post (c, 1, w, r, a1, a2, a3, a4, a5, a6, a7, a8, a9, a10, a11, a12, a13, a14, a15, a16, a17, a18, a19, a20, a21) :=
  Exists.intro (0 + 1 + 1) (pk_le 1 0 (fun z => absurd z (by omega)) (fun _ => And.intro cn_i10 (br_f (fun z => absurd (h13.symm.trans z) (by decide)) (nm_r (show (0 : Int32) + 1 = 1 by decide) (pk_le 1 1 (fun _ => H) (fun z => absurd z (by omega)))))))
theorem cn_retryN {post : St2 → Prop} {c w r : Int32} {a1 a2 a3 a4 a5 a6 a7 a8 a9 a10 a11 a12 a13 a14 a15 a16 a17 a18 a19 a20 a21 : Nat → Int32} {sz fr to lo j : Nat} {y : Nat → Nat} (h13 : a13 0 = 0) (hSP : cn_SP sz fr to lo y c a1 a2 a3 a4 a5 a6 a7 a8) (hfr : fr < 6) (hto : to < 6) (hne : fr ≠ to) (h9 : a9 0 = nI fr) (h10 : a10 0 = nI to) (h11 : a11 0 = nI sz) (h15 : a15 0 = 0) (hw : w = nI j) (hl : lo ≤ j) (hj : j ≤ 300) (hy : y j = 1000000)
    (H : ∀ d13 d20 d21 : Nat → Int32, d13 0 = 0 → post (c, 1, w, r, a1, a2, a3, a4, a5, a6, a7, a8, a9, a10, a11, a12, d13, a14, a15, a16, a17, a18, a19, d20, d21)) : wpX_retry post (c, 1, w, r, a1, a2, a3, a4, a5, a6, a7, a8, a9, a10, a11, a12, a13, a14, a15, a16, a17, a18, a19, a20, a21) :=
  Exists.intro (0 + 1 + 1) (pk_le 1 0 (fun z => absurd z (by omega)) (fun _ => And.intro cn_i10 (br_t h13 (cn_planN hSP hfr hto hne h9 h10 h11 h15 hw hl hj hy (fun d13 d20 d21 hd => nm_r (show (0 : Int32) + 1 = 1 by decide) (pk_le 1 1 (fun _ => H d13 d20 d21 hd) (fun z => absurd z (by omega))))))))
theorem cn_retryL {post : St2 → Prop} {w r : Int32} {a1 a2 a3 a4 a5 a6 a7 a8 a9 a10 a11 a12 a13 a14 a15 a16 a17 a18 a19 a20 a21 : Nat → Int32} {sz fr to st en ra de p q j S : Nat} (h13 : a13 0 = 0) (h1 : a1 0 = 0) (hC : cn_C fr to st en ra de a2 a3 a4 a5 a6 a7) (hs1 : 1 ≤ sz) (hs : sz ≤ 30) (hY : cn_Y p q a8) (hp : p ≤ max j st) (hj : j ≤ 300) (h9 : a9 0 = nI fr) (h10 : a10 0 = nI to) (h11 : a11 0 = nI sz) (h15 : a15 0 = 0) (hw : w = nI j)
    (hS : S = max (max j st) q) (hf : S + cn_k sz ra ≤ en) (hlate : ¬ nI (S + cn_k sz ra + de) ≤ a12 0)
    (H : ∀ d13 d18 d19 d20 d21 : Nat → Int32, d13 0 = 0 → post (1, 1, w, 1, a1, a2, a3, a4, a5, a6, a7, a8, a9, a10, a11, a12, d13, a14, a15, a16, a17, d18, d19, d20, d21)) : wpX_retry post (1, 1, w, r, a1, a2, a3, a4, a5, a6, a7, a8, a9, a10, a11, a12, a13, a14, a15, a16, a17, a18, a19, a20, a21) :=
  Exists.intro (0 + 1 + 1) (pk_le 1 0 (fun z => absurd z (by omega)) (fun _ => And.intro cn_i10 (br_t h13 (cn_planL h1 hC hs1 hs hY hp hj h9 h10 h11 h15 hw hS hf hlate (fun d13 d18 d19 d20 d21 hd => nm_r (show (0 : Int32) + 1 = 1 by decide) (pk_le 1 1 (fun _ => H d13 d18 d19 d20 d21 hd) (fun z => absurd z (by omega))))))))
theorem cn_retryG {post : St2 → Prop} {w r : Int32} {a1 a2 a3 a4 a5 a6 a7 a8 a9 a10 a11 a12 a13 a14 a15 a16 a17 a18 a19 a20 a21 : Nat → Int32} {sz fr to st en ra de p q j S : Nat} (h13 : a13 0 = 0) (h1 : a1 0 = 0) (hC : cn_C fr to st en ra de a2 a3 a4 a5 a6 a7) (hs1 : 1 ≤ sz) (hs : sz ≤ 30) (hY : cn_Y p q a8) (hp : p ≤ max j st) (hj : j ≤ 300) (h9 : a9 0 = nI fr) (h10 : a10 0 = nI to) (h11 : a11 0 = nI sz) (h15 : a15 0 = 0) (hw : w = nI j)
    (hS : S = max (max j st) q) (hf : S + cn_k sz ra ≤ en) (hgo : nI (S + cn_k sz ra + de) ≤ a12 0)
    (H : ∀ d8 d13 d15 d16 d17 d18 d19 d20 d21 : Nat → Int32, (∀ t, d8 t = if S ≤ t ∧ t < S + cn_k sz ra then 1 else a8 t) → d13 0 = 1 → d15 0 = 1 → d16 0 = 0 → d17 0 = nI S → post (1, 1, w, 1, a1, a2, a3, a4, a5, a6, a7, d8, a9, a10, a11, a12, d13, a14, d15, d16, d17, d18, d19, d20, d21)) : wpX_retry post (1, 1, w, r, a1, a2, a3, a4, a5, a6, a7, a8, a9, a10, a11, a12, a13, a14, a15, a16, a17, a18, a19, a20, a21) :=
  Exists.intro (0 + 1 + 1) (pk_le 1 0 (fun z => absurd z (by omega)) (fun _ => And.intro cn_i10 (br_t h13 (cn_planG h1 hC hs1 hs hY hp hj h9 h10 h11 h15 hw hS hf hgo (fun d8 d13 d15 d16 d17 d18 d19 d20 d21 q8 q13 q15 q16 q17 => nm_r (show (0 : Int32) + 1 = 1 by decide) (pk_le 1 1 (fun _ => H d8 d13 d15 d16 d17 d18 d19 d20 d21 q8 q13 q15 q16 q17) (fun z => absurd z (by omega))))))))
end
section
theorem cn_01 : (0 : Int32) + 1 = 1 := by decide
theorem cn_isBF {post : Int32 → Prop} {c w r : Int32} {a1 a2 a3 a4 a5 a6 a7 a8 a9 a10 a11 a12 a13 a14 a15 a16 a17 a18 a19 a20 a21 : Nat → Int32} {x : Int32} (H : post 0) : wpX_isBundle post (c, 0, w, r, a1, a2, a3, a4, a5, a6, a7, a8, a9, a10, a11, a12, a13, a14, a15, a16, a17, a18, a19, a20, a21) x :=
  br_c (fun _ => H) (fun h => br_t (Int32.not_lt.mp h) H)
theorem cn_isB1 {post : Int32 → Prop} {c w r : Int32} {a1 a2 a3 a4 a5 a6 a7 a8 a9 a10 a11 a12 a13 a14 a15 a16 a17 a18 a19 a20 a21 : Nat → Int32} (H : post 1) : wpX_isBundle post (c, 1, w, r, a1, a2, a3, a4, a5, a6, a7, a8, a9, a10, a11, a12, a13, a14, a15, a16, a17, a18, a19, a20, a21) 0 :=
  br_f (by decide) (br_f (by decide) H)
theorem cn_isCF {post : Int32 → Prop} {c b w r : Int32} {a1 a2 a3 a4 a5 a6 a7 a8 a9 a10 a11 a12 a13 a14 a15 a16 a17 a18 a19 a20 a21 : Nat → Int32} {x : Int32} (h : ¬ x < 0 → c ≤ x) (H : post 0) : wpX_isContact post (c, b, w, r, a1, a2, a3, a4, a5, a6, a7, a8, a9, a10, a11, a12, a13, a14, a15, a16, a17, a18, a19, a20, a21) x :=
  br_c (fun _ => H) (fun g => br_t (h g) H)
theorem cn_isC1 {post : Int32 → Prop} {b w r : Int32} {a1 a2 a3 a4 a5 a6 a7 a8 a9 a10 a11 a12 a13 a14 a15 a16 a17 a18 a19 a20 a21 : Nat → Int32} (H : post 1) : wpX_isContact post (1, b, w, r, a1, a2, a3, a4, a5, a6, a7, a8, a9, a10, a11, a12, a13, a14, a15, a16, a17, a18, a19, a20, a21) 0 :=
  br_f (by decide) (br_f (by decide) H)
/-! no bundle: BAD -/
theorem cn_stateZ {post : Int32 → Prop} {c w r : Int32} {a1 a2 a3 a4 a5 a6 a7 a8 a9 a10 a11 a12 a13 a14 a15 a16 a17 a18 a19 a20 a21 : Nat → Int32} {x : Int32} (H : post (-1)) : wpX_state post (c, 0, w, r, a1, a2, a3, a4, a5, a6, a7, a8, a9, a10, a11, a12, a13, a14, a15, a16, a17, a18, a19, a20, a21) x := by
  unfold wpX_state
  exact cn_isBF (br_t rfl H)
theorem cn_arrivalZ {post : Int32 → Prop} {c w r : Int32} {a1 a2 a3 a4 a5 a6 a7 a8 a9 a10 a11 a12 a13 a14 a15 a16 a17 a18 a19 a20 a21 : Nat → Int32} {x : Int32} (H : post (-1)) : wpX_arrival post (c, 0, w, r, a1, a2, a3, a4, a5, a6, a7, a8, a9, a10, a11, a12, a13, a14, a15, a16, a17, a18, a19, a20, a21) x := by
  unfold wpX_arrival
  exact cn_isBF (br_t rfl H)
theorem cn_hopsZ {post : Int32 → Prop} {c w r : Int32} {a1 a2 a3 a4 a5 a6 a7 a8 a9 a10 a11 a12 a13 a14 a15 a16 a17 a18 a19 a20 a21 : Nat → Int32} {x : Int32} (H : post (-1)) : wpX_hops post (c, 0, w, r, a1, a2, a3, a4, a5, a6, a7, a8, a9, a10, a11, a12, a13, a14, a15, a16, a17, a18, a19, a20, a21) x := by
  unfold wpX_hops
  exact cn_isBF (br_t rfl H)
theorem cn_hopZ {post : Int32 → Prop} {c w r : Int32} {a1 a2 a3 a4 a5 a6 a7 a8 a9 a10 a11 a12 a13 a14 a15 a16 a17 a18 a19 a20 a21 : Nat → Int32} {x y : Int32} (H : post (-1)) : wpX_hop post (c, 0, w, r, a1, a2, a3, a4, a5, a6, a7, a8, a9, a10, a11, a12, a13, a14, a15, a16, a17, a18, a19, a20, a21) x y := by
  unfold wpX_hop
  exact cn_isBF (br_t rfl H)
theorem cn_placeZ {post : Int32 → Prop} {c w r : Int32} {a1 a2 a3 a4 a5 a6 a7 a8 a9 a10 a11 a12 a13 a14 a15 a16 a17 a18 a19 a20 a21 : Nat → Int32} {x : Int32} (H : post (-1)) : wpX_place post (c, 0, w, r, a1, a2, a3, a4, a5, a6, a7, a8, a9, a10, a11, a12, a13, a14, a15, a16, a17, a18, a19, a20, a21) x := by
  unfold wpX_place
  exact cn_isBF (br_t rfl H)
/-! a bundle without a way -/
theorem cn_stateU {post : Int32 → Prop} {c w r : Int32} {a1 a2 a3 a4 a5 a6 a7 a8 a9 a10 a11 a12 a13 a14 a15 a16 a17 a18 a19 a20 a21 : Nat → Int32} (h13 : a13 0 = 0) (H : post 0) : wpX_state post (c, 1, w, r, a1, a2, a3, a4, a5, a6, a7, a8, a9, a10, a11, a12, a13, a14, a15, a16, a17, a18, a19, a20, a21) 0 := by
  unfold wpX_state
  exact cn_isB1 (br_f (by decide) (And.intro cn_i10 (br_t h13 H)))
theorem cn_arrivalU {post : Int32 → Prop} {c w r : Int32} {a1 a2 a3 a4 a5 a6 a7 a8 a9 a10 a11 a12 a13 a14 a15 a16 a17 a18 a19 a20 a21 : Nat → Int32} (h13 : a13 0 = 0) (H : post (-2)) : wpX_arrival post (c, 1, w, r, a1, a2, a3, a4, a5, a6, a7, a8, a9, a10, a11, a12, a13, a14, a15, a16, a17, a18, a19, a20, a21) 0 := by
  unfold wpX_arrival
  exact cn_isB1 (br_f (by decide) (And.intro cn_i10 (br_t h13 H)))
theorem cn_hops1 {post : Int32 → Prop} {c w r : Int32} {a1 a2 a3 a4 a5 a6 a7 a8 a9 a10 a11 a12 a13 a14 a15 a16 a17 a18 a19 a20 a21 : Nat → Int32} {v : Int32} (h15 : a15 0 = v) (H : post v) : wpX_hops post (c, 1, w, r, a1, a2, a3, a4, a5, a6, a7, a8, a9, a10, a11, a12, a13, a14, a15, a16, a17, a18, a19, a20, a21) 0 := by
  subst h15
  unfold wpX_hops
  exact cn_isB1 (br_f (by decide) (And.intro cn_i10 H))
theorem cn_hopM {post : Int32 → Prop} {c w r : Int32} {a1 a2 a3 a4 a5 a6 a7 a8 a9 a10 a11 a12 a13 a14 a15 a16 a17 a18 a19 a20 a21 : Nat → Int32} {y : Int32} (hy : y < 0) (H : post (-2)) : wpX_hop post (c, 1, w, r, a1, a2, a3, a4, a5, a6, a7, a8, a9, a10, a11, a12, a13, a14, a15, a16, a17, a18, a19, a20, a21) 0 y := by
  unfold wpX_hop
  exact cn_isB1 (br_f (by decide) (br_t hy H))
theorem cn_hopX {post : Int32 → Prop} {c w r : Int32} {a1 a2 a3 a4 a5 a6 a7 a8 a9 a10 a11 a12 a13 a14 a15 a16 a17 a18 a19 a20 a21 : Nat → Int32} {y v : Int32} (h15 : a15 0 = v) (hy : ¬ y < 0) (hv : ¬ y < v) (H : post (-2)) : wpX_hop post (c, 1, w, r, a1, a2, a3, a4, a5, a6, a7, a8, a9, a10, a11, a12, a13, a14, a15, a16, a17, a18, a19, a20, a21) 0 y := by
  subst h15
  unfold wpX_hop
  exact cn_isB1 (br_f (by decide) (br_f hy (And.intro cn_i10 (br_f hv H))))
theorem cn_placeU {post : Int32 → Prop} {c w r : Int32} {a1 a2 a3 a4 a5 a6 a7 a8 a9 a10 a11 a12 a13 a14 a15 a16 a17 a18 a19 a20 a21 : Nat → Int32} {fr : Nat} (h15 : a15 0 = 0) (h9 : a9 0 = nI fr) (H : post (nI fr)) : wpX_place post (c, 1, w, r, a1, a2, a3, a4, a5, a6, a7, a8, a9, a10, a11, a12, a13, a14, a15, a16, a17, a18, a19, a20, a21) 0 := by
  unfold wpX_place
  exact cn_isB1 (br_f (by decide) (Exists.intro (0 + 1) (And.intro cn_i10 (br_t (cn_le0 h15) (cn_last0 h15 (by rw [h9]; exact H))))))
/-! a bundle with one hop -/
/-- the one hop of bundle 0: over contact 0, from s on -/
def cn_H (sz ra de s : Nat) (a6 a7 a11 a15 a16 a17 : Nat → Int32) : Prop := (1 ≤ ra ∧ ra ≤ 9 ∧ 1 ≤ sz ∧ sz ≤ 30 ∧ de ≤ 9 ∧ s ≤ 100) ∧ a6 0 = nI ra ∧ a7 0 = nI de ∧ a11 0 = nI sz ∧ a15 0 = 1 ∧ a16 0 = 0 ∧ a17 0 = nI s
theorem cn_hop0 {post : Int32 → Prop} {c w r : Int32} {a1 a2 a3 a4 a5 a6 a7 a8 a9 a10 a11 a12 a13 a14 a15 a16 a17 a18 a19 a20 a21 : Nat → Int32} {sz ra de s : Nat} (h : cn_H sz ra de s a6 a7 a11 a15 a16 a17) (H : post (nI s)) : wpX_hop post (c, 1, w, r, a1, a2, a3, a4, a5, a6, a7, a8, a9, a10, a11, a12, a13, a14, a15, a16, a17, a18, a19, a20, a21) 0 0 := by
  obtain ⟨⟨c1, c2, c3, c4, c5, c6⟩, k6, k7, k11, k15, k16, k17⟩ := h
  have e : 100 * (0 : Int32) + 0 = 0 := by decide
  unfold wpX_hop
  refine cn_isB1 (br_f (by decide) (br_f (by decide) (And.intro cn_i10 (br_t (by rw [show a15 (Int32.toNatClampNeg 0) = 1 from k15]; decide) (And.intro (pk_in 0 1000 (by omega) e) (And.intro (pk_in 0 1000 (by omega) e) ?_))))))
  rw [e, show a16 (Int32.toNatClampNeg 0) = 0 from k16, show a17 (Int32.toNatClampNeg 0) = nI s from k17, show (1000 * (0 : Int32)) = 0 by decide, Int32.zero_add]
  exact H
theorem cn_byH {post : Int32 → Prop} {c b w r : Int32} {a1 a2 a3 a4 a5 a6 a7 a8 a9 a10 a11 a12 a13 a14 a15 a16 a17 a18 a19 a20 a21 : Nat → Int32} {sz ra de s : Nat} {x : Int32} (hx : x = 0) (h : cn_H sz ra de s a6 a7 a11 a15 a16 a17) (H : post (nI (s + cn_k sz ra + de))) : wpX_comesInBy post (c, b, w, r, a1, a2, a3, a4, a5, a6, a7, a8, a9, a10, a11, a12, a13, a14, a15, a16, a17, a18, a19, a20, a21) 0 x := by
  obtain ⟨⟨c1, c2, c3, c4, c5, c6⟩, k6, k7, k11, k15, k16, k17⟩ := h
  exact cn_by hx k16 k17 k11 k6 k7 c1 c2 c4 H
theorem cn_15 {f : Nat → Int32} (h : f 0 = 1) : f (Int32.toNatClampNeg 0) - 1 = 0 := by
  rw [show f (Int32.toNatClampNeg 0) = 1 from h]
  decide
theorem cn_stateR {post : Int32 → Prop} {c w r : Int32} {a1 a2 a3 a4 a5 a6 a7 a8 a9 a10 a11 a12 a13 a14 a15 a16 a17 a18 a19 a20 a21 : Nat → Int32} {sz ra de s j : Nat} (h13 : a13 0 = 1) (h : cn_H sz ra de s a6 a7 a11 a15 a16 a17) (hw : w = nI j) (hj : j ≤ 300) (H1 : j < s + cn_k sz ra + de → post 1) (H2 : s + cn_k sz ra + de ≤ j → post 2) : wpX_state post (c, 1, w, r, a1, a2, a3, a4, a5, a6, a7, a8, a9, a10, a11, a12, a13, a14, a15, a16, a17, a18, a19, a20, a21) 0 := by
  have h' := h
  obtain ⟨⟨c1, c2, c3, c4, c5, c6⟩, k6, k7, k11, k15, k16, k17⟩ := h'
  have k30 := cn_k30 c4 c1
  unfold wpX_state
  exact cn_isB1 (br_f (by decide) (And.intro cn_i10 (br_f (fun z => absurd (h13.symm.trans z) (by decide)) (And.intro cn_i10 (cn_byH (cn_15 k15) h (pk_lt j (s + cn_k sz ra + de) H1 H2 hw))))))
theorem cn_arrivalR {post : Int32 → Prop} {c w r : Int32} {a1 a2 a3 a4 a5 a6 a7 a8 a9 a10 a11 a12 a13 a14 a15 a16 a17 a18 a19 a20 a21 : Nat → Int32} {sz ra de s : Nat} (h13 : a13 0 = 1) (h : cn_H sz ra de s a6 a7 a11 a15 a16 a17) (H : post (nI (s + cn_k sz ra + de))) : wpX_arrival post (c, 1, w, r, a1, a2, a3, a4, a5, a6, a7, a8, a9, a10, a11, a12, a13, a14, a15, a16, a17, a18, a19, a20, a21) 0 := by
  have h' := h
  obtain ⟨⟨c1, c2, c3, c4, c5, c6⟩, k6, k7, k11, k15, k16, k17⟩ := h'
  unfold wpX_arrival
  exact cn_isB1 (br_f (by decide) (And.intro cn_i10 (br_f (fun z => absurd (h13.symm.trans z) (by decide)) (And.intro cn_i10 (cn_byH (cn_15 k15) h H)))))
theorem cn_placeR {post : Int32 → Prop} {c w r : Int32} {a1 a2 a3 a4 a5 a6 a7 a8 a9 a10 a11 a12 a13 a14 a15 a16 a17 a18 a19 a20 a21 : Nat → Int32} {sz ra de s j fr to : Nat} (h : cn_H sz ra de s a6 a7 a11 a15 a16 a17) (h2 : a2 0 = nI fr) (h3 : a3 0 = nI to) (hw : w = nI j) (hj : j ≤ 300)
    (Ha : j < s + cn_k sz ra + de → j ≤ s → post (nI fr)) (Hb : j < s + cn_k sz ra + de → s < j → post 10) (Hc : s + cn_k sz ra + de ≤ j → post (nI to)) : wpX_place post (c, 1, w, r, a1, a2, a3, a4, a5, a6, a7, a8, a9, a10, a11, a12, a13, a14, a15, a16, a17, a18, a19, a20, a21) 0 := by
  have h' := h
  obtain ⟨⟨c1, c2, c3, c4, c5, c6⟩, k6, k7, k11, k15, k16, k17⟩ := h'
  have k30 := cn_k30 c4 c1
  have e : 100 * (0 : Int32) + 0 = 0 := by decide
  have e15 : a15 (Int32.toNatClampNeg 0) = 1 := k15
  have e16 : a16 (100 * (0 : Int32) + 0).toNatClampNeg = 0 := by
    rw [e]
    exact k16
  have e17 : a17 (100 * (0 : Int32) + 0).toNatClampNeg = nI s := by
    rw [e]
    exact k17
  unfold wpX_place
  refine cn_isB1 (br_f (by decide) (Exists.intro (0 + 1 + 1) (And.intro cn_i10 (br_f (by rw [e15]; decide) (cn_byH rfl h (pk_le (s + cn_k sz ra + de) j (fun z => nm_r cn_01 (And.intro cn_i10 (br_t (by rw [e15]; decide) (cn_last1 k15 k16 h3 (Hc z))))) (fun z => And.intro (pk_in 0 1000 (by omega) e) (nm_r e16 (And.intro (pk_in 0 1000 (by omega) e) (pk_le j s (fun g => And.intro cn_i10 ?_) (fun g => ?_) hw e17)))) rfl hw))))))
  · rw [show a2 (Int32.toNatClampNeg 0) = nI fr from h2]
    exact Ha z g
  · exact Hb z g
/-! booked -/
theorem cn_bookedF {post : Int32 → Prop} {c b w r : Int32} {a1 a2 a3 a4 a5 a6 a7 a8 a9 a10 a11 a12 a13 a14 a15 a16 a17 a18 a19 a20 a21 : Nat → Int32} {x : Int32} (h : ¬ x < 0 → c ≤ x) (H : post (-1)) : wpX_booked post (c, b, w, r, a1, a2, a3, a4, a5, a6, a7, a8, a9, a10, a11, a12, a13, a14, a15, a16, a17, a18, a19, a20, a21) x := by
  unfold wpX_booked
  exact cn_isCF h (br_t rfl H)
theorem cn_bookedC {post : Int32 → Prop} {b w r : Int32} {a1 a2 a3 a4 a5 a6 a7 a8 a9 a10 a11 a12 a13 a14 a15 a16 a17 a18 a19 a20 a21 : Nat → Int32} (h1 : a1 0 = 1) (H : post (-2)) : wpX_booked post (1, b, w, r, a1, a2, a3, a4, a5, a6, a7, a8, a9, a10, a11, a12, a13, a14, a15, a16, a17, a18, a19, a20, a21) 0 := by
  unfold wpX_booked
  exact cn_isC1 (br_f (by decide) (And.intro cn_i10 (br_f (fun z => absurd (h1.symm.trans z) (by decide)) H)))
theorem cn_bookedL {post : Int32 → Prop} {b w r : Int32} {a1 a2 a3 a4 a5 a6 a7 a8 a9 a10 a11 a12 a13 a14 a15 a16 a17 a18 a19 a20 a21 : Nat → Int32} {p q : Nat} (h1 : a1 0 = 0) (hY : cn_Y p q a8) (hpq : p ≤ q) (hq : q ≤ 101) (H : post (nI (q - p))) : wpX_booked post (1, b, w, r, a1, a2, a3, a4, a5, a6, a7, a8, a9, a10, a11, a12, a13, a14, a15, a16, a17, a18, a19, a20, a21) 0 := by
  unfold wpX_booked
  refine cn_isC1 (br_f (by decide) (And.intro cn_i10 (br_t h1 ?_)))
  refine pk_loop (fun n i s => wX_booked_26 post 0 1 b w r a1 a2 a3 a4 a5 a6 a7 a8 a9 a10 a11 a12 a13 a14 a15 a16 a17 a18 a19 a20 a21 n s (nI i)) (fun i s => s = nI (min i q - min i p)) 101 0 0 (by omega) ?_ ?_ ?_
  · show (0 : Int32) = nI (min 0 q - min 0 p)
    rw [show min 0 q - min 0 p = 0 by omega]
    rfl
  · intro n s h
    refine pk_le 101 101 (fun _ => ?_) (fun z => absurd z (by omega))
    rw [h, show min 101 q - min 101 p = q - p by omega]
    exact H
  · intro n i s hi h hw
    have e8 : a8 (101 * (0 : Int32) + nI i).toNatClampNeg = if p ≤ i ∧ i < q then 1 else 0 := by
      rw [cn_z101, nI_clamp (by omega)]
      exact hY i hi
    refine pk_le 101 i (fun z => absurd z (by omega)) (fun _ => And.intro (pk_in i 1010 (by omega) (cn_z101 _)) ?_)
    by_cases z : p ≤ i ∧ i < q
    · rw [if_pos z] at e8
      refine br_f (by rw [e8]; decide) (nm_e (nm_r (nI_1 i) (hw _ ?_)))
      rw [h, nI_1, show min (i + 1) q - min (i + 1) p = min i q - min i p + 1 by omega]
    · rw [if_neg z] at e8
      refine br_t e8 (nm_e (nm_r (nI_1 i) (hw _ ?_)))
      rw [h, Int32.add_zero, show min (i + 1) q - min (i + 1) p = min i q - min i p by omega]
/-! pass -/
theorem cn_pass {post : Int32 → St2 → Prop} {c b w r : Int32} {a1 a2 a3 a4 a5 a6 a7 a8 a9 a10 a11 a12 a13 a14 a15 a16 a17 a18 a19 a20 a21 : Nat → Int32} {j d : Nat} {x : Int32} (hw : w = nI j) (hx : x = nI d) (hd : d ≤ 200) (H : post (nI (j + d)) (c, b, nI (j + d), r, a1, a2, a3, a4, a5, a6, a7, a8, a9, a10, a11, a12, a13, a14, a15, a16, a17, a18, a19, a20, a21)) : wpX_pass post (c, b, w, r, a1, a2, a3, a4, a5, a6, a7, a8, a9, a10, a11, a12, a13, a14, a15, a16, a17, a18, a19, a20, a21) x := by
  subst hw hx
  exact br_f (nI_pos (by omega)) (br_t (nI_le (b := 200) hd (by omega)) (nm_r (nI_add j d) H))
theorem cn_passF {post : Int32 → St2 → Prop} {c b w r : Int32} {a1 a2 a3 a4 a5 a6 a7 a8 a9 a10 a11 a12 a13 a14 a15 a16 a17 a18 a19 a20 a21 : Nat → Int32} {x : Int32} (h : x < 0 ∨ 200 < x) (H : post (-1) (c, b, w, r, a1, a2, a3, a4, a5, a6, a7, a8, a9, a10, a11, a12, a13, a14, a15, a16, a17, a18, a19, a20, a21)) : wpX_pass post (c, b, w, r, a1, a2, a3, a4, a5, a6, a7, a8, a9, a10, a11, a12, a13, a14, a15, a16, a17, a18, a19, a20, a21) x :=
  br_c (fun _ => H) (fun g => br_f (fun z => h.elim g (fun q => absurd z (Int32.not_le.mpr q))) H)
/-! send -/
theorem cn_sendN {post : Int32 → St2 → Prop} {c b w r : Int32} {a1 a2 a3 a4 a5 a6 a7 a8 a9 a10 a11 a12 a13 a14 a15 a16 a17 a18 a19 a20 a21 : Nat → Int32} {x s t : Int32} (h : ¬ (cn_two x ∧ cn_some s)) (H : post (-1) (c, b, w, r, a1, a2, a3, a4, a5, a6, a7, a8, a9, a10, a11, a12, a13, a14, a15, a16, a17, a18, a19, a20, a21)) : wpX_send post (c, b, w, r, a1, a2, a3, a4, a5, a6, a7, a8, a9, a10, a11, a12, a13, a14, a15, a16, a17, a18, a19, a20, a21) x s t := by
  unfold wpX_send
  by_cases h1 : cn_two x
  · exact cn_endsT h1 (br_f (by decide) (cn_sizeF (fun z => h ⟨h1, z⟩) (br_t rfl H)))
  · exact cn_endsF h1 (br_t rfl H)
theorem cn_send {post : Int32 → St2 → Prop} {w r : Int32} {a1 a2 a3 a4 a5 a6 a7 a8 a9 a10 a11 a12 a13 a14 a15 a16 a17 a18 a19 a20 a21 : Nat → Int32} {e sz j : Nat} {x s t : Int32} (he : e < 36) (hne : e / 6 ≠ e % 6) (hx : x = nI e) (hs : s = nI sz) (hs1 : 1 ≤ sz) (hs30 : sz ≤ 30) (hw : w = nI j) (hj : j ≤ 300)
    (H : ∀ d9 d10 d11 d12 d13 d15 d20 d21 : Nat → Int32, d9 0 = nI (e / 6) → d10 0 = nI (e % 6) → d11 0 = nI sz → d12 0 = t → d13 0 = 0 → d15 0 = 0 → post 0 (0, 1, w, r, a1, a2, a3, a4, a5, a6, a7, a8, d9, d10, d11, d12, d13, a14, d15, a16, a17, a18, a19, d20, d21)) : wpX_send post (0, 0, w, r, a1, a2, a3, a4, a5, a6, a7, a8, a9, a10, a11, a12, a13, a14, a15, a16, a17, a18, a19, a20, a21) x s t := by
  subst hx hs
  have q9 : ∀ f : Nat → Int32, upd f (Int32.toNatClampNeg 0) (nI e / 6) 0 = nI (e / 6) := fun f => cn_u0 sb_cl0 (cn_d6 (by omega))
  have q10 : ∀ f : Nat → Int32, upd f (Int32.toNatClampNeg 0) (nI e - nI e / 6 * 6) 0 = nI (e % 6) := fun f => cn_u0 sb_cl0 (cn_r6 (by omega))
  have q11 : ∀ (f : Nat → Int32) (v : Int32), upd f (Int32.toNatClampNeg 0) v 0 = v := fun f v => cn_u0 sb_cl0 rfl
  unfold wpX_send
  exact cn_endsT (cn_twoI he hne) (br_f (by decide) (cn_sizeT (cn_someI hs1 hs30) (br_f (by decide) (br_t (by decide) (nm_r cn_01 (And.intro cn_n6 (And.intro cn_i10 (nm_e (And.intro cn_n6 (And.intro cn_i10 (nm_e (And.intro cn_i10 (nm_e (And.intro cn_i10 (nm_e (And.intro cn_i10 (nm_e
    (cn_planN (lo := 0) (cn_SP0 (sz := sz)) (by omega) (by omega) hne (q9 a9) (q10 a10) (q11 a11 _) (q11 a15 _) hw (Nat.zero_le _) hj rfl (fun d13 d20 d21 h13 => H _ _ _ _ d13 _ d20 d21 (q9 a9) (q10 a10) (q11 a11 _) (q11 a12 _) h13 (q11 a15 _))))))))))))))))))))
/-! contact -/
theorem cn_contactF {post : Int32 → St2 → Prop} {c b w r : Int32} {a1 a2 a3 a4 a5 a6 a7 a8 a9 a10 a11 a12 a13 a14 a15 a16 a17 a18 a19 a20 a21 : Nat → Int32} {x y z : Int32} (h : ¬ (cn_two x ∧ cn_span y ∧ cn_term z)) (H : post (-1) (c, b, w, r, a1, a2, a3, a4, a5, a6, a7, a8, a9, a10, a11, a12, a13, a14, a15, a16, a17, a18, a19, a20, a21)) : wpX_contact post (c, b, w, r, a1, a2, a3, a4, a5, a6, a7, a8, a9, a10, a11, a12, a13, a14, a15, a16, a17, a18, a19, a20, a21) x y z := by
  unfold wpX_contact
  by_cases h1 : cn_two x
  · by_cases h2 : cn_span y
    · exact cn_endsT h1 (br_f (by decide) (cn_spanT h2 (br_f (by decide) (cn_termF (fun q => h ⟨h1, h2, q⟩) (br_t rfl H)))))
    · exact cn_endsT h1 (br_f (by decide) (cn_spanF h2 (br_t rfl H)))
  · exact cn_endsF h1 (br_t rfl H)
theorem cn_contact {post : Int32 → St2 → Prop} {b w r : Int32} {a1 a2 a3 a4 a5 a6 a7 a8 a9 a10 a11 a12 a13 a14 a15 a16 a17 a18 a19 a20 a21 : Nat → Int32} {e sp te : Nat} {x y z : Int32} (hx : x = nI e) (hy : y = nI sp) (hz : z = nI te) (he : e < 36) (hne : e / 6 ≠ e % 6) (hsp : sp < 10201) (hss : sp / 101 < sp % 101) (ht1 : 10 ≤ te) (ht2 : te < 100) (h1 : cn_two x) (h2 : cn_span y) (h3 : cn_term z)
    (H : ∀ (P : St2 → Prop) (d2 d3 d4 d5 d6 d7 : Nat → Int32), cn_C (e / 6) (e % 6) (sp / 101) (sp % 101) (te / 10) (te % 10) d2 d3 d4 d5 d6 d7 → (∀ (c' b' w' r' : Int32) (e1 e2 e3 e4 e5 e6 e7 e8 e9 e10 e11 e12 e13 e14 e15 e16 e17 e18 e19 e20 e21 : Nat → Int32), post 0 (c', b', w', r', e1, e2, e3, e4, e5, e6, e7, e8, e9, e10, e11, e12, e13, e14, e15, e16, e17, e18, e19, e20, e21) → P (c', b', w', r', e1, e2, e3, e4, e5, e6, e7, e8, e9, e10, e11, e12, e13, e14, e15, e16, e17, e18, e19, e20, e21)) → wpX_retry P (1, b, w, r, a1, d2, d3, d4, d5, d6, d7, a8, a9, a10, a11, a12, a13, a14, a15, a16, a17, a18, a19, a20, a21)) : wpX_contact post (0, b, w, r, a1, a2, a3, a4, a5, a6, a7, a8, a9, a10, a11, a12, a13, a14, a15, a16, a17, a18, a19, a20, a21) x y z := by
  subst hx hy hz
  unfold wpX_contact
  refine cn_endsT h1 (br_f (by decide) (cn_spanT h2 (br_f (by decide) (cn_termT h3 (br_f (by decide) (br_t (by decide) (nm_r cn_01 (And.intro cn_n6 (And.intro cn_i10 (nm_e (And.intro cn_n6 (And.intro cn_i10 (nm_e (And.intro cn_n101 (And.intro cn_i10 (nm_e (And.intro cn_n101 (And.intro cn_i10 (nm_e (And.intro cn_n10 (And.intro cn_i10 (nm_e (And.intro cn_n10 (And.intro cn_i10 (nm_e
    (H _ _ _ _ _ _ _ ?_ (fun c' b' w' r' e1 e2 e3 e4 e5 e6 e7 e8 e9 e10 e11 e12 e13 e14 e15 e16 e17 e18 e19 e20 e21 h => h)))))))))))))))))))))))))))
  exact ⟨⟨by omega, by omega, hne, by omega, by omega, by omega, by omega, by omega⟩, cn_u0 sb_cl0 (cn_d6 (by omega)), cn_u0 sb_cl0 (cn_r6 (by omega)), cn_u0 sb_cl0 (cn_d101 (by omega)), cn_u0 sb_cl0 (cn_r101 (by omega)), cn_u0 sb_cl0 (cn_d10 (by omega)), cn_u0 sb_cl0 (cn_r10 (by omega))⟩
/-! cancel -/
theorem cn_cancelF {post : Int32 → St2 → Prop} {c b w r : Int32} {a1 a2 a3 a4 a5 a6 a7 a8 a9 a10 a11 a12 a13 a14 a15 a16 a17 a18 a19 a20 a21 : Nat → Int32} {x : Int32} (h : ¬ x < 0 → c ≤ x) (H : post (-1) (c, b, w, r, a1, a2, a3, a4, a5, a6, a7, a8, a9, a10, a11, a12, a13, a14, a15, a16, a17, a18, a19, a20, a21)) : wpX_cancel post (c, b, w, r, a1, a2, a3, a4, a5, a6, a7, a8, a9, a10, a11, a12, a13, a14, a15, a16, a17, a18, a19, a20, a21) x := by
  unfold wpX_cancel
  exact cn_isCF h (br_t rfl H)
theorem cn_cancelC {post : Int32 → St2 → Prop} {b w r : Int32} {a1 a2 a3 a4 a5 a6 a7 a8 a9 a10 a11 a12 a13 a14 a15 a16 a17 a18 a19 a20 a21 : Nat → Int32} (h1 : a1 0 = 1) (H : post (-1) (1, b, w, r, a1, a2, a3, a4, a5, a6, a7, a8, a9, a10, a11, a12, a13, a14, a15, a16, a17, a18, a19, a20, a21)) : wpX_cancel post (1, b, w, r, a1, a2, a3, a4, a5, a6, a7, a8, a9, a10, a11, a12, a13, a14, a15, a16, a17, a18, a19, a20, a21) 0 := by
  unfold wpX_cancel
  exact cn_isC1 (br_f (by decide) (And.intro cn_i10 (br_f (fun z => absurd (h1.symm.trans z) (by decide)) H)))
theorem cn_opB {post : Int32 → Prop} {c b w r : Int32} {a1 a2 a3 a4 a5 a6 a7 a8 a9 a10 a11 a12 a13 a14 a15 a16 a17 a18 a19 a20 a21 : Nat → Int32} {sz ra de s j : Nat} (h : cn_H sz ra de s a6 a7 a11 a15 a16 a17) (hw : w = nI j) (hj : j ≤ 300) (H0 : s + cn_k sz ra ≤ j → post (-1)) (H1 : j < s + cn_k sz ra → post 0) : wpX_openBooking post (c, b, w, r, a1, a2, a3, a4, a5, a6, a7, a8, a9, a10, a11, a12, a13, a14, a15, a16, a17, a18, a19, a20, a21) 0 0 := by
  obtain ⟨⟨c1, c2, c3, c4, c5, c6⟩, k6, k7, k11, k15, k16, k17⟩ := h
  have k30 := cn_k30 c4 c1
  have e : 100 * (0 : Int32) + 0 = 0 := by decide
  have e15 : a15 (Int32.toNatClampNeg 0) = 1 := k15
  have e16 : a16 (100 * (0 : Int32) + 0).toNatClampNeg = 0 := by
    rw [e]
    exact k16
  have e17 : a17 (100 * (0 : Int32) + 0).toNatClampNeg + nI (cn_k sz ra) = nI (s + cn_k sz ra) := by
    rw [e, show a17 (Int32.toNatClampNeg 0) = nI s from k17, nI_add]
  exact Exists.intro (0 + 1 + 1) (And.intro cn_i10 (br_f (by rw [e15]; decide) (And.intro (pk_in 0 1000 (by omega) e) (And.intro cn_i10 (cn_ticks k6 c1 c2 c4 k11 (pk_le (s + cn_k sz ra) j
    (fun z => And.intro (pk_in 0 1000 (by omega) e) (br_t e16 (br_t rfl (nm_r cn_01 (And.intro cn_i10 (br_t (by rw [e15]; decide) (H0 z)))))))
    (fun z => And.intro (pk_in 0 1000 (by omega) e) (br_t e16 (br_f (by decide) (H1 z)))) e17 hw))))))
theorem cn_lose {post : St2 → Prop} {c b w r : Int32} {a1 a2 a3 a4 a5 a6 a7 a8 a9 a10 a11 a12 a13 a14 a15 a16 a17 a18 a19 a20 a21 : Nat → Int32} {sz ra de s : Nat} (h : cn_H sz ra de s a6 a7 a11 a15 a16 a17) (H : ∀ d8 d15 : Nat → Int32, d15 0 = 0 → post (c, b, w, r, a1, a2, a3, a4, a5, a6, a7, d8, a9, a10, a11, a12, a13, a14, d15, a16, a17, a18, a19, a20, a21)) : wpX_loseFrom post (c, b, w, r, a1, a2, a3, a4, a5, a6, a7, a8, a9, a10, a11, a12, a13, a14, a15, a16, a17, a18, a19, a20, a21) 0 0 := by
  obtain ⟨⟨c1, c2, c3, c4, c5, c6⟩, k6, k7, k11, k15, k16, k17⟩ := h
  have k30 := cn_k30 c4 c1
  have e : 100 * (0 : Int32) + 0 = 0 := by decide
  have e15 : a15 (Int32.toNatClampNeg 0) = 1 := k15
  have e16 : a16 (100 * (0 : Int32) + 0).toNatClampNeg = 0 := by
    rw [e]
    exact k16
  have e17 : a17 (100 * (0 : Int32) + 0).toNatClampNeg = nI s := by
    rw [e]
    exact k17
  exact Exists.intro (0 + 1 + 1) (And.intro cn_i10 (br_f (by rw [e15]; decide) (And.intro (pk_in 0 1000 (by omega) e) (nm_r e16 (And.intro cn_i10 (cn_ticks k6 c1 c2 c4 k11 (And.intro (pk_in 0 1000 (by omega) e)
    (cn_setBusy (v := 0) e17 rfl (by decide) (by omega) (fun d8 h8 => nm_r cn_01 (And.intro cn_i10 (br_t (by rw [e15]; decide) (And.intro cn_i10 (nm_e (H d8 _ (cn_u0 sb_cl0 rfl)))))))))))))))
/-- cancel when the one hop has gone out wholly -/
theorem cn_cancel1 {post : Int32 → St2 → Prop} {w r : Int32} {a1 a2 a3 a4 a5 a6 a7 a8 a9 a10 a11 a12 a13 a14 a15 a16 a17 a18 a19 a20 a21 : Nat → Int32} {sz ra de s j : Nat} (h1 : a1 0 = 0) (h13 : a13 0 = 1) (h : cn_H sz ra de s a6 a7 a11 a15 a16 a17) (hw : w = nI j) (hj : j ≤ 300) (hg : s + cn_k sz ra ≤ j)
    (H : ∀ d1 d14 : Nat → Int32, d1 0 = 1 → post 0 (1, 1, w, r, d1, a2, a3, a4, a5, a6, a7, a8, a9, a10, a11, a12, a13, d14, a15, a16, a17, a18, a19, a20, a21)) : wpX_cancel post (1, 1, w, r, a1, a2, a3, a4, a5, a6, a7, a8, a9, a10, a11, a12, a13, a14, a15, a16, a17, a18, a19, a20, a21) 0 := by
  unfold wpX_cancel
  refine cn_isC1 (br_f (by decide) (And.intro cn_i10 (br_t h1 (And.intro cn_i10 (nm_e (Exists.intro (0 + 1 + 1) (pk_le 1 0 (fun z => absurd z (by omega)) (fun _ => cn_opB h hw hj (fun _ => ?_) (fun z => absurd z (by omega))))))))))
  refine br_t (by decide) (And.intro cn_i10 (nm_e (br_t (by decide) (nm_r cn_01 (pk_le 1 1 (fun _ => ?_) (fun z => absurd z (by omega)))))))
  exact Exists.intro (0 + 1 + 1) (pk_le 1 0 (fun z => absurd z (by omega)) (fun _ => And.intro cn_i10 (br_t (cn_u0 sb_cl0 (by decide)) (nm_r cn_01 (pk_le 1 1 (fun _ => cn_retryR h13 (H _ _ (cn_u0 sb_cl0 rfl))) (fun z => absurd z (by omega)))))))
/-- cancel when it has not -/
theorem cn_cancel2 {post : Int32 → St2 → Prop} {w r : Int32} {a1 a2 a3 a4 a5 a6 a7 a8 a9 a10 a11 a12 a13 a14 a15 a16 a17 a18 a19 a20 a21 : Nat → Int32} {sz ra de s j fr to : Nat} (h1 : a1 0 = 0) (h : cn_H sz ra de s a6 a7 a11 a15 a16 a17) (h2 : a2 0 = nI fr) (h3 : a3 0 = nI to) (hfr : fr < 6) (hto : to < 6) (hne : fr ≠ to) (h9 : a9 0 = nI fr) (h10 : a10 0 = nI to) (hw : w = nI j) (hj : j ≤ 300) (hg : j < s + cn_k sz ra)
    (H : ∀ d1 d8 d13 d14 d15 d20 d21 : Nat → Int32, d1 0 = 1 → d13 0 = 0 → d15 0 = 0 → post 1 (1, 1, w, r, d1, a2, a3, a4, a5, a6, a7, d8, a9, a10, a11, a12, d13, d14, d15, a16, a17, a18, a19, d20, d21)) : wpX_cancel post (1, 1, w, r, a1, a2, a3, a4, a5, a6, a7, a8, a9, a10, a11, a12, a13, a14, a15, a16, a17, a18, a19, a20, a21) 0 := by
  have h' := h
  obtain ⟨⟨c1, c2, c3, c4, c5, c6⟩, k6, k7, k11, k15, k16, k17⟩ := h'
  have q1 : upd a1 (Int32.toNatClampNeg 0) 1 0 = 1 := cn_u0 sb_cl0 rfl
  unfold wpX_cancel
  refine cn_isC1 (br_f (by decide) (And.intro cn_i10 (br_t h1 (And.intro cn_i10 (nm_e (Exists.intro (0 + 1 + 1) (pk_le 1 0 (fun z => absurd z (by omega)) (fun _ => cn_opB h hw hj (fun z => absurd z (by omega)) (fun _ => ?_)))))))))
  refine br_f (by decide) (And.intro cn_i10 (nm_e (br_f (by decide) (cn_lose h (fun d8 d15 q15 => nm_r cn_01 (nm_r cn_01 (pk_le 1 1 (fun _ => ?_) (fun z => absurd z (by omega)))))))))
  refine Exists.intro (0 + 1 + 1) (pk_le 1 0 (fun z => absurd z (by omega)) (fun _ => And.intro cn_i10 (br_f ?_ ?_)))
  · rw [show upd a14 (Int32.toNatClampNeg 0) (vp_nar .boolean 1) (Int32.toNatClampNeg 0) = 1 from cn_u0 sb_cl0 (by decide)]
    decide
  · exact cn_planN (lo := 0) (cn_SPC q1 h2 h3 hfr hto hne) hfr hto hne h9 h10 k11 q15 hw (Nat.zero_le _) hj rfl (fun d13 d20 d21 q13 => nm_r cn_01 (pk_le 1 1 (fun _ => cn_retryN (lo := 0) q13 (cn_SPC q1 h2 h3 hfr hto hne) hfr hto hne h9 h10 k11 q15 hw (Nat.zero_le _) hj rfl (fun d13' d20' d21' q13' => H _ _ _ _ _ _ _ q1 q13' q15)) (fun z => absurd z (by omega))))
end
section
section
variable {post : Int32 → St0 → Prop} {mc ms kc ks : Nat} {c b w r : Int32} {a1 a2 a3 a4 a5 a6 a7 a8 a9 a10 a11 a12 a13 a14 a15 a16 a17 a18 a19 a20 a21 : Nat → Int32} {x0 x1 x2 x3 x5 x6 x7 x8 x9 x10 x11 x12 x13 x14 x15 x16 x17 x18 x19 x20 x21 x22 z0 z1 z2 : Int32}
theorem cn_1278N (hp : post 1 ()) (h : ¬ (cn_two x5 ∧ cn_some x8)) (hx : x10 = 0 ∨ x11 = 0) : wL_lawOf_1278 post mc ms x5 x8 x10 x11 x13 kc ks c b w r a1 a2 a3 a4 a5 a6 a7 a8 a9 a10 a11 a12 a13 a14 a15 a16 a17 a18 a19 a20 a21 :=
  cn_latestN h (cn_andF hx (br_t rfl hp))
theorem cn_1278Y {sz lo e j0 n0 : Nat} {y : Nat → Nat} (hp : post 1 ()) (hSP : cn_SP sz (e / 6) (e % 6) lo y c a1 a2 a3 a4 a5 a6 a7 a8) (he : e < 36) (hne : e / 6 ≠ e % 6) (hx5 : x5 = nI e) (hx8 : x8 = nI sz) (hs1 : 1 ≤ sz) (hs30 : sz ≤ 30) (hx10 : x10 = 1) (hx11 : x11 = 1) (hx13 : x13 = nI n0) (hn : n0 ≤ j0) (hw : w = nI j0) (hl : lo ≤ j0) (hj : j0 ≤ 300) (hy : ∀ j, y j ≤ 1000000) : wL_lawOf_1278 post mc ms x5 x8 x10 x11 x13 kc ks c b w r a1 a2 a3 a4 a5 a6 a7 a8 a9 a10 a11 a12 a13 a14 a15 a16 a17 a18 a19 a20 a21 :=
  cn_latest hSP he hne hx5 hx8 hs1 hs30 hw hl hj hy (fun _ d20 d21 => cn_andT hx10 hx11 (br_t rfl hp))
    (fun l d20 d21 _ _ h1 h2 _ => cn_andT hx10 hx11 (br_c (fun _ => hp) (fun _ => br_f (by rw [hx13]; exact nI_nlt (by omega) (by omega)) hp)))
/-! the law's last questions, of the cancelled contact -/
theorem cn_1259 {sz e j n0 : Nat} (hp : post 1 ()) (he : e < 36) (hne : e / 6 ≠ e % 6) (hx5 : x5 = nI e) (hx8 : x8 = nI sz) (hs1 : 1 ≤ sz) (hs30 : sz ≤ 30) (hx10 : x10 = 1) (hx11 : x11 = 1) (hx13 : x13 = nI n0) (hn : n0 ≤ j) (hw : w = nI j) (hj : j ≤ 300) (h1 : a1 0 = 1) (h2 : a2 0 = nI (e / 6)) (h3 : a3 0 = nI (e % 6)) (hz : z1 = z0) : wL_lawOf_1259 post mc ms x5 x8 x10 x11 x13 z0 z1 kc ks 1 b w r a1 a2 a3 a4 a5 a6 a7 a8 a9 a10 a11 a12 a13 a14 a15 a16 a17 a18 a19 a20 a21 := by
  have hSP := cn_SPC (sz := sz) (lo := 0) (a4 := a4) (a5 := a5) (a6 := a6) (a7 := a7) (a8 := a8) h1 h2 h3 (by omega) (by omega) hne
  exact br_t hz (cn_quote hSP he hne hx5 hx8 hs1 hs30 hw (Nat.zero_le _) hj (Nat.le_refl _) (fun d20 d21 => br_t (if_neg (Nat.lt_irrefl _)) (cn_1278Y hp hSP he hne hx5 hx8 hs1 hs30 hx10 hx11 hx13 hn hw (Nat.zero_le _) hj (fun _ => Nat.le_refl _))))
/-- behind a cancel that hit nothing: one tick, and it has gone out -/
theorem cn_1141A {sz e ra de s n0 : Nat} (hp : post 1 ()) (he : e < 36) (hne : e / 6 ≠ e % 6) (hx5 : x5 = nI e) (hx8 : x8 = nI sz) (hs1 : 1 ≤ sz) (hs30 : sz ≤ 30) (hx10 : x10 = 1) (hx11 : x11 = 1) (hx13 : x13 = nI n0) (hn : n0 ≤ s) (hw : w = nI (s + 1)) (h1 : a1 0 = 1) (h2 : a2 0 = nI (e / 6)) (h3 : a3 0 = nI (e % 6)) (hz : z1 = z0)
    (h13 : a13 0 = 1) (hH : cn_H sz ra de s a6 a7 a11 a15 a16 a17) (hk : cn_k sz ra = 1) (hx17 : x17 = 1) (hx20 : x20 = nI (s + 1 + de)) (hx18 : x18 = nI s) : wL_lawOf_1141 post mc ms x5 x8 x10 x11 x13 x17 x18 x20 z0 z1 kc ks 1 1 w r a1 a2 a3 a4 a5 a6 a7 a8 a9 a10 a11 a12 a13 a14 a15 a16 a17 a18 a19 a20 a21 := by
  have hH' := hH
  obtain ⟨⟨c1, c2, c3, c4, c5, c6⟩, k6, k7, k11, k15, k16, k17⟩ := hH'
  have hx17' : x17 ≤ 1 := by
    rw [hx17]
    decide
  by_cases D : de = 0
  · have e20 : x20 = x18 + 1 := by rw [hx20, hx18, nI_1, D]
    exact br_t hz (cn_bookedC h1 (br_t rfl (cn_cancelC h1 (br_t rfl (cn_stateR h13 hH hw (by omega) (fun z => absurd z (by omega)) (fun _ => br_t hx17 (br_t e20
      (br_t rfl (cn_hops1 k15 (br_t hx17 (br_t rfl (cn_placeR hH h2 h3 hw (by omega) (fun z => absurd z (by omega)) (fun z => absurd z (by omega)) (fun _ => br_t hx17' (br_t e20 (And.intro cn_n6
        (cn_1259 hp he hne hx5 hx8 hs1 hs30 hx10 hx11 hx13 (by omega) hw (by omega) h1 h2 h3 (by rw [hx5, cn_r6 (by omega)])))))))))))))))))
  · have e20 : ¬ x20 = x18 + 1 := by
      rw [hx20, hx18, nI_1]
      exact fun z => D (by have := (nI_eq (by omega) (by omega)).mp z; omega)
    refine br_t hz (cn_bookedC h1 (br_t rfl (cn_cancelC h1 (br_t rfl (cn_stateR h13 hH hw (by omega) (fun _ => br_t hx17 (br_f e20 ?_)) (fun z => absurd z (by omega)))))))
    refine br_t rfl (cn_hops1 k15 (br_t hx17 (br_t rfl (cn_placeR hH h2 h3 hw (by omega) (fun _ z => absurd z (by omega)) (fun _ _ => br_t hx17' (br_f e20 ?_)) (fun z => absurd z (by omega))))))
    exact cn_1259 hp he hne hx5 hx8 hs1 hs30 hx10 hx11 hx13 (by omega) hw (by omega) h1 h2 h3 rfl
/-- behind a cancel that hit the bundle -/
theorem cn_1141B {sz e n0 j : Nat} (hp : post 1 ()) (he : e < 36) (hne : e / 6 ≠ e % 6) (hx5 : x5 = nI e) (hx8 : x8 = nI sz) (hs1 : 1 ≤ sz) (hs30 : sz ≤ 30) (hx10 : x10 = 1) (hx11 : x11 = 1) (hx13 : x13 = nI n0) (hn : n0 ≤ j) (hw : w = nI j) (hj : j ≤ 300) (h1 : a1 0 = 1) (h2 : a2 0 = nI (e / 6)) (h3 : a3 0 = nI (e % 6)) (hz : z1 = z0)
    (h13 : a13 0 = 0) (h15 : a15 0 = 0) (h9 : a9 0 = nI (e / 6)) (hx17 : ¬ x17 = 1) (hx17' : ¬ x17 ≤ 1) : wL_lawOf_1141 post mc ms x5 x8 x10 x11 x13 x17 x18 x20 z0 z1 kc ks 1 1 w r a1 a2 a3 a4 a5 a6 a7 a8 a9 a10 a11 a12 a13 a14 a15 a16 a17 a18 a19 a20 a21 :=
  br_t hz (cn_bookedC h1 (br_t rfl (cn_cancelC h1 (br_t rfl (cn_stateU h13 (br_f hx17 (br_t rfl (cn_hops1 h15 (br_f hx17 (br_t rfl (cn_placeU h15 h9 (br_f hx17' (And.intro cn_n6
    (cn_1259 hp he hne hx5 hx8 hs1 hs30 hx10 hx11 hx13 hn hw hj h1 h2 h3 (by rw [hx5, cn_d6 (by omega)])))))))))))))))
theorem cn_1121 {sz e ra de s n0 : Nat} (hp : post 1 ()) (he : e < 36) (hne : e / 6 ≠ e % 6) (hx5 : x5 = nI e) (hx8 : x8 = nI sz) (hs1 : 1 ≤ sz) (hs30 : sz ≤ 30) (hx10 : x10 = 1) (hx11 : x11 = 1) (hx13 : x13 = nI n0) (hn : n0 ≤ s) (hw : w = nI (s + 1)) (h1 : a1 0 = 0) (h2 : a2 0 = nI (e / 6)) (h3 : a3 0 = nI (e % 6)) (h9 : a9 0 = nI (e / 6)) (h10 : a10 0 = nI (e % 6)) (hz : z1 = z0)
    (h13 : a13 0 = 1) (hH : cn_H sz ra de s a6 a7 a11 a15 a16 a17) (hx17 : x17 = nI (cn_k sz ra)) (hx20 : x20 = nI (s + cn_k sz ra + de)) (hx18 : x18 = nI s) : wL_lawOf_1121 post mc ms x5 x8 x10 x11 x13 x17 x18 x20 z0 z1 kc ks 1 1 w r a1 a2 a3 a4 a5 a6 a7 a8 a9 a10 a11 a12 a13 a14 a15 a16 a17 a18 a19 a20 a21 := by
  have hH' := hH
  obtain ⟨⟨c1, c2, c3, c4, c5, c6⟩, k6, k7, k11, k15, k16, k17⟩ := hH'
  have k1 := cn_k1 hs1 c1
  have k30 := cn_k30 hs30 c1
  by_cases hk : cn_k sz ra = 1
  · rw [hk] at hx17 hx20
    exact br_t hz (cn_cancel1 h1 h13 hH hw (by omega) (by omega) (fun d1 d14 q1 => br_t hx17 (cn_1141A hp he hne hx5 hx8 hs1 hs30 hx10 hx11 hx13 hn hw q1 h2 h3 rfl h13 hH hk hx17 hx20 hx18)))
  · have g17 : ¬ x17 = 1 := by
      rw [hx17]
      exact fun z => hk ((nI_eq (b := 1) (by omega) (by omega)).mp z)
    have g17' : ¬ x17 ≤ 1 := by
      rw [hx17]
      exact nI_ge (a := 1) (by omega) (by omega)
    exact br_t hz (cn_cancel2 h1 hH h2 h3 (by omega) (by omega) hne h9 h10 hw (by omega) (by omega) (fun d1 d8 d13 d14 d15 d20 d21 q1 q13 q15 => br_f g17 (cn_1141B hp he hne hx5 hx8 hs1 hs30 hx10 hx11 hx13 (by omega) hw (by omega) q1 h2 h3 rfl q13 q15 h9 g17 g17')))
theorem cn_1035 {sz e ra de s n0 : Nat} (hp : post 1 ()) (he : e < 36) (hne : e / 6 ≠ e % 6) (hx5 : x5 = nI e) (hx8 : x8 = nI sz) (hs1 : 1 ≤ sz) (hs30 : sz ≤ 30) (hx10 : x10 = 1) (hx11 : x11 = 1) (hx13 : x13 = nI n0) (hn : n0 ≤ s) (hw : w = nI n0) (h1 : a1 0 = 0) (h2 : a2 0 = nI (e / 6)) (h3 : a3 0 = nI (e % 6)) (h9 : a9 0 = nI (e / 6)) (h10 : a10 0 = nI (e % 6))
    (h13 : a13 0 = 1) (hH : cn_H sz ra de s a6 a7 a11 a15 a16 a17) (hx17 : x17 = nI (cn_k sz ra)) (hx20 : x20 = nI (s + cn_k sz ra + de)) (hx18 : x18 = nI s) : wL_lawOf_1035 post mc ms x5 x8 x10 x11 x13 x17 x18 x20 kc ks 1 1 w r a1 a2 a3 a4 a5 a6 a7 a8 a9 a10 a11 a12 a13 a14 a15 a16 a17 a18 a19 a20 a21 := by
  have hH' := hH
  obtain ⟨⟨c1, c2, c3, c4, c5, c6⟩, k6, k7, k11, k15, k16, k17⟩ := hH'
  have k1 := cn_k1 hs1 c1
  have k30 := cn_k30 hs30 c1
  have ed : x18 - x13 = nI (s - n0) := by
    rw [hx18, hx13]
    exact pk_sub hn
  have e1 : nI (s + 1) = x18 + 1 := by rw [hx18, nI_1]
  refine cn_pass hw ed (by omega) ?_
  rw [show n0 + (s - n0) = s by omega]
  refine cn_placeR hH h2 h3 rfl (by omega) (fun _ _ => And.intro cn_n6 (br_t (by rw [hx5, cn_d6 (by omega)]) (cn_pass (d := 1) rfl rfl (by omega) (br_t e1 ?_)))) (fun _ z => absurd z (by omega)) (fun z => absurd z (by omega))
  by_cases D : cn_k sz ra + de = 1
  · have e20 : x20 = x18 + 1 := by rw [hx20, hx18, nI_1, show s + cn_k sz ra + de = s + 1 by omega]
    refine cn_placeR hH h2 h3 rfl (by omega) (fun z => absurd z (by omega)) (fun z => absurd z (by omega)) (fun _ => br_t e20 (And.intro cn_n6 (br_t (by rw [hx5, cn_r6 (by omega)]) ?_)))
    exact cn_stateR h13 hH rfl (by omega) (fun z => absurd z (by omega)) (fun _ => br_t e20 (cn_1121 hp he hne hx5 hx8 hs1 hs30 hx10 hx11 hx13 hn rfl h1 h2 h3 h9 h10 rfl h13 hH hx17 hx20 hx18))
  · have e20 : ¬ x20 = x18 + 1 := by
      rw [hx20, hx18, nI_1]
      exact fun z => D (by have := (nI_eq (by omega) (by omega)).mp z; omega)
    refine cn_placeR hH h2 h3 rfl (by omega) (fun _ z => absurd z (by omega)) (fun _ _ => br_f e20 (br_t rfl ?_)) (fun z => absurd z (by omega))
    exact cn_stateR h13 hH rfl (by omega) (fun _ => br_f e20 (cn_1121 hp he hne hx5 hx8 hs1 hs30 hx10 hx11 hx13 hn rfl h1 h2 h3 h9 h10 rfl h13 hH hx17 hx20 hx18)) (fun z => absurd z (by omega))
/-- a bundle that goes: the rest of the law -/
theorem cn_901G {sz e st en ra de s n0 : Nat} (hp : post 1 ()) (he : e < 36) (hne : e / 6 ≠ e % 6) (hx5 : x5 = nI e) (hx8 : x8 = nI sz) (hs1 : 1 ≤ sz) (hs30 : sz ≤ 30) (hx10 : x10 = 1) (hx11 : x11 = 1) (hx13 : x13 = nI n0) (hw : w = nI n0) (h1 : a1 0 = 0) (hC : cn_C (e / 6) (e % 6) st en ra de a2 a3 a4 a5 a6 a7) (h9 : a9 0 = nI (e / 6)) (h10 : a10 0 = nI (e % 6))
    (h13 : a13 0 = 1) (hH : cn_H sz ra de s a6 a7 a11 a15 a16 a17) (hs : s = max n0 st) (hY : cn_Y s (s + cn_k sz ra) a8) (hf : s + cn_k sz ra ≤ en) (hx15 : x15 = nI en) (hx17 : x17 = nI (cn_k sz ra)) (hx20 : x20 = nI (s + cn_k sz ra + de)) (hx18 : x18 = nI s) (hx21 : x21 = 1) : wL_lawOf_901 post mc ms x5 x8 x10 x11 x13 x15 x17 x18 x20 x21 kc ks 1 1 w r a1 a2 a3 a4 a5 a6 a7 a8 a9 a10 a11 a12 a13 a14 a15 a16 a17 a18 a19 a20 a21 := by
  have hC' := hC
  obtain ⟨⟨c1, c2, c3, c4, c5, c6, c7, c8⟩, k2, k3, k4, k5, k6, k7⟩ := hC'
  have k1 := cn_k1 hs1 c6
  have k30 := cn_k30 hs30 c6
  have hSP := cn_SPL (lo := n0) h1 hC hs1 hs30 hY (by omega)
  have hy : ∀ j, cn_ci st en (s + cn_k sz ra) de (cn_k sz ra) j ≤ 1000000 := by
    intro j
    unfold cn_ci
    (repeat' split) <;> omega
  have yA : s + 2 * cn_k sz ra ≤ en → ∀ j, j ≤ s → cn_ci st en (s + cn_k sz ra) de (cn_k sz ra) j = s + cn_k sz ra + cn_k sz ra + de := by
    intro hq j hj
    unfold cn_ci
    rw [show max (max j st) (s + cn_k sz ra) = s + cn_k sz ra by omega, if_neg (by omega), if_pos (by omega)]
  have yB : en < s + 2 * cn_k sz ra → cn_ci st en (s + cn_k sz ra) de (cn_k sz ra) n0 = 1000000 := by
    intro hq
    unfold cn_ci
    rw [show max (max n0 st) (s + cn_k sz ra) = s + cn_k sz ra by omega, if_neg (by omega), if_neg (by omega)]
  have e15 : x18 + 2 * x17 = nI (s + 2 * cn_k sz ra) := by
    rw [hx18, hx17, show (2 : Int32) = nI 2 from rfl, pk_mul, nI_add]
  have eto : ((1 : Int32) <<< ((x5 - x5 / 6 * 6) &&& 31)) = (1 : Int32) <<< (nI (e % 6) &&& 31) := by rw [hx5, cn_r6 (by omega)]
  have efr : ((1 : Int32) <<< ((x5 / 6) &&& 31)) = (1 : Int32) <<< (nI (e / 6) &&& 31) := by rw [hx5, cn_d6 (by omega)]
  have gto : x5 - x5 / 6 * 6 = nI (e % 6) := by rw [hx5, cn_r6 (by omega)]
  have gfr : x5 / 6 = nI (e / 6) := by rw [hx5, cn_d6 (by omega)]
  refine br_f (by rw [hx21]; decide) (pk_lt en (s + 2 * cn_k sz ra) (fun hq => ?_) (fun hq => ?_) hx15 e15)
  · have y0 := yB hq
    refine cn_quote hSP he hne hx5 hx8 hs1 hs30 hw (Nat.le_refl _) (by omega) (hy _) (fun d20 d21 => br_t (if_neg (by omega)) (And.intro cn_n6 ?_))
    refine cn_reachO hSP c1 gfr hx8 hs1 hs30 hw (Nat.le_refl _) (by omega) (hy _) (fun _ => y0) (fun d20 d21 => And.intro cn_n6 (br_t (by decide) (br_t (by rw [efr, Int32.add_zero]) (And.intro cn_n6 ?_))))
    exact cn_reachO hSP c2 gto hx8 hs1 hs30 hw (Nat.le_refl _) (by omega) (hy _) (fun z => absurd z (fun q => hne q.symm)) (fun d20 d21 => And.intro cn_n6 (br_t eto.symm (br_t (by decide)
      (cn_1035 hp he hne hx5 hx8 hs1 hs30 hx10 hx11 hx13 (by omega) hw h1 k2 k3 h9 h10 h13 hH hx17 hx20 hx18))))
  · have y0 := yA hq n0 (by omega)
    have ez : x20 + x17 = nI (s + cn_k sz ra + cn_k sz ra + de) := by rw [hx20, hx17, nI_add, show s + cn_k sz ra + de + cn_k sz ra = s + cn_k sz ra + cn_k sz ra + de by omega]
    have ez0 : ¬ x20 + x17 ≤ 0 := by
      rw [ez]
      exact nI_nle (by omega) (by omega)
    refine cn_quote hSP he hne hx5 hx8 hs1 hs30 hw (Nat.le_refl _) (by omega) (hy _) (fun d20 d21 => br_t (by rw [if_pos (by omega), y0, ez]) (And.intro cn_n6 ?_))
    refine cn_reach2 hSP c1 c2 hne gfr hx8 hs1 hs30 hw (Nat.le_refl _) (by omega) (by omega) rfl (fun d20 d21 => And.intro cn_n6 (br_f ez0 (And.intro cn_n6 (br_t (by rw [efr, eto]) (And.intro cn_n6 ?_)))))
    refine cn_reachO hSP c2 gto hx8 hs1 hs30 hw (Nat.le_refl _) (by omega) (hy _) (fun z => absurd z (fun q => hne q.symm)) (fun d20 d21 => And.intro cn_n6 (br_t eto.symm (br_f ez0 ?_)))
    have hT : ∀ j, j ≤ s → cn_T (cn_ci st en (s + cn_k sz ra) de (cn_k sz ra)) 1000 j := by
      intro j hj
      unfold cn_T
      rw [yA hq j hj]
      exact ⟨by omega, nI_nlt (a := 1000) (by omega) (by omega)⟩
    refine cn_latest hSP he hne hx5 hx8 hs1 hs30 hw (Nat.le_refl _) (by omega) hy (fun z => absurd ⟨by omega, hT n0 (by omega)⟩ z) (fun l d20 d21 _ _ q1 q2 q3 => br_t ?_ ?_)
    · rw [hx18]
      exact nI_le (q3 s (by omega) (fun j _ hj => hT j hj)) (by omega)
    · exact cn_1035 hp he hne hx5 hx8 hs1 hs30 hx10 hx11 hx13 (by omega) hw h1 k2 k3 h9 h10 h13 hH hx17 hx20 hx18
end
end
section
section
variable {post : Int32 → St0 → Prop} {mc ms kc ks : Nat} {c b w r : Int32} {a1 a2 a3 a4 a5 a6 a7 a8 a9 a10 a11 a12 a13 a14 a15 a16 a17 a18 a19 a20 a21 : Nat → Int32} {x0 x1 x2 x3 x5 x6 x7 x8 x9 x10 x11 x12 x13 x14 x15 x16 x17 x18 x19 x20 x21 x22 z0 z1 z2 : Int32}
/-- the flags two and some, and what they say -/
def cn_fl (x y f g : Int32) : Prop := (f = 1 ∧ g = 1 ∧ cn_two x ∧ cn_some y) ∨ ((f = 0 ∨ g = 0) ∧ ¬ (cn_two x ∧ cn_some y))
/-! behind booked(0), the bundle without a way -/
theorem cn_765U {e : Nat} (he : e < 36) (hx5 : x5 = nI e) (hx10 : x10 = 1) (hx11 : x11 = 1) (h9 : a9 0 = nI (e / 6)) (h13 : a13 0 = 0) (h15 : a15 0 = 0) (hx21 : x21 = 0) (hz : z1 = z0) (H : wL_lawOf_1278 post mc ms x5 x8 x10 x11 x13 kc ks c 1 w r a1 a2 a3 a4 a5 a6 a7 a8 a9 a10 a11 a12 a13 a14 a15 a16 a17 a18 a19 a20 a21) : wL_lawOf_765 post mc ms x5 x8 x10 x11 x13 x15 x17 x18 x20 x21 z0 z1 kc ks c 1 w r a1 a2 a3 a4 a5 a6 a7 a8 a9 a10 a11 a12 a13 a14 a15 a16 a17 a18 a19 a20 a21 :=
  br_t hz (cn_andT hx10 hx11 (cn_stateU h13 (br_t hx21 (br_t rfl (cn_arrivalU h13 (br_t hx21 (br_t rfl (cn_hopX h15 (by decide) (by decide) (br_t hx21 (br_t rfl (cn_hopX h15 (by decide) (by decide) (br_t rfl (cn_hopM (by decide) (br_t rfl (cn_placeU h15 h9 (And.intro cn_n6 (br_t (by rw [hx5, cn_d6 (by omega)]) (cn_hops1 h15 (br_t hx21 (br_t rfl (br_t hx21 H)))))))))))))))))))))
/-! the bundle with a way -/
theorem cn_765G {sz e st en ra de s n0 : Nat} (hp : post 1 ()) (he : e < 36) (hne : e / 6 ≠ e % 6) (hx5 : x5 = nI e) (hx8 : x8 = nI sz) (hs1 : 1 ≤ sz) (hs30 : sz ≤ 30) (hx10 : x10 = 1) (hx11 : x11 = 1) (hx13 : x13 = nI n0) (hw : w = nI n0) (h1 : a1 0 = 0) (hC : cn_C (e / 6) (e % 6) st en ra de a2 a3 a4 a5 a6 a7) (h9 : a9 0 = nI (e / 6)) (h10 : a10 0 = nI (e % 6))
    (h13 : a13 0 = 1) (hH : cn_H sz ra de s a6 a7 a11 a15 a16 a17) (hs : s = max n0 st) (hY : cn_Y s (s + cn_k sz ra) a8) (hf : s + cn_k sz ra ≤ en) (hx15 : x15 = nI en) (hx17 : x17 = nI (cn_k sz ra)) (hx20 : x20 = nI (s + cn_k sz ra + de)) (hx18 : x18 = nI s) (hx21 : x21 = 1) (hz : z1 = z0) : wL_lawOf_765 post mc ms x5 x8 x10 x11 x13 x15 x17 x18 x20 x21 z0 z1 kc ks 1 1 w r a1 a2 a3 a4 a5 a6 a7 a8 a9 a10 a11 a12 a13 a14 a15 a16 a17 a18 a19 a20 a21 := by
  have hC' := hC
  obtain ⟨⟨c1, c2, c3, c4, c5, c6, c7, c8⟩, k2, k3, k4, k5, k6, k7⟩ := hC'
  have hH' := hH
  obtain ⟨_, _, _, _, k15, _, _⟩ := hH'
  have k1 := cn_k1 hs1 c6
  have k30 := cn_k30 hs30 c6
  have g21 : ¬ x21 = 0 := by
    rw [hx21]
    decide
  have fin := cn_901G (mc := mc) (ms := ms) (kc := kc) (ks := ks) (r := r) (a12 := a12) (a14 := a14) (a18 := a18) (a19 := a19) (a20 := a20) (a21 := a21) hp he hne hx5 hx8 hs1 hs30 hx10 hx11 hx13 hw h1 hC h9 h10 h13 hH hs hY hf hx15 hx17 hx20 hx18 hx21
  refine br_t hz (cn_andT hx10 hx11 (cn_stateR h13 hH hw (by omega) (fun _ => br_f g21 (br_t rfl ?_)) (fun z => absurd z (by omega))))
  refine cn_arrivalR h13 hH (br_f g21 (br_t hx20.symm (cn_hop0 hH (br_f g21 (br_t hx18.symm (cn_hopX k15 (by decide) (by decide) (br_t rfl (cn_hopM (by decide) (br_t rfl ?_)))))))))
  exact cn_placeR hH k2 k3 hw (by omega) (fun _ _ => And.intro cn_n6 (br_t (by rw [hx5, cn_d6 (by omega)]) (cn_hops1 k15 (br_f g21 (br_t rfl fin))))) (fun _ z => absurd z (by omega)) (fun z => absurd z (by omega))
/-! need, begin, fits, come, goes -/
theorem cn_695 (H : ∀ v, wL_lawOf_737 post mc ms x5 x8 x10 x11 x13 x15 x16 x17 x18 v 0 kc ks c b w r a1 a2 a3 a4 a5 a6 a7 a8 a9 a10 a11 a12 a13 a14 a15 a16 a17 a18 a19 a20 a21) : wL_lawOf_695 post mc ms x5 x7 x8 x9 x10 x11 x13 x15 x16 x17 x18 kc ks c b w r a1 a2 a3 a4 a5 a6 a7 a8 a9 a10 a11 a12 a13 a14 a15 a16 a17 a18 a19 a20 a21 := br_t rfl (br_t rfl (H 0))
theorem cn_669F (h : x16 = 0 ∨ x11 = 0) (H : ∀ u v, wL_lawOf_737 post mc ms x5 x8 x10 x11 x13 x15 x16 x17 u v 0 kc ks c b w r a1 a2 a3 a4 a5 a6 a7 a8 a9 a10 a11 a12 a13 a14 a15 a16 a17 a18 a19 a20 a21) : wL_lawOf_669 post mc ms x5 x7 x8 x9 x10 x11 x13 x15 x16 x17 z0 kc ks c b w r a1 a2 a3 a4 a5 a6 a7 a8 a9 a10 a11 a12 a13 a14 a15 a16 a17 a18 a19 a20 a21 := cn_andF h (cn_695 (H _))
theorem cn_653F (h : x16 = 0 ∨ x11 = 0) (H : ∀ u v, wL_lawOf_737 post mc ms x5 x8 x10 x11 x13 x15 x16 z0 u v 0 kc ks c b w r a1 a2 a3 a4 a5 a6 a7 a8 a9 a10 a11 a12 a13 a14 a15 a16 a17 a18 a19 a20 a21) : wL_lawOf_653 post mc ms x5 x7 x8 x9 x10 x11 x13 x14 x15 x16 z0 kc ks c b w r a1 a2 a3 a4 a5 a6 a7 a8 a9 a10 a11 a12 a13 a14 a15 a16 a17 a18 a19 a20 a21 := br_c (fun _ => cn_669F h H) (fun _ => cn_669F h H)
theorem cn_669U {en p k te : Nat} (hx16 : x16 = 1) (hx11 : x11 = 1) (hx7 : x7 = nI te) (ht : te < 100) (hx15 : x15 = nI en) (hen : en ≤ 100) (hp : p ≤ 300) (hk : k ≤ 30) (hz0 : z0 = nI p) (hx17 : x17 = nI k) (hng : ¬ (p + k ≤ en ∧ nI (p + k + te % 10) ≤ x9)) (H : ∀ u v, wL_lawOf_737 post mc ms x5 x8 x10 x11 x13 x15 x16 x17 u v 0 kc ks c b w r a1 a2 a3 a4 a5 a6 a7 a8 a9 a10 a11 a12 a13 a14 a15 a16 a17 a18 a19 a20 a21) : wL_lawOf_669 post mc ms x5 x7 x8 x9 x10 x11 x13 x15 x16 x17 z0 kc ks c b w r a1 a2 a3 a4 a5 a6 a7 a8 a9 a10 a11 a12 a13 a14 a15 a16 a17 a18 a19 a20 a21 := by
  refine cn_andT hx16 hx11 (pk_lt en (p + k) (fun z => cn_695 (H _)) (fun z => ?_) hx15 (by rw [hz0, hx17, nI_add]))
  refine br_f (by decide) (And.intro cn_n10 (br_f (by decide) (br_c (fun _ => H _ _) (fun g => ?_))))
  rw [hz0, hx17, hx7, cn_r10 (by omega), nI_add, nI_add] at g
  exact absurd ⟨z, Int32.not_lt.mp g⟩ hng
theorem cn_669G {en p k te : Nat} (hx16 : x16 = 1) (hx11 : x11 = 1) (hx7 : x7 = nI te) (ht : te < 100) (hx15 : x15 = nI en) (hen : en ≤ 100) (hp : p ≤ 300) (hk : k ≤ 30) (hz0 : z0 = nI p) (hx17 : x17 = nI k) (hf : p + k ≤ en) (hg : nI (p + k + te % 10) ≤ x9) (H : wL_lawOf_737 post mc ms x5 x8 x10 x11 x13 x15 x16 x17 z0 (nI (p + k + te % 10)) 1 kc ks c b w r a1 a2 a3 a4 a5 a6 a7 a8 a9 a10 a11 a12 a13 a14 a15 a16 a17 a18 a19 a20 a21) : wL_lawOf_669 post mc ms x5 x7 x8 x9 x10 x11 x13 x15 x16 x17 z0 kc ks c b w r a1 a2 a3 a4 a5 a6 a7 a8 a9 a10 a11 a12 a13 a14 a15 a16 a17 a18 a19 a20 a21 := by
  have e20 : z0 + x17 + (x7 - x7 / 10 * 10) = nI (p + k + te % 10) := by rw [hz0, hx17, hx7, cn_r10 (by omega), nI_add, nI_add]
  refine cn_andT hx16 hx11 (pk_lt en (p + k) (fun z => absurd z (by omega)) (fun z => ?_) hx15 (by rw [hz0, hx17, nI_add]))
  refine br_f (by decide) (And.intro cn_n10 ?_)
  rw [e20]
  exact br_f (by decide) (br_f (Int32.not_lt.mpr hg) H)
theorem cn_653Y {n0 st : Nat} (hx13 : x13 = nI n0) (hx14 : x14 = nI st) (hn : n0 ≤ 300) (hst : st ≤ 100) (H : wL_lawOf_669 post mc ms x5 x7 x8 x9 x10 x11 x13 x15 x16 z0 (nI (max n0 st)) kc ks c b w r a1 a2 a3 a4 a5 a6 a7 a8 a9 a10 a11 a12 a13 a14 a15 a16 a17 a18 a19 a20 a21) : wL_lawOf_653 post mc ms x5 x7 x8 x9 x10 x11 x13 x14 x15 x16 z0 kc ks c b w r a1 a2 a3 a4 a5 a6 a7 a8 a9 a10 a11 a12 a13 a14 a15 a16 a17 a18 a19 a20 a21 := by
  refine pk_le st n0 (fun z => ?_) (fun z => ?_) hx14 hx13
  · rw [hx13]
    rw [hx13, show max n0 st = n0 by omega] at H
    exact H
  · rw [hx14]
    rw [show max n0 st = st by omega] at H
    exact H
theorem cn_598F (hz : z1 = z0) (hc : c ≤ 1) (h : x16 = 0 ∨ x11 = 0) (H : wL_lawOf_653 post mc ms x5 x7 x8 x9 x10 x11 x13 x14 x15 x16 0 kc ks c b w r a1 a2 a3 a4 a5 a6 a7 a8 a9 a10 a11 a12 a13 a14 a15 a16 a17 a18 a19 a20 a21) : wL_lawOf_598 post mc ms x5 x7 x8 x9 x10 x11 x13 x14 x15 x16 z0 z1 kc ks c b w r a1 a2 a3 a4 a5 a6 a7 a8 a9 a10 a11 a12 a13 a14 a15 a16 a17 a18 a19 a20 a21 :=
  br_t hz (cn_bookedF (fun _ => hc) (br_t rfl (cn_cancelF (fun _ => hc) (br_t rfl (cn_andF h H)))))
theorem cn_598Y {sz te : Nat} (hz : z1 = z0) (hc : c ≤ 1) (hx16 : x16 = 1) (hx11 : x11 = 1) (hx7 : x7 = nI te) (ht1 : 10 ≤ te) (ht : te < 100) (hx8 : x8 = nI sz) (hs : sz ≤ 30) (H : wL_lawOf_653 post mc ms x5 x7 x8 x9 x10 x11 x13 x14 x15 x16 (nI (cn_k sz (te / 10))) kc ks c b w r a1 a2 a3 a4 a5 a6 a7 a8 a9 a10 a11 a12 a13 a14 a15 a16 a17 a18 a19 a20 a21) : wL_lawOf_598 post mc ms x5 x7 x8 x9 x10 x11 x13 x14 x15 x16 z0 z1 kc ks c b w r a1 a2 a3 a4 a5 a6 a7 a8 a9 a10 a11 a12 a13 a14 a15 a16 a17 a18 a19 a20 a21 := by
  refine br_t hz (cn_bookedF (fun _ => hc) (br_t rfl (cn_cancelF (fun _ => hc) (br_t rfl (cn_andT hx16 hx11 (And.intro cn_n10 (And.intro cn_n10 (And.intro ?_ ?_))))))))
  · rw [hx7, cn_d10 (by omega)]
    exact nI_ne0 (by omega) (by omega)
  · rw [show (x8 + x7 / 10 - 1) / (x7 / 10) = nI (cn_k sz (te / 10)) by rw [hx8, hx7, cn_d10 (by omega)]; exact cn_kI hs (by omega) (by omega)]
    exact H
/-! contact: without a bundle, or with one -/
theorem cn_N737 (hp : post 1 ()) (h : ¬ (cn_two x5 ∧ cn_some x8)) (hx : x10 = 0 ∨ x11 = 0) (hb : (x16 = 0 ∧ c = 0) ∨ (x16 = 1 ∧ c = 1)) (h1 : a1 0 = 0) (hY : cn_Y 0 0 a8) : wL_lawOf_737 post mc ms x5 x8 x10 x11 x13 x15 x16 x17 x18 x20 0 kc ks c b w r a1 a2 a3 a4 a5 a6 a7 a8 a9 a10 a11 a12 a13 a14 a15 a16 a17 a18 a19 a20 a21 := by
  rcases hb with ⟨h16, hc⟩ | ⟨h16, hc⟩
  · subst hc
    exact cn_bookedF (fun _ => by decide) (br_t h16 (br_t rfl (cn_andF hx (br_t rfl (cn_1278N hp h hx)))))
  · subst hc
    exact cn_bookedL h1 hY (Nat.le_refl _) (by omega) (br_f (by rw [h16]; decide) (br_t rfl (br_t rfl (cn_andF hx (br_t rfl (cn_1278N hp h hx))))))
theorem cn_575N (hp : post 1 ()) (h : ¬ (cn_two x5 ∧ cn_some x8)) (hx : x10 = 0 ∨ x11 = 0) (hg : (z0 = 1 ∧ x11 = 0 ∧ cn_two x5 ∧ cn_span x6 ∧ cn_term x7) ∨ (z0 = 0 ∧ ¬ (cn_two x5 ∧ cn_span x6 ∧ cn_term x7))) (h1 : a1 0 = 0) (hY : cn_Y 0 0 a8) : wL_lawOf_575 post mc ms x5 x6 x7 x8 x9 x10 x11 x13 x14 x15 z0 kc ks 0 0 w r a1 a2 a3 a4 a5 a6 a7 a8 a9 a10 a11 a12 a13 a14 a15 a16 a17 a18 a19 a20 a21 := by
  rcases hg with ⟨hz, h11, g5, g6, g7⟩ | ⟨hz, hg⟩
  · obtain ⟨e, he, hne, h5⟩ := cn_twoE g5
    obtain ⟨sp, hsp, hss, h6⟩ := cn_spanE g6
    obtain ⟨te, ht1, ht2, h7⟩ := cn_termE g7
    exact cn_contact h5 h6 h7 he hne hsp hss ht1 ht2 g5 g6 g7 (fun P d2 d3 d4 d5 d6 d7 hC hP => cn_retry0 (hP _ _ _ _ _ _ _ _ _ _ _ _ _ _ _ _ _ _ _ _ _ _ _ _ _ (br_f (by rw [hz]; decide) (cn_598F rfl (by decide) (Or.inr h11) (cn_653F (Or.inr h11) (fun u v => cn_N737 hp h hx (Or.inr ⟨hz, rfl⟩) h1 hY))))))
  · exact cn_contactF hg (br_t hz (cn_598F rfl (by decide) (Or.inl hz) (cn_653F (Or.inl hz) (fun u v => cn_N737 hp h hx (Or.inl ⟨hz, rfl⟩) h1 hY))))
/-- the bundle finds no way -/
theorem cn_U737 {e sz n0 : Nat} {y : Nat → Nat} (hp : post 1 ()) (he : e < 36) (hne : e / 6 ≠ e % 6) (hx5 : x5 = nI e) (hx8 : x8 = nI sz) (hs1 : 1 ≤ sz) (hs30 : sz ≤ 30) (hx10 : x10 = 1) (hx11 : x11 = 1) (hx13 : x13 = nI n0) (hw : w = nI n0) (hn : n0 ≤ 200) (h9 : a9 0 = nI (e / 6)) (h13 : a13 0 = 0) (h15 : a15 0 = 0)
    (hSP : cn_SP sz (e / 6) (e % 6) n0 y c a1 a2 a3 a4 a5 a6 a7 a8) (hy : ∀ j, y j ≤ 1000000) (hb : (x16 = 0 ∧ c = 0) ∨ (x16 = 1 ∧ c = 1)) (h1 : a1 0 = 0) (hY : cn_Y 0 0 a8) : wL_lawOf_737 post mc ms x5 x8 x10 x11 x13 x15 x16 x17 x18 x20 0 kc ks c 1 w r a1 a2 a3 a4 a5 a6 a7 a8 a9 a10 a11 a12 a13 a14 a15 a16 a17 a18 a19 a20 a21 := by
  have fin := cn_1278Y (mc := mc) (ms := ms) (kc := kc) (ks := ks) (b := 1) (r := r) (a9 := a9) (a10 := a10) (a11 := a11) (a12 := a12) (a13 := a13) (a14 := a14) (a15 := a15) (a16 := a16) (a17 := a17) (a18 := a18) (a19 := a19) (a20 := a20) (a21 := a21) hp hSP he hne hx5 hx8 hs1 hs30 hx10 hx11 hx13 (Nat.le_refl _) hw (Nat.le_refl _) (by omega) hy
  rcases hb with ⟨h16, hc⟩ | ⟨h16, hc⟩
  · subst hc
    exact cn_bookedF (fun _ => by decide) (br_t h16 (cn_765U he hx5 hx10 hx11 h9 h13 h15 rfl rfl fin))
  · subst hc
    exact cn_bookedL h1 hY (Nat.le_refl _) (by omega) (br_f (by rw [h16]; decide) (br_t rfl (cn_765U he hx5 hx10 hx11 h9 h13 h15 rfl rfl fin)))
theorem cn_ci_le {st en q de k j : Nat} (hen : en ≤ 100) (hde : de ≤ 9) : cn_ci st en q de k j ≤ 1000000 := by
  unfold cn_ci
  (repeat' split) <;> omega
theorem cn_575Y {e sz n0 : Nat} (hp : post 1 ()) (he : e < 36) (hne : e / 6 ≠ e % 6) (hx5 : x5 = nI e) (hx8 : x8 = nI sz) (hs1 : 1 ≤ sz) (hs30 : sz ≤ 30) (hx10 : x10 = 1) (hx11 : x11 = 1) (hx13 : x13 = nI n0) (hw : w = nI n0) (hn : n0 ≤ 200) (h9 : a9 0 = nI (e / 6)) (h10 : a10 0 = nI (e % 6)) (h11 : a11 0 = nI sz) (h12 : a12 0 = x9) (h13 : a13 0 = 0) (h15 : a15 0 = 0)
    (hg : (z0 = 1 ∧ cn_two x5 ∧ cn_span x6 ∧ cn_term x7) ∨ (z0 = 0 ∧ ¬ (cn_two x5 ∧ cn_span x6 ∧ cn_term x7))) (hx14 : x14 = x6 / 101) (hx15 : x15 = x6 - x6 / 101 * 101) (h1 : a1 0 = 0) (hY : cn_Y 0 0 a8) : wL_lawOf_575 post mc ms x5 x6 x7 x8 x9 x10 x11 x13 x14 x15 z0 kc ks 0 1 w r a1 a2 a3 a4 a5 a6 a7 a8 a9 a10 a11 a12 a13 a14 a15 a16 a17 a18 a19 a20 a21 := by
  rcases hg with ⟨hz, g5, g6, g7⟩ | ⟨hz, hg⟩
  · obtain ⟨sp, hsp, hss, h6⟩ := cn_spanE g6
    obtain ⟨te, ht1, ht2, h7⟩ := cn_termE g7
    have f14 : x14 = nI (sp / 101) := by rw [hx14, h6, cn_d101 (by omega)]
    have f15 : x15 = nI (sp % 101) := by rw [hx15, h6, cn_r101 (by omega)]
    refine cn_contact hx5 h6 h7 he hne hsp hss ht1 ht2 g5 g6 g7 (fun P d2 d3 d4 d5 d6 d7 hC hP => ?_)
    have k1 := cn_k1 (ra := te / 10) hs1 (by omega)
    have k30 := cn_k30 (ra := te / 10) hs30 (by omega)
    have hSP := cn_SPL (lo := n0) h1 hC hs1 hs30 hY (Nat.zero_le _)
    have hyl : ∀ j, cn_ci (sp / 101) (sp % 101) 0 (te % 10) (cn_k sz (te / 10)) j ≤ 1000000 := fun j => cn_ci_le (by omega) (by omega)
    have eS : max (max n0 (sp / 101)) 0 = max n0 (sp / 101) := by omega
    by_cases hf : max n0 (sp / 101) + cn_k sz (te / 10) ≤ sp % 101
    · by_cases hgo : nI (max n0 (sp / 101) + cn_k sz (te / 10) + te % 10) ≤ x9
      · refine cn_retryG h13 h1 hC hs1 hs30 hY (Nat.zero_le _) (by omega) h9 h10 h11 h15 hw eS.symm hf (by rw [h12]; exact hgo) (fun d8 d13 d15 d16 d17 d18 d19 d20 d21 q8 q13 q15 q16 q17 => hP _ _ _ _ _ _ _ _ _ _ _ _ _ _ _ _ _ _ _ _ _ _ _ _ _ (br_f (by rw [hz]; decide) ?_))
        have hC' := hC
        obtain ⟨⟨c1, c2, c3, c4, c5, c6, c7, c8⟩, k2, k3, k4, k5, k6, k7⟩ := hC'
        have hH : cn_H sz (te / 10) (te % 10) (max n0 (sp / 101)) d6 d7 a11 d15 d16 d17 := ⟨⟨c6, c7, hs1, hs30, c8, by omega⟩, k6, k7, h11, q15, q16, q17⟩
        have hY' : cn_Y (max n0 (sp / 101)) (max n0 (sp / 101) + cn_k sz (te / 10)) d8 := by
          intro t ht
          rw [q8 t]
          by_cases z : max n0 (sp / 101) ≤ t ∧ t < max n0 (sp / 101) + cn_k sz (te / 10)
          · rw [if_pos z, if_pos z]
          · rw [if_neg z, if_neg z, hY t ht, if_neg (by omega)]
        refine cn_598Y rfl (by decide) hz hx11 h7 ht1 ht2 hx8 hs30 (cn_653Y hx13 f14 (by omega) (by omega) (cn_669G hz hx11 h7 ht2 f15 (by omega) (by omega) k30 rfl rfl hf hgo ?_))
        refine cn_bookedL h1 hY' (by omega) (by omega) (br_f (by rw [hz]; decide) (br_f (by decide) ?_))
        exact cn_765G hp he hne hx5 hx8 hs1 hs30 hx10 hx11 hx13 hw h1 hC h9 h10 q13 hH rfl hY' hf f15 rfl rfl rfl rfl (by rw [show max n0 (sp / 101) + cn_k sz (te / 10) - max n0 (sp / 101) = cn_k sz (te / 10) by omega])
      · refine cn_retryL h13 h1 hC hs1 hs30 hY (Nat.zero_le _) (by omega) h9 h10 h11 h15 hw eS.symm hf (by rw [h12]; exact hgo) (fun d13 d18 d19 d20 d21 q13 => hP _ _ _ _ _ _ _ _ _ _ _ _ _ _ _ _ _ _ _ _ _ _ _ _ _ (br_f (by rw [hz]; decide) ?_))
        exact cn_598Y rfl (by decide) hz hx11 h7 ht1 ht2 hx8 hs30 (cn_653Y hx13 f14 (by omega) (by omega) (cn_669U hz hx11 h7 ht2 f15 (by omega) (by omega) k30 rfl rfl (fun q => hgo q.2) (fun u v => cn_U737 hp he hne hx5 hx8 hs1 hs30 hx10 hx11 hx13 hw hn h9 q13 h15 hSP hyl (Or.inr ⟨hz, rfl⟩) h1 hY)))
    · refine cn_retryN h13 hSP (by omega) (by omega) hne h9 h10 h11 h15 hw (Nat.le_refl _) (by omega) ?_ (fun d13 d20 d21 q13 => hP _ _ _ _ _ _ _ _ _ _ _ _ _ _ _ _ _ _ _ _ _ _ _ _ _ (br_f (by rw [hz]; decide) ?_))
      · unfold cn_ci
        rw [if_neg (by omega), eS, if_neg hf]
      · exact cn_598Y rfl (by decide) hz hx11 h7 ht1 ht2 hx8 hs30 (cn_653Y hx13 f14 (by omega) (by omega) (cn_669U hz hx11 h7 ht2 f15 (by omega) (by omega) k30 rfl rfl (fun q => hf q.1) (fun u v => cn_U737 hp he hne hx5 hx8 hs1 hs30 hx10 hx11 hx13 hw hn h9 q13 h15 hSP hyl (Or.inr ⟨hz, rfl⟩) h1 hY)))
  · exact cn_contactF hg (br_t hz (cn_598F rfl (by decide) (Or.inl hz) (cn_653F (Or.inl hz) (fun u v => cn_U737 hp he hne hx5 hx8 hs1 hs30 hx10 hx11 hx13 hw hn h9 h13 h15 cn_SP0 (fun _ => Nat.le_refl _) (Or.inl ⟨hz, rfl⟩) h1 hY))))
end
end
section
section
variable {post : Int32 → St0 → Prop} {mc ms kc ks : Nat} {c b w r : Int32} {a1 a2 a3 a4 a5 a6 a7 a8 a9 a10 a11 a12 a13 a14 a15 a16 a17 a18 a19 a20 a21 : Nat → Int32} {x0 x1 x2 x3 x5 x6 x7 x8 x9 x10 x11 x12 x13 x14 x15 x16 x17 x18 x19 x20 x21 x22 z0 z1 z2 : Int32}
theorem cn_513 (hz : z1 = z0) (H1 : ¬ x10 = 0 → cn_span x6 → cn_term x7 → wL_lawOf_575 post mc ms x5 x6 x7 x8 x9 x10 x11 x13 (x6 / 101) (x6 - x6 / 101 * 101) 1 kc ks c b w r a1 a2 a3 a4 a5 a6 a7 a8 a9 a10 a11 a12 a13 a14 a15 a16 a17 a18 a19 a20 a21) (H0 : ¬ (¬ x10 = 0 ∧ cn_span x6 ∧ cn_term x7) → wL_lawOf_575 post mc ms x5 x6 x7 x8 x9 x10 x11 x13 (x6 / 101) (x6 - x6 / 101 * 101) 0 kc ks c b w r a1 a2 a3 a4 a5 a6 a7 a8 a9 a10 a11 a12 a13 a14 a15 a16 a17 a18 a19 a20 a21) : wL_lawOf_513 post mc ms x5 x6 x7 x8 x9 x10 x11 x13 z0 z1 kc ks c b w r a1 a2 a3 a4 a5 a6 a7 a8 a9 a10 a11 a12 a13 a14 a15 a16 a17 a18 a19 a20 a21 :=
  br_t hz (And.intro cn_n101 (nm_e (And.intro cn_n101 (nm_e (br_c (fun g => H0 (fun q => q.1 g)) (fun g0 => br_c (fun g => H0 (fun q => q.2.1.1 g)) (fun g1 => br_c (fun g => H0 (fun q => q.2.1.2.1 g)) (fun g2 => br_c (fun g => H0 (fun q => q.2.1.2.2 g)) (fun g3 => br_c (fun g => H0 (fun q => q.2.2.1 g)) (fun g4 => br_c (fun g => H0 (fun q => q.2.2.2 g)) (fun g5 => H1 g0 ⟨g1, g2, g3⟩ ⟨g4, g5⟩)))))))))))
theorem cn_374N {n0 : Nat} (hp : post 1 ()) (h : ¬ (cn_two x5 ∧ cn_some x8)) (hx : x10 = 0 ∨ x11 = 0) (ht : x10 = 0 ∨ (x10 = 1 ∧ cn_two x5)) (ht' : x10 = 0 → ¬ cn_two x5) (h1 : a1 0 = 0) (hY : cn_Y 0 0 a8) : wL_lawOf_374 post mc ms x5 x6 x7 x8 x9 x10 x11 (nI n0) kc ks 0 0 (nI n0) r a1 a2 a3 a4 a5 a6 a7 a8 a9 a10 a11 a12 a13 a14 a15 a16 a17 a18 a19 a20 a21 := by
  refine br_t rfl (cn_sendN h (cn_andF hx (br_t rfl (cn_stateZ (cn_andF hx (br_t rfl (cn_placeZ (cn_andF hx (br_t rfl (cn_hopsZ (cn_andF hx (br_t rfl (cn_arrivalZ (cn_andF hx (cn_513 rfl (fun g0 g6 g7 => ?_) (fun g => ?_))))))))))))))))
  · have g5 : cn_two x5 := ht.elim (fun z => absurd z g0) (fun z => z.2)
    exact cn_575N hp h hx (Or.inl ⟨rfl, hx.elim (fun z => absurd z g0) id, g5, g6, g7⟩) h1 hY
  · exact cn_575N hp h hx (Or.inr ⟨rfl, fun q => g ⟨fun z => ht' z q.1, q.2⟩⟩) h1 hY
theorem cn_374Y {e sz n0 : Nat} (hp : post 1 ()) (h5 : cn_two x5) (he : e < 36) (hne : e / 6 ≠ e % 6) (hx5 : x5 = nI e) (hx8 : x8 = nI sz) (hs1 : 1 ≤ sz) (hs30 : sz ≤ 30) (hx10 : x10 = 1) (hx11 : x11 = 1) (hn : n0 ≤ 200) (h1 : a1 0 = 0) (hY : cn_Y 0 0 a8) : wL_lawOf_374 post mc ms x5 x6 x7 x8 x9 x10 x11 (nI n0) kc ks 0 0 (nI n0) r a1 a2 a3 a4 a5 a6 a7 a8 a9 a10 a11 a12 a13 a14 a15 a16 a17 a18 a19 a20 a21 := by
  have g10 : ¬ x10 = 0 := by
    rw [hx10]
    decide
  refine br_t rfl (cn_send he hne hx5 hx8 hs1 hs30 rfl (by omega) (fun d9 d10 d11 d12 d13 d15 d20 d21 q9 q10 q11 q12 q13 q15 => cn_andT hx10 hx11 (br_t rfl (cn_stateU q13 (cn_andT hx10 hx11 (br_t rfl (cn_placeU q15 q9 (cn_andT hx10 hx11 (And.intro cn_n6 (br_t (by rw [hx5, cn_d6 (by omega)]) (cn_hops1 q15 (cn_andT hx10 hx11 (br_t rfl (cn_arrivalU q13 (cn_andT hx10 hx11 (cn_513 rfl (fun g0 g6 g7 => ?_) (fun g => ?_)))))))))))))))))
  · exact cn_575Y hp he hne hx5 hx8 hs1 hs30 hx10 hx11 rfl rfl hn q9 q10 q11 q12 q13 q15 (Or.inl ⟨rfl, h5, g6, g7⟩) rfl rfl h1 hY
  · exact cn_575Y hp he hne hx5 hx8 hs1 hs30 hx10 hx11 rfl rfl hn q9 q10 q11 q12 q13 q15 (Or.inr ⟨rfl, fun q => g ⟨g10, q.2⟩⟩) rfl rfl h1 hY
/-- pass, and the law's own present time -/
theorem cn_328 (hz : z1 = z0) (hw : w = 0) (H : ∀ n0 : Nat, n0 ≤ 200 → wL_lawOf_374 post mc ms x5 x6 x7 x8 x9 x10 x11 (nI n0) kc ks c b (nI n0) r a1 a2 a3 a4 a5 a6 a7 a8 a9 a10 a11 a12 a13 a14 a15 a16 a17 a18 a19 a20 a21) : wL_lawOf_328 post mc ms x0 x5 x6 x7 x8 x9 x10 x11 z0 z1 kc ks c b w r a1 a2 a3 a4 a5 a6 a7 a8 a9 a10 a11 a12 a13 a14 a15 a16 a17 a18 a19 a20 a21 := by
  subst hw
  by_cases h0 : x0 < 0
  · exact br_t hz (cn_passF (Or.inl h0) (br_t h0 (br_t rfl (br_t h0 (H 0 (by omega))))))
  · by_cases h2 : 200 < x0
    · exact br_t hz (cn_passF (Or.inr h2) (br_f h0 (br_t h2 (br_t rfl (br_f h0 (br_t h2 (H 0 (by omega))))))))
    · obtain ⟨n0, hn, rfl⟩ := nI_of h0
      have hn2 : n0 ≤ 200 := by
        rcases Nat.lt_or_ge 200 n0 with z | z
        · exact absurd (nI_lt z hn) h2
        · exact z
      refine br_t hz (cn_pass (j := 0) rfl rfl hn2 (br_f h0 (br_f h2 (br_t ?_ (br_f h0 (br_f h2 ?_))))))
      · rw [Nat.zero_add]
      · rw [Nat.zero_add]
        exact H n0 hn2
theorem cn_299 (hp : post 1 ()) (hf : cn_fl x5 x8 x10 x11) (ht : (x10 = 1 ∧ cn_two x5) ∨ (x10 = 0 ∧ ¬ cn_two x5)) (hz : z1 = z0) (hw : w = 0) (h1 : a1 0 = 0) (hY : cn_Y 0 0 a8) : wL_lawOf_299 post mc ms x0 x2 x5 x6 x7 x8 x9 x10 x11 z0 z1 kc ks 0 0 w r a1 a2 a3 a4 a5 a6 a7 a8 a9 a10 a11 a12 a13 a14 a15 a16 a17 a18 a19 a20 a21 := by
  rcases hf with ⟨f1, f2, f3, f4⟩ | ⟨f1, f2⟩
  · obtain ⟨e, he, hne, h5⟩ := cn_twoE f3
    obtain ⟨sz, hs1, hs30, h8⟩ := cn_someE f4
    refine br_t hz (cn_latest (j0 := 0) (lo := 0) (cn_SP0 (sz := sz)) he hne h5 h8 hs1 hs30 hw (Nat.le_refl _) (by omega) (fun _ => Nat.le_refl _) (fun _ d20 d21 => cn_andT f1 f2 (cn_328 rfl hw (fun n0 hn => cn_374Y hp f3 he hne h5 h8 hs1 hs30 f1 f2 hn h1 hY))) (fun l d20 d21 _ hT => absurd hT.1 (Nat.lt_irrefl _)))
  · exact br_t hz (cn_latestN f2 (cn_andF f1 (cn_328 rfl hw (fun n0 hn => cn_374N hp f2 f1 (ht.elim Or.inr (fun z => Or.inl z.1)) (fun z => ht.elim (fun q => absurd (q.1.symm.trans z) (by decide)) (fun q => q.2)) h1 hY))))
theorem cn_270 (hp : post 1 ()) (hf : cn_fl x5 x8 x10 x11) (ht : (x10 = 1 ∧ cn_two x5) ∨ (x10 = 0 ∧ ¬ cn_two x5)) (hn : (x12 = 1 ∧ x11 = 1 ∧ (¬ x0 < 0 ∧ ¬ 6 ≤ x0) ∧ cn_some x8) ∨ ((x12 = 0 ∨ x11 = 0) ∧ ¬ ((¬ x0 < 0 ∧ ¬ 6 ≤ x0) ∧ cn_some x8))) (hz : z1 = z0) (hw : w = 0) (h1 : a1 0 = 0) (hY : cn_Y 0 0 a8) : wL_lawOf_270 post mc ms x0 x2 x5 x6 x7 x8 x9 x10 x11 x12 z0 z1 kc ks 0 0 w r a1 a2 a3 a4 a5 a6 a7 a8 a9 a10 a11 a12 a13 a14 a15 a16 a17 a18 a19 a20 a21 := by
  rcases hn with ⟨f1, f2, f3, f4⟩ | ⟨f1, f2⟩
  · obtain ⟨sz, hs1, hs30, h8⟩ := cn_someE f4
    obtain ⟨n, hn, h0⟩ := nI_of f3.1
    have hn6 : n < 6 := by
      rcases Nat.lt_or_ge n 6 with z | z
      · exact z
      · exact absurd (h0 ▸ nI_le z hn) f3.2
    refine br_t hz (cn_reachO (fr := 0) (to := 0) (j := 0) (lo := 0) (cn_SP0 (sz := sz)) hn6 h0 h8 hs1 hs30 hw (Nat.le_refl _) (by omega) (Nat.le_refl _) (fun _ => rfl) (fun d20 d21 => cn_andT f1 f2 (cn_299 hp hf ht ?_ hw h1 hY)))
    rw [h0]
  · exact br_t hz (cn_reachN f2 (cn_andF f1 (cn_299 hp hf ht rfl hw h1 hY)))
theorem cn_162 (hp : post 1 ()) (hf : cn_fl x5 x8 x10 x11) (ht : (x10 = 1 ∧ cn_two x5) ∨ (x10 = 0 ∧ ¬ cn_two x5)) (hn : (z0 = 1 ∧ x11 = 1 ∧ (¬ x0 < 0 ∧ ¬ 6 ≤ x0) ∧ cn_some x8) ∨ ((z0 = 0 ∨ x11 = 0) ∧ ¬ ((¬ x0 < 0 ∧ ¬ 6 ≤ x0) ∧ cn_some x8))) (hw : w = 0) (h1 : a1 0 = 0) (hY : cn_Y 0 0 a8) : wL_lawOf_162 post mc ms x0 x1 x2 x5 x6 x7 x8 x9 x10 x11 z0 kc ks 0 0 w r a1 a2 a3 a4 a5 a6 a7 a8 a9 a10 a11 a12 a13 a14 a15 a16 a17 a18 a19 a20 a21 := by
  refine cn_cancelF (fun g => Int32.not_lt.mp g) (br_t rfl (cn_bookedF (fun g => Int32.not_lt.mp g) (br_t rfl (cn_stateZ (br_t rfl (cn_arrivalZ (br_t rfl (cn_hopsZ (br_t rfl (cn_hopZ (br_t rfl (cn_placeZ (br_t rfl (br_t hw ?_))))))))))))))
  have hf' := hf
  rcases hf' with ⟨f1, f2, f3, f4⟩ | ⟨f1, f2⟩
  · obtain ⟨e, he, hne, h5⟩ := cn_twoE f3
    obtain ⟨sz, hs1, hs30, h8⟩ := cn_someE f4
    exact cn_quote (j := 0) (lo := 0) (cn_SP0 (sz := sz)) he hne h5 h8 hs1 hs30 hw (Nat.le_refl _) (by omega) (Nat.le_refl _) (fun d20 d21 => cn_andT f1 f2 (cn_270 hp hf ht hn (if_neg (Nat.lt_irrefl _)) hw h1 hY))
  · exact cn_quoteN f2 (cn_andF f1 (cn_270 hp hf ht hn rfl hw h1 hY))
/-- the three flags -/
theorem cn_93 (hp : post 1 ()) (hw : w = 0) (h1 : a1 0 = 0) (hY : cn_Y 0 0 a8) : wL_lawOf_93 post mc ms x0 x1 x2 x5 x6 x7 x8 z0 kc ks 0 0 w r a1 a2 a3 a4 a5 a6 a7 a8 a9 a10 a11 a12 a13 a14 a15 a16 a17 a18 a19 a20 a21 := by
  have k145 : ∀ f g : Int32, ((f = 1 ∧ cn_two x5) ∨ (f = 0 ∧ ¬ cn_two x5)) → ((g = 1 ∧ cn_some x8) ∨ (g = 0 ∧ ¬ cn_some x8)) → wL_lawOf_145 post mc ms x0 x1 x2 x5 x6 x7 x8 z0 f g kc ks 0 0 w r a1 a2 a3 a4 a5 a6 a7 a8 a9 a10 a11 a12 a13 a14 a15 a16 a17 a18 a19 a20 a21 := by
    intro f g hf hg
    have hfl : cn_fl x5 x8 f g := by
      rcases hf with ⟨q1, q2⟩ | ⟨q1, q2⟩
      · rcases hg with ⟨q3, q4⟩ | ⟨q3, q4⟩
        · exact Or.inl ⟨q1, q3, q2, q4⟩
        · exact Or.inr ⟨Or.inr q3, fun z => q4 z.2⟩
      · exact Or.inr ⟨Or.inl q1, fun z => q2 z.1⟩
    refine br_c (fun g0 => cn_162 hp hfl hf (Or.inr ⟨Or.inl rfl, fun z => z.1.1 g0⟩) hw h1 hY) (fun g0 => br_c (fun g6 => cn_162 hp hfl hf (Or.inr ⟨Or.inl rfl, fun z => z.1.2 g6⟩) hw h1 hY) (fun g6 => cn_162 hp hfl hf ?_ hw h1 hY))
    rcases hg with ⟨q3, q4⟩ | ⟨q3, q4⟩
    · exact Or.inl ⟨rfl, q3, ⟨g0, g6⟩, q4⟩
    · exact Or.inr ⟨Or.inr q3, fun z => q4 z.2⟩
  have k125 : ∀ f : Int32, ((f = 1 ∧ cn_two x5) ∨ (f = 0 ∧ ¬ cn_two x5)) → wL_lawOf_125 post mc ms x0 x1 x2 x5 x6 x7 x8 z0 f kc ks 0 0 w r a1 a2 a3 a4 a5 a6 a7 a8 a9 a10 a11 a12 a13 a14 a15 a16 a17 a18 a19 a20 a21 := by
    intro f hf
    exact br_c (fun g0 => k145 f 0 hf (Or.inr ⟨rfl, fun z => z.1 g0⟩)) (fun g0 => br_c (fun g1 => k145 f 0 hf (Or.inr ⟨rfl, fun z => z.2 g1⟩)) (fun g1 => k145 f 1 hf (Or.inl ⟨rfl, g0, g1⟩)))
  exact br_c (fun g0 => k125 0 (Or.inr ⟨rfl, fun z => z.1 g0⟩)) (fun g0 => br_c (fun g1 => k125 0 (Or.inr ⟨rfl, fun z => z.2.1 g1⟩)) (fun g1 => And.intro cn_n6 (And.intro cn_n6 (br_c (fun g2 => k125 0 (Or.inr ⟨rfl, fun z => z.2.2 g2⟩)) (fun g2 => k125 1 (Or.inl ⟨rfl, g0, g1, g2⟩))))))
theorem cn_25 (hp : post 1 ()) (hw : w = 0) (h1 : a1 0 = 0) (hY : cn_Y 0 0 a8) : wL_lawOf_25 post mc ms x0 x1 x2 x3 z0 kc ks 0 0 w r a1 a2 a3 a4 a5 a6 a7 a8 a9 a10 a11 a12 a13 a14 a15 a16 a17 a18 a19 a20 a21 := by
  have k80 : ∀ u v y : Int32, wL_lawOf_80 post mc ms x0 x1 x2 x3 z0 u v y kc ks 0 0 w r a1 a2 a3 a4 a5 a6 a7 a8 a9 a10 a11 a12 a13 a14 a15 a16 a17 a18 a19 a20 a21 := fun u v y => br_c (fun _ => cn_93 hp hw h1 hY) (fun _ => cn_93 hp hw h1 hY)
  have k62 : ∀ u v : Int32, wL_lawOf_62 post mc ms x0 x1 x2 x3 z0 u v kc ks 0 0 w r a1 a2 a3 a4 a5 a6 a7 a8 a9 a10 a11 a12 a13 a14 a15 a16 a17 a18 a19 a20 a21 := fun u v => br_c (fun _ => k80 u v _) (fun _ => k80 u v _)
  have k44 : ∀ u : Int32, wL_lawOf_44 post mc ms x0 x1 x2 x3 z0 u kc ks 0 0 w r a1 a2 a3 a4 a5 a6 a7 a8 a9 a10 a11 a12 a13 a14 a15 a16 a17 a18 a19 a20 a21 := fun u => br_c (fun _ => k62 u _) (fun _ => k62 u _)
  exact br_c (fun _ => k44 _) (fun _ => k44 _)
theorem cn_lawOf (hp : post 1 ()) : wpL_lawOf post 22 3197 () x0 x1 x2 x3 := by
  have hY : cn_Y 0 0 (fun _ => 0) := by
    intro t _
    rw [if_neg (by omega)]
  refine And.intro (by omega) (And.intro (by omega) (Exists.intro 21 (Exists.intro 3172 (And.intro (by omega) (And.intro (by omega) ?_)))))
  refine ⟨by omega, by omega, by omega, by omega, by omega, by omega, by omega, by omega, by omega, by omega, by omega, by omega, by omega, by omega, by omega, by omega, by omega, by omega, by omega, by omega, by omega, by omega, by omega, by omega, by omega, by omega, by omega, by omega, by omega, by omega, by omega, by omega, by omega, by omega, by omega, by omega, by omega, by omega, by omega, by omega, by omega, by omega, ?_⟩
  exact br_c (fun _ => cn_25 hp rfl rfl hY) (fun _ => cn_25 hp rfl rfl hY)
end
theorem cn_cell {post : Int32 → Prop} {L : Nat} {xs : Nat → Int32} {k : Nat} (hL : L ≤ 4) (hk : k < 2 ^ 31) (H : ∀ r, post r) : wpL_cellAt post L xs () (nI k) :=
  pk_le L k (fun _ => H _) (fun z => And.intro (pk_in k L z) (H _))
theorem i_vc (xs : Nat → Int32) (L : Nat) (hL : L ≤ 4) : wpL_law (fun r => r = 1) L xs :=
  cn_cell (k := 0) hL (by omega) (fun r1 => cn_cell (k := 1) hL (by omega) (fun r2 => cn_cell (k := 2) hL (by omega) (fun r3 => cn_cell (k := 3) hL (by omega) (fun r4 => ⟨22, 3197, by omega, by omega, cn_lawOf rfl⟩))))
end
