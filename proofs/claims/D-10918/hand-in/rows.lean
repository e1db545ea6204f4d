section
/-! numbers, the picture of the least sums (fw_T) and of the marks (fw_M) -/
theorem fw_19 (r : Nat) : (19 : Int32) * nI r = nI (19 * r) := pk_mul 19 r
theorem fw_7 (p m : Nat) : (7 : Int32) * nI p + nI m = nI (7 * p + m) := by
  rw [show (7 : Int32) * nI p = nI (7 * p) from pk_mul 7 p, nI_add]
theorem fw_16 (a b : Nat) : (16 : Int32) * nI a + nI b = nI (16 * a + b) := by
  rw [show (16 : Int32) * nI a = nI (16 * a) from pk_mul 16 a, nI_add]
theorem fw_64 (a b : Nat) : (64 : Int32) * nI a + nI b = nI (64 * a + b) := by
  rw [show (64 : Int32) * nI a = nI (64 * a) from pk_mul 64 a, nI_add]
theorem fw_ix (m a b : Nat) : ((256 : Int32) * nI m + 16 * nI a) + nI b = nI (256 * m + 16 * a + b) := by
  rw [show (256 : Int32) * nI m = nI (256 * m) from pk_mul 256 m, show (16 : Int32) * nI a = nI (16 * a) from pk_mul 16 a, nI_add, nI_add]
theorem fw_s4 {n : Nat} (h : n < 2 ^ 31) : nI n >>> ((4 : Int32) &&& 31) = nI (n / 16) := pk_shrN h _ 4 (by decide)
theorem fw_s6 {n : Nat} (h : n < 2 ^ 31) : nI n >>> ((6 : Int32) &&& 31) = nI (n / 64) := pk_shrN h _ 6 (by decide)
theorem fw_a15 {n : Nat} (h : n < 2 ^ 31) : nI n &&& 15 = nI (n % 16) := pk_andN (by omega) 4 (by decide)
theorem fw_a63 {n : Nat} (h : n < 2 ^ 31) : nI n &&& 63 = nI (n % 64) := pk_andN (by omega) 6 (by decide)
theorem fw_d7 {n : Nat} (h : n < 2 ^ 31) : nI n / 7 = nI (n / 7) := pk_div (d := 7) h (by decide) (by decide)
theorem fw_r7 {n : Nat} (h : n < 2 ^ 31) : nI n - nI n / 7 * 7 = nI (n % 7) := pk_rem (d := 7) h (by decide) (by decide)
theorem fw_r8 {n : Nat} (h : n < 2 ^ 31) : nI n - nI n / 8 * 8 = nI (n % 8) := pk_rem (d := 8) h (by decide) (by decide)
theorem fw_c0 : (0 : Int32).toNatClampNeg = 0 := by decide
/-- the least sums: the empty way at each place, and at row R (49: none) the one sum v -/
def fw_T (R v : Nat) (a7 a8 : Nat → Int32) : Prop :=
  ∀ r, r < 49 → a7 r = nI (if r % 8 = 0 ∨ r = R then 1 else 0) ∧ a8 (19 * r) = nI (if r = R then v else 0)
/-- the marks: one at k (1792: none) -/
def fw_M (k : Nat) (a10 : Nat → Int32) : Prop := ∀ j, j < 1792 → a10 j = nI (if j = k then 1 else 0)
/-- a place; a time -/
def fw_pl (x : Int32) : Prop := ¬ x < 0 ∧ ¬ 6 < x
def fw_u (x : Int32) : Prop := ¬ x < 0 ∧ ¬ 15 < x
def fw_tm (a b : Int32) : Prop := fw_u a ∧ fw_u b
/-- a flag -/
def fw_fl (z : Int32) (c : Prop) : Prop := (z = 1 ∧ c) ∨ (z = 0 ∧ ¬ c)
theorem fw_10 : ¬ (1 : Int32) = 0 := by decide
theorem fw_fl0 {z : Int32} {c : Prop} (h : fw_fl z c) (hz : z = 0) : ¬ c := by
  rcases h with ⟨e, _⟩ | ⟨_, hc⟩
  · exact absurd (e.symm.trans hz) fw_10
  · exact hc
theorem fw_fl1 {z : Int32} {c : Prop} (h : fw_fl z c) (hz : ¬ z = 0) : c := by
  rcases h with ⟨_, hc⟩ | ⟨e, _⟩
  · exact hc
  · exact absurd e hz
theorem fw_flt {c : Prop} (h : c) : fw_fl 1 c := Or.inl ⟨rfl, h⟩
theorem fw_flf {c : Prop} (h : ¬ c) : fw_fl 0 c := Or.inr ⟨rfl, h⟩
theorem fw_plN {x : Int32} (h : fw_pl x) : ∃ p : Nat, p < 7 ∧ x = nI p := by
  obtain ⟨j, hj, rfl⟩ := nI_of h.1
  refine ⟨j, ?_, rfl⟩
  rcases Nat.lt_or_ge j 7 with z | z
  · exact z
  · exact absurd (show (6 : Int32) < nI j from nI_lt (a := 6) (by omega) hj) h.2
theorem fw_uN {x : Int32} (h : fw_u x) : ∃ p : Nat, p < 16 ∧ x = nI p := by
  obtain ⟨j, hj, rfl⟩ := nI_of h.1
  refine ⟨j, ?_, rfl⟩
  rcases Nat.lt_or_ge j 16 with z | z
  · exact z
  · exact absurd (show (15 : Int32) < nI j from nI_lt (a := 15) (by omega) hj) h.2
theorem fw_3N {x : Int32} (h0 : ¬ x < 0) (h3 : ¬ 3 < x) : ∃ p : Nat, p < 4 ∧ x = nI p := by
  obtain ⟨j, hj, rfl⟩ := nI_of h0
  refine ⟨j, ?_, rfl⟩
  rcases Nat.lt_or_ge j 4 with z | z
  · exact z
  · exact absurd (show (3 : Int32) < nI j from nI_lt (a := 3) (by omega) hj) h3
theorem fw_plI {p : Nat} (h : p < 7) : fw_pl (nI p) := ⟨nI_pos (by omega), nI_nlt (a := 6) (b := p) (by omega) (by omega)⟩
theorem fw_isPlace {post : Int32 → Prop} {x : Int32} (h1 : fw_pl x → post 1) (h0 : ¬ fw_pl x → post 0) : wpX_isPlace post () x :=
  br_c (fun z => h0 (fun h => h.1 z)) (fun z => br_c (fun y => h0 (fun h => h.2 y)) (fun y => h1 ⟨z, y⟩))
theorem fw_isTime {post : Int32 → Prop} {a b : Int32} (h1 : fw_tm a b → post 1) (h0 : ¬ fw_tm a b → post 0) : wpX_isTime post () a b :=
  br_c (fun z => h0 (fun h => h.1.1 z)) (fun z => br_c (fun y => h0 (fun h => h.1.2 y)) (fun y =>
    br_c (fun z2 => h0 (fun h => h.2.1 z2)) (fun z2 => br_c (fun y2 => h0 (fun h => h.2.2 y2)) (fun y2 => h1 ⟨⟨z, y⟩, ⟨z2, y2⟩⟩))))
theorem fw_u15 : fw_u 15 := ⟨by decide, by decide⟩
/-- a mark read -/
theorem fw_mk1 {a10 : Nat → Int32} {k o i y : Nat} (M : fw_M k a10) (ho : o < 7) (hi : i < 16) (hy : y < 16) (h : 256 * o + 16 * i + y = k) :
    a10 (((256 : Int32) * nI o + 16 * nI i) + nI y).toNatClampNeg = nI 1 := by
  rw [fw_ix, nI_clamp (by omega), M _ (by omega), if_pos h]
theorem fw_mk0 {a10 : Nat → Int32} {k o i y : Nat} (M : fw_M k a10) (ho : o < 7) (hi : i < 16) (hy : y < 16) (h : ¬ 256 * o + 16 * i + y = k) :
    a10 (((256 : Int32) * nI o + 16 * nI i) + nI y).toNatClampNeg = nI 0 := by
  rw [fw_ix, nI_clamp (by omega), M _ (by omega), if_neg h]
end
section
/-! count, addSum, joinOver: any state over the picture fw_T -/
section
variable {l t g : Int32} {a1 a2 a3 a4 a5 a6 a7 a8 a9 a10 : Nat → Int32}
theorem fw_c26 {post : St2 → Prop} {J : Int32 → (Nat → Int32) → (Nat → Int32) → (Nat → Int32) → (Nat → Int32) → (Nat → Int32) → (Nat → Int32) → (Nat → Int32) → (Nat → Int32) → (Nat → Int32) → (Nat → Int32) → Prop} {x1 w : Int32} {m row tm c v : Nat} (hm : m < 7) (hr : row < 49) (ht : tm < 256) (hv : v < 256) (hc : c ≤ 1)
    (h7 : a7 row = nI c) (h8 : a8 (19 * row) = nI v)
    (H0 : (c = 0 ∨ 15 < tm / 16 + v / 64 ∨ 15 < tm % 16 + v % 64) → J (nI (m + 1)) a1 a2 a3 a4 a5 a6 a7 a8 a9 a10)
    (H1 : c = 1 → tm / 16 + v / 64 ≤ 15 → tm % 16 + v % 64 ≤ 15 → J (nI (m + 1)) a1 a2 a3 a4 a5 a6 a7 a8 a9 (upd a10 (256 * m + 16 * (tm / 16 + v / 64) + (tm % 16 + v % 64)) (a10 (256 * m + 16 * (tm / 16 + v / 64) + (tm % 16 + v % 64)) + w))) :
    ∃ fu, wX_count_26 post J x1 (nI tm) w (nI m) (nI row) l t g fu (nI (19 * row)) a1 a2 a3 a4 a5 a6 a7 a8 a9 a10 := by
  have e7 : (19 : Int32) * nI row + a7 (nI row).toNatClampNeg = nI (19 * row + c) := by
    rw [nI_clamp (show row < 2 ^ 31 by omega), h7, fw_19, nI_add]
  have hx : ∀ (n : Nat) (A : Nat → Int32), J (nI (m + 1)) a1 a2 a3 a4 a5 a6 a7 a8 a9 A → wX_count_26 post J x1 (nI tm) w (nI m) (nI row) l t g (n + 1) (nI (19 * row + c)) a1 a2 a3 a4 a5 a6 a7 a8 a9 A := by
    intro n A h
    exact And.intro (pk_in row 49 hr) (pk_le (19 * row + c) (19 * row + c) (fun _ => nm_r (nI_1 m) h) (fun z => absurd z (by omega)) e7 rfl)
  rcases (show c = 0 ∨ c = 1 by omega) with rfl | rfl
  · exact ⟨1, hx 0 a10 (H0 (Or.inl rfl))⟩
  · have eA : nI tm >>> ((4 : Int32) &&& 31) + a8 (nI (19 * row)).toNatClampNeg >>> ((6 : Int32) &&& 31) = nI (tm / 16 + v / 64) := by
      rw [nI_clamp (show 19 * row < 2 ^ 31 by omega), h8, fw_s4 (by omega), fw_s6 (by omega), nI_add]
    have eB : (nI tm &&& 15) + (a8 (nI (19 * row)).toNatClampNeg &&& 63) = nI (tm % 16 + v % 64) := by
      rw [nI_clamp (show 19 * row < 2 ^ 31 by omega), h8, fw_a15 (by omega), fw_a63 (by omega), nI_add]
    refine ⟨2, And.intro (pk_in row 49 hr) (pk_le (19 * row + 1) (19 * row) (fun z => absurd z (by omega)) (fun _ => ⟨pk_in (19 * row) 931 (by omega), nm_r eA ⟨pk_in (19 * row) 931 (by omega), nm_r eB ?_⟩⟩) e7 rfl)⟩
    refine pk_lt 15 (tm / 16 + v / 64) (fun z => nm_r (nI_1 (19 * row)) (hx 0 a10 (H0 (Or.inr (Or.inl z))))) (fun z => ?_)
    refine pk_lt 15 (tm % 16 + v % 64) (fun y => nm_r (nI_1 (19 * row)) (hx 0 a10 (H0 (Or.inr (Or.inr y))))) (fun y => ?_)
    have hk : 256 * m + 16 * (tm / 16 + v / 64) + (tm % 16 + v % 64) < 1792 := by omega
    refine ⟨pk_in _ 1792 hk (fw_ix _ _ _), pk_in _ 1792 hk (fw_ix _ _ _), nm_r ?_ (nm_r (nI_1 (19 * row)) (hx 0 _ (H1 rfl z y)))⟩
    rw [fw_ix, nI_clamp (by omega)]
theorem fw_count {post : St2 → Prop} {w : Int32} {p tm R v : Nat} (hp : p < 7) (ht : tm < 256) (hv : v < 256) (T : fw_T R v a7 a8)
    (H : ∀ A, (R = 49 → A = upd a10 (256 * p + tm) (a10 (256 * p + tm) + w)) → post (l, t, g, a1, a2, a3, a4, a5, a6, a7, a8, a9, A)) :
    wpX_count post (l, t, g, a1, a2, a3, a4, a5, a6, a7, a8, a9, a10) (nI p) (nI tm) w := by
  refine pk_loop (fun n i s => wX_count_3 post (nI p) (nI tm) w l t g n (nI i) a1 a2 a3 a4 a5 a6 a7 a8 a9 s) (fun i s => R = 49 → s = if i ≤ p then a10 else upd a10 (256 * p + tm) (a10 (256 * p + tm) + w)) 7 0 a10 (by omega) (fun _ => by rw [if_pos (Nat.zero_le p)]) ?_ ?_
  · intro n s h
    exact pk_le 7 7 (fun _ => H s (fun e => by rw [h e, if_neg (by omega)])) (fun z => absurd z (by omega))
  · intro n i s hi h hw
    refine pk_le 7 i (fun z => absurd z (by omega)) (fun _ => nm_r (fw_7 p i) (nm_r (fw_19 (7 * p + i)) ?_))
    have hr : 7 * p + i < 49 := by omega
    obtain ⟨t7, t8⟩ := T _ hr
    refine fw_c26 hi hr ht ?_ ?_ t7 t8 (fun hc => hw s ?_) (fun hc h1 h2 => hw _ ?_)
    · split <;> omega
    · split <;> omega
    · intro e
      rw [if_neg (show ¬ 7 * p + i = R by omega)] at hc
      by_cases hip : i = p
      · rw [if_pos (Or.inl (by omega))] at hc
        omega
      · rw [h e]
        by_cases hlt : i < p
        · rw [if_pos (by omega), if_pos (by omega)]
        · rw [if_neg (by omega), if_neg (by omega)]
    · intro e
      have hne : ¬ 7 * p + i = R := by omega
      have hip : i = p := by
        by_cases h8 : (7 * p + i) % 8 = 0
        · omega
        · rw [if_neg (fun h => h.elim h8 hne)] at hc
          omega
      have hk : 256 * i + 16 * (tm / 16 + (if 7 * p + i = R then v else 0) / 64) + (tm % 16 + (if 7 * p + i = R then v else 0) % 64) = 256 * p + tm := by
        rw [if_neg hne]
        omega
      rw [hk, h e, if_pos (show i ≤ p by omega), if_neg (show ¬ i + 1 ≤ p by omega)]
theorem fw_addSum {post : St2 → Prop} {R s : Nat} (hR : R < 49) (h7 : a7 R = nI 0)
    (H : ∀ g' A, post (l, t, g', a1, a2, a3, a4, a5, a6, upd a7 R (nI 1), upd a8 (19 * R) (nI s), A, a10)) :
    wpX_addSum post (l, t, g, a1, a2, a3, a4, a5, a6, a7, a8, a9, a10) (nI R) (nI s) := by
  have e0 : nI (19 * R) + 0 = nI (19 * R) := nI_add (19 * R) 0
  show ∀ x3 : Int32, x3 = 19 * nI R → ∃ fu, wX_addSum_16 post (nI R) (nI s) x3 l t fu 0 x3 0 a1 a2 a3 a4 a5 a6 a7 a8 a9 a10
  refine nm_r (fw_19 R) ⟨1, And.intro (pk_in R 49 hR) (pk_le (19 * R) (19 * R) (fun _ => br_t rfl ⟨pk_in 0 40 (by omega), nm_r (by rw [fw_c0]) (nm_r (e' := nI 1) rfl ⟨2, ?_⟩)⟩) (fun z => absurd z (by omega)) (by rw [nI_clamp (by omega), h7]; exact e0) rfl)⟩
  refine pk_le 1 0 (fun z => absurd z (by omega)) (fun _ => ⟨pk_in 0 40 (by omega), pk_in (19 * R) 931 (by omega) e0, nm_r (e' := upd a8 (19 * R) (nI s)) ?_ (nm_r (e' := nI 1) rfl ?_)⟩)
  · rw [e0, nI_clamp (by omega), fw_c0, pk_us]
  · exact pk_le 1 1 (fun _ => ⟨pk_in R 49 hR, nm_r (by rw [nI_clamp (by omega)]) (H _ _)⟩) (fun z => absurd z (by omega))
theorem fw_join {post : St2 → Prop} {R v row mid : Nat} (hr : row < 49) (hm : mid < 7) (T : fw_T R v a7 a8) (H : post (l, t, g, a1, a2, a3, a4, a5, a6, a7, a8, a9, a10)) :
    wpX_joinOver post (l, t, g, a1, a2, a3, a4, a5, a6, a7, a8, a9, a10) (nI row) (nI mid) := by
  have h7 : ¬ (7 : Int32) = 0 := by decide
  have h8 : ¬ (8 : Int32) = 0 := by decide
  have e3 : (7 : Int32) * (nI row / 7) + nI mid = nI (7 * (row / 7) + mid) := by
    rw [fw_d7 (by omega), fw_7]
  have e4 : (7 : Int32) * nI mid + (nI row - nI row / 7 * 7) = nI (7 * mid + row % 7) := by
    rw [fw_r7 (by omega), fw_7]
  refine And.intro h7 (nm_r e3 ⟨h7, nm_r e4 ⟨h7, pk_eq (row / 7) mid (fun _ => H) (fun z1 => ⟨h7, pk_eq (row % 7) mid (fun _ => H) (fun z2 => ⟨h8, pk_eq (row % 8) 0 (fun _ => H) (fun z3 => ?_) (fw_r8 (by omega)) rfl⟩) (fw_r7 (by omega)) rfl⟩) (fw_d7 (by omega)) rfl⟩⟩)
  have hf : 7 * (row / 7) + mid < 49 := by omega
  have hs : 7 * mid + row % 7 < 49 := by omega
  have f8 : ¬ (7 * (row / 7) + mid) % 8 = 0 := by omega
  have s8 : ¬ (7 * mid + row % 7) % 8 = 0 := by omega
  by_cases hR : 7 * (row / 7) + mid = R
  · have c1 : a7 (nI (7 * (row / 7) + mid)).toNatClampNeg = nI 1 := by
      rw [nI_clamp (by omega), (T _ hf).1, if_pos (Or.inr hR)]
    have c0 : a7 (nI (7 * mid + row % 7)).toNatClampNeg = nI 0 := by
      rw [nI_clamp (by omega), (T _ hs).1, if_neg (fun h => h.elim s8 (fun h => by omega))]
    exact ⟨2, And.intro (pk_in _ 49 hf) (pk_le 1 0 (fun z => absurd z (by omega)) (fun _ => ⟨1, And.intro (pk_in _ 49 hs) (pk_le 0 0 (fun _ => nm_r (e' := nI 1) rfl (And.intro (pk_in _ 49 hf) (pk_le 1 1 (fun _ => H) (fun z => absurd z (by omega)) c1 rfl))) (fun z => absurd z (by omega)) c0 rfl)⟩) c1 rfl)⟩
  · have c0 : a7 (nI (7 * (row / 7) + mid)).toNatClampNeg = nI 0 := by
      rw [nI_clamp (by omega), (T _ hf).1, if_neg (fun h => h.elim f8 hR)]
    exact ⟨1, And.intro (pk_in _ 49 hf) (pk_le 0 0 (fun _ => H) (fun z => absurd z (by omega)) c0 rfl)⟩
end
end
section
/-! rebuild, the constructor -/
section
variable {l t g : Int32} {a1 a2 a3 a4 a5 a6 a7 a8 a9 a10 : Nat → Int32}
theorem fw_119 {post : St2 → Prop} {J : Int32 → Int32 → Int32 → Int32 → (Nat → Int32) → (Nat → Int32) → (Nat → Int32) → (Nat → Int32) → (Nat → Int32) → (Nat → Int32) → (Nat → Int32) → (Nat → Int32) → (Nat → Int32) → (Nat → Int32) → Prop} {R v mid : Nat} (hm : mid < 7) (T : fw_T R v a7 a8) (H : J (nI (mid + 1)) l t g a1 a2 a3 a4 a5 a6 a7 a8 a9 a10) :
    ∃ fu, wX_rebuild_119 post J (nI mid) fu 0 l t g a1 a2 a3 a4 a5 a6 a7 a8 a9 a10 :=
  pk_loop (σ := Unit) (fun n i _ => wX_rebuild_119 post J (nI mid) n (nI i) l t g a1 a2 a3 a4 a5 a6 a7 a8 a9 a10) (fun _ _ => True) 49 0 () (by omega) trivial
    (fun n _ _ => pk_le 49 49 (fun _ => nm_r (nI_1 mid) H) (fun z => absurd z (by omega)))
    (fun n i _ hi _ hw => pk_le 49 i (fun z => absurd z (by omega)) (fun _ => fw_join hi hm T (nm_r (nI_1 i) (hw () trivial))))
theorem fw_145 {post : St2 → Prop} (H : ∀ A, (∀ j, j < 1792 → A j = nI 0) → ∃ fu, wX_rebuild_167 post fu 0 l t g a1 a2 a3 a4 a5 a6 a7 a8 a9 A) :
    ∃ fu, wX_rebuild_145 post l t g fu 0 a1 a2 a3 a4 a5 a6 a7 a8 a9 a10 :=
  pk_loop (fun n i s => wX_rebuild_145 post l t g n (nI i) a1 a2 a3 a4 a5 a6 a7 a8 a9 s) (fun i s => ∀ j, j < i → s j = nI 0) 1792 0 a10 (by omega) (fun j hj => absurd hj (by omega))
    (fun n s h => pk_le 1792 1792 (fun _ => H s h) (fun z => absurd z (by omega)))
    (fun n i s hi h hw => pk_le 1792 i (fun z => absurd z (by omega)) (fun _ => ⟨pk_in i 1792 hi, nm_r (e' := upd s i (nI 0)) (by rw [nI_clamp (by omega)]; rfl) (nm_r (nI_1 i) (hw _ (fun j hj => by
      by_cases e : j = i
      · rw [e, pk_us]
      · rw [pk_un e]
        exact h j (by omega))))⟩))
theorem fw_111 {post : St2 → Prop} {R v : Nat} (T : fw_T R v a7 a8) (H : ∀ A, (∀ j, j < 1792 → A j = nI 0) → ∃ fu, wX_rebuild_167 post fu 0 l t g a1 a2 a3 a4 a5 a6 a7 a8 a9 A) :
    ∃ fu, wX_rebuild_111 post fu 0 l t g a1 a2 a3 a4 a5 a6 a7 a8 a9 a10 :=
  pk_loop (σ := Unit) (fun n i _ => wX_rebuild_111 post n (nI i) l t g a1 a2 a3 a4 a5 a6 a7 a8 a9 a10) (fun _ _ => True) 7 0 () (by omega) trivial
    (fun n _ _ => pk_le 7 7 (fun _ => fw_145 H) (fun z => absurd z (by omega)))
    (fun n i _ hi _ hw => pk_le 7 i (fun z => absurd z (by omega)) (fun _ => fw_119 hi T (hw () trivial)))
theorem fw_2 {post : St2 → Prop} (H : ∀ A7 A8, fw_T 49 0 A7 A8 → ∃ fu, wX_rebuild_44 post fu 0 l t g a1 a2 a3 a4 a5 a6 A7 A8 a9 a10) :
    wpX_rebuild post (l, t, g, a1, a2, a3, a4, a5, a6, a7, a8, a9, a10) := by
  have h8 : ¬ (8 : Int32) = 0 := by decide
  refine pk_loop (fun n i (s : (Nat → Int32) × (Nat → Int32)) => wX_rebuild_2 post l t g n (nI i) a1 a2 a3 a4 a5 a6 s.1 s.2 a9 a10)
    (fun i s => ∀ r, r < i → s.1 r = nI (if r % 8 = 0 ∨ r = 49 then 1 else 0) ∧ s.2 (19 * r) = nI (if r = 49 then 0 else 0)) 49 0 (a7, a8) (by omega) (fun j hj => absurd hj (by omega)) ?_ ?_
  · intro n s h
    exact pk_le 49 49 (fun _ => H s.1 s.2 h) (fun z => absurd z (by omega))
  · intro n i s hi h hw
    have F : ∀ c : Nat, c = (if i % 8 = 0 ∨ i = 49 then 1 else 0) → wX_rebuild_25 post (wX_rebuild_2 post l t g n) (nI i) (nI c) (nI i) l t g a1 a2 a3 a4 a5 a6 s.1 s.2 a9 a10 := by
      intro c hc
      refine And.intro (pk_in i 49 hi) (nm_r (e' := upd s.1 i (nI c)) (by rw [nI_clamp (by omega)]) ⟨pk_in (19 * i) 931 (by omega) (fw_19 i), nm_r (e' := upd s.2 (19 * i) (nI 0)) (by rw [fw_19, nI_clamp (by omega)]; rfl) (nm_r (nI_1 i) (hw (upd s.1 i (nI c), upd s.2 (19 * i) (nI 0)) ?_))⟩)
      intro r hr
      show upd s.1 i (nI c) r = _ ∧ upd s.2 (19 * i) (nI 0) (19 * r) = _
      by_cases e : r = i
      · rw [e, pk_us, pk_us, hc]
        exact ⟨rfl, by split <;> rfl⟩
      · rw [pk_un e, pk_un (show 19 * r ≠ 19 * i by omega)]
        exact h r (by omega)
    refine pk_le 49 i (fun z => absurd z (by omega)) (fun _ => ⟨h8, pk_eq (i % 8) 0 (fun z => F 1 (by rw [if_pos (Or.inl z)])) (fun z => F 0 (by rw [if_neg (fun h => h.elim z (fun h => by omega))])) (fw_r8 (by omega)) rfl⟩)
theorem fw_init {post : St2 → Prop} (H : ∀ A7 A8 A10, fw_T 49 0 A7 A8 → fw_M 1792 A10 →
      post (0, 0, 0, (fun _ => 0), (fun _ => 0), (fun _ => 0), (fun _ => 0), (fun _ => 0), (fun _ => 0), A7, A8, (fun _ => 0), A10)) :
    wpX_init post 10 2900 (0, 0, 0) := by
  refine And.intro (by omega) ⟨by omega, by omega, by omega, by omega, by omega, by omega, by omega, by omega, by omega, by omega, by omega, by omega, by omega, by omega, by omega, by omega, by omega, by omega, by omega, ?_⟩
  refine fw_2 (fun A7 A8 T => ⟨1, pk_le 0 0 (fun _ => fw_111 T (fun A hA => ⟨1, pk_le 0 0 (fun _ => ?_) (fun z => absurd z (by omega))⟩)) (fun z => absurd z (by omega))⟩)
  exact H A7 A8 A T (fun j hj => by rw [hA j hj, if_neg (by omega)])
/-- the token, or none, and where its mark is -/
def fw_K (t : Int32) (a5 a6 : Nat → Int32) (k : Nat) : Prop :=
  (t = nI 0 ∧ k = 1792) ∨ (t = nI 1 ∧ ∃ p tm, p < 7 ∧ tm < 256 ∧ a5 0 = nI p ∧ a6 0 = nI tm ∧ k = 256 * p + tm)
theorem fw_167 {post : St2 → Prop} {R v k : Nat} (hv : v < 256) (T : fw_T R v a7 a8) (K : fw_K t a5 a6 k) (H : ∀ A, post (l, t, g, a1, a2, a3, a4, a5, a6, a7, a8, a9, A)) :
    ∃ fu, wX_rebuild_167 post fu 0 l t g a1 a2 a3 a4 a5 a6 a7 a8 a9 a10 := by
  rcases K with ⟨rfl, _⟩ | ⟨rfl, p, tm, hp, htm, h5, h6, _⟩
  · exact ⟨1, pk_le 0 0 (fun _ => H a10) (fun z => absurd z (by omega))⟩
  · refine ⟨2, pk_le 1 0 (fun z => absurd z (by omega)) (fun _ => ⟨pk_in 0 20 (by omega), pk_in 0 20 (by omega), ?_⟩)⟩
    rw [fw_c0, h5, h6]
    exact fw_count hp htm hv T (fun A _ => nm_r (e' := nI 1) rfl (pk_le 1 1 (fun _ => H A) (fun z => absurd z (by omega))))
theorem fw_Tadd {R v : Nat} (hR : R < 49) (h8 : ¬ R % 8 = 0) (T : fw_T 49 0 a7 a8) : fw_T R v (upd a7 R (nI 1)) (upd a8 (19 * R) (nI v)) := by
  intro r hr
  by_cases e : r = R
  · rw [e, pk_us, pk_us, if_pos (Or.inr rfl), if_pos rfl]
    exact ⟨rfl, rfl⟩
  · obtain ⟨t7, t8⟩ := T r hr
    rw [pk_un e, pk_un (show 19 * r ≠ 19 * R by omega), t7, t8, if_neg (show ¬ r = 49 by omega), if_neg e]
    refine ⟨?_, rfl⟩
    by_cases e8 : r % 8 = 0
    · rw [if_pos (Or.inl e8), if_pos (Or.inl e8)]
    · rw [if_neg (fun h => h.elim e8 (fun h => by omega)), if_neg (fun h => h.elim e8 e)]
/-- rebuild with one line -/
theorem fw_reb1 {post : St2 → Prop} {f e q k : Nat} (hf : f < 7) (he : e < 7) (hq : q < 4) (h1 : a1 0 = nI f) (h2 : a2 0 = nI e) (h3 : a3 0 = nI 1) (h4 : a4 0 = nI q) (K : fw_K t a5 a6 k)
    (H : ∀ g' A7 A8 A9 A10, post (nI 1, t, g', a1, a2, a3, a4, a5, a6, A7, A8, A9, A10)) : wpX_rebuild post (nI 1, t, g, a1, a2, a3, a4, a5, a6, a7, a8, a9, a10) := by
  refine fw_2 (fun A7 A8 T => ⟨2, pk_le 1 0 (fun z => absurd z (by omega)) (fun _ => ⟨pk_in 0 12 (by omega), pk_in 0 12 (by omega), ?_⟩)⟩)
  rw [fw_c0, h1, h2, h3, h4]
  refine pk_eq f e (fun _ => nm_r (e' := nI 1) rfl (pk_le 1 1 (fun _ => fw_111 T (fun A _ => fw_167 (by omega) T K (fun A => H _ _ _ _ A))) (fun z => absurd z (by omega)))) (fun z => ⟨pk_in 0 12 (by omega), pk_in 0 12 (by omega), pk_in 0 12 (by omega), pk_in 0 12 (by omega), ?_⟩)
  rw [fw_7, fw_64]
  have hR : 7 * f + e < 49 := by omega
  have h8 : ¬ (7 * f + e) % 8 = 0 := by omega
  refine fw_addSum hR ?_ (fun g' A => nm_r (e' := nI 1) rfl (pk_le 1 1 (fun _ => fw_111 (fw_Tadd hR h8 T) (fun B _ => fw_167 (v := 64 * 1 + q) (by omega) (fw_Tadd hR h8 T) K (fun A => H _ _ _ _ A))) (fun z => absurd z (by omega))))
  rw [(T _ hR).1, if_neg (fun h => h.elim h8 (fun h => by omega))]
end
end
section
/-! the public methods, over the pictures -/
section
variable {l t g : Int32} {a1 a2 a3 a4 a5 a6 a7 a8 a9 a10 : Nat → Int32}
theorem fw_take {post : Int32 → St2 → Prop} {x0 x1 x2 : Int32} (H : post (-1) (l, 0, g, a1, a2, a3, a4, a5, a6, a7, a8, a9, a10)) : wpX_take post (l, 0, g, a1, a2, a3, a4, a5, a6, a7, a8, a9, a10) x0 x1 x2 := by
  have h30 : wX_take_30 post x0 x1 x2 (-1) l 0 g a1 a2 a3 a4 a5 a6 a7 a8 a9 a10 := br_f (by decide) H
  have h29 : wX_take_29 post x0 x1 x2 l 0 g a1 a2 a3 a4 a5 a6 a7 a8 a9 a10 := h30
  unfold wpX_take
  refine fw_isPlace (fun _ => br_f fw_10 (fw_isTime (fun _ => br_f fw_10 ?_) (fun _ => br_t rfl h29))) (fun _ => br_t rfl h29)
  exact ⟨1, pk_le 0 0 (fun _ => h30) (fun z => absurd z (by omega))⟩
theorem fw_put {post : Int32 → St2 → Prop} {x0 x1 x2 : Int32} (T : fw_T 49 0 a7 a8)
    (Hn : ¬ (fw_pl x0 ∧ fw_tm x1 x2) → post (-1) (l, 0, g, a1, a2, a3, a4, a5, a6, a7, a8, a9, a10))
    (Hy : ∀ p a b, p < 7 → a < 16 → b < 16 → x0 = nI p → x1 = nI a → x2 = nI b → post (nI 1) (l, nI 1, g, a1, a2, a3, a4, upd a5 0 (nI p), upd a6 0 (nI (16 * a + b)), a7, a8, a9, upd a10 (256 * p + (16 * a + b)) (a10 (256 * p + (16 * a + b)) + 1))) :
    wpX_put post (l, 0, g, a1, a2, a3, a4, a5, a6, a7, a8, a9, a10) x0 x1 x2 := by
  unfold wpX_put
  refine fw_isPlace (fun hp => br_f fw_10 (fw_isTime (fun ht => br_f fw_10 ?_) (fun h => br_t rfl (Hn (fun z => h z.2))))) (fun h => br_t rfl (Hn (fun z => h z.1)))
  obtain ⟨p, hpn, rfl⟩ := fw_plN hp
  obtain ⟨a, ha, rfl⟩ := fw_uN ht.1
  obtain ⟨b, hb, rfl⟩ := fw_uN ht.2
  refine br_t (by decide) ⟨pk_in 0 20 (by omega), nm_r (by rw [fw_c0]) ⟨pk_in 0 20 (by omega), nm_r (by rw [fw_c0, fw_16]) (nm_r (e' := nI 1) rfl ?_)⟩⟩
  rw [fw_16]
  exact fw_count hpn (by omega) (by omega) T (fun A hA => by rw [hA rfl]; exact Hy p a b hpn ha hb rfl rfl rfl)
/-- possible -/
theorem fw_p29 {post : Int32 → Prop} {J : Int32 → Prop} {x : Int32} {o i k : Nat} (ho : o < 7) (hi : i < 16) (M : fw_M k a10)
    (H1 : 256 * o + 16 * i ≤ k → k < 256 * o + 16 * i + 16 → post 1) (H0 : (k < 256 * o + 16 * i ∨ 256 * o + 16 * i + 16 ≤ k) → J (nI (i + 1))) :
    ∃ fu, wX_possible_29 post J (nI o) x 15 (nI i) l t g a1 a2 a3 a4 a5 a6 a7 a8 a9 a10 fu 0 := by
  by_cases hk : 256 * o + 16 * i ≤ k ∧ k < 256 * o + 16 * i + 16
  · refine pk_loop (σ := Unit) (fun n y _ => wX_possible_29 post J (nI o) x 15 (nI i) l t g a1 a2 a3 a4 a5 a6 a7 a8 a9 a10 n (nI y)) (fun _ _ => True) (k - (256 * o + 16 * i)) 0 () (by omega) trivial ?_ ?_
    · intro n _ _
      exact pk_lt 15 (k - (256 * o + 16 * i)) (fun z => absurd z (by omega)) (fun _ => ⟨pk_in _ 1792 (by omega) (fw_ix _ _ _), pk_le 1 0 (fun z => absurd z (by omega)) (fun _ => H1 hk.1 hk.2) (fw_mk1 M ho hi (by omega) (by omega)) rfl⟩)
    · intro n y _ hy _ hw
      exact pk_lt 15 y (fun z => absurd z (by omega)) (fun _ => ⟨pk_in _ 1792 (by omega) (fw_ix _ _ _), pk_le 0 0 (fun _ => nm_r (nI_1 y) (hw () trivial)) (fun z => absurd z (by omega)) (fw_mk0 M ho hi (by omega) (by omega)) rfl⟩)
  · refine pk_loop (σ := Unit) (fun n y _ => wX_possible_29 post J (nI o) x 15 (nI i) l t g a1 a2 a3 a4 a5 a6 a7 a8 a9 a10 n (nI y)) (fun _ _ => True) 16 0 () (by omega) trivial ?_ ?_
    · intro n _ _
      exact pk_lt 15 16 (fun _ => nm_r (nI_1 i) (H0 (by omega))) (fun z => absurd z (by omega))
    · intro n y _ hy _ hw
      exact pk_lt 15 y (fun z => absurd z (by omega)) (fun _ => ⟨pk_in _ 1792 (by omega) (fw_ix _ _ _), pk_le 0 0 (fun _ => nm_r (nI_1 y) (hw () trivial)) (fun z => absurd z (by omega)) (fw_mk0 M ho hi (by omega) (by omega)) rfl⟩)
theorem fw_p20 {post : Int32 → Prop} {o x k : Nat} (ho : o < 7) (hx : x < 16) (M : fw_M k a10)
    (H1 : 256 * o ≤ k → k < 256 * o + 16 * x + 16 → post 1) (H0 : (k < 256 * o ∨ 256 * o + 16 * x + 16 ≤ k) → post 0) :
    ∃ fu, wX_possible_20 post (nI o) (nI x) 15 l t g a1 a2 a3 a4 a5 a6 a7 a8 a9 a10 fu 0 := by
  refine pk_loop (σ := Unit) (fun n i _ => wX_possible_20 post (nI o) (nI x) 15 l t g a1 a2 a3 a4 a5 a6 a7 a8 a9 a10 n (nI i)) (fun i _ => k < 256 * o ∨ 256 * o + 16 * i ≤ k) (x + 1) 0 () (by omega) (by omega) ?_ ?_
  · intro n _ h
    exact pk_lt x (x + 1) (fun _ => H0 (by omega)) (fun z => absurd z (by omega))
  · intro n i _ hi h hw
    exact pk_lt x i (fun z => absurd z (by omega)) (fun _ => fw_p29 ho (by omega) M (fun h1 h2 => H1 (by omega) (by omega)) (fun h0 => hw () (by omega)))
theorem fw_possible {post : Int32 → Prop} {x3 x4 : Int32} {k : Nat} (M : fw_M k a10) (Hn : ¬ (fw_pl x3 ∧ fw_u x4) → post (-1))
    (H1 : ∀ o x, o < 7 → x < 16 → x3 = nI o → x4 = nI x → 256 * o ≤ k → k < 256 * o + 16 * x + 16 → post 1)
    (H0 : ∀ o x, o < 7 → x < 16 → x3 = nI o → x4 = nI x → (k < 256 * o ∨ 256 * o + 16 * x + 16 ≤ k) → post 0) :
    wpX_possible post (l, t, g, a1, a2, a3, a4, a5, a6, a7, a8, a9, a10) x3 x4 15 := by
  unfold wpX_possible
  refine fw_isPlace (fun hp => br_f fw_10 (fw_isTime (fun ht => br_f fw_10 ?_) (fun h => br_t rfl (Hn (fun z => h ⟨z.2, fw_u15⟩))))) (fun h => br_t rfl (Hn (fun z => h z.1)))
  obtain ⟨o, ho, rfl⟩ := fw_plN hp
  obtain ⟨x, hx, rfl⟩ := fw_uN ht.1
  exact fw_p20 ho hx M (H1 o x ho hx rfl rfl) (H0 o x ho hx rfl rfl)
/-- firstMark, front, frontAt -/
theorem fw_first {post : Int32 → Prop} {o i m k : Nat} (ho : o < 7) (hi : i < 16) (hm : m ≤ 16) (M : fw_M k a10)
    (H1 : 256 * o + 16 * i ≤ k → k < 256 * o + 16 * i + m → post (nI (k - (256 * o + 16 * i)))) (H0 : (k < 256 * o + 16 * i ∨ 256 * o + 16 * i + m ≤ k) → post (nI m)) :
    wpX_firstMark post (l, t, g, a1, a2, a3, a4, a5, a6, a7, a8, a9, a10) (nI o) (nI i) (nI m) := by
  by_cases hk : 256 * o + 16 * i ≤ k ∧ k < 256 * o + 16 * i + m
  · refine pk_loop (σ := Unit) (fun n y _ => wX_firstMark_3 post (nI o) (nI i) (nI m) l t g a1 a2 a3 a4 a5 a6 a7 a8 a9 a10 n (nI y)) (fun _ _ => True) (k - (256 * o + 16 * i)) 0 () (by omega) trivial ?_ ?_
    · intro n _ _
      exact pk_le m (k - (256 * o + 16 * i)) (fun z => absurd z (by omega)) (fun _ => ⟨pk_in _ 1792 (by omega) (fw_ix _ _ _), pk_le 1 0 (fun z => absurd z (by omega)) (fun _ => H1 hk.1 hk.2) (fw_mk1 M ho hi (by omega) (by omega)) rfl⟩)
    · intro n y _ hy _ hw
      exact pk_le m y (fun z => absurd z (by omega)) (fun _ => ⟨pk_in _ 1792 (by omega) (fw_ix _ _ _), pk_le 0 0 (fun _ => nm_r (nI_1 y) (hw () trivial)) (fun z => absurd z (by omega)) (fw_mk0 M ho hi (by omega) (by omega)) rfl⟩)
  · refine pk_loop (σ := Unit) (fun n y _ => wX_firstMark_3 post (nI o) (nI i) (nI m) l t g a1 a2 a3 a4 a5 a6 a7 a8 a9 a10 n (nI y)) (fun _ _ => True) m 0 () (by omega) trivial ?_ ?_
    · intro n _ _
      exact pk_le m m (fun _ => H0 (by omega)) (fun z => absurd z (by omega))
    · intro n y _ hy _ hw
      exact pk_le m y (fun z => absurd z (by omega)) (fun _ => ⟨pk_in _ 1792 (by omega) (fw_ix _ _ _), pk_le 0 0 (fun _ => nm_r (nI_1 y) (hw () trivial)) (fun z => absurd z (by omega)) (fw_mk0 M ho hi (by omega) (by omega)) rfl⟩)
theorem fw_17 {post : Int32 → Prop} {o k : Nat} (ho : o < 7) (M : fw_M k a10)
    (H1 : 256 * o ≤ k → k < 256 * o + 256 → post 1) (H0 : (k < 256 * o ∨ 256 * o + 256 ≤ k) → post 0) :
    ∃ fu, wX_front_17 post (nI o) l t g a1 a2 a3 a4 a5 a6 a7 a8 a9 a10 fu 0 16 0 := by
  refine pk_loop (fun n i (s : Nat × Nat) => wX_front_17 post (nI o) l t g a1 a2 a3 a4 a5 a6 a7 a8 a9 a10 n (nI s.1) (nI s.2) (nI i))
    (fun i s => (s = (0, 16) ∧ (k < 256 * o ∨ 256 * o + 16 * i ≤ k)) ∨ (∃ b, b ≤ 16 ∧ s = (1, b) ∧ 256 * o ≤ k ∧ k < 256 * o + 16 * i)) 16 0 (0, 16) (by omega) (Or.inl ⟨rfl, by omega⟩) ?_ ?_
  · intro n s h
    rcases h with ⟨rfl, h⟩ | ⟨b, hb, rfl, h, h'⟩
    · exact pk_le 16 16 (fun _ => H0 (by omega)) (fun z => absurd z (by omega))
    · exact pk_le 16 16 (fun _ => H1 (by omega) (by omega)) (fun z => absurd z (by omega))
  · intro n i s hi h hw
    refine pk_le 16 i (fun z => absurd z (by omega)) (fun _ => ?_)
    rcases h with ⟨rfl, h⟩ | ⟨b, hb, rfl, h, h'⟩
    · refine fw_first ho hi (by omega) M (fun h1 h2 => ?_) (fun h0 => ?_)
      · exact pk_le 16 (k - (256 * o + 16 * i)) (fun z => absurd z (by omega)) (fun _ => nm_r (e' := nI 1) rfl (nm_r (nI_1 i) (hw (1, k - (256 * o + 16 * i)) (Or.inr ⟨_, by omega, rfl, by omega, by omega⟩))))
      · exact pk_le 16 16 (fun _ => nm_r (e' := nI 0) rfl (nm_r (nI_1 i) (hw (0, 16) (Or.inl ⟨rfl, by omega⟩)))) (fun z => absurd z (by omega))
    · refine fw_first ho hi hb M (fun h1 h2 => absurd h1 (by omega)) (fun h0 => ?_)
      exact pk_le b b (fun _ => nm_r (e' := nI 1) rfl (nm_r (nI_1 i) (hw (1, b) (Or.inr ⟨_, hb, rfl, by omega, by omega⟩)))) (fun z => absurd z (by omega))
theorem fw_front {post : Int32 → Prop} {x3 : Int32} {k : Nat} (M : fw_M k a10) (Hn : ¬ fw_pl x3 → post (-1))
    (H1 : ∀ o, o < 7 → x3 = nI o → 256 * o ≤ k → k < 256 * o + 256 → post 1)
    (H0 : ∀ o, o < 7 → x3 = nI o → (k < 256 * o ∨ 256 * o + 256 ≤ k) → post 0) :
    wpX_front post (l, t, g, a1, a2, a3, a4, a5, a6, a7, a8, a9, a10) x3 := by
  unfold wpX_front
  refine fw_isPlace (fun hp => br_f fw_10 ?_) (fun h => br_t rfl (Hn h))
  obtain ⟨o, ho, rfl⟩ := fw_plN hp
  exact fw_17 ho M (H1 o ho rfl) (H0 o ho rfl)
theorem fw_22 {post : Int32 → Prop} {o k : Nat} (ho : o < 7) (M : fw_M k a10)
    (H1 : 256 * o ≤ k → k < 256 * o + 256 → post (nI (k - 256 * o))) (H0 : (k < 256 * o ∨ 256 * o + 256 ≤ k) → post (-1)) :
    ∃ fu, wX_frontAt_22 post (nI o) l t g a1 a2 a3 a4 a5 a6 a7 a8 a9 a10 fu 0 16 0 := by
  by_cases hk : 256 * o ≤ k ∧ k < 256 * o + 256
  · refine pk_loop (σ := Unit) (fun n i _ => wX_frontAt_22 post (nI o) l t g a1 a2 a3 a4 a5 a6 a7 a8 a9 a10 n 0 (nI 16) (nI i)) (fun _ _ => True) ((k - 256 * o) / 16) 0 () (by omega) trivial ?_ ?_
    · intro n _ _
      refine pk_le 16 ((k - 256 * o) / 16) (fun z => absurd z (by omega)) (fun _ => fw_first ho (by omega) (by omega) M (fun h1 h2 => ?_) (fun h0 => absurd h0 (by omega)))
      refine pk_le 16 (k - (256 * o + 16 * ((k - 256 * o) / 16))) (fun z => absurd z (by omega)) (fun _ => br_t rfl ?_)
      rw [fw_16, show 16 * ((k - 256 * o) / 16) + (k - (256 * o + 16 * ((k - 256 * o) / 16))) = k - 256 * o by omega]
      exact H1 hk.1 hk.2
    · intro n i _ hi _ hw
      exact pk_le 16 i (fun z => absurd z (by omega)) (fun _ => fw_first ho (by omega) (by omega) M (fun h1 h2 => absurd h1 (by omega)) (fun h0 => pk_le 16 16 (fun _ => nm_r (nI_1 i) (hw () trivial)) (fun z => absurd z (by omega))))
  · refine pk_loop (σ := Unit) (fun n i _ => wX_frontAt_22 post (nI o) l t g a1 a2 a3 a4 a5 a6 a7 a8 a9 a10 n 0 (nI 16) (nI i)) (fun _ _ => True) 16 0 () (by omega) trivial ?_ ?_
    · intro n _ _
      exact pk_le 16 16 (fun _ => H0 (by omega)) (fun z => absurd z (by omega))
    · intro n i _ hi _ hw
      exact pk_le 16 i (fun z => absurd z (by omega)) (fun _ => fw_first ho (by omega) (by omega) M (fun h1 h2 => absurd h1 (by omega)) (fun h0 => pk_le 16 16 (fun _ => nm_r (nI_1 i) (hw () trivial)) (fun z => absurd z (by omega))))
theorem fw_frontAt {post : Int32 → Prop} {x3 : Int32} {k : Nat} (M : fw_M k a10) (Hn : ¬ fw_pl x3 → post (-1))
    (H1 : ∀ o, o < 7 → x3 = nI o → 256 * o ≤ k → k < 256 * o + 256 → post (nI (k - 256 * o)))
    (H0 : ∀ o, o < 7 → x3 = nI o → (k < 256 * o ∨ 256 * o + 256 ≤ k) → post (-1)) :
    wpX_frontAt post (l, t, g, a1, a2, a3, a4, a5, a6, a7, a8, a9, a10) x3 0 := by
  unfold wpX_frontAt
  refine fw_isPlace (fun hp => br_f fw_10 (br_t (by decide) ?_)) (fun h => br_t rfl (Hn h))
  obtain ⟨o, ho, rfl⟩ := fw_plN hp
  exact fw_22 ho M (H1 o ho rfl) (H0 o ho rfl)
/-- reaches, ready -/
theorem fw_r46 {post : Int32 → Prop} {x6 x7 : Int32} {row c : Nat} (hr : row < 49) (hc : c ≤ 1) (h7 : a7 row = nI c) (p0 : post 0) (p1 : post 1) :
    ∃ fu, wX_reaches_46 post (nI row) x6 x7 l t g a1 a2 a3 a4 a5 a6 a7 a8 a9 a10 fu (nI (19 * row)) := by
  have e7 : (19 : Int32) * nI row + a7 (nI row).toNatClampNeg = nI (19 * row + c) := by
    rw [nI_clamp (show row < 2 ^ 31 by omega), h7, fw_19, nI_add]
  have hx : wX_reaches_46 post (nI row) x6 x7 l t g a1 a2 a3 a4 a5 a6 a7 a8 a9 a10 1 (nI (19 * row + c)) :=
    And.intro (pk_in row 49 hr) (pk_le (19 * row + c) (19 * row + c) (fun _ => p0) (fun z => absurd z (by omega)) e7 rfl)
  rcases (show c = 0 ∨ c = 1 by omega) with rfl | rfl
  · exact ⟨1, hx⟩
  · exact ⟨2, And.intro (pk_in row 49 hr) (pk_le (19 * row + 1) (19 * row) (fun z => absurd z (by omega)) (fun _ => ⟨pk_in (19 * row) 931 (by omega), br_c (fun _ => nm_r (nI_1 (19 * row)) hx) (fun _ => ⟨pk_in (19 * row) 931 (by omega), br_c (fun _ => nm_r (nI_1 (19 * row)) hx) (fun _ => p1)⟩)⟩) e7 rfl)⟩
theorem fw_reaches {post : Int32 → Prop} {x2 x3 : Int32} {p o R v : Nat} (T : fw_T R v a7 a8) (hp : p < 7) (ho : o < 7) (h5 : a5 0 = nI p) (p0 : post 0) (p1 : post 1) :
    wpX_reaches post (l, t, g, a1, a2, a3, a4, a5, a6, a7, a8, a9, a10) 0 (nI o) x2 x3 := by
  refine And.intro (pk_in 0 20 (by omega)) (nm_r (by rw [fw_c0, h5, fw_7]) ⟨pk_in 0 20 (by omega), nm_e ⟨pk_in 0 20 (by omega), nm_e (nm_r (fw_19 _) ?_)⟩⟩)
  have hr : 7 * p + o < 49 := by omega
  refine fw_r46 hr ?_ (T _ hr).1 p0 p1
  split <;> omega
theorem fw_r23 {post : Int32 → Prop} {o x k R v : Nat} (ho : o < 7) (hx : x < 16) (T : fw_T R v a7 a8) (K : fw_K t a5 a6 k)
    (H1 : k = 256 * o + 16 * x + 15 → post 1) (H0 : k ≠ 256 * o + 16 * x + 15 → post 0) :
    ∃ fu, wX_ready_23 post (nI o) (nI x) 15 l t g a1 a2 a3 a4 a5 a6 a7 a8 a9 a10 fu 0 0 := by
  rcases K with ⟨rfl, hk⟩ | ⟨rfl, p, tm, hp, htm, h5, h6, hk⟩
  · exact ⟨1, pk_le 0 0 (fun _ => pk_le 0 0 (fun _ => H0 (by omega)) (fun z => absurd z (by omega))) (fun z => absurd z (by omega))⟩
  · have B : ¬ (p = o ∧ tm = 16 * x + 15) → wX_ready_63 post (wX_ready_23 post (nI o) (nI x) 15 l (nI 1) g a1 a2 a3 a4 a5 a6 a7 a8 a9 a10 1) (nI o) (nI x) 15 0 0 l (nI 1) g a1 a2 a3 a4 a5 a6 a7 a8 a9 a10 := by
      intro h
      have p0 := H0 (by omega)
      refine br_t rfl (nm_r (e' := nI 0) rfl (br_t rfl (fw_reaches T hp ho h5 (br_t rfl (nm_r (e' := nI 1) rfl ?_)) (br_f fw_10 p0))))
      exact pk_le 1 1 (fun _ => pk_le 0 0 (fun _ => p0) (fun z => absurd z (by omega))) (fun z => absurd z (by omega))
    refine ⟨2, pk_le 1 0 (fun z => absurd z (by omega)) (fun _ => ⟨pk_in 0 20 (by omega), ?_⟩)⟩
    rw [fw_c0]
    refine pk_eq p o (fun e => ⟨pk_in 0 20 (by omega), pk_eq tm (16 * x + 15) (fun e2 => ?_) (fun e2 => B (fun h => e2 h.2)) h6 (fw_16 x 15)⟩) (fun e => B (fun h => e h.1)) h5 rfl
    refine br_f fw_10 (nm_r (e' := nI 1) rfl (br_f fw_10 (nm_r (e' := nI 1) rfl ?_)))
    exact pk_le 1 1 (fun _ => pk_le 1 0 (fun z => absurd z (by omega)) (fun _ => H1 (by omega))) (fun z => absurd z (by omega))
theorem fw_ready {post : Int32 → Prop} {x3 x4 : Int32} {k R v : Nat} (T : fw_T R v a7 a8) (K : fw_K t a5 a6 k) (Hn : ¬ (fw_pl x3 ∧ fw_u x4) → post (-1))
    (H1 : ∀ o x, o < 7 → x < 16 → x3 = nI o → x4 = nI x → k = 256 * o + 16 * x + 15 → post 1)
    (H0 : ∀ o x, o < 7 → x < 16 → x3 = nI o → x4 = nI x → k ≠ 256 * o + 16 * x + 15 → post 0) :
    wpX_ready post (l, t, g, a1, a2, a3, a4, a5, a6, a7, a8, a9, a10) x3 x4 15 := by
  unfold wpX_ready
  refine fw_isPlace (fun hp => br_f fw_10 (fw_isTime (fun ht => br_f fw_10 ?_) (fun h => br_t rfl (Hn (fun z => h ⟨z.2, fw_u15⟩))))) (fun h => br_t rfl (Hn (fun z => h z.1)))
  obtain ⟨o, ho, rfl⟩ := fw_plN hp
  obtain ⟨x, hx, rfl⟩ := fw_uN ht.1
  exact fw_r23 ho hx T K (H1 o x ho hx rfl rfl) (H0 o x ho hx rfl rfl)
/-- shortest, link, unlink -/
theorem fw_shortest {post : Int32 → Prop} {x0 x3 : Int32} (T : fw_T 49 0 a7 a8) (Hn : ¬ (fw_pl x0 ∧ fw_pl x3) → post (-1))
    (H1 : fw_pl x0 → fw_pl x3 → x0 = x3 → post 1) (H0 : fw_pl x0 → fw_pl x3 → ¬ x0 = x3 → post 0) : wpX_shortest post (l, t, g, a1, a2, a3, a4, a5, a6, a7, a8, a9, a10) x0 x3 := by
  unfold wpX_shortest
  refine fw_isPlace (fun hp => br_f fw_10 (fw_isPlace (fun ho => br_f fw_10 ?_) (fun h => br_t rfl (Hn (fun z => h z.2))))) (fun h => br_t rfl (Hn (fun z => h z.1)))
  have hp' := hp
  have ho' := ho
  obtain ⟨p, hpn, rfl⟩ := fw_plN hp
  obtain ⟨o, hon, rfl⟩ := fw_plN ho
  have hr : 7 * p + o < 49 := by omega
  refine ⟨pk_in _ 49 hr (fw_7 p o), ?_⟩
  rw [fw_7, nI_clamp (by omega), (T _ hr).1]
  by_cases e : p = o
  · rw [if_pos (Or.inl (by omega))]
    exact H1 hp' ho' (by rw [e])
  · rw [if_neg (fun h => h.elim (fun h => by omega) (fun h => by omega))]
    exact H0 hp' ho' (fun h => e ((nI_eq (by omega) (by omega)).mp h))
theorem fw_link {post : Int32 → St2 → Prop} {x0 x3 x4 : Int32} {k : Nat} (K : fw_K t a5 a6 k)
    (Hn : ¬ (fw_pl x0 ∧ fw_pl x3 ∧ ¬ x4 < 0 ∧ ¬ 3 < x4) → post (-1) (0, t, g, a1, a2, a3, a4, a5, a6, a7, a8, a9, a10))
    (Hy : fw_pl x0 → fw_pl x3 → ¬ x4 < 0 → ¬ 3 < x4 → ∀ t g a1 a2 a3 a4 a5 a6 a7 a8 a9 a10, post 1 (1, t, g, a1, a2, a3, a4, a5, a6, a7, a8, a9, a10)) :
    wpX_link post (0, t, g, a1, a2, a3, a4, a5, a6, a7, a8, a9, a10) x0 x3 1 x4 := by
  unfold wpX_link
  refine fw_isPlace (fun hp => br_f fw_10 (fw_isPlace (fun ho => br_f fw_10 ?_) (fun h => br_t rfl (Hn (fun z => h z.2.1))))) (fun h => br_t rfl (Hn (fun z => h z.1)))
  refine br_f (by decide) (br_f (by decide) (br_c (fun z => Hn (fun h => h.2.2.1 z)) (fun z => br_c (fun y => Hn (fun h => h.2.2.2 y)) (fun y => ?_))))
  have H := Hy hp ho z y
  obtain ⟨p, hpn, rfl⟩ := fw_plN hp
  obtain ⟨o, hon, rfl⟩ := fw_plN ho
  obtain ⟨q, hq, rfl⟩ := fw_3N z y
  refine br_t (by decide) ⟨pk_in 0 12 (by omega), nm_r (by rw [fw_c0]) ⟨pk_in 0 12 (by omega), nm_r (by rw [fw_c0]) ⟨pk_in 0 12 (by omega), nm_r (by rw [fw_c0]) ⟨pk_in 0 12 (by omega), nm_r (by rw [fw_c0]) (nm_r (e' := nI 1) rfl ?_)⟩⟩⟩⟩
  exact fw_reb1 hpn hon hq pk_us pk_us pk_us pk_us K (fun g' A7 A8 A9 A10 => H _ _ _ _ _ _ _ _ _ _ _ _)
theorem fw_unlink {post : Int32 → St2 → Prop} (hl : l = 0 ∨ l = 1) (H : post (-1) (l, t, g, a1, a2, a3, a4, a5, a6, a7, a8, a9, a10)) : wpX_unlink post (l, t, g, a1, a2, a3, a4, a5, a6, a7, a8, a9, a10) 1 :=
  br_f (by decide) (br_f (by rcases hl with rfl | rfl <;> decide) H)
end
end
section
/-! the law, from its last check to its first -/
/-- the state behind put, by the law's own place and time -/
def fw_G (k : Nat) (x0 x1 x2 t : Int32) (a5 a6 a7 a8 a10 : Nat → Int32) : Prop :=
  fw_T 49 0 a7 a8 ∧ fw_M k a10 ∧ ((t = nI 0 ∧ k = 1792 ∧ ¬ (fw_pl x0 ∧ fw_tm x1 x2)) ∨
    (∃ p a b, p < 7 ∧ a < 16 ∧ b < 16 ∧ x0 = nI p ∧ x1 = nI a ∧ x2 = nI b ∧ t = nI 1 ∧ a5 0 = nI p ∧ a6 0 = nI (16 * a + b) ∧ k = 256 * p + (16 * a + b)))
theorem fw_uI {p : Nat} (h : p < 16) : fw_u (nI p) := ⟨nI_pos (by omega), nI_nlt (a := 15) (b := p) (by omega) (by omega)⟩
theorem fw_GK {k : Nat} {x0 x1 x2 t : Int32} {a5 a6 a7 a8 a10 : Nat → Int32} (G : fw_G k x0 x1 x2 t a5 a6 a7 a8 a10) : fw_K t a5 a6 k := by
  obtain ⟨_, _, ⟨ht, hk, _⟩ | ⟨p, a, b, hp, ha, hb, _, _, _, ht, h5, h6, hk⟩⟩ := G
  · exact Or.inl ⟨ht, hk⟩
  · exact Or.inr ⟨ht, p, 16 * a + b, hp, by omega, h5, h6, hk⟩
theorem fw_Gh {k o : Nat} {x0 x1 x2 x3 t : Int32} {a5 a6 a7 a8 a10 : Nat → Int32} (G : fw_G k x0 x1 x2 t a5 a6 a7 a8 a10) (ho : o < 7) (h3 : x3 = nI o)
    (h : (fw_pl x0 ∧ fw_tm x1 x2) ∧ x3 = x0) : ∃ a b, a < 16 ∧ b < 16 ∧ x1 = nI a ∧ x2 = nI b ∧ k = 256 * o + (16 * a + b) := by
  obtain ⟨_, _, ⟨_, _, hn⟩ | ⟨p, a, b, hp, ha, hb, h0, h1, h2, _, _, _, hk⟩⟩ := G
  · exact absurd h.1 hn
  · have e : o = p := (nI_eq (by omega) (by omega)).mp (h3.symm.trans (h.2.trans h0))
    exact ⟨a, b, ha, hb, h1, h2, by rw [e]; exact hk⟩
theorem fw_Gn {k o : Nat} {x0 x1 x2 x3 t : Int32} {a5 a6 a7 a8 a10 : Nat → Int32} (G : fw_G k x0 x1 x2 t a5 a6 a7 a8 a10) (ho : o < 7) (h3 : x3 = nI o)
    (h : ¬ ((fw_pl x0 ∧ fw_tm x1 x2) ∧ x3 = x0)) : k < 256 * o ∨ 256 * o + 256 ≤ k := by
  obtain ⟨_, _, ⟨_, hk, _⟩ | ⟨p, a, b, hp, ha, hb, h0, h1, h2, _, _, _, hk⟩⟩ := G
  · omega
  · have e : ¬ o = p := by
      intro e
      refine h ⟨⟨?_, ?_⟩, ?_⟩
      · rw [h0]; exact fw_plI hp
      · rw [h1, h2]; exact ⟨fw_uI ha, fw_uI hb⟩
      · rw [h3, h0, e]
    omega
section
variable {l t g : Int32} {a1 a2 a3 a4 a5 a6 a7 a8 a9 a10 : Nat → Int32}
variable {post : Int32 → St0 → Prop} {mc ms kc ks k : Nat} {x0 x1 x2 x3 x4 x6 x7 x8 x9 x10 z0 z1 : Int32}
theorem fw_L370 (hp : post 1 ()) (hl : l = 0 ∨ l = 1) (hz : z1 = z0) : wL_lawOf_370 post mc ms z0 z1 kc ks l t g a1 a2 a3 a4 a5 a6 a7 a8 a9 a10 :=
  br_t hz (fw_unlink hl (br_t rfl hp))
theorem fw_L329 (hp : post 1 ()) (K : fw_K t a5 a6 k) (h6 : fw_fl x6 (fw_pl x0)) (h8 : fw_fl x8 (fw_pl x3)) (hz : z1 = z0) :
    wL_lawOf_329 post mc ms x0 x3 x4 x6 x8 z0 z1 kc ks 0 t g a1 a2 a3 a4 a5 a6 a7 a8 a9 a10 := by
  refine br_t hz (fw_link K (fun hn => ?_) (fun hp0 ho0 hz hy t g a1 a2 a3 a4 a5 a6 a7 a8 a9 a10 => ?_))
  · have F : wL_lawOf_369 post mc ms (-1) kc ks 0 t g a1 a2 a3 a4 a5 a6 a7 a8 a9 a10 := fw_L370 hp (Or.inl rfl) rfl
    exact br_c (fun _ => F) (fun n6 => br_c (fun _ => F) (fun n8 => br_c (fun _ => F) (fun z => br_c (fun _ => F) (fun y => absurd ⟨fw_fl1 h6 n6, fw_fl1 h8 n8, z, y⟩ hn))))
  · exact br_f (fun e => fw_fl0 h6 e hp0) (br_f (fun e => fw_fl0 h8 e ho0) (br_f hz (br_f hy (fw_L370 hp (Or.inr rfl) rfl))))
theorem fw_L295 (hp : post 1 ()) (T : fw_T 49 0 a7 a8) (K : fw_K t a5 a6 k) (h6 : fw_fl x6 (fw_pl x0)) (h8 : fw_fl x8 (fw_pl x3)) (hz : z1 = z0) :
    wL_lawOf_295 post mc ms x0 x3 x4 x6 x8 z0 z1 kc ks 0 t g a1 a2 a3 a4 a5 a6 a7 a8 a9 a10 := by
  refine br_t hz (fw_shortest T (fun hn => ?_) (fun hp0 ho0 e => ?_) (fun hp0 ho0 e => ?_))
  · have F : wL_lawOf_315 post mc ms x0 x3 x4 x6 x8 (-1) kc ks 0 t g a1 a2 a3 a4 a5 a6 a7 a8 a9 a10 := fw_L329 hp K h6 h8 rfl
    exact br_c (fun _ => F) (fun n6 => br_c (fun _ => F) (fun n8 => absurd ⟨fw_fl1 h6 n6, fw_fl1 h8 n8⟩ hn))
  · exact br_f (fun e => fw_fl0 h6 e hp0) (br_f (fun e => fw_fl0 h8 e ho0) (br_t e (fw_L329 hp K h6 h8 rfl)))
  · exact br_f (fun e => fw_fl0 h6 e hp0) (br_f (fun e => fw_fl0 h8 e ho0) (br_f e (fw_L329 hp K h6 h8 rfl)))
theorem fw_L244 (hp : post 1 ()) (G : fw_G k x0 x1 x2 t a5 a6 a7 a8 a10) (h6 : fw_fl x6 (fw_pl x0)) (h8 : fw_fl x8 (fw_pl x3)) (h9 : fw_fl x9 (fw_u x4))
    (h10 : fw_fl x10 ((fw_pl x0 ∧ fw_tm x1 x2) ∧ x3 = x0)) (hz : z1 = z0) :
    wL_lawOf_244 post mc ms x0 x1 x2 x3 x4 x6 x8 x9 x10 z0 z1 kc ks 0 t g a1 a2 a3 a4 a5 a6 a7 a8 a9 a10 := by
  have K := fw_GK G
  refine br_t hz (fw_ready G.1 K (fun hn => ?_) (fun o x ho hx e3 e4 hk => ?_) (fun o x ho hx e3 e4 hk => ?_))
  · have F : wL_lawOf_269 post mc ms x0 x3 x4 x6 x8 (-1) kc ks 0 t g a1 a2 a3 a4 a5 a6 a7 a8 a9 a10 := fw_L295 hp G.1 K h6 h8 rfl
    exact br_c (fun _ => F) (fun n8 => br_c (fun _ => F) (fun n9 => absurd ⟨fw_fl1 h8 n8, fw_fl1 h9 n9⟩ hn))
  · have p3 : fw_pl x3 := by rw [e3]; exact fw_plI ho
    have p4 : fw_u x4 := by rw [e4]; exact fw_uI hx
    refine br_f (fun e => fw_fl0 h8 e p3) (br_f (fun e => fw_fl0 h9 e p4) (br_c (fun e => ?_) (fun n => ?_)))
    · exact absurd (fw_Gn G ho e3 (fw_fl0 h10 e)) (by omega)
    · obtain ⟨a, b, ha, hb, e1, e2, hk2⟩ := fw_Gh G ho e3 (fw_fl1 h10 n)
      have ea : a = x := by omega
      have eb : b = 15 := by omega
      exact br_t (by rw [e1, e4, ea]) (br_t (by rw [e2, eb]; rfl) (fw_L295 hp G.1 K h6 h8 rfl))
  · have p3 : fw_pl x3 := by rw [e3]; exact fw_plI ho
    have p4 : fw_u x4 := by rw [e4]; exact fw_uI hx
    have F : wL_lawOf_294 post mc ms x0 x3 x4 x6 x8 0 kc ks 0 t g a1 a2 a3 a4 a5 a6 a7 a8 a9 a10 := fw_L295 hp G.1 K h6 h8 rfl
    refine br_f (fun e => fw_fl0 h8 e p3) (br_f (fun e => fw_fl0 h9 e p4) (br_c (fun _ => F) (fun n => br_c (fun e => br_c (fun e' => ?_) (fun _ => F)) (fun _ => F))))
    obtain ⟨a, b, ha, hb, e1, e2, hk2⟩ := fw_Gh G ho e3 (fw_fl1 h10 n)
    have ea : a = x := (nI_eq (by omega) (by omega)).mp (e1.symm.trans (e.trans e4))
    have eb : b = 15 := (nI_eq (b := 15) (by omega) (by omega)).mp (e2.symm.trans e')
    omega
theorem fw_L219 (hp : post 1 ()) (G : fw_G k x0 x1 x2 t a5 a6 a7 a8 a10) (h6 : fw_fl x6 (fw_pl x0)) (h8 : fw_fl x8 (fw_pl x3)) (h9 : fw_fl x9 (fw_u x4))
    (h10 : fw_fl x10 ((fw_pl x0 ∧ fw_tm x1 x2) ∧ x3 = x0)) (hz : z1 = z0) :
    wL_lawOf_219 post mc ms x0 x1 x2 x3 x4 x6 x8 x9 x10 z0 z1 kc ks 0 t g a1 a2 a3 a4 a5 a6 a7 a8 a9 a10 := by
  refine br_t hz (fw_frontAt G.2.1 (fun hn => ?_) (fun o ho e3 h1 h2 => ?_) (fun o ho e3 h0 => ?_))
  · refine br_c (fun _ => fw_L244 hp G h6 h8 h9 h10 rfl) (fun n => ?_)
    have hh := fw_fl1 h10 n
    exact absurd (show fw_pl x3 by rw [hh.2]; exact hh.1.1) hn
  · refine br_c (fun e => absurd (fw_Gn G ho e3 (fw_fl0 h10 e)) (by omega)) (fun n => ?_)
    obtain ⟨a, b, ha, hb, e1, e2, hk2⟩ := fw_Gh G ho e3 (fw_fl1 h10 n)
    exact fw_L244 hp G h6 h8 h9 h10 (by rw [e1, e2, fw_16, show k - 256 * o = 16 * a + b by omega])
  · refine br_c (fun _ => fw_L244 hp G h6 h8 h9 h10 rfl) (fun n => ?_)
    obtain ⟨a, b, ha, hb, e1, e2, hk2⟩ := fw_Gh G ho e3 (fw_fl1 h10 n)
    exact absurd h0 (by omega)
theorem fw_L191 (hp : post 1 ()) (G : fw_G k x0 x1 x2 t a5 a6 a7 a8 a10) (h6 : fw_fl x6 (fw_pl x0)) (h8 : fw_fl x8 (fw_pl x3)) (h9 : fw_fl x9 (fw_u x4))
    (h10 : fw_fl x10 ((fw_pl x0 ∧ fw_tm x1 x2) ∧ x3 = x0)) (hz : z1 = z0) :
    wL_lawOf_191 post mc ms x0 x1 x2 x3 x4 x6 x8 x9 x10 z0 z1 kc ks 0 t g a1 a2 a3 a4 a5 a6 a7 a8 a9 a10 := by
  refine br_t hz (fw_front G.2.1 (fun hn => ?_) (fun o ho e3 h1 h2 => ?_) (fun o ho e3 h0 => ?_))
  · exact br_c (fun _ => fw_L219 hp G h6 h8 h9 h10 rfl) (fun n => absurd (fw_fl1 h8 n) hn)
  · have p3 : fw_pl x3 := by rw [e3]; exact fw_plI ho
    refine br_f (fun e => fw_fl0 h8 e p3) (br_c (fun e => absurd (fw_Gn G ho e3 (fw_fl0 h10 e)) (by omega)) (fun n => fw_L219 hp G h6 h8 h9 h10 rfl))
  · have p3 : fw_pl x3 := by rw [e3]; exact fw_plI ho
    refine br_f (fun e => fw_fl0 h8 e p3) (br_c (fun _ => fw_L219 hp G h6 h8 h9 h10 rfl) (fun n => ?_))
    obtain ⟨a, b, ha, hb, e1, e2, hk2⟩ := fw_Gh G ho e3 (fw_fl1 h10 n)
    exact absurd h0 (by omega)
theorem fw_L149 (hp : post 1 ()) (G : fw_G k x0 x1 x2 t a5 a6 a7 a8 a10) (h6 : fw_fl x6 (fw_pl x0)) (h8 : fw_fl x8 (fw_pl x3)) (h9 : fw_fl x9 (fw_u x4))
    (h10 : fw_fl x10 ((fw_pl x0 ∧ fw_tm x1 x2) ∧ x3 = x0)) :
    wL_lawOf_149 post mc ms x0 x1 x2 x3 x4 x6 x8 x9 x10 kc ks 0 t g a1 a2 a3 a4 a5 a6 a7 a8 a9 a10 := by
  refine fw_possible G.2.1 (fun hn => ?_) (fun o x ho hx e3 e4 h1 h2 => ?_) (fun o x ho hx e3 e4 h0 => ?_)
  · have F : wL_lawOf_171 post mc ms x0 x1 x2 x3 x4 x6 x8 x9 x10 (-1) kc ks 0 t g a1 a2 a3 a4 a5 a6 a7 a8 a9 a10 := fw_L191 hp G h6 h8 h9 h10 rfl
    exact br_c (fun _ => F) (fun n8 => br_c (fun _ => F) (fun n9 => absurd ⟨fw_fl1 h8 n8, fw_fl1 h9 n9⟩ hn))
  · have p3 : fw_pl x3 := by rw [e3]; exact fw_plI ho
    have p4 : fw_u x4 := by rw [e4]; exact fw_uI hx
    refine br_f (fun e => fw_fl0 h8 e p3) (br_f (fun e => fw_fl0 h9 e p4) (br_c (fun e => absurd (fw_Gn G ho e3 (fw_fl0 h10 e)) (by omega)) (fun n => ?_)))
    obtain ⟨a, b, ha, hb, e1, e2, hk2⟩ := fw_Gh G ho e3 (fw_fl1 h10 n)
    exact br_f (by rw [e1, e4]; exact nI_nlt (by omega) (by omega)) (fw_L191 hp G h6 h8 h9 h10 rfl)
  · have p3 : fw_pl x3 := by rw [e3]; exact fw_plI ho
    have p4 : fw_u x4 := by rw [e4]; exact fw_uI hx
    have F : wL_lawOf_190 post mc ms x0 x1 x2 x3 x4 x6 x8 x9 x10 0 kc ks 0 t g a1 a2 a3 a4 a5 a6 a7 a8 a9 a10 := fw_L191 hp G h6 h8 h9 h10 rfl
    refine br_f (fun e => fw_fl0 h8 e p3) (br_f (fun e => fw_fl0 h9 e p4) (br_c (fun _ => F) (fun n => ?_)))
    obtain ⟨a, b, ha, hb, e1, e2, hk2⟩ := fw_Gh G ho e3 (fw_fl1 h10 n)
    exact br_t (by rw [e1, e4]; exact nI_lt (by omega) (by omega)) F
theorem fw_L127 (hp : post 1 ()) (G : fw_G k x0 x1 x2 t a5 a6 a7 a8 a10) (h6 : fw_fl x6 (fw_pl x0)) (h7 : fw_fl x7 (fw_tm x1 x2)) (h8 : fw_fl x8 (fw_pl x3)) (h9 : fw_fl x9 (fw_u x4)) :
    wL_lawOf_127 post mc ms x0 x1 x2 x3 x4 x6 x7 x8 x9 kc ks 0 t g a1 a2 a3 a4 a5 a6 a7 a8 a9 a10 := by
  have F : ¬ ((fw_pl x0 ∧ fw_tm x1 x2) ∧ x3 = x0) → wL_lawOf_148 post mc ms x0 x1 x2 x3 x4 x6 x8 x9 kc ks 0 t g a1 a2 a3 a4 a5 a6 a7 a8 a9 a10 :=
    fun h => fw_L149 hp G h6 h8 h9 (fw_flf h)
  exact br_c (fun e => F (fun h => fw_fl0 h6 e h.1.1)) (fun n6 => br_c (fun e => F (fun h => fw_fl0 h7 e h.1.2)) (fun n7 =>
    br_c (fun e => fw_L149 hp G h6 h8 h9 (fw_flt ⟨⟨fw_fl1 h6 n6, fw_fl1 h7 n7⟩, e⟩)) (fun n => F (fun h => n h.2))))
theorem fw_L108 (hp : post 1 ()) (G : fw_G k x0 x1 x2 t a5 a6 a7 a8 a10) (h6 : fw_fl x6 (fw_pl x0)) (h7 : fw_fl x7 (fw_tm x1 x2)) (h8 : fw_fl x8 (fw_pl x3)) :
    wL_lawOf_108 post mc ms x0 x1 x2 x3 x4 x6 x7 x8 kc ks 0 t g a1 a2 a3 a4 a5 a6 a7 a8 a9 a10 := by
  have F : ¬ fw_u x4 → wL_lawOf_126 post mc ms x0 x1 x2 x3 x4 x6 x7 x8 kc ks 0 t g a1 a2 a3 a4 a5 a6 a7 a8 a9 a10 :=
    fun h => fw_L127 hp G h6 h7 h8 (fw_flf h)
  exact br_c (fun e => F (fun h => h.1 e)) (fun n => br_c (fun e => F (fun h => h.2 e)) (fun n' => fw_L127 hp G h6 h7 h8 (fw_flt ⟨n, n'⟩)))
theorem fw_L88 (hp : post 1 ()) (G : fw_G k x0 x1 x2 t a5 a6 a7 a8 a10) (h6 : fw_fl x6 (fw_pl x0)) (h7 : fw_fl x7 (fw_tm x1 x2)) (hz : z1 = z0) :
    wL_lawOf_88 post mc ms x0 x1 x2 x3 x4 x6 x7 z0 z1 kc ks 0 t g a1 a2 a3 a4 a5 a6 a7 a8 a9 a10 := by
  have F : ¬ fw_pl x3 → wL_lawOf_107 post mc ms x0 x1 x2 x3 x4 x6 x7 kc ks 0 t g a1 a2 a3 a4 a5 a6 a7 a8 a9 a10 :=
    fun h => fw_L108 hp G h6 h7 (fw_flf h)
  exact br_t hz (br_c (fun e => F (fun h => h.1 e)) (fun n => br_c (fun e => F (fun h => h.2 e)) (fun n' => fw_L108 hp G h6 h7 (fw_flt ⟨n, n'⟩))))
theorem fw_L51 (hp : post 1 ()) (T : fw_T 49 0 a7 a8) (M : fw_M 1792 a10) (h6 : fw_fl x6 (fw_pl x0)) (h7 : fw_fl x7 (fw_tm x1 x2)) :
    wL_lawOf_51 post mc ms x0 x1 x2 x3 x4 x6 x7 kc ks 0 0 g a1 a2 a3 a4 a5 a6 a7 a8 a9 a10 := by
  refine fw_take (br_t rfl (fw_put T (fun hn => ?_) (fun p a b hp' ha hb e0 e1 e2 => ?_)))
  · have G : fw_G 1792 x0 x1 x2 0 a5 a6 a7 a8 a10 := ⟨T, M, Or.inl ⟨rfl, rfl, hn⟩⟩
    have F : wL_lawOf_87 post mc ms x0 x1 x2 x3 x4 x6 x7 (-1) kc ks 0 0 g a1 a2 a3 a4 a5 a6 a7 a8 a9 a10 := fw_L88 hp G h6 h7 rfl
    exact br_c (fun _ => F) (fun n6 => br_c (fun _ => F) (fun n7 => absurd ⟨fw_fl1 h6 n6, fw_fl1 h7 n7⟩ hn))
  · have p0 : fw_pl x0 := by rw [e0]; exact fw_plI hp'
    have p1 : fw_tm x1 x2 := by rw [e1, e2]; exact ⟨fw_uI ha, fw_uI hb⟩
    have hM : fw_M (256 * p + (16 * a + b)) (upd a10 (256 * p + (16 * a + b)) (a10 (256 * p + (16 * a + b)) + 1)) := by
      intro j hj
      by_cases e : j = 256 * p + (16 * a + b)
      · rw [if_pos e, e, pk_us, M _ (by omega), if_neg (by omega)]
        rfl
      · rw [if_neg e, pk_un e, M j hj, if_neg (by omega)]
    have G : fw_G (256 * p + (16 * a + b)) x0 x1 x2 (nI 1) (upd a5 0 (nI p)) (upd a6 0 (nI (16 * a + b))) a7 a8 (upd a10 (256 * p + (16 * a + b)) (a10 (256 * p + (16 * a + b)) + 1)) :=
      ⟨T, hM, Or.inr ⟨p, a, b, hp', ha, hb, e0, e1, e2, rfl, pk_us, pk_us, rfl⟩⟩
    exact br_f (fun e => fw_fl0 h6 e p0) (br_f (fun e => fw_fl0 h7 e p1) (fw_L88 hp G h6 h7 rfl))
theorem fw_L24 (hp : post 1 ()) (T : fw_T 49 0 a7 a8) (M : fw_M 1792 a10) (h6 : fw_fl x6 (fw_pl x0)) :
    wL_lawOf_24 post mc ms x0 x1 x2 x3 x4 x6 kc ks 0 0 g a1 a2 a3 a4 a5 a6 a7 a8 a9 a10 := by
  have F : ¬ fw_tm x1 x2 → wL_lawOf_50 post mc ms x0 x1 x2 x3 x4 x6 kc ks 0 0 g a1 a2 a3 a4 a5 a6 a7 a8 a9 a10 :=
    fun h => fw_L51 hp T M h6 (fw_flf h)
  exact br_c (fun e => F (fun h => h.1.1 e)) (fun n1 => br_c (fun e => F (fun h => h.1.2 e)) (fun n2 => br_c (fun e => F (fun h => h.2.1 e)) (fun n3 => br_c (fun e => F (fun h => h.2.2 e)) (fun n4 =>
    fw_L51 hp T M h6 (fw_flt ⟨⟨n1, n2⟩, ⟨n3, n4⟩⟩)))))
end
theorem fw_lawOf {post : Int32 → St0 → Prop} (hp : post 1 ()) (x0 x1 x2 x3 x4 : Int32) : wpL_lawOf post 11 2913 () x0 x1 x2 x3 x4 := by
  refine And.intro (by omega) ⟨by omega, 10, 2900, by omega, by omega, fw_init (fun A7 A8 A10 T M => ?_)⟩
  exact br_c (fun e => fw_L24 hp T M (fw_flf (fun h => h.1 e))) (fun n => br_c (fun e => fw_L24 hp T M (fw_flf (fun h => h.2 e))) (fun n' => fw_L24 hp T M (fw_flt ⟨n, n'⟩)))
theorem fw_cell {post : Int32 → Prop} {L i : Nat} {xs : Nat → Int32} (hL : L ≤ 5) (hi : i < 5) (H : ∀ x, post x) : wpL_cellAt post L xs () (nI i) :=
  pk_le L i (fun _ => H 0) (fun z => ⟨pk_in i L z, H _⟩)
end
section
theorem i_vc (xs : Nat → Int32) (L : Nat) (hL : L ≤ 5) : wpL_law (fun r => r = 1) L xs :=
  fw_cell (i := 0) hL (by omega) (fun r1 => fw_cell (i := 1) hL (by omega) (fun r2 => fw_cell (i := 2) hL (by omega) (fun r3 => fw_cell (i := 3) hL (by omega) (fun r4 => fw_cell (i := 4) hL (by omega) (fun r5 =>
    ⟨11, 2913, by omega, by omega, fw_lawOf (post := fun r _ => r = 1) rfl r1 r2 r3 r4 r5⟩)))))
end
