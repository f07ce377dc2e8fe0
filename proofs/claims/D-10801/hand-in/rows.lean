section
section
variable {f0 f1 f2 f3 : Int32} {a1 a2 a3 a4 a5 a6 a7 a8 a9 a10 a11 a12 a13 a14 : Nat → Int32}
/-- the set of the one selector k; the empty set for k = 8 -/
def sn_b (k : Nat) : Int32 := if k < 8 then nI (2 ^ k) else 0
/-- the set that meets selector j -/
def sn_m (k j : Nat) : Int32 := if j = k then sn_b k else 0
theorem sn_bit : ∀ k, k < 9 → ∀ j, j < 8 → ((sn_b k >>> (nI j &&& 31)) &&& 1) = (if j = k then (1 : Int32) else 0) := by decide +kernel
theorem sn_bit0 : ∀ j, j < 8 → (((0 : Int32) >>> (nI j &&& 31)) &&& 1) = 0 := by decide +kernel
theorem sn_shl : ∀ j, j < 8 → (1 : Int32) <<< (nI j &&& 31) = sn_b j := by decide +kernel
theorem sn_s16 : ∀ k, k < 9 → (sn_b k).toInt16.toInt32 = sn_b k := by decide +kernel
theorem sn_0or : ∀ k, k < 9 → (0 : Int32) ||| sn_b k = sn_b k := by decide +kernel
theorem sn_i8 : ∀ k, k < 9 → (nI k).toInt8.toInt32 = nI k := by decide +kernel
theorem sn_m16 : ∀ k, k < 9 → ∀ j, j < 8 → (sn_m k j).toInt16.toInt32 = sn_m k j := by decide +kernel
theorem sn_far : ∀ k, k < 9 → ∀ j, j < 8 → (255 &&& (sn_m k j ^^^ (-1))) &&& (((1 : Int32) <<< (nI j &&& 31)) ^^^ (-1)) = 255 - ((1 : Int32) <<< (nI j &&& 31)) := by decide +kernel
theorem sn_val : ∀ q, q < 1001 → (nI q).toInt16.toInt32 = nI q := by decide +kernel
theorem sn_z (i : Nat) : (0 : Int32) * 8 + nI i = nI i := by
  show nI 0 + nI i = nI i
  rw [nI_add, Nat.zero_add]
theorem sn_nle {x : Int32} (h : x < 0) : ¬ 0 ≤ x := by
  intro z
  rw [Int32.lt_iff_toInt_lt] at h
  rw [Int32.le_iff_toInt_le] at z
  omega
theorem sn_u {f : Nat → Int32} {k i : Nat} {x : Int32} (h : i = k) : upd f i x k = x := by
  rw [h, pk_us]
theorem sn_fill {f s : Nat → Int32} {i : Nat} {x : Int32} (h : ∀ j, j < i → s j = f j) (hx : x = f i) : ∀ j, j < i + 1 → upd s i x j = f j := by
  intro j hj
  by_cases e : j = i
  · rw [e, pk_us, hx]
  · rw [pk_un e]
    exact h j (by omega)
/-! the small methods -/
theorem sn_isClass {post : Int32 → Prop} {n : Nat} (hn : n ≤ 1) (p : Int32) (h0 : ¬ (n = 1 ∧ p = 0) → post 0) (h1 : n = 1 → p = 0 → post 1) : wpX_isClass post (nI n, f1, f2, f3, a1, a2, a3, a4, a5, a6, a7, a8, a9, a10, a11, a12, a13, a14) p := by
  refine br_c (fun z => h0 (fun y => ?_)) (fun z => br_c (fun y => h0 (fun x => ?_)) (fun y => ?_))
  · rw [y.2] at z
    exact absurd z (by decide)
  · rw [x.1, x.2] at y
    exact absurd y (by decide)
  · obtain ⟨j, hj, rfl⟩ := nI_of z
    have e : j < n := by
      rcases Nat.lt_or_ge j n with e | e
      · exact e
      · exact absurd (nI_le e hj) y
    have e1 : n = 1 := by omega
    have e2 : j = 0 := by omega
    subst e2
    exact h1 e1 rfl
theorem sn_isSel {post : Int32 → Prop} (p : Int32) (h0 : (∀ j, j < 8 → p ≠ nI j) → post 0) (h1 : ∀ j, j < 8 → p = nI j → post 1) : wpX_isSelector post () p := by
  refine br_c (fun z => h0 (fun j hj e => ?_)) (fun z => br_c (fun y => h0 (fun j hj e => ?_)) (fun y => ?_))
  · rw [e] at z
    exact absurd z (nI_pos (by omega))
  · rw [e] at y
    exact absurd y (nI_ge (b := 8) hj (by decide))
  · obtain ⟨j, hj, rfl⟩ := nI_of z
    have e : j < 8 := by
      rcases Nat.lt_or_ge j 8 with e | e
      · exact e
      · exact absurd (nI_le e hj) y
    exact h1 j e rfl
theorem sn_sortDown {post : St2 → Prop} {n : Nat} (hn : n ≤ 1) (ha : n = 1 → a1 0 < 0) (H : ∀ b : Nat → Int32, (n = 1 → b 0 = 0) → post (nI n, f1, f2, f3, a1, a2, a3, a4, a5, a6, a7, a8, a9, a10, a11, a12, a13, b)) : wpX_sortDown post (nI n, f1, f2, f3, a1, a2, a3, a4, a5, a6, a7, a8, a9, a10, a11, a12, a13, a14) := by
  rcases (by omega : n = 0 ∨ n = 1) with e | e
  · subst e
    exact Exists.intro 1 (br_t (by decide) (H a14 (fun z => absurd z (by decide))))
  · subst e
    exact Exists.intro 2 (br_f (by decide) (Exists.intro 2 (br_f (by decide) (br_t (by decide) (And.intro (pk_in 0 10 (by decide)) (br_t (ha rfl) (br_f (by decide) (br_f (by decide) (And.intro (pk_in 0 10 (by decide)) (nm_e (nm_e (nm_e (nm_e (br_t (by decide) (nm_e (br_t (by decide) (H _ (fun _ => (sn_u sb_cl0).trans (by decide)))))))))))))))))))
theorem sn_own {post : Int32 → Prop} {k : Nat} (hk : k ≤ 8) (h2 : ∀ j, j < 8 → (a2 j = 0 ↔ j ≠ k)) (H : post (sn_b k)) : wpX_own post (f0, f1, f2, f3, a1, a2, a3, a4, a5, a6, a7, a8, a9, a10, a11, a12, a13, a14) 0 := by
  refine pk_loop (fun n i (s : Int32) => wX_own_4 post 0 f0 f1 f2 f3 a1 a2 a3 a4 a5 a6 a7 a8 a9 a10 a11 a12 a13 a14 n s (nI i)) (fun i s => s = if k < i then sn_b k else 0) 8 0 0 (by omega) (by rw [if_neg (by omega)]) ?_ ?_
  · intro n s (h : s = if k < 8 then sn_b k else 0)
    refine pk_le 8 8 (fun _ => ?_) (fun z => absurd z (by omega))
    have e : s = sn_b k := by
      rw [h]
      by_cases e : k < 8
      · rw [if_pos e]
      · rw [if_neg e, show k = 8 by omega]
        rfl
    rw [e]
    exact H
  · intro n i s hi (h : s = if k < i then sn_b k else 0) hw
    refine pk_le 8 i (fun z => absurd z (by omega)) (fun _ => ?_)
    rw [sn_z, nI_clamp (show i < 2 ^ 31 by omega)]
    refine And.intro (pk_in i 80 (by omega)) ?_
    by_cases e : i = k
    · refine br_f (fun z => (h2 i hi).mp z e) (nm_e (nm_r (nI_1 i) (hw _ ?_)))
      show s ||| ((1 : Int32) <<< (nI i &&& 31)) = if k < i + 1 then sn_b k else 0
      rw [h, if_neg (by omega), if_pos (by omega), sn_shl i hi, sn_0or i (by omega), e]
    · refine br_t ((h2 i hi).mpr e) (nm_r (nI_1 i) (hw _ ?_))
      show s = if k < i + 1 then sn_b k else 0
      rw [h]
      by_cases e' : k < i
      · rw [if_pos e', if_pos (by omega)]
      · rw [if_neg e', if_neg (by omega)]
theorem sn_learn {post : St2 → Prop} {n k : Nat} (hn : n ≤ 1) (hk : k ≤ 8) (h1 : n = 1 → a1 0 < 0) (h2 : ∀ j, j < 8 → (a2 j = 0 ↔ j ≠ k)) (h14 : n = 1 → a14 0 = 0) (H : ∀ b : Nat → Int32, (n = 1 → b 0 = sn_b k) → post (nI n, f1, f2, f3, a1, a2, b, a4, a5, a6, a7, a8, a9, a10, a11, a12, a13, a14)) : wpX_learn post (nI n, f1, f2, f3, a1, a2, a3, a4, a5, a6, a7, a8, a9, a10, a11, a12, a13, a14) := by
  rcases (by omega : n = 0 ∨ n = 1) with e | e
  · subst e
    exact Exists.intro 1 (br_t (by decide) (H a3 (fun z => absurd z (by decide))))
  · subst e
    refine Exists.intro 2 (br_f (by decide) (And.intro (pk_in 0 10 (by decide)) (nm_r (h14 rfl) (And.intro (pk_in 0 10 (by decide)) (br_f (sn_nle (h1 rfl)) (sn_own hk h2 ?_))))))
    refine And.intro (pk_in 0 10 (by decide)) (nm_e (nm_e (br_t (by decide) (H _ (fun _ => (sn_u sb_cl0).trans ?_)))))
    rw [sn_0or k (by omega), sn_s16 k (by omega)]
end
end
section
section
variable {f0 f1 f2 f3 : Int32} {a1 a2 a3 a4 a5 a6 a7 a8 a9 a10 a11 a12 a13 a14 : Nat → Int32}
theorem sn_meet12 {post : St2 → Prop} {J : Int32 → (Nat → Int32) → (Nat → Int32) → (Nat → Int32) → (Nat → Int32) → (Nat → Int32) → (Nat → Int32) → (Nat → Int32) → (Nat → Int32) → (Nat → Int32) → (Nat → Int32) → (Nat → Int32) → (Nat → Int32) → (Nat → Int32) → (Nat → Int32) → Prop} {n k i : Nat} (hn : n ≤ 1) (hk : k ≤ 8) (hz : n = 0 → k = 8) (h3 : n = 1 → a3 0 = sn_b k) (hi : i < 8) (H : J (nI (i + 1)) a1 a2 a3 (upd a4 i (sn_m k i)) a5 a6 a7 a8 a9 a10 a11 a12 a13 a14) : ∃ f, wX_meet_12 post J (nI i) (nI n) f1 f2 f3 a1 a2 a3 a4 a5 a6 a7 a8 a9 a10 a11 a12 a13 a14 f 0 0 := by
  have fin : ∀ x : Int32, x = sn_m k i → (vp_in (nI i) 8 ∧ ∀ d : Nat → Int32, d = upd a4 (nI i).toNatClampNeg x.toInt16.toInt32 → ∀ y : Int32, y = nI i + 1 → J y a1 a2 a3 d a5 a6 a7 a8 a9 a10 a11 a12 a13 a14) := by
    intro x ex
    rw [nI_clamp (show i < 2 ^ 31 by omega), ex, sn_m16 k (by omega) i hi]
    exact And.intro (pk_in i 8 hi) (nm_e (nm_r (nI_1 i) H))
  rcases (by omega : n = 0 ∨ n = 1) with e | e
  · subst e
    have hk8 := hz rfl
    exact Exists.intro 1 (br_t (by decide) (fin 0 (if_neg (show ¬ i = k by omega)).symm))
  · subst e
    have h3' : a3 (0 : Int32).toNatClampNeg = sn_b k := h3 rfl
    have hb := sn_bit k (by omega) i hi
    by_cases e : i = k
    · rw [if_pos e] at hb
      refine Exists.intro 2 (br_f (by decide) (And.intro (pk_in 0 10 (by decide)) (br_f ?_ (And.intro (pk_in 0 10 (by decide)) (nm_e (nm_e (br_t (by decide) (fin _ ?_))))))))
      · rw [h3', hb]
        decide
      · rw [h3', sn_0or k (by omega)]
        exact (if_pos e).symm
    · rw [if_neg e] at hb
      refine Exists.intro 2 (br_f (by decide) (And.intro (pk_in 0 10 (by decide)) (br_t ?_ (nm_e (br_t (by decide) (fin _ ?_))))))
      · rw [h3', hb]
      · exact (if_neg e).symm
theorem sn_meet {post : St2 → Prop} {n k : Nat} (hn : n ≤ 1) (hk : k ≤ 8) (hz : n = 0 → k = 8) (h3 : n = 1 → a3 0 = sn_b k) (H : ∀ b : Nat → Int32, (∀ j, j < 8 → b j = sn_m k j) → post (nI n, f1, f2, f3, a1, a2, a3, b, a5, a6, a7, a8, a9, a10, a11, a12, a13, a14)) : wpX_meet post (nI n, f1, f2, f3, a1, a2, a3, a4, a5, a6, a7, a8, a9, a10, a11, a12, a13, a14) := by
  refine pk_loop (fun f i (s : Nat → Int32) => wX_meet_2 post (nI n) f1 f2 f3 f (nI i) a1 a2 a3 s a5 a6 a7 a8 a9 a10 a11 a12 a13 a14) (fun i s => ∀ j, j < i → s j = sn_m k j) 8 0 a4 (by omega) (fun j hj => absurd hj (by omega)) ?_ ?_
  · intro f s h
    exact pk_le 8 8 (fun _ => H s h) (fun z => absurd z (by omega))
  · intro f i s hi h hw
    exact pk_le 8 i (fun z => absurd z (by omega)) (fun _ => sn_meet12 hn hk hz h3 hi (hw _ (sn_fill h rfl)))
theorem sn_sizeOf {post : Int32 → Prop} {t : Nat} (ht : t ≤ 8) (H : post (if t < 8 then 1 else 0)) : wpX_sizeOf post () (sn_b t) := by
  refine pk_loop (fun f i (s : Int32) => wX_sizeOf_4 post (sn_b t) f s (nI i)) (fun i s => s = if t < i then (1 : Int32) else 0) 8 0 0 (by omega) (by rw [if_neg (by omega)]) ?_ ?_
  · intro f s (h : s = if t < 8 then (1 : Int32) else 0)
    subst h
    exact pk_le 8 8 (fun _ => H) (fun z => absurd z (by omega))
  · intro f i s hi (h : s = if t < i then (1 : Int32) else 0) hw
    refine pk_le 8 i (fun z => absurd z (by omega)) (fun _ => nm_r (e' := if t < i + 1 then (1 : Int32) else 0) ?_ (nm_r (nI_1 i) (hw _ rfl)))
    rw [h, sn_bit t (by omega) i hi]
    rcases Nat.lt_trichotomy t i with e | e | e
    · rw [if_pos e, if_neg (by omega), if_pos (by omega)]
      decide
    · rw [if_neg (by omega), if_pos e.symm, if_pos (by omega)]
      decide
    · rw [if_neg (by omega), if_neg (by omega), if_neg (by omega)]
      decide
theorem sn_sizeM {post : Int32 → Prop} {k j : Nat} {x : Int32} (hk : k ≤ 8) (hj : j < 8) (hx : x = sn_m k j) (H : post (if j = k then 1 else 0)) : wpX_sizeOf post () x := by
  by_cases e : j = k
  · have ex : x = sn_b k := hx.trans (if_pos e)
    rw [if_pos e] at H
    rw [ex]
    exact sn_sizeOf hk (by rw [if_pos (show k < 8 by omega)]; exact H)
  · have ex : x = sn_b 8 := hx.trans (if_neg e)
    rw [if_neg e] at H
    rw [ex]
    exact sn_sizeOf (Nat.le_refl 8) (by rw [if_neg (by omega)]; exact H)
/-- a round of lineUp that finds selector k -/
theorem sn_l23a {post : St2 → Prop} {J : Int32 → Int32 → Int32 → (Nat → Int32) → (Nat → Int32) → (Nat → Int32) → (Nat → Int32) → (Nat → Int32) → (Nat → Int32) → (Nat → Int32) → (Nat → Int32) → (Nat → Int32) → (Nat → Int32) → (Nat → Int32) → (Nat → Int32) → (Nat → Int32) → (Nat → Int32) → Prop} {k i : Nat} (hk : k < 8) (h4 : ∀ j, j < 8 → a4 j = sn_m k j) (H : J (sn_b k) (nI (i + 1)) (nI 1) a1 a2 a3 a4 a5 a6 (upd a7 0 (nI k)) a8 a9 a10 a11 a12 a13 a14) : ∃ f, wX_lineUp_23 post J 0 (nI i) f0 f1 0 f3 a1 a2 a3 a4 a5 a6 a7 a8 a9 a10 a11 a12 a13 a14 f (-1) 0 0 := by
  refine pk_loop (fun f j (s : Int32 × Int32) => wX_lineUp_23 post J 0 (nI i) f0 f1 0 f3 a1 a2 a3 a4 a5 a6 a7 a8 a9 a10 a11 a12 a13 a14 f s.1 s.2 (nI j)) (fun j s => s = if k < j then (nI k, 1) else (-1, 0)) 8 0 (-1, 0) (by omega) (by rw [if_neg (by omega)]) ?_ ?_
  · intro f s (h : s = if k < 8 then (nI k, 1) else (-1, 0))
    rw [if_pos hk] at h
    subst h
    refine pk_le 8 8 (fun _ => br_f (nI_pos (by omega)) (nm_r (e' := sn_b k) ?_ (And.intro (pk_in 0 8 (by decide)) (nm_r (e' := upd a7 0 (nI k)) ?_ (nm_r (e' := nI 1) (by decide) (nm_r (nI_1 i) H)))))) (fun z => absurd z (by omega))
    · rw [sn_shl k hk, sn_0or k (by omega)]
    · rw [sb_cl0, sn_i8 k (by omega)]
  · intro f j s hj (h : s = if k < j then (nI k, 1) else (-1, 0)) hw
    have h4' : a4 (nI j).toNatClampNeg = sn_m k j := by
      rw [nI_clamp (by omega)]
      exact h4 j hj
    refine pk_le 8 j (fun z => absurd z (by omega)) (fun _ => And.intro (pk_in j 8 hj) (sn_sizeM (by omega) hj h4' ?_))
    by_cases e : j = k
    · rw [if_pos e]
      rw [if_neg (by omega)] at h
      subst h
      refine br_t (sn_bit0 j hj) (br_f (by decide) (nm_r (nI_1 j) (hw (nI j, 1) ?_)))
      show (nI j, (1 : Int32)) = if k < j + 1 then (nI k, 1) else (-1, 0)
      rw [if_pos (by omega), e]
    · rw [if_neg e]
      refine br_t (sn_bit0 j hj) (br_t ?_ (nm_r (nI_1 j) (hw s ?_)))
      · by_cases e' : k < j
        · rw [if_pos e'] at h
          subst h
          show (0 : Int32) ≤ 1
          decide
        · rw [if_neg e'] at h
          subst h
          show (0 : Int32) ≤ 0
          decide
      · show s = if k < j + 1 then (nI k, 1) else (-1, 0)
        rw [h]
        by_cases e' : k < j
        · rw [if_pos e', if_pos (by omega)]
        · rw [if_neg e', if_neg (by omega)]
/-- a round of lineUp that finds nothing -/
theorem sn_l23b {post : St2 → Prop} {J : Int32 → Int32 → Int32 → (Nat → Int32) → (Nat → Int32) → (Nat → Int32) → (Nat → Int32) → (Nat → Int32) → (Nat → Int32) → (Nat → Int32) → (Nat → Int32) → (Nat → Int32) → (Nat → Int32) → (Nat → Int32) → (Nat → Int32) → (Nat → Int32) → (Nat → Int32) → Prop} {k i : Nat} (hk : k ≤ 8) (h4 : ∀ j, j < 8 → a4 j = sn_m k j) (H : J (sn_b k) (nI (i + 1)) f2 a1 a2 a3 a4 a5 a6 a7 a8 a9 a10 a11 a12 a13 a14) : ∃ f, wX_lineUp_23 post J (sn_b k) (nI i) f0 f1 f2 f3 a1 a2 a3 a4 a5 a6 a7 a8 a9 a10 a11 a12 a13 a14 f (-1) 0 0 := by
  refine pk_loop (σ := Unit) (fun f j _ => wX_lineUp_23 post J (sn_b k) (nI i) f0 f1 f2 f3 a1 a2 a3 a4 a5 a6 a7 a8 a9 a10 a11 a12 a13 a14 f (-1) 0 (nI j)) (fun _ _ => True) 8 0 () (by omega) trivial ?_ ?_
  · intro f _ _
    exact pk_le 8 8 (fun _ => br_t (by decide) (nm_r (nI_1 i) H)) (fun z => absurd z (by omega))
  · intro f j _ hj _ hw
    have h4' : a4 (nI j).toNatClampNeg = sn_m k j := by
      rw [nI_clamp (by omega)]
      exact h4 j hj
    have hb := sn_bit k (by omega) j hj
    refine pk_le 8 j (fun z => absurd z (by omega)) (fun _ => And.intro (pk_in j 8 hj) (sn_sizeM (by omega) hj h4' ?_))
    by_cases e : j = k
    · rw [if_pos e] at hb
      refine br_f ?_ (nm_r (nI_1 j) (hw () trivial))
      rw [hb]
      decide
    · rw [if_neg e] at hb
      rw [if_neg e]
      exact br_t hb (br_t (by decide) (nm_r (nI_1 j) (hw () trivial)))
theorem sn_lineUp {post : St2 → Prop} {k : Nat} (hk : k ≤ 8) (h4 : ∀ j, j < 8 → a4 j = sn_m k j) (H0 : k = 8 → post (f0, f1, 0, f3, a1, a2, a3, a4, a5, a6, a7, a8, a9, a10, a11, a12, a13, a14)) (H1 : k < 8 → post (f0, f1, nI 1, f3, a1, a2, a3, a4, a5, a6, upd a7 0 (nI k), a8, a9, a10, a11, a12, a13, a14)) : wpX_lineUp post (f0, f1, f2, f3, a1, a2, a3, a4, a5, a6, a7, a8, a9, a10, a11, a12, a13, a14) := by
  rcases (by omega : k = 8 ∨ k < 8) with e | e
  · subst e
    refine pk_loop (σ := Unit) (fun f i _ => wX_lineUp_9 post f0 f1 f3 f (sn_b 8) (nI i) 0 a1 a2 a3 a4 a5 a6 a7 a8 a9 a10 a11 a12 a13 a14) (fun _ _ => True) 8 0 () (by omega) trivial ?_ ?_
    · intro f _ _
      exact pk_le 8 8 (fun _ => H0 rfl) (fun z => absurd z (by omega))
    · intro f i _ hi _ hw
      exact pk_le 8 i (fun z => absurd z (by omega)) (fun _ => sn_l23b hk h4 (hw () trivial))
  · have hL : ∃ f, wX_lineUp_9 post f0 f1 f3 f (sn_b k) (nI 1) (nI 1) a1 a2 a3 a4 a5 a6 (upd a7 0 (nI k)) a8 a9 a10 a11 a12 a13 a14 := by
      refine pk_loop (σ := Unit) (fun f i _ => wX_lineUp_9 post f0 f1 f3 f (sn_b k) (nI i) (nI 1) a1 a2 a3 a4 a5 a6 (upd a7 0 (nI k)) a8 a9 a10 a11 a12 a13 a14) (fun _ _ => True) 8 1 () (by omega) trivial ?_ ?_
      · intro f _ _
        exact pk_le 8 8 (fun _ => H1 e) (fun z => absurd z (by omega))
      · intro f i _ hi _ hw
        exact pk_le 8 i (fun z => absurd z (by omega)) (fun _ => sn_l23b hk h4 (hw () trivial))
    obtain ⟨f, hf⟩ := hL
    exact Exists.intro (f + 1) (br_f (by decide) (sn_l23a (i := 0) e h4 hf))
theorem sn_paint {post : St2 → Prop} {k : Nat} (hk : k ≤ 8) (h4 : ∀ j, j < 8 → a4 j = sn_m k j) (h6 : ∀ j, j < 8 → a6 j = 0) (H : ∀ (g2 g3 : Int32) (b5 b6 b7 : Nat → Int32), (∀ j, j < 8 → b6 j = 0) → post (f0, f1, g2, g3, a1, a2, a3, a4, b5, b6, b7, a8, a9, a10, a11, a12, a13, a14)) : wpX_paint post (f0, f1, f2, f3, a1, a2, a3, a4, a5, a6, a7, a8, a9, a10, a11, a12, a13, a14) := by
  unfold wpX_paint
  refine sn_lineUp hk h4 (fun e => ?_) (fun e => ?_)
  · exact Exists.intro 1 (br_t (by decide) (br_t (by decide) (Exists.intro 1 (br_f (by decide) (br_f (by decide) (br_t (by decide) (H _ _ _ _ _ h6)))))))
  · have hc : (nI k).toNatClampNeg = k := nI_clamp (by omega)
    have hb : upd a7 0 (nI k) 0 = nI k := pk_us
    have hb0 : upd a7 0 (nI k) (0 : Int32).toNatClampNeg = nI k := hb
    refine Exists.intro 2 (br_f (by decide) (And.intro (pk_in 0 8 (by decide)) ?_))
    rw [hb0, hc]
    refine And.intro (pk_in k 8 e) (nm_e (nm_e (br_t (by decide) (br_f (by decide) ?_))))
    rw [hb, hc]
    refine And.intro (pk_in k 8 e) (nm_e (Exists.intro 2 (br_f (by decide) (br_f (by decide) (br_f (by decide) (And.intro (pk_in 0 8 (by decide)) (nm_r hb0 ?_)))))))
    refine Exists.intro 1 (br_t (by decide) ?_)
    refine And.intro (pk_in k 8 e) ?_
    rw [hc, pk_us]
    refine br_t (by decide) (Exists.intro 1 (br_t (by decide) (Exists.intro 1 (br_f (by decide) (br_t (by decide) ?_)))))
    refine And.intro (pk_in k 8 e) (nm_e (br_f (by decide) (nm_e (nm_e (br_f (by decide) (br_t (by decide) (H _ _ _ _ _ ?_)))))))
    intro j hj
    by_cases e' : j = k
    · rw [e', pk_us]
      decide
    · rw [pk_un e']
      exact h6 j hj
end
end
section
section
variable {f0 f1 f2 f3 : Int32} {a1 a2 a3 a4 a5 a6 a7 a8 a9 a10 a11 a12 a13 a14 : Nat → Int32}
theorem sn_fillRow {post : St2 → Prop} {k : Nat} (hk : k ≤ 8) (h2 : ∀ j, j < 8 → (a2 j = 0 ↔ j ≠ k)) (h3 : a3 0 = sn_b k) (H : ∀ b : Nat → Int32, (k < 8 → b k = 0) → post (f0, f1, f2, f3, a1, a2, a3, a4, a5, a6, a7, a8, a9, a10, a11, a12, b, a14)) : wpX_fillRow post (f0, f1, f2, f3, a1, a2, a3, a4, a5, a6, a7, a8, a9, a10, a11, a12, a13, a14) 0 := by
  unfold wpX_fillRow
  refine sn_own hk h2 ?_
  refine pk_loop (fun f i (s : Nat → Int32) => wX_fillRow_8 post 0 (sn_b k) f0 f1 f2 f3 f (nI i) a1 a2 a3 a4 a5 a6 a7 a8 a9 a10 a11 a12 s a14) (fun i s => k < i → s k = 0) 8 0 a13 (by omega) (fun z => absurd z (by omega)) ?_ ?_
  · intro f s h
    exact pk_le 8 8 (fun _ => H s h) (fun z => absurd z (by omega))
  · intro f i s hi (h : k < i → s k = 0) hw
    have h3' : a3 (0 : Int32).toNatClampNeg = sn_b k := h3
    have hb := sn_bit k (by omega) i hi
    by_cases e : i = k
    · rw [if_pos e] at hb
      have hb1 : ¬ ((sn_b k >>> (nI i &&& 31)) &&& 1) = 0 := by
        rw [hb]
        decide
      refine pk_le 8 i (fun z => absurd z (by omega)) (fun _ => And.intro (pk_in 0 10 (by decide)) (br_f (by rw [h3']; exact hb1) (br_f hb1 (br_f (by decide) (And.intro (pk_in i 8 hi) (nm_e (nm_r (nI_1 i) (hw _ ?_))))))))
      intro _
      rw [nI_clamp (show i < 2 ^ 31 by omega), e, pk_us]
      decide
    · rw [if_neg e] at hb
      exact pk_le 8 i (fun z => absurd z (by omega)) (fun _ => And.intro (pk_in 0 10 (by decide)) (br_t (by rw [h3']; exact hb) (nm_r (nI_1 i) (hw _ (fun z => h (by omega))))))
theorem sn_fits {post : Int32 → Prop} {k : Nat} (hk : k ≤ 8) (h3 : a3 0 = sn_b k) (h6 : ∀ j, j < 8 → a6 j = 0) (h9 : a9 0 < 0) (H : post 1) : wpX_fits post (f0, f1, f2, f3, a1, a2, a3, a4, a5, a6, a7, a8, a9, a10, a11, a12, a13, a14) 0 0 := by
  refine pk_loop (σ := Unit) (fun f i _ => wX_fits_2 post 0 0 f0 f1 f2 f3 a1 a2 a3 a4 a5 a6 a7 a8 a9 a10 a11 a12 a13 a14 f (nI i)) (fun _ _ => True) 8 0 () (by omega) trivial ?_ ?_
  · intro f _ _
    exact pk_le 8 8 (fun _ => H) (fun z => absurd z (by omega))
  · intro f i _ hi _ hw
    have h3' : a3 (0 : Int32).toNatClampNeg = sn_b k := h3
    have hb := sn_bit k (by omega) i hi
    have e6 : (0 : Int32) + a6 (nI i).toNatClampNeg = 0 := by
      rw [nI_clamp (show i < 2 ^ 31 by omega), h6 i hi]
      decide
    refine pk_le 8 i (fun z => absurd z (by omega)) (fun _ => And.intro (pk_in 0 10 (by decide)) ?_)
    rw [h3', hb, e6]
    by_cases e : i = k
    · rw [if_pos e]
      exact br_f (by decide) (And.intro (pk_in i 8 hi) (And.intro (pk_in 0 96 (by decide)) (br_t h9 (nm_r (nI_1 i) (hw () trivial)))))
    · rw [if_neg e]
      exact br_t rfl (nm_r (nI_1 i) (hw () trivial))
theorem sn_pack {post : St2 → Prop} {k : Nat} (hk : k ≤ 8) (h2 : ∀ j, j < 8 → (a2 j = 0 ↔ j ≠ k)) (h3 : a3 0 = sn_b k) (h6 : ∀ j, j < 8 → a6 j = 0) (h9 : a9 0 = -1)
    (H : ∀ b8 b9 b10 b11 b12 b13 : Nat → Int32, b8 0 = 0 → (k = 8 → b9 0 = -1) → (k < 8 → b9 0 = 0 ∧ b10 0 = nI k ∧ b11 0 = 0 ∧ b12 0 = vp_nar .short (a2 k)) → post (f0, f1, f2, f3, a1, a2, a3, a4, a5, a6, a7, b8, b9, b10, b11, b12, b13, a14)) : wpX_pack post (f0, f1, f2, f3, a1, a2, a3, a4, a5, a6, a7, a8, a9, a10, a11, a12, a13, a14) 0 := by
  unfold wpX_pack
  refine sn_fillRow hk h2 h3 (fun b hb => ?_)
  refine Exists.intro 1 (br_f (by decide) (sn_fits hk h3 h6 (by rw [h9]; decide) (br_f (by decide) (And.intro (pk_in 0 10 (by decide)) (nm_r (e' := upd a8 0 0) (by rw [sb_cl0]; rfl) ?_)))))
  refine pk_loop (fun f i (s : (Nat → Int32) × (Nat → Int32) × (Nat → Int32) × (Nat → Int32)) => wX_pack_43 post 0 0 f0 f1 f2 f3 f (nI i) a1 a2 a3 a4 a5 a6 a7 (upd a8 0 0) s.1 s.2.1 s.2.2.1 s.2.2.2 b a14) (fun i s => (i ≤ k → s.1 0 = -1) ∧ (k < i → s.1 0 = 0 ∧ s.2.1 0 = nI k ∧ s.2.2.1 0 = 0 ∧ s.2.2.2 0 = vp_nar .short (a2 k))) 8 0 (a9, a10, a11, a12) (by omega) ⟨fun _ => h9, fun z => absurd z (by omega)⟩ ?_ ?_
  · intro f s h
    exact pk_le 8 8 (fun _ => H _ _ _ _ _ _ pk_us (fun z => h.1 (by omega)) (fun z => h.2 z)) (fun z => absurd z (by omega))
  · intro f i s hi h hw
    have h3' : a3 (0 : Int32).toNatClampNeg = sn_b k := h3
    have hbt := sn_bit k (by omega) i hi
    have hc : (nI i).toNatClampNeg = i := nI_clamp (by omega)
    refine pk_le 8 i (fun z => absurd z (by omega)) (fun _ => And.intro (pk_in 0 10 (by decide)) ?_)
    by_cases e : i = k
    · rw [if_pos e] at hbt
      have e6 : (0 : Int32) + a6 (nI i).toNatClampNeg = 0 := by
        rw [hc, h6 i hi]
        decide
      have eb : b (nI i).toNatClampNeg = 0 := by
        rw [hc, e]
        exact hb (by omega)
      refine br_f (by rw [h3', hbt]; decide) (And.intro (pk_in i 8 hi) (nm_r e6 (And.intro (pk_in i 8 hi) (nm_r eb (And.intro (pk_in 0 96 (by decide)) (nm_e (And.intro (pk_in 0 96 (by decide)) (nm_e (And.intro (pk_in 0 96 (by decide)) (nm_e (And.intro (pk_in i 80 (by omega) (sn_z i)) (And.intro (pk_in 0 96 (by decide)) (nm_e (nm_r (nI_1 i) (hw (_, _, _, _) ?_)))))))))))))))
      have u0 : ∀ (q : Nat → Int32) (x : Int32), upd q (0 : Int32).toNatClampNeg x 0 = x := fun q x => sn_u sb_cl0
      refine ⟨fun z => absurd z (by omega), fun _ => ⟨u0 s.1 0, (u0 s.2.1 ((nI i).toInt8.toInt32)).trans ?_, u0 s.2.2.1 0, (u0 s.2.2.2 (vp_nar .short (a2 ((0 : Int32) * 8 + nI i).toNatClampNeg))).trans ?_⟩⟩
      · rw [sn_i8 i (by omega), e]
      · rw [sn_z, hc, e]
    · rw [if_neg e] at hbt
      refine br_t (by rw [h3', hbt]) (nm_r (nI_1 i) (hw s ?_))
      exact ⟨fun z => h.1 (by omega), fun z => h.2 (by omega)⟩
theorem sn_build52 {post : St2 → Prop} {n k : Nat} (hn : n ≤ 1) (hk : k ≤ 8) (hz : n = 0 → k = 8) (h2 : ∀ j, j < 8 → (a2 j = 0 ↔ j ≠ k)) (h3 : n = 1 → a3 0 = sn_b k) (h6 : ∀ j, j < 8 → a6 j = 0) (h9 : a9 0 = -1) (h14 : n = 1 → a14 0 = 0)
    (H : ∀ b8 b9 b10 b11 b12 b13 : Nat → Int32, (n = 1 → b8 0 = 0) → (k = 8 → b9 0 = -1) → (k < 8 → b9 0 = 0 ∧ b10 0 = nI k ∧ b11 0 = 0 ∧ b12 0 = vp_nar .short (a2 k)) → post (nI n, f1, f2, f3, a1, a2, a3, a4, a5, a6, a7, b8, b9, b10, b11, b12, b13, a14)) : ∃ f, wX_build_52 post f 0 (nI n) f1 f2 f3 a1 a2 a3 a4 a5 a6 a7 a8 a9 a10 a11 a12 a13 a14 := by
  rcases (by omega : n = 0 ∨ n = 1) with e | e
  · subst e
    have hk8 := hz rfl
    exact Exists.intro 1 (br_t (by decide) (H _ _ _ _ _ _ (fun z => absurd z (by decide)) (fun _ => h9) (fun z => absurd z (by omega))))
  · subst e
    have h14' : a14 (0 : Int32).toNatClampNeg = 0 := h14 rfl
    refine Exists.intro 2 (br_f (by decide) (And.intro (pk_in 0 10 (by decide)) ?_))
    rw [h14']
    exact sn_pack hk h2 (h3 rfl) h6 h9 (fun b8 b9 b10 b11 b12 b13 p8 p9 p => nm_e (br_t (by decide) (H b8 b9 b10 b11 b12 b13 (fun _ => p8) p9 p)))
theorem sn_build31 {post : St2 → Prop} (H : ∀ b9 : Nat → Int32, b9 0 = -1 → ∃ f, wX_build_52 post f 0 f0 f1 f2 f3 a1 a2 a3 a4 a5 a6 a7 a8 b9 a10 a11 a12 a13 a14) : ∃ f, wX_build_31 post f0 f1 f2 f3 f 0 a1 a2 a3 a4 a5 a6 a7 a8 a9 a10 a11 a12 a13 a14 := by
  refine pk_loop (fun f i (s : Nat → Int32) => wX_build_31 post f0 f1 f2 f3 f (nI i) a1 a2 a3 a4 a5 a6 a7 a8 s a10 a11 a12 a13 a14) (fun i s => ∀ j, j < i → s j = -1) 96 0 a9 (by omega) (fun j hj => absurd hj (by omega)) ?_ ?_
  · intro f s h
    exact pk_le 96 96 (fun _ => H s (h 0 (by omega))) (fun z => absurd z (by omega))
  · intro f i s hi h hw
    refine pk_le 96 i (fun z => absurd z (by omega)) (fun _ => And.intro (pk_in i 96 hi) (nm_r (e' := upd s i (-1)) (by rw [nI_clamp (by omega)]) (nm_r (nI_1 i) (hw _ (sn_fill (f := fun _ => -1) h rfl)))))
end
end
section
/-- what every state of the law's object keeps: n classes, and selector k (8: none) defined as v in class 0 -/
def sn_C (n k : Nat) (v f0 : Int32) (a2 a6 : Nat → Int32) : Prop := f0 = nI n ∧ n ≤ 1 ∧ k ≤ 8 ∧ (n = 0 → k = 8) ∧ (∀ j, j < 8 → (a2 j = 0 ↔ j ≠ k)) ∧ (k < 8 → a2 k = v ∧ vp_nar .short v = v) ∧ (∀ j, j < 8 → a6 j = 0)
/-- not built -/
def sn_N (n k : Nat) (v : Int32) (u : St2) : Prop := match u with
  | (f0, f1, f2, f3, a1, a2, a3, a4, a5, a6, a7, a8, a9, a10, a11, a12, a13, a14) => sn_C n k v f0 a2 a6 ∧ f1 = 0 ∧ (n = 1 → a1 0 < 0)
/-- built -/
def sn_G (n k : Nat) (v : Int32) (u : St2) : Prop := match u with
  | (f0, f1, f2, f3, a1, a2, a3, a4, a5, a6, a7, a8, a9, a10, a11, a12, a13, a14) => sn_C n k v f0 a2 a6 ∧ f1 = 1 ∧ (∀ j, j < 8 → a4 j = sn_m k j) ∧ (n = 1 → a8 0 = 0) ∧ (k = 8 → a9 0 = -1) ∧ (k < 8 → a9 0 = 0 ∧ a10 0 = nI k ∧ a11 0 = 0 ∧ a12 0 = v)
def sn_L (n k : Nat) (v : Int32) (u : St2) : Prop := sn_N n k v u ∨ sn_G n k v u
/-- class c answers selector s -/
def sn_g (n k : Nat) (c s : Int32) : Prop := n = 1 ∧ c = 0 ∧ k < 8 ∧ s = nI k
section
variable {f0 f1 f2 f3 : Int32} {a1 a2 a3 a4 a5 a6 a7 a8 a9 a10 a11 a12 a13 a14 : Nat → Int32}
theorem sn_LC {n k : Nat} {v : Int32} (h : sn_L n k v (f0, f1, f2, f3, a1, a2, a3, a4, a5, a6, a7, a8, a9, a10, a11, a12, a13, a14)) : sn_C n k v f0 a2 a6 := by
  rcases h with h | h
  · exact h.1
  · exact h.1
theorem sn_build {post : St2 → Prop} {n k : Nat} {v : Int32} {u : St2} (h : sn_L n k v u) (H : ∀ w, sn_G n k v w → post w) : wpX_build post u := by
  obtain ⟨f0, f1, f2, f3, a1, a2, a3, a4, a5, a6, a7, a8, a9, a10, a11, a12, a13, a14⟩ := u
  rcases h with h | h
  · obtain ⟨⟨rfl, hn, hk, hz, h2, hv, h6⟩, rfl, h1⟩ := h
    refine br_t rfl (sn_sortDown hn h1 (fun b14 p14 => ?_))
    refine sn_learn hn hk h1 h2 p14 (fun b3 p3 => ?_)
    refine sn_meet hn hk hz p3 (fun b4 p4 => ?_)
    refine sn_paint hk p4 h6 (fun g2 g3 b5 b6 b7 p6 => ?_)
    refine sn_build31 (fun b9 p9 => ?_)
    refine sn_build52 hn hk hz h2 p3 p6 p9 p14 (fun c8 c9 c10 c11 c12 c13 q8 q9 q => H _ ?_)
    refine ⟨⟨rfl, hn, hk, hz, h2, hv, p6⟩, rfl, p4, q8, q9, fun z => ⟨(q z).1, (q z).2.1, (q z).2.2.1, ?_⟩⟩
    rw [(q z).2.2.2, (hv z).1, (hv z).2]
  · have h1 : f1 = 1 := h.2.1
    subst h1
    exact br_f (by decide) (H _ h)
theorem sn_entry {post : Int32 → St2 → Prop} {n k : Nat} {v : Int32} {u : St2} (h : sn_L n k v u) (c s : Int32) (h0 : ¬ sn_g n k c s → ∀ w, sn_L n k v w → post (-1) w) (h1 : sn_g n k c s → ∀ w, sn_G n k v w → post 0 w) : wpX_entry post u c s := by
  obtain ⟨f0, f1, f2, f3, a1, a2, a3, a4, a5, a6, a7, a8, a9, a10, a11, a12, a13, a14⟩ := u
  have hC := sn_LC h
  obtain ⟨rfl, hn, hk, hz, -, -, -⟩ := hC
  unfold wpX_entry
  refine sn_isClass hn c (fun z => br_t rfl (h0 (fun g => z ⟨g.1, g.2.1⟩) _ h)) (fun e1 e2 => br_f (by decide) (sn_isSel s (fun z => br_t rfl (h0 (fun g => z k g.2.2.1 g.2.2.2) _ h)) (fun j hj ej => br_f (by decide) (sn_build h (fun w hw => ?_)))))
  obtain ⟨g0, g1, g2, g3, b1, b2, b3, b4, b5, b6, b7, b8, b9, b10, b11, b12, b13, b14⟩ := w
  have hw' := hw
  obtain ⟨⟨p0, -, -, -, p2, pv, p6⟩, p1, p4, p8, p9, p⟩ := hw'
  subst e2
  subst ej
  have ex : b8 (0 : Int32).toNatClampNeg + b6 (nI j).toNatClampNeg = 0 := by
    rw [sb_cl0, nI_clamp (show j < 2 ^ 31 by omega), p8 e1, p6 j hj]
    decide
  refine And.intro (pk_in 0 10 (by decide)) (And.intro (pk_in j 8 hj) (nm_r ex (And.intro (pk_in 0 96 (by decide)) ?_)))
  rw [sb_cl0]
  rcases (by omega : k = 8 ∨ k < 8) with e | e
  · refine br_f ?_ (h0 (fun g => absurd g.2.2.1 (by omega)) _ (Or.inr hw))
    rw [p9 e]
    decide
  · refine br_t (p e).1 (And.intro (pk_in 0 96 (by decide)) ?_)
    rw [(p e).2.1]
    exact pk_eq k j (fun z => h1 ⟨e1, rfl, e, by rw [z]⟩ _ hw) (fun z => h0 (fun g => z ((nI_eq (by omega) (by omega)).mp g.2.2.2.symm)) _ (Or.inr hw))
theorem sn_send {post : Int32 → St2 → Prop} {n k : Nat} {v : Int32} {u : St2} (h : sn_L n k v u) (c s : Int32) (h0 : ¬ sn_g n k c s → ∀ w, sn_L n k v w → post 0 w) (h1 : sn_g n k c s → ∀ w, sn_L n k v w → post v w) : wpX_send post u c s := by
  obtain ⟨f0, f1, f2, f3, a1, a2, a3, a4, a5, a6, a7, a8, a9, a10, a11, a12, a13, a14⟩ := u
  unfold wpX_send
  refine sn_entry h c s (fun g w hw => ?_) (fun g w hw => ?_)
  · obtain ⟨g0, g1, g2, g3, b1, b2, b3, b4, b5, b6, b7, b8, b9, b10, b11, b12, b13, b14⟩ := w
    exact br_f (by decide) (h0 g _ hw)
  · obtain ⟨g0, g1, g2, g3, b1, b2, b3, b4, b5, b6, b7, b8, b9, b10, b11, b12, b13, b14⟩ := w
    have e12 : b12 (0 : Int32).toNatClampNeg = v := (hw.2.2.2.2.2 g.2.2.1).2.2.2
    refine br_t (by decide) (And.intro (pk_in 0 96 (by decide)) ?_)
    rw [e12]
    exact h1 g _ (Or.inr hw)
theorem sn_owner {post : Int32 → St2 → Prop} {n k : Nat} {v : Int32} {u : St2} (h : sn_L n k v u) (c s : Int32) (h0 : ¬ sn_g n k c s → ∀ w, sn_L n k v w → post (-1) w) (h1 : sn_g n k c s → ∀ w, sn_L n k v w → post 0 w) : wpX_owner post u c s := by
  obtain ⟨f0, f1, f2, f3, a1, a2, a3, a4, a5, a6, a7, a8, a9, a10, a11, a12, a13, a14⟩ := u
  unfold wpX_owner
  refine sn_entry h c s (fun g w hw => ?_) (fun g w hw => ?_)
  · obtain ⟨g0, g1, g2, g3, b1, b2, b3, b4, b5, b6, b7, b8, b9, b10, b11, b12, b13, b14⟩ := w
    exact br_f (by decide) (h0 g _ hw)
  · obtain ⟨g0, g1, g2, g3, b1, b2, b3, b4, b5, b6, b7, b8, b9, b10, b11, b12, b13, b14⟩ := w
    have e11 : b11 (0 : Int32).toNatClampNeg = 0 := (hw.2.2.2.2.2 g.2.2.1).2.2.1
    refine br_t (by decide) (And.intro (pk_in 0 96 (by decide)) ?_)
    rw [e11]
    exact h1 g _ (Or.inr hw)
theorem sn_heirs {post : Int32 → St2 → Prop} {n k : Nat} {v : Int32} {u : St2} (h : sn_L n k v u) (c s : Int32) (h0 : ¬ sn_g n k c s → ∀ w, sn_L n k v w → post 0 w) (h1 : sn_g n k c s → ∀ w, sn_L n k v w → post 1 w) : wpX_heirs post u c s := by
  obtain ⟨f0, f1, f2, f3, a1, a2, a3, a4, a5, a6, a7, a8, a9, a10, a11, a12, a13, a14⟩ := u
  have hC := sn_LC h
  obtain ⟨rfl, hn, hk, hz, h2, -, -⟩ := hC
  unfold wpX_heirs
  refine sn_isClass hn c (fun z => br_t rfl (h0 (fun g => z ⟨g.1, g.2.1⟩) _ h)) (fun e1 e2 => br_f (by decide) (sn_isSel s (fun z => br_t rfl (h0 (fun g => z k g.2.2.1 g.2.2.2) _ h)) (fun j hj ej => br_f (by decide) ?_)))
  subst e1
  subst e2
  subst ej
  rw [sn_z, nI_clamp (show j < 2 ^ 31 by omega)]
  refine And.intro (pk_in j 80 (by omega)) (br_c (fun z => h0 (fun g => ?_) _ h) (fun z => ?_))
  · exact (h2 j hj).mp z ((nI_eq (by omega) (by omega)).mp g.2.2.2)
  · have ek : j = k := by
      rcases Nat.decEq j k with e | e
      · exact absurd ((h2 j hj).mpr e) z
      · exact e
    subst ek
    have g : sn_g 1 j 0 (nI j) := ⟨rfl, rfl, hj, rfl⟩
    refine Exists.intro 2 (br_f (by decide) (sn_entry h 0 (nI j) (fun g' w hw => absurd g g') (fun _ w hw => ?_)))
    obtain ⟨g0, g1, g2, g3, b1, b2, b3, b4, b5, b6, b7, b8, b9, b10, b11, b12, b13, b14⟩ := w
    have e11 : b11 (0 : Int32).toNatClampNeg = 0 := (hw.2.2.2.2.2 hj).2.2.1
    have e0 : g0 = nI 1 := hw.1.1
    subst e0
    exact br_f (by decide) (And.intro (pk_in 0 96 (by decide)) (br_t e11 (nm_r (e' := 1) (by decide) (nm_e (br_t (by decide) (h1 g _ (Or.inr hw)))))))
theorem sn_apart {post : Int32 → St2 → Prop} {n k : Nat} {v : Int32} {u : St2} (h : sn_L n k v u) (s : Int32) (h0 : (∀ j, j < 8 → s ≠ nI j) → ∀ w, post 0 w) (h1 : ∀ j, j < 8 → s = nI j → ∀ w, post (255 - ((1 : Int32) <<< (nI j &&& 31))) w) : wpX_apart post u s := by
  obtain ⟨f0, f1, f2, f3, a1, a2, a3, a4, a5, a6, a7, a8, a9, a10, a11, a12, a13, a14⟩ := u
  have hk : k ≤ 8 := (sn_LC h).2.2.1
  unfold wpX_apart
  refine sn_isSel s (fun z => br_t rfl (h0 z _)) (fun j hj ej => br_f (by decide) (sn_build h (fun w hw => ?_)))
  obtain ⟨g0, g1, g2, g3, b1, b2, b3, b4, b5, b6, b7, b8, b9, b10, b11, b12, b13, b14⟩ := w
  subst ej
  have e4 : b4 (nI j).toNatClampNeg = sn_m k j := by
    rw [nI_clamp (show j < 2 ^ 31 by omega)]
    exact hw.2.2.1 j hj
  refine And.intro (pk_in j 8 hj) ?_
  rw [e4, sn_far k (by omega) j hj]
  exact h1 j hj rfl _
theorem sn_addClass {post : Int32 → St2 → Prop} (p : Int32) (h0 : p ≠ -1 → ∀ w, sn_N 0 8 0 w → post (-1) w) (h1 : p = -1 → ∀ w, sn_N 1 8 0 w → post 0 w) : wpX_addClass post (0, 0, 0, 0, (fun _ => 0), (fun _ => 0), (fun _ => 0), (fun _ => 0), (fun _ => 0), (fun _ => 0), (fun _ => 0), (fun _ => 0), (fun _ => 0), (fun _ => 0), (fun _ => 0), (fun _ => 0), (fun _ => 0), (fun _ => 0)) p := by
  unfold wpX_addClass
  refine br_c (fun z => ?_) (fun z => sn_isClass (n := 0) (by omega) p (fun _ => br_t rfl (h0 z _ ?_)) (fun e _ => absurd e (by decide)))
  · subst z
    refine br_t (by decide) (And.intro (pk_in 0 10 (by decide)) (nm_r (e' := upd (fun _ => 0) 0 (-1)) (by rw [sb_cl0]; rfl) ?_))
    refine pk_loop (fun f i (s : Nat → Int32) => wX_addClass_40 post 0 0 0 0 f (nI i) (upd (fun _ => 0) 0 (-1)) s (fun _ => 0) (fun _ => 0) (fun _ => 0) (fun _ => 0) (fun _ => 0) (fun _ => 0) (fun _ => 0) (fun _ => 0) (fun _ => 0) (fun _ => 0) (fun _ => 0) (fun _ => 0)) (fun _ s => ∀ j, j < 8 → s j = 0) 8 0 (fun _ => 0) (by omega) (fun _ _ => rfl) ?_ ?_
    · intro f s h
      refine pk_le 8 8 (fun _ => nm_r (e' := nI 1) (by decide) ?_) (fun z => absurd z (by omega))
      rw [show nI 1 - 1 = (0 : Int32) by decide]
      refine h1 rfl _ ⟨⟨rfl, by omega, by omega, fun z => absurd z (by omega), fun j hj => ⟨fun _ => by omega, fun _ => h j hj⟩, fun z => absurd z (by omega), fun _ _ => rfl⟩, rfl, fun _ => ?_⟩
      rw [pk_us]
      decide
    · intro f i s hi h hw
      refine pk_le 8 i (fun z => absurd z (by omega)) (fun _ => ?_)
      rw [sn_z, nI_clamp (show i < 2 ^ 31 by omega)]
      refine And.intro (pk_in i 80 (by omega)) (nm_e (nm_r (nI_1 i) (hw _ ?_)))
      intro j hj
      by_cases e : j = i
      · rw [e, pk_us]
      · rw [pk_un e]
        exact h j hj
  · exact ⟨⟨rfl, by omega, by omega, fun _ => rfl, fun j hj => ⟨fun _ => by omega, fun _ => rfl⟩, fun z => absurd z (by omega), fun _ _ => rfl⟩, rfl, fun z => absurd z (by omega)⟩
theorem sn_define {post : Int32 → St2 → Prop} {n : Nat} {u : St2} (h : sn_N n 8 0 u) (c s m : Int32) (h0 : ¬ (n = 1 ∧ c = 0 ∧ (∃ j : Nat, j < 8 ∧ s = nI j) ∧ ¬ m < 1 ∧ m ≤ 1000) → post 0 u) (h1 : ∀ j : Nat, n = 1 → c = 0 → j < 8 → s = nI j → ¬ m < 1 → m ≤ 1000 → ∀ w, sn_N n j m w → post 1 w) : wpX_define post u c s m := by
  obtain ⟨f0, f1, f2, f3, a1, a2, a3, a4, a5, a6, a7, a8, a9, a10, a11, a12, a13, a14⟩ := u
  obtain ⟨⟨rfl, hn, hk, hz, h2, hv, h6⟩, rfl, ha⟩ := h
  unfold wpX_define
  refine sn_isClass hn c (fun z => br_t rfl (h0 (fun g => z ⟨g.1, g.2.1⟩))) (fun e1 e2 => br_f (by decide) (sn_isSel s (fun z => br_t rfl (h0 (fun g => ?_))) (fun j hj ej => br_f (by decide) (br_c (fun z => h0 (fun g => g.2.2.2.1 z)) (fun z => br_c (fun y => ?_) (fun y => h0 (fun g => y g.2.2.2.2)))))))
  · obtain ⟨j, hj, ej⟩ := g.2.2.1
    exact z j hj ej
  · have hm : ∃ q : Nat, q < 1001 ∧ 0 < q ∧ m = nI q := by
      have z0 : ¬ m < 0 := by
        intro x
        apply z
        rw [Int32.lt_iff_toInt_lt] at x ⊢
        have t0 : (0 : Int32).toInt = 0 := by decide
        have t1 : (1 : Int32).toInt = 1 := by decide
        omega
      obtain ⟨q, hq, rfl⟩ := nI_of z0
      refine ⟨q, ?_, ?_, rfl⟩
      · rcases Nat.lt_or_ge q 1001 with x | x
        · exact x
        · exact absurd y (nI_ge (a := 1000) (b := q) (by omega) hq)
      · rcases Nat.lt_or_ge 0 q with x | x
        · exact x
        · exact absurd (nI_lt (a := q) (b := 1) (by omega) (by omega)) z
    obtain ⟨q, hq, hq0, rfl⟩ := hm
    subst e1
    subst e2
    subst ej
    rw [sn_z, nI_clamp (show j < 2 ^ 31 by omega), sn_val q hq]
    refine And.intro (pk_in j 80 (by omega)) (nm_e (h1 j rfl rfl hj rfl z y _ ?_))
    refine ⟨⟨rfl, by omega, by omega, fun z => absurd z (by omega), fun i hi => ?_, fun _ => ⟨pk_us, ?_⟩, h6⟩, rfl, ha⟩
    · by_cases e : i = j
      · rw [e, pk_us]
        exact ⟨fun z => absurd z (nI_ne0 hq0 (by omega)), fun z => absurd rfl z⟩
      · rw [pk_un e]
        exact ⟨fun _ => e, fun _ => (h2 i hi).mpr (by omega)⟩
    · rw [vp_nar_short, sn_val q hq]
end
end
section
theorem sn_122 {post : Int32 → St0 → Prop} {mc ms kc ks : Nat} {x2 x3 x5 x6 x7 x8 x9 x10 x11 x12 z0 : Int32} (h5 : x5 = if x11 = 0 then -1 else 0) (h6 : x6 = z0) (h7 : x7 = if z0 = 0 then 0 else x3) (h8 : x8 = if z0 = 0 then -1 else 0) (h9 : x9 = if z0 = 0 then 0 else 1) (h10 : x10 = if x12 = 0 then 0 else 255 - ((1 : Int32) <<< (x2 &&& 31))) (H : post 1 ()) : wL_lawOf_122 post mc ms x2 x3 x5 x6 x7 x8 x9 x10 x11 x12 z0 kc ks := by
  have a209 : ∀ z : Int32, wL_lawOf_209 post mc ms z z kc ks := fun z => br_t rfl H
  have a188 : ∀ z : Int32, wL_lawOf_188 post mc ms x2 x10 x12 z z kc ks := by
    intro z
    refine br_t rfl (br_c (fun e => ?_) (fun e => ?_))
    · rw [h10, if_pos e]
      exact a209 0
    · rw [h10, if_neg e]
      exact a209 _
  have a173 : ∀ z : Int32, wL_lawOf_173 post mc ms x2 x9 x10 x12 z0 z z kc ks := by
    intro z
    refine br_t rfl (br_c (fun e => ?_) (fun e => ?_))
    · rw [h9, if_pos e]
      exact a188 0
    · rw [h9, if_neg e]
      exact a188 1
  have a158 : ∀ z : Int32, wL_lawOf_158 post mc ms x2 x8 x9 x10 x12 z0 z z kc ks := by
    intro z
    refine br_t rfl (br_c (fun e => ?_) (fun e => ?_))
    · rw [h8, if_pos e]
      exact a173 (-1)
    · rw [h8, if_neg e]
      exact a173 0
  have a136 : ∀ z : Int32, wL_lawOf_136 post mc ms x2 x3 x6 x7 x8 x9 x10 x12 z0 z z kc ks := by
    intro z
    refine br_t rfl (br_t h6 (br_c (fun e => ?_) (fun e => ?_)))
    · rw [h7, if_pos e]
      exact a158 0
    · rw [h7, if_neg e]
      exact a158 x3
  refine br_c (fun e => ?_) (fun e => ?_)
  · rw [h5, if_pos e]
    exact a136 (-1)
  · rw [h5, if_neg e]
    exact a136 0
/-- the law's own selector test, over the ints -/
theorem sn_72 {s : Int32} {A B : Prop} (h0 : (∀ j : Nat, j < 8 → s ≠ nI j) → A) (h1 : ∀ j : Nat, j < 8 → s = nI j → B) : (s < 0 → A) ∧ (¬ s < 0 → ((7 < s → A) ∧ (¬ 7 < s → B))) := by
  refine br_c (fun z => h0 (fun j hj e => ?_)) (fun z => br_c (fun y => h0 (fun j hj e => ?_)) (fun y => ?_))
  · rw [e] at z
    exact absurd z (nI_pos (by omega))
  · rw [e] at y
    exact absurd y (nI_nlt (b := j) (a := 7) (by omega) (by decide))
  · obtain ⟨j, hj, rfl⟩ := nI_of z
    have e : j < 8 := by
      rcases Nat.lt_or_ge j 8 with e | e
      · exact e
      · exact absurd (nI_lt (a := 7) (b := j) (by omega) hj) y
    exact h1 j e rfl
/-- the check at the law's end -/
def sn_ok (n : Nat) (c s m : Int32) : Prop := n = 1 ∧ c = 0 ∧ (∃ j : Nat, j < 8 ∧ s = nI j) ∧ ¬ m < 1 ∧ m ≤ 1000
theorem sn_fin {post : Int32 → St0 → Prop} {mc ms kc ks n : Nat} {p c s m x5 x6 x7 x8 x9 x10 : Int32} (hp : (p = -1 → n = 1 ∧ x5 = 0) ∧ (p ≠ -1 → n = 0 ∧ x5 = -1))
    (hg : (sn_ok n c s m → x6 = 1 ∧ x7 = m ∧ x8 = 0 ∧ x9 = 1) ∧ (¬ sn_ok n c s m → x6 = 0 ∧ x7 = 0 ∧ x8 = -1 ∧ x9 = 0))
    (hf : ((∀ j : Nat, j < 8 → s ≠ nI j) → x10 = 0) ∧ (∀ j : Nat, j < 8 → s = nI j → x10 = 255 - ((1 : Int32) <<< (nI j &&& 31)))) (H : post 1 ()) :
    (p = -1 → wL_lawOf_72 post mc ms c s m x5 x6 x7 x8 x9 x10 1 kc ks) ∧ (¬ p = -1 → wL_lawOf_72 post mc ms c s m x5 x6 x7 x8 x9 x10 0 kc ks) := by
  have bad : ∀ x11 x12 : Int32, (x5 = if x11 = 0 then -1 else 0) → (x10 = if x12 = 0 then 0 else 255 - ((1 : Int32) <<< (s &&& 31))) → ¬ sn_ok n c s m → wL_lawOf_122 post mc ms s m x5 x6 x7 x8 x9 x10 x11 x12 0 kc ks := by
    intro x11 x12 h5 h10 g
    obtain ⟨e6, e7, e8, e9⟩ := hg.2 g
    exact sn_122 h5 e6 (by rw [e7, if_pos rfl]) (by rw [e8, if_pos rfl]) (by rw [e9, if_pos rfl]) h10 H
  refine br_c (fun e => ?_) (fun e => ?_)
  · obtain ⟨rfl, e5⟩ := hp.1 e
    have h5 : x5 = if (1 : Int32) = 0 then -1 else 0 := by
      rw [e5, if_neg (by decide)]
    refine sn_72 (fun z => ?_) (fun j hj ej => ?_)
    · have h10 : x10 = if (0 : Int32) = 0 then 0 else 255 - ((1 : Int32) <<< (s &&& 31)) := by
        rw [hf.1 z, if_pos rfl]
      have g : ¬ sn_ok 1 c s m := fun g => by
        obtain ⟨j, hj, ej⟩ := g.2.2.1
        exact z j hj ej
      have B := bad 1 0 h5 h10 g
      exact br_f (by decide) (br_c (fun _ => br_t rfl B) (fun _ => B))
    · have h10 : x10 = if (1 : Int32) = 0 then 0 else 255 - ((1 : Int32) <<< (s &&& 31)) := by
        rw [if_neg (by decide), ej]
        exact hf.2 j hj ej
      have B := bad 1 1 h5 h10
      refine br_f (by decide) (br_c (fun y1 => br_f (by decide) (br_c (fun y2 => B (fun g => g.2.2.2.1 y2)) (fun y2 => br_c (fun y3 => B (fun g => ?_)) (fun y3 => ?_)))) (fun y1 => B (fun g => y1 g.2.1)))
      · have t := g.2.2.2.2
        rw [Int32.le_iff_toInt_le] at t
        rw [Int32.lt_iff_toInt_lt] at y3
        omega
      · have g : sn_ok 1 c s m := by
          refine ⟨rfl, y1, ⟨j, hj, ej⟩, y2, ?_⟩
          rw [Int32.lt_iff_toInt_lt] at y3
          rw [Int32.le_iff_toInt_le]
          omega
        obtain ⟨e6, e7, e8, e9⟩ := hg.1 g
        exact sn_122 h5 e6 (by rw [e7, if_neg (by decide)]) (by rw [e8, if_neg (by decide)]) (by rw [e9, if_neg (by decide)]) h10 H
  · obtain ⟨rfl, e5⟩ := hp.2 e
    have h5 : x5 = if (0 : Int32) = 0 then -1 else 0 := by
      rw [e5, if_pos rfl]
    have g : ¬ sn_ok 0 c s m := fun g => absurd g.1 (by decide)
    refine sn_72 (fun z => ?_) (fun j hj ej => ?_)
    · have h10 : x10 = if (0 : Int32) = 0 then 0 else 255 - ((1 : Int32) <<< (s &&& 31)) := by
        rw [hf.1 z, if_pos rfl]
      exact br_t rfl (bad 0 0 h5 h10 g)
    · have h10 : x10 = if (1 : Int32) = 0 then 0 else 255 - ((1 : Int32) <<< (s &&& 31)) := by
        rw [if_neg (by decide), ej]
        exact hf.2 j hj ej
      exact br_t rfl (bad 0 1 h5 h10 g)
/-! the calls again, the answer as a name with its facts -/
theorem sn_init {post : St2 → Prop} (H : post (0, 0, 0, 0, (fun _ => 0), (fun _ => 0), (fun _ => 0), (fun _ => 0), (fun _ => 0), (fun _ => 0), (fun _ => 0), (fun _ => 0), (fun _ => 0), (fun _ => 0), (fun _ => 0), (fun _ => 0), (fun _ => 0), (fun _ => 0))) : wpX_init post 14 544 (0, 0, 0, 0) := by
  unfold wpX_init
  exact ⟨by decide, by decide, by decide, by decide, by decide, by decide, by decide, by decide, by decide, by decide, by decide, by decide, by decide, by decide, by decide, by decide, by decide, by decide, by decide, by decide, by decide, by decide, by decide, by decide, by decide, by decide, by decide, by decide, H⟩
theorem sn_add2 {post : Int32 → St2 → Prop} (p : Int32) (H : ∀ n r w, sn_N n 8 0 w → ((p = -1 → n = 1 ∧ r = 0) ∧ (p ≠ -1 → n = 0 ∧ r = -1)) → post r w) : wpX_addClass post (0, 0, 0, 0, (fun _ => 0), (fun _ => 0), (fun _ => 0), (fun _ => 0), (fun _ => 0), (fun _ => 0), (fun _ => 0), (fun _ => 0), (fun _ => 0), (fun _ => 0), (fun _ => 0), (fun _ => 0), (fun _ => 0), (fun _ => 0)) p :=
  sn_addClass p (fun e w hw => H 0 (-1) w hw ⟨fun z => absurd z e, fun _ => ⟨rfl, rfl⟩⟩) (fun e w hw => H 1 0 w hw ⟨fun _ => ⟨rfl, rfl⟩, fun z => absurd e z⟩)
theorem sn_def2 {post : Int32 → St2 → Prop} {n : Nat} {u : St2} (h : sn_N n 8 0 u) (c s m : Int32) (H : ∀ k v r w, sn_N n k v w → ((sn_ok n c s m → r = 1 ∧ v = m ∧ sn_g n k c s) ∧ (¬ sn_ok n c s m → r = 0 ∧ ¬ sn_g n k c s)) → post r w) : wpX_define post u c s m :=
  sn_define h c s m (fun z => H 8 0 0 u h ⟨fun g => absurd g z, fun _ => ⟨rfl, fun g => absurd g.2.2.1 (by decide)⟩⟩) (fun j e1 e2 hj ej y1 y2 w hw => H j m 1 w hw ⟨fun _ => ⟨rfl, rfl, e1, e2, hj, ej⟩, fun z => absurd ⟨e1, e2, ⟨j, hj, ej⟩, y1, y2⟩ z⟩)
theorem sn_send2 {post : Int32 → St2 → Prop} {n k : Nat} {v : Int32} {u : St2} (h : sn_L n k v u) (c s : Int32) (H : ∀ r w, sn_L n k v w → ((sn_g n k c s → r = v) ∧ (¬ sn_g n k c s → r = 0)) → post r w) : wpX_send post u c s :=
  sn_send h c s (fun z w hw => H 0 w hw ⟨fun g => absurd g z, fun _ => rfl⟩) (fun z w hw => H v w hw ⟨fun _ => rfl, fun g => absurd z g⟩)
theorem sn_owner2 {post : Int32 → St2 → Prop} {n k : Nat} {v : Int32} {u : St2} (h : sn_L n k v u) (c s : Int32) (H : ∀ r w, sn_L n k v w → ((sn_g n k c s → r = 0) ∧ (¬ sn_g n k c s → r = -1)) → post r w) : wpX_owner post u c s :=
  sn_owner h c s (fun z w hw => H (-1) w hw ⟨fun g => absurd g z, fun _ => rfl⟩) (fun z w hw => H 0 w hw ⟨fun _ => rfl, fun g => absurd z g⟩)
theorem sn_heirs2 {post : Int32 → St2 → Prop} {n k : Nat} {v : Int32} {u : St2} (h : sn_L n k v u) (c s : Int32) (H : ∀ r w, sn_L n k v w → ((sn_g n k c s → r = 1) ∧ (¬ sn_g n k c s → r = 0)) → post r w) : wpX_heirs post u c s :=
  sn_heirs h c s (fun z w hw => H 0 w hw ⟨fun g => absurd g z, fun _ => rfl⟩) (fun z w hw => H 1 w hw ⟨fun _ => rfl, fun g => absurd z g⟩)
theorem sn_apart2 {post : Int32 → St2 → Prop} {n k : Nat} {v : Int32} {u : St2} (h : sn_L n k v u) (s : Int32) (H : ∀ r w, (((∀ j : Nat, j < 8 → s ≠ nI j) → r = 0) ∧ (∀ j : Nat, j < 8 → s = nI j → r = 255 - ((1 : Int32) <<< (nI j &&& 31)))) → post r w) : wpX_apart post u s :=
  sn_apart h s (fun z w => H 0 w ⟨fun _ => rfl, fun j hj ej => absurd ej (z j hj)⟩) (fun j hj ej w => H _ w ⟨fun z => absurd ej (z j hj), fun i hi ei => by rw [← ej, ei]⟩)
theorem sn_lawOf {post : Int32 → St0 → Prop} (p c s m : Int32) (H : post 1 ()) : wpL_lawOf post 15 562 () p c s m := by
  refine And.intro (by decide) (And.intro (by decide) (Exists.intro 14 (Exists.intro 544 (And.intro (by decide) (And.intro (by decide) (sn_init ?_))))))
  refine sn_add2 p (fun n x5 w hw e5 => ?_)
  obtain ⟨f0, f1, f2, f3, a1, a2, a3, a4, a5, a6, a7, a8, a9, a10, a11, a12, a13, a14⟩ := w
  refine sn_def2 hw c s m (fun k v x6 w hw e6 => ?_)
  obtain ⟨f0, f1, f2, f3, a1, a2, a3, a4, a5, a6, a7, a8, a9, a10, a11, a12, a13, a14⟩ := w
  refine sn_send2 (Or.inl hw) c s (fun x7 w hw e7 => ?_)
  obtain ⟨f0, f1, f2, f3, a1, a2, a3, a4, a5, a6, a7, a8, a9, a10, a11, a12, a13, a14⟩ := w
  refine sn_owner2 hw c s (fun x8 w hw e8 => ?_)
  obtain ⟨f0, f1, f2, f3, a1, a2, a3, a4, a5, a6, a7, a8, a9, a10, a11, a12, a13, a14⟩ := w
  refine sn_heirs2 hw c s (fun x9 w hw e9 => ?_)
  obtain ⟨f0, f1, f2, f3, a1, a2, a3, a4, a5, a6, a7, a8, a9, a10, a11, a12, a13, a14⟩ := w
  refine sn_apart2 hw s (fun x10 w e10 => ?_)
  obtain ⟨f0, f1, f2, f3, a1, a2, a3, a4, a5, a6, a7, a8, a9, a10, a11, a12, a13, a14⟩ := w
  refine sn_fin e5 ⟨fun g => ?_, fun g => ?_⟩ e10 H
  · obtain ⟨r6, rv, rg⟩ := e6.1 g
    exact ⟨r6, (e7.1 rg).trans rv, e8.1 rg, e9.1 rg⟩
  · obtain ⟨r6, rg⟩ := e6.2 g
    exact ⟨r6, e7.2 rg, e8.2 rg, e9.2 rg⟩
end
section
theorem sn_cell {post : Int32 → Prop} {L : Nat} {xs : Nat → Int32} {p : Nat} (hL : L ≤ 4) (hp : p < 4) (H : ∀ r, post r) : wpL_cellAt post L xs () (nI p) := by
  refine br_c (fun _ => H 0) (fun z => And.intro (pk_in p L ?_) (H _))
  rcases Nat.lt_or_ge p L with e | e
  · exact e
  · exact absurd (nI_le e (by omega)) z
theorem i_vc (xs : Nat → Int32) (L : Nat) (hL : L ≤ 4) : wpL_law (fun r => r = 1) L xs := by
  unfold wpL_law
  refine sn_cell (p := 0) hL (by decide) (fun p => ?_)
  refine sn_cell (p := 1) hL (by decide) (fun c => ?_)
  refine sn_cell (p := 2) hL (by decide) (fun s => ?_)
  refine sn_cell (p := 3) hL (by decide) (fun m => ?_)
  exact Exists.intro 15 (Exists.intro 562 (And.intro (by decide) (And.intro (by decide) (sn_lawOf p c s m rfl))))
end
