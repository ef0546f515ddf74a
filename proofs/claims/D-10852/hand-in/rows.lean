section
/-! plain facts about ints: the shifts of a statement (nI t - 4), the array numbers, ranges -/
theorem ll_in4 : vp_in (0 : Int32) 4 := pk_in 0 4 (by decide)
theorem ll_sle : ∀ a, a < 16 → ∀ b, b < 16 → (nI a - 4 ≤ nI b - 4 ↔ a ≤ b) := by decide +kernel
theorem ll_neg : ∀ l, l < 32 → ∀ m, m < 16 → (nI l + (nI m - 4) < 0 ↔ l + m < 4) := by decide +kernel
theorem ll_far : ∀ l, l < 32 → ∀ m, m < 16 → (nI l + (nI m - 4) < 32 ↔ l + m < 36) := by decide +kernel
theorem ll_gt31 : ∀ l, l < 32 → ∀ m, m < 16 → (31 < nI l + (nI m - 4) ↔ 36 ≤ l + m) := by decide +kernel
theorem ll_le31 : ∀ l, l < 32 → ∀ m, m < 16 → (nI l + (nI m - 4) ≤ 31 ↔ l + m < 36) := by decide +kernel
theorem ll_bs1 : ∀ t, t < 16 → ¬ nI t - 4 < (-4) := by decide +kernel
theorem ll_bs2 : ∀ t, t < 16 → (nI t - 4 ≤ 4 ↔ t ≤ 8) := by decide +kernel
theorem ll_gt8 : ∀ t, t < 16 → (8 < nI t ↔ 8 < t) := by decide +kernel
theorem ll_le8 : ∀ t, t < 16 → (nI t ≤ 8 ↔ t ≤ 8) := by decide +kernel
/-! the packed arrays -/
def ll_arOk (x : Int32) (A : Nat → Nat) : Prop := ∀ k, k < 3 → A k < 4 ∧ (x >>> ((2 * nI k) &&& 31)) &&& 3 = nI (A k)
def ll_shOk (x : Int32) (T : Nat → Nat) : Prop := ∀ k, k < 3 → T k < 16 ∧ (x >>> ((4 * nI k) &&& 31)) &&& 15 = nI (T k)
theorem ll_arEx (x : Int32) : ∃ A, ll_arOk x A :=
  ⟨fun k => (x >>> ((2 * nI k) &&& 31)).toBitVec.toNat % 2 ^ 2, fun _ _ => ⟨Nat.mod_lt _ (by decide), pk_and _ 2 (by decide)⟩⟩
theorem ll_shEx (x : Int32) : ∃ T, ll_shOk x T :=
  ⟨fun k => (x >>> ((4 * nI k) &&& 31)).toBitVec.toNat % 2 ^ 4, fun _ _ => ⟨Nat.mod_lt _ (by decide), pk_and _ 4 (by decide)⟩⟩
theorem ll_t0 : ∀ j, j < 64 → (nI j &&& 3 = 3 ↔ (nI j >>> ((2 * nI 0) &&& 31)) &&& 3 = nI 3) := by decide +kernel
theorem ll_t1 : ∀ j, j < 64 → (nI j &&& 12 = 12 ↔ (nI j >>> ((2 * nI 1) &&& 31)) &&& 3 = nI 3) := by decide +kernel
theorem ll_t2 : ∀ j, j < 64 → (nI j &&& 48 = 48 ↔ (nI j >>> ((2 * nI 2) &&& 31)) &&& 3 = nI 3) := by decide +kernel
theorem ll_b (x m s : Int32) (h1 : (63 : Int32) &&& m = m) (h2 : ((63 : Int32) >>> s) &&& 3 = 3)
    (ht : ∀ j, j < 64 → (nI j &&& m = m ↔ (nI j >>> s) &&& 3 = nI 3)) : x &&& m = m ↔ (x >>> s) &&& 3 = nI 3 := by
  obtain ⟨j, hj, e⟩ := pk_andE x (m := 63) 6 (by decide)
  have e1 : x &&& m = nI j &&& m := by rw [← e, Int32.and_assoc, h1]
  have e2 : (x >>> s) &&& 3 = (nI j >>> s) &&& 3 := by rw [← e, Int32.shiftRight_and, Int32.and_assoc, h2]
  rw [e1, e2]
  exact ht j (by omega)
theorem ll_ar3 {x : Int32} {A : Nat → Nat} (h : ll_arOk x A) {k : Nat} (hk : k < 3) {m : Int32} (e : x &&& m = m ↔ (x >>> ((2 * nI k) &&& 31)) &&& 3 = nI 3) : x &&& m = m ↔ A k = 3 := by
  obtain ⟨h1, h2⟩ := h k hk
  rw [e, h2, nI_eq (by omega) (by omega)]
theorem ll_ar30 {x : Int32} {A : Nat → Nat} (h : ll_arOk x A) : x &&& 3 = 3 ↔ A 0 = 3 := ll_ar3 h (by decide) (ll_b x 3 _ (by decide) (by decide) ll_t0)
theorem ll_ar31 {x : Int32} {A : Nat → Nat} (h : ll_arOk x A) : x &&& 12 = 12 ↔ A 1 = 3 := ll_ar3 h (by decide) (ll_b x 12 _ (by decide) (by decide) ll_t1)
theorem ll_ar32 {x : Int32} {A : Nat → Nat} (h : ll_arOk x A) : x &&& 48 = 48 ↔ A 2 = 3 := ll_ar3 h (by decide) (ll_b x 48 _ (by decide) (by decide) ll_t2)
theorem ll_sh0 {x : Int32} {T : Nat → Nat} (h : ll_shOk x T) : x &&& 15 = nI (T 0) := by
  have e := (h 0 (by decide)).2
  rw [show ((4 : Int32) * nI 0) &&& 31 = (0 : Int32) &&& 31 from by decide, sb_shr0] at e
  exact e
theorem ll_sh1 {x : Int32} {T : Nat → Nat} (h : ll_shOk x T) : (x >>> ((4 : Int32) &&& 31)) &&& 15 = nI (T 1) := by
  have e := (h 1 (by decide)).2
  rw [show ((4 : Int32) * nI 1) &&& 31 = (4 : Int32) &&& 31 from by decide] at e
  exact e
theorem ll_sh2 {x : Int32} {T : Nat → Nat} (h : ll_shOk x T) : (x >>> ((8 : Int32) &&& 31)) &&& 15 = nI (T 2) := by
  have e := (h 2 (by decide)).2
  rw [show ((4 : Int32) * nI 2) &&& 31 = (8 : Int32) &&& 31 from by decide] at e
  exact e
/-! ranges of an int -/
theorem ll_n32 {x : Int32} (h : 32 ≤ x) : ¬ x < 32 := by
  rw [Int32.lt_iff_toInt_lt]
  rw [Int32.le_iff_toInt_le] at h
  omega
theorem ll_32 {x : Int32} (h : ¬ 32 ≤ x) : x < 32 := by
  rw [Int32.lt_iff_toInt_lt]
  rw [Int32.le_iff_toInt_le] at h
  omega
theorem ll_31 {x : Int32} (h : 31 < x) : 32 ≤ x := by
  rw [Int32.le_iff_toInt_le, show (32 : Int32).toInt = 32 from by decide]
  rw [Int32.lt_iff_toInt_lt, show (31 : Int32).toInt = 31 from by decide] at h
  omega
theorem ll_n31 {x : Int32} (h : ¬ 31 < x) : ¬ 32 ≤ x := by
  rw [Int32.le_iff_toInt_le, show (32 : Int32).toInt = 32 from by decide]
  rw [Int32.lt_iff_toInt_lt, show (31 : Int32).toInt = 31 from by decide] at h
  omega
theorem ll_l31 {x : Int32} (h : x ≤ 31) : ¬ 32 ≤ x := by
  rw [Int32.le_iff_toInt_le, show (32 : Int32).toInt = 32 from by decide]
  rw [Int32.le_iff_toInt_le, show (31 : Int32).toInt = 31 from by decide] at h
  omega
theorem ll_nl31 {x : Int32} (h : ¬ x ≤ 31) : 32 ≤ x := by
  rw [Int32.le_iff_toInt_le, show (32 : Int32).toInt = 32 from by decide]
  rw [Int32.le_iff_toInt_le, show (31 : Int32).toInt = 31 from by decide] at h
  omega
theorem ll_rng {x : Int32} (h0 : ¬ x < 0) (h1 : ¬ 32 ≤ x) : ∃ j : Nat, j < 32 ∧ x = nI j := by
  rcases pk_ix x (n := 32) (by decide) with h | h | h
  · exact absurd h h0
  · exact absurd h h1
  · exact h
theorem ll_rng3 {x : Int32} (h0 : ¬ x < 0) (h1 : x ≤ 2) : ∃ j : Nat, j < 3 ∧ x = nI j := by
  obtain ⟨j, hj, e⟩ := nI_of2 (M := 2) (n := 2) (by decide) h0 h1
  exact ⟨j, by omega, e⟩
theorem ll_lt1 {x : Int32} (h0 : ¬ x < 0) (h1 : x < 1) : x = 0 := by
  obtain ⟨j, hj, e⟩ := nI_of h0
  rw [e] at h1
  have h2 : j < 1 := (nI_ltI hj (by decide)).mp h1
  rw [e, show j = 0 by omega]
  rfl
/-- where a part of the statement at 0 lies at the round i: a place of the cells -/
def ll_ix (a3 a4 : Nat → Int32) (i : Nat) : Prop := ∀ k, k < 3 → ∃ j, j < 96 ∧ ((((a3 0) >>> ((2 * nI k) &&& 31)) &&& 3) * 32 + nI i) + ((((a4 0) >>> ((4 * nI k) &&& 31)) &&& 15) - 4) = nI j
theorem ll_ixOk {a3 a4 : Nat → Int32} {A T : Nat → Nat} (hA : ll_arOk (a3 0) A) (hA3 : ∀ k, k < 3 → A k < 3) (hT : ll_shOk (a4 0) T) {i : Nat} (h : ∀ k, k < 3 → 4 ≤ i + T k ∧ i + T k < 36) : ll_ix a3 a4 i := by
  intro k hk
  have h1 := hA3 k hk
  have h2 := h k hk
  refine ⟨A k * 32 + i + T k - 4, by omega, ?_⟩
  rw [(hA k hk).2, (hT k hk).2]
  have e1 : nI (A k) * 32 + nI i = nI (A k * 32 + i) := by
    rw [← nI_add, ← pk_mul]
    rfl
  have e2 : nI (A k * 32 + i + T k) - nI 4 = nI (A k * 32 + i + T k - 4) := pk_sub (by omega)
  have e3 : ∀ x y z : Int32, x + (y - z) = x + y - z := fun x y z => by grind
  have e4 : nI (A k * 32 + i) + (nI (T k) - nI 4) = nI (A k * 32 + i + T k - 4) := by
    rw [← e2, ← nI_add (A k * 32 + i) (T k), e3]
  rw [e1]
  exact e4
end
section
/-! questions about statements whose answer does not matter: they end, with 0 or 1 -/
section
variable {post : Int32 → Prop} {c r g : Int32} {a1 a2 a3 a4 a5 a6 a7 a8 a9 : Nat → Int32}
theorem ll_meets {p0 p1 p2 p3 p4 : Int32} (h0 : post 0) (h1 : post 1) (i0 : vp_in p0 4) (i2 : vp_in p2 4) : wpX_meets post (c, r, g, a1, a2, a3, a4, a5, a6, a7, a8, a9) p0 p1 p2 p3 p4 :=
  ⟨i0, i2, br_c (fun _ => ⟨i0, i2, br_c (fun _ => h1) (fun _ => h0)⟩) (fun _ => h0)⟩
theorem ll_reads {p0 p1 : Int32} (h0 : post 0) (h1 : post 1) (i0 : vp_in p0 4) : wpX_reads post (c, r, g, a1, a2, a3, a4, a5, a6, a7, a8, a9) p0 p1 :=
  br_c (fun _ => ⟨i0, br_c (fun _ => h0) (fun _ => h1)⟩) (fun _ => ⟨i0, br_c (fun _ => h0) (fun _ => h1)⟩)
theorem ll_feeds_37 {J : Int32 → Prop} {x1 x2 x3 x4 z0 : Int32} (hJ : J (x4 + 1)) (h1 : post 1) : wX_feeds_37 post J x1 x2 x3 x4 z0 c r g a1 a2 a3 a4 a5 a6 a7 a8 a9 :=
  br_c (fun _ => nm_e hJ) (fun _ => h1)
theorem ll_feeds_36 {J : Int32 → Prop} {x1 x2 x3 x4 : Int32} (hJ : J (x4 + 1)) (h1 : post 1) : wX_feeds_36 post J x1 x2 x3 x4 c r g a1 a2 a3 a4 a5 a6 a7 a8 a9 :=
  ll_feeds_37 (z0 := 0) hJ h1
theorem ll_feeds {p0 p1 p2 : Int32} (h0 : post 0) (h1 : post 1) (i0 : vp_in p0 4) (i1 : vp_in p1 4) : wpX_feeds post (c, r, g, a1, a2, a3, a4, a5, a6, a7, a8, a9) p0 p1 p2 :=
  pk_loop (σ := Unit) (fun n i _ => wX_feeds_3 post p0 p1 p2 c r g a1 a2 a3 a4 a5 a6 a7 a8 a9 n (nI i)) (fun _ _ => True) 3 1 () (by omega) trivial
    (fun n _ _ => pk_le 3 3 (fun _ => h0) (fun z => absurd z (by omega)))
    (fun n i _ hi _ hw => pk_le 3 i (fun z => absurd z (by omega)) (fun _ => by
      have J : wX_feeds_3 post p0 p1 p2 c r g a1 a2 a3 a4 a5 a6 a7 a8 a9 n (nI i + 1) := by
        rw [nI_1]
        exact hw () trivial
      refine ll_reads (br_c (fun _ => ll_feeds_36 J h1) (fun _ => ?_)) (br_c (fun _ => ll_feeds_36 J h1) (fun _ => ?_)) i1
      · exact ll_meets (br_c (fun _ => ll_feeds_36 J h1) (fun _ => ll_feeds_37 J h1)) (br_c (fun _ => ll_feeds_36 J h1) (fun _ => ll_feeds_37 J h1)) i0 i1
      · exact ll_meets (br_c (fun _ => ll_feeds_36 J h1) (fun _ => ll_feeds_37 J h1)) (br_c (fun _ => ll_feeds_36 J h1) (fun _ => ll_feeds_37 J h1)) i0 i1))
theorem ll_spoils_37 {J : Int32 → Prop} {x1 x2 x3 x4 z0 : Int32} (hJ : J (x4 + 1)) (h1 : post 1) : wX_spoils_37 post J x1 x2 x3 x4 z0 c r g a1 a2 a3 a4 a5 a6 a7 a8 a9 :=
  br_c (fun _ => nm_e hJ) (fun _ => h1)
theorem ll_spoils_36 {J : Int32 → Prop} {x1 x2 x3 x4 : Int32} (hJ : J (x4 + 1)) (h1 : post 1) : wX_spoils_36 post J x1 x2 x3 x4 c r g a1 a2 a3 a4 a5 a6 a7 a8 a9 :=
  ll_spoils_37 (z0 := 0) hJ h1
theorem ll_spoils {p0 p1 p2 : Int32} (h0 : post 0) (h1 : post 1) (i0 : vp_in p0 4) (i1 : vp_in p1 4) : wpX_spoils post (c, r, g, a1, a2, a3, a4, a5, a6, a7, a8, a9) p0 p1 p2 :=
  pk_loop (σ := Unit) (fun n i _ => wX_spoils_3 post p0 p1 p2 c r g a1 a2 a3 a4 a5 a6 a7 a8 a9 n (nI i)) (fun _ _ => True) 3 1 () (by omega) trivial
    (fun n _ _ => pk_le 3 3 (fun _ => h0) (fun z => absurd z (by omega)))
    (fun n i _ hi _ hw => pk_le 3 i (fun z => absurd z (by omega)) (fun _ => by
      have J : wX_spoils_3 post p0 p1 p2 c r g a1 a2 a3 a4 a5 a6 a7 a8 a9 n (nI i + 1) := by
        rw [nI_1]
        exact hw () trivial
      refine ll_reads (br_c (fun _ => ll_spoils_36 J h1) (fun _ => ?_)) (br_c (fun _ => ll_spoils_36 J h1) (fun _ => ?_)) i0
      · exact ll_meets (br_c (fun _ => ll_spoils_36 J h1) (fun _ => ll_spoils_37 J h1)) (br_c (fun _ => ll_spoils_36 J h1) (fun _ => ll_spoils_37 J h1)) i0 i1
      · exact ll_meets (br_c (fun _ => ll_spoils_36 J h1) (fun _ => ll_spoils_37 J h1)) (br_c (fun _ => ll_spoils_36 J h1) (fun _ => ll_spoils_37 J h1)) i0 i1))
theorem ll_prec11 {x1 x2 x3 : Int32} (h0 : post 0) (h1 : post 1) (i0 : vp_in x1 4) (i1 : vp_in x2 4) : wX_precedes_11 post x1 x2 x3 c r g a1 a2 a3 a4 a5 a6 a7 a8 a9 := by
  unfold wX_precedes_11
  have S : wpX_spoils (fun r_6 => (((r_6 = 0 → (post 0)) ∧ (¬ r_6 = 0 → (post 1))))) (c, r, g, a1, a2, a3, a4, a5, a6, a7, a8, a9) x1 x2 x3 :=
    ll_spoils (br_c (fun _ => h0) (fun _ => h1)) (br_c (fun _ => h0) (fun _ => h1)) i0 i1
  refine ll_meets (br_c (fun _ => ?_) (fun _ => h1)) (br_c (fun _ => ?_) (fun _ => h1)) i0 i1
  · exact ll_feeds (br_c (fun _ => S) (fun _ => h1)) (br_c (fun _ => S) (fun _ => h1)) i0 i1
  · exact ll_feeds (br_c (fun _ => S) (fun _ => h1)) (br_c (fun _ => S) (fun _ => h1)) i0 i1
theorem ll_prec {p0 p1 p2 : Int32} (h0 : post 0) (h1 : post 1) (i0 : vp_in p0 4) (i1 : vp_in p1 4) : wpX_precedes post (c, r, g, a1, a2, a3, a4, a5, a6, a7, a8, a9) p0 p1 p2 :=
  br_c (fun _ => br_c (fun _ => ll_prec11 h0 h1 i0 i1) (fun _ => h0)) (fun _ => ll_prec11 h0 h1 i0 i1)
theorem ll_pall {p0 p1 : Int32} (h0 : post 0) (h1 : post 1) (i0 : vp_in p0 4) (i1 : vp_in p1 4) : wpX_precedesAtAll post (c, r, g, a1, a2, a3, a4, a5, a6, a7, a8, a9) p0 p1 :=
  pk_loop (σ := Unit) (fun n i _ => wX_precedesAtAll_2 post p0 p1 c r g a1 a2 a3 a4 a5 a6 a7 a8 a9 n (nI i)) (fun _ _ => True) 9 0 () (by omega) trivial
    (fun n _ _ => pk_lt 8 9 (fun _ => h0) (fun z => absurd z (by omega)))
    (fun n i _ hi _ hw => pk_lt 8 i (fun z => absurd z (by omega)) (fun _ =>
      ll_prec (br_c (fun _ => nm_r (nI_1 i) (hw () trivial)) (fun _ => h1)) (br_c (fun _ => nm_r (nI_1 i) (hw () trivial)) (fun _ => h1)) i0 i1))
theorem ll_fits {p0 : Int32} (h0 : post 0) (h1 : post 1) (i0 : vp_in p0 4) : wpX_fitsLanes post (c, r, g, a1, a2, a3, a4, a5, a6, a7, a8, a9) p0 :=
  pk_loop (σ := Unit) (fun n i _ => wX_fitsLanes_2 post p0 c r g a1 a2 a3 a4 a5 a6 a7 a8 a9 n (nI i)) (fun _ _ => True) 4 1 () (by omega) trivial
    (fun n _ _ => pk_le 4 4 (fun _ => h1) (fun z => absurd z (by omega)))
    (fun n i _ hi _ hw => pk_le 4 i (fun z => absurd z (by omega)) (fun _ =>
      ll_feeds (br_c (fun _ => nm_r (nI_1 i) (hw () trivial)) (fun _ => h0)) (br_c (fun _ => nm_r (nI_1 i) (hw () trivial)) (fun _ => h0)) i0 i0))
end
end
section
/-! the plan of no statement, and of one -/
section
variable {c r g : Int32} {a1 a2 a3 a4 a5 a6 a7 a8 a9 : Nat → Int32}
theorem ll_bit {a6 : Nat → Int32} (h6 : a6 0 = 1) : (((a6 (0 : Int32).toNatClampNeg) >>> ((0 : Int32) &&& 31)) &&& 1) = 1 := by
  rw [sb_cl0, h6]
  decide
theorem ll_fb66 {post : St2 → Prop} (h6 : a6 0 = 1) (H : ∀ b : Nat → Int32, b 0 = 1 → post (1, r, g, a1, a2, a3, a4, a5, b, a7, a8, a9)) : ∃ n, wX_findBehind_66 post 1 r g n 0 a1 a2 a3 a4 a5 a6 a7 a8 a9 := by
  refine ⟨0 + 1 + 1, br_f (by decide) ⟨0 + 1 + 1, br_f (by decide) ⟨ll_in4, br_t (ll_bit h6) ⟨ll_in4, ll_in4, ll_in4, nm_e (nm_e (br_t (by decide) (nm_e (br_t (by decide) (H _ ?_)))))⟩⟩⟩⟩
  rw [sb_cl0, pk_us, h6]
  decide
theorem ll_fb21 {post : St2 → Prop} {J : Int32 → (Nat → Int32) → (Nat → Int32) → (Nat → Int32) → (Nat → Int32) → (Nat → Int32) → (Nat → Int32) → (Nat → Int32) → (Nat → Int32) → (Nat → Int32) → Prop} (h6 : a6 0 = 1) (H : ∀ b : Nat → Int32, b 0 = 1 → J (0 + 1) a1 a2 a3 a4 a5 b a7 a8 a9) : ∃ n, wX_findBehind_21 post J 0 1 r g n 0 a1 a2 a3 a4 a5 a6 a7 a8 a9 := by
  refine ⟨0 + 1 + 1, br_f (by decide) (ll_pall (br_t rfl (nm_e (br_t (by decide) (nm_e (H a6 h6))))) (br_f (by decide) ⟨ll_in4, ll_in4, nm_e (nm_e (br_t (by decide) (nm_e (H _ ?_))))⟩) ll_in4 ll_in4)⟩
  rw [sb_cl0, pk_us, h6]
  decide
theorem ll_findBehind1 {post : St2 → Prop} (H : ∀ b : Nat → Int32, b 0 = 1 → post (1, r, g, a1, a2, a3, a4, a5, b, a7, a8, a9)) : wpX_findBehind post (1, r, g, a1, a2, a3, a4, a5, a6, a7, a8, a9) := by
  refine ⟨0 + 1 + 1, br_f (by decide) ⟨ll_in4, nm_e (ll_fb21 ?_ (fun b hb => br_t (by decide) (ll_fb66 hb H)))⟩⟩
  rw [sb_cl0, pk_us]
  decide
theorem ll_findBehind0 {post : St2 → Prop} (H : post (0, r, g, a1, a2, a3, a4, a5, a6, a7, a8, a9)) : wpX_findBehind post (0, r, g, a1, a2, a3, a4, a5, a6, a7, a8, a9) :=
  ⟨0 + 1, br_t (by decide) ⟨0 + 1, br_t (by decide) H⟩⟩
theorem ll_circle {post : Int32 → Prop} (h6 : a6 0 = 1) (H : post 1) : wpX_circleOf post (1, r, g, a1, a2, a3, a4, a5, a6, a7, a8, a9) 0 :=
  ⟨0 + 1 + 1, br_f (by decide) ⟨ll_in4, br_t (ll_bit h6) ⟨ll_in4, br_t (ll_bit h6) (nm_r (show (0 : Int32) ||| ((1 : Int32) <<< ((0 : Int32) &&& 31)) = 1 from by decide) (nm_e (br_t (by decide) H)))⟩⟩⟩
theorem ll_free {post : Int32 → Prop} (H : post 1) : wpX_free post (1, r, g, a1, a2, a3, a4, a5, a6, a7, a8, a9) 1 0 :=
  ⟨0 + 1 + 1, br_f (by decide) (br_f (by decide) (br_t rfl (nm_e (br_t (by decide) H))))⟩
theorem ll_next {post : Int32 → Prop} (h6 : a6 0 = 1) (H : post 1) : wpX_nextGroup post (1, r, g, a1, a2, a3, a4, a5, a6, a7, a8, a9) 0 :=
  ⟨0 + 1 + 1, br_f (by decide) (br_t (by decide) (ll_circle h6 (ll_free (br_f (by decide) H))))⟩
theorem ll_one {post : Int32 → Prop} (H : post 1) : wpX_oneStatement post (c, r, g, a1, a2, a3, a4, a5, a6, a7, a8, a9) 1 := br_t (by decide) H
theorem ll_low {post : Int32 → Prop} {x : Int32} (hx : x = 1) (H : post 0) : wpX_lowest post () x := by
  subst hx
  exact ⟨0 + 1, br_f (by decide) (br_f (by decide) H)⟩
theorem ll_plan94 {post : St2 → Prop} {z : Int32} (h7 : a7 0 = 1) (H : ∀ b6 b7 b8 : Nat → Int32, b7 0 = 1 → post (1, 1, 1, a1, a2, a3, a4, a5, b6, b7, b8, a9)) : wX_plan_94 post (wX_plan_26 post 1 1 (0 + 1)) 0 0 1 z 0 1 1 0 a1 a2 a3 a4 a5 a6 a7 a8 a9 :=
  ⟨ll_in4, nm_e (nm_r (show (0 : Int32) + 1 = 1 from by decide) (nm_e (nm_e (br_t (by decide) (H _ _ _ h7)))))⟩
theorem ll_plan1 {post : St2 → Prop} (H : ∀ b6 b7 b8 : Nat → Int32, b7 0 = 1 → post (1, 1, 1, a1, a2, a3, a4, a5, b6, b7, b8, a9)) : wpX_plan post (1, 0, g, a1, a2, a3, a4, a5, a6, a7, a8, a9) := by
  refine br_t rfl (ll_findBehind1 (fun b hb => ?_))
  refine ⟨0 + 1 + 1, br_f (by decide) (ll_next hb (br_f (by decide) ⟨ll_in4, nm_e (ll_one (ll_low rfl ?_))⟩))⟩
  have h7 : upd a7 (0 : Int32).toNatClampNeg 1 0 = 1 := by
    rw [sb_cl0, pk_us]
  exact br_f (by decide) (ll_fits (br_t rfl (ll_plan94 h7 H)) (br_f (by decide) (ll_plan94 h7 H)) ll_in4)
theorem ll_plan0 {post : St2 → Prop} (H : post (0, 1, 0, a1, a2, a3, a4, a5, a6, a7, a8, a9)) : wpX_plan post (0, 0, g, a1, a2, a3, a4, a5, a6, a7, a8, a9) :=
  br_t rfl (ll_findBehind0 ⟨0 + 1, br_t (by decide) H⟩)
end
end
section
/-! running the one statement: every place that it reads or writes lies in the cells -/
section
variable {c r g : Int32} {a1 a2 a3 a4 a5 a6 a7 a8 a9 : Nat → Int32}
theorem ll_source {post : Int32 → Prop} {x p : Int32} {i : Nat} (k : Nat) (hk : k < 3) (hp : p = nI k) (hx : x = nI i) (h : ll_ix a3 a4 i) (H : ∀ v, post v) : wpX_source post (c, r, g, a1, a2, a3, a4, a5, a6, a7, a8, a9) 0 p x := by
  subst hp hx
  obtain ⟨j, hj, e⟩ := h k hk
  refine ⟨ll_in4, ll_in4, pk_in j 96 hj ?_, H _⟩
  rw [sb_cl0]
  exact e
theorem ll_result {post : Int32 → Prop} {x : Int32} {i : Nat} (hx : x = nI i) (h : ll_ix a3 a4 i) (H : ∀ v, post v) : wpX_result post (c, r, g, a1, a2, a3, a4, a5, a6, a7, a8, a9) 0 x := by
  unfold wpX_result
  refine ll_source 1 (by decide) rfl hx h (fun v => ll_source 2 (by decide) rfl hx h (fun w => ⟨ll_in4, nm_e ?_⟩))
  refine br_c (fun _ => ⟨ll_in4, H _⟩) (fun _ => br_c (fun _ => ⟨ll_in4, H _⟩) (fun _ => ?_))
  refine br_c (fun _ => H _) (fun _ => br_c (fun _ => H _) (fun _ => br_c (fun _ => H _) (fun _ => ?_)))
  exact br_c (fun _ => br_c (fun _ => H _) (fun _ => H _)) (fun _ => br_c (fun _ => ⟨ll_in4, H _⟩) (fun _ => br_c (fun _ => ⟨ll_in4, H _⟩) (fun _ => trivial)))
theorem ll_store {post : St2 → Prop} {x v : Int32} {i : Nat} (hx : x = nI i) (h : ll_ix a3 a4 i) (H : ∀ b : Nat → Int32, post (c, r, g, b, a2, a3, a4, a5, a6, a7, a8, a9)) : wpX_store post (c, r, g, a1, a2, a3, a4, a5, a6, a7, a8, a9) 0 x v := by
  subst hx
  obtain ⟨j, hj, e⟩ := h 0 (by decide)
  refine ⟨ll_in4, ll_in4, pk_in j 96 hj ?_, nm_e (H _)⟩
  rw [sb_cl0]
  exact e
/-! one round behind another -/
theorem ll_rp12 {post : St2 → Prop} {J : Int32 → Int32 → Int32 → Int32 → (Nat → Int32) → (Nat → Int32) → (Nat → Int32) → (Nat → Int32) → (Nat → Int32) → (Nat → Int32) → (Nat → Int32) → (Nat → Int32) → (Nat → Int32) → Prop} {x3 : Int32} {i : Nat} (h : ll_ix a3 a4 i) (H : ∀ b : Nat → Int32, J (nI i + 1) 1 r g b a2 a3 a4 a5 a6 a7 a8 a9) : ∃ n, wX_runPlain_12 post J 1 x3 (nI i) n 0 1 r g a1 a2 a3 a4 a5 a6 a7 a8 a9 :=
  ⟨0 + 1 + 1, br_f (by decide) (br_t (by decide) (ll_result rfl h (fun _ => ll_store rfl h (fun b => nm_e (br_t (by decide) (nm_e (H b)))))))⟩
theorem ll_runPlain {post : St2 → Prop} {x : Int32} {l h : Nat} (hx : x = 1) (hlh : l ≤ h) (hh : h < 32) (hix : ∀ i, l ≤ i → i ≤ h → ll_ix a3 a4 i) (H : ∀ b : Nat → Int32, post (1, r, g, b, a2, a3, a4, a5, a6, a7, a8, a9)) : wpX_runPlain post (1, r, g, a1, a2, a3, a4, a5, a6, a7, a8, a9) x (nI l) (nI h) := by
  subst hx
  exact pk_loop (fun n i s => wX_runPlain_3 post 1 (nI h) n (nI i) 1 r g s a2 a3 a4 a5 a6 a7 a8 a9) (fun i _ => l ≤ i) (h + 1) l a1 (by omega) (Nat.le_refl l)
    (fun n s _ => pk_lt h (h + 1) (fun _ => H s) (fun z => absurd z (by omega)))
    (fun n i s hi hl hw => pk_lt h i (fun z => absurd z (by omega)) (fun _ => ll_rp12 (hix i hl (by omega)) (fun b => by
      rw [nI_1]
      exact hw b (by omega))))
/-! in lanes -/
theorem ll_83 {post : St2 → Prop} {l h i0 : Nat} (hl0 : l ≤ i0) (hi0 : i0 ≤ h + 1) (hh : h < 32) (hix : ∀ i, l ≤ i → i ≤ h → ll_ix a3 a4 i) (H : ∀ b : Nat → Int32, post (c, r, g, b, a2, a3, a4, a5, a6, a7, a8, a9)) : ∃ n, wX_runInLanes_83 post 0 (nI h) n (nI i0) c r g a1 a2 a3 a4 a5 a6 a7 a8 a9 :=
  pk_loop (fun n i s => wX_runInLanes_83 post 0 (nI h) n (nI i) c r g s a2 a3 a4 a5 a6 a7 a8 a9) (fun i _ => l ≤ i) (h + 1) i0 a1 hi0 hl0
    (fun n s _ => pk_lt h (h + 1) (fun _ => H s) (fun z => absurd z (by omega)))
    (fun n i s hi hl hw => pk_lt h i (fun z => absurd z (by omega)) (fun _ =>
      ll_result rfl (hix i hl (by omega)) (fun _ => ll_store rfl (hix i hl (by omega)) (fun b => nm_r (nI_1 i) (hw b (by omega))))))
theorem ll_48 {post : St2 → Prop} {J : Int32 → Int32 → Int32 → Int32 → (Nat → Int32) → (Nat → Int32) → (Nat → Int32) → (Nat → Int32) → (Nat → Int32) → (Nat → Int32) → (Nat → Int32) → (Nat → Int32) → (Nat → Int32) → Prop} {x3 : Int32} {i : Nat} (hix : ∀ k, k < 4 → ll_ix a3 a4 (i + k)) (H : ∀ b : Nat → Int32, J (nI i + 4) c r g b a2 a3 a4 a5 a6 a7 a8 a9) : ∃ n, wX_runInLanes_48 post J 0 x3 (nI i) n 0 c r g a1 a2 a3 a4 a5 a6 a7 a8 a9 :=
  pk_loop (fun n k s => wX_runInLanes_48 post J 0 x3 (nI i) n (nI k) c r g s a2 a3 a4 a5 a6 a7 a8 a9) (fun _ _ => True) 4 0 a1 (by omega) trivial
    (fun n s _ => pk_le 4 4 (fun _ => nm_e (H s)) (fun z => absurd z (by omega)))
    (fun n k s hk _ hw => pk_le 4 k (fun z => absurd z (by omega)) (fun _ =>
      ⟨pk_in k 4 hk, ll_store (nI_add i k) (hix k hk) (fun b => nm_r (nI_1 k) (hw b trivial))⟩))
theorem ll_16 {post : St2 → Prop} {J : Int32 → Int32 → Int32 → Int32 → (Nat → Int32) → (Nat → Int32) → (Nat → Int32) → (Nat → Int32) → (Nat → Int32) → (Nat → Int32) → (Nat → Int32) → (Nat → Int32) → (Nat → Int32) → Prop} {x3 : Int32} {i : Nat} (hix : ∀ k, k < 4 → ll_ix a3 a4 (i + k)) (H : ∀ b b9 : Nat → Int32, J (nI i + 4) c r g b a2 a3 a4 a5 a6 a7 a8 b9) : ∃ n, wX_runInLanes_16 post J 0 x3 (nI i) c r g n 0 a1 a2 a3 a4 a5 a6 a7 a8 a9 :=
  pk_loop (fun n k s => wX_runInLanes_16 post J 0 x3 (nI i) c r g n (nI k) a1 a2 a3 a4 a5 a6 a7 a8 s) (fun _ _ => True) 4 0 a9 (by omega) trivial
    (fun n s _ => pk_le 4 4 (fun _ => ll_48 hix (fun b => H b s)) (fun z => absurd z (by omega)))
    (fun n k s hk _ hw => pk_le 4 k (fun z => absurd z (by omega)) (fun _ =>
      ll_result (nI_add i k) (hix k hk) (fun _ => ⟨pk_in k 4 hk, nm_e (nm_r (nI_1 k) (hw _ trivial))⟩)))
theorem ll_p3 (i : Nat) : (nI i + 4) - 1 = nI (i + 3) := by
  have e : nI i + nI 4 = nI (i + 3 + 1) := nI_add i 4
  have e2 : nI i + 4 = nI (i + 3 + 1) := e
  rw [e2, nI_pred]
theorem ll_p4 (i : Nat) : nI i + 4 = nI (i + 4) := nI_add i 4
theorem ll_runInLanes {post : St2 → Prop} {l h : Nat} (hlh : l ≤ h) (hh : h < 32) (hix : ∀ i, l ≤ i → i ≤ h → ll_ix a3 a4 i) (H : ∀ b b9 : Nat → Int32, post (c, r, g, b, a2, a3, a4, a5, a6, a7, a8, b9)) : wpX_runInLanes post (c, r, g, a1, a2, a3, a4, a5, a6, a7, a8, a9) 0 (nI l) (nI h) :=
  loop_m (fun n (s : Nat × (Nat → Int32) × (Nat → Int32)) => wX_runInLanes_3 post 0 (nI h) n (nI s.1) c r g s.2.1 a2 a3 a4 a5 a6 a7 a8 s.2.2)
    (fun s => l ≤ s.1 ∧ s.1 ≤ h + 1) (fun s => h + 1 - s.1)
    (fun n s hs hw => by
      obtain ⟨i, b, b9⟩ := s
      obtain ⟨h1, h2⟩ := hs
      dsimp only at h1 h2
      refine pk_lt h (i + 3) (fun _ => ll_83 h1 h2 hh hix (fun b' => H b' b9)) (fun z => ll_16 (fun k hk => hix (i + k) (by omega) (by omega)) (fun b' b9' => ?_)) rfl (ll_p3 i)
      rw [ll_p4]
      exact hw (i + 4, b', b9') ⟨by show l ≤ i + 4; omega, by show i + 4 ≤ h + 1; omega⟩ (by show h + 1 - (i + 4) < h + 1 - i; omega))
    (l, a1, a9) ⟨Nat.le_refl l, by show l ≤ h + 1; omega⟩
/-! is the statement outside -/
theorem ll_outside {post : Int32 → Prop} {T : Nat → Nat} {i : Nat} (hT : ll_shOk (a4 0) T) (hi : i < 32) (h0 : (∀ k, k < 3 → 4 ≤ i + T k ∧ i + T k < 36) → post 0) (h1 : (∃ k, k < 3 ∧ ¬ (4 ≤ i + T k ∧ i + T k < 36)) → post 1) : wpX_outside post (c, r, g, a1, a2, a3, a4, a5, a6, a7, a8, a9) 0 (nI i) :=
  pk_loop (σ := Unit) (fun n k _ => wX_outside_2 post 0 (nI i) c r g a1 a2 a3 a4 a5 a6 a7 a8 a9 n (nI k)) (fun k _ => ∀ j, j < k → 4 ≤ i + T j ∧ i + T j < 36) 3 0 () (by omega) lt_0
    (fun n _ hI => pk_le 3 3 (fun _ => h0 hI) (fun z => absurd z (by omega)))
    (fun n k _ hk hI hw => pk_le 3 k (fun z => absurd z (by omega)) (fun _ => ⟨ll_in4, nm_r (e' := nI i + (nI (T k) - 4)) (by rw [sb_cl0, (hT k hk).2])
      (ek_if (ll_neg i hi (T k) (hT k hk).1) (fun z => h1 ⟨k, hk, by omega⟩) (fun z =>
        ek_if (ll_far i hi (T k) (hT k hk).1) (fun z2 => nm_r (nI_1 k) (hw () (lt_s hI ⟨by omega, z2⟩))) (fun z2 => h1 ⟨k, hk, by omega⟩)))⟩))
/-! run -/
theorem ll_run73 {post : Int32 → St2 → Prop} {l h : Nat} (h7 : a7 0 = 1) (hlh : l ≤ h) (hh : h < 32) (hix : ∀ i, l ≤ i → i ≤ h → ll_ix a3 a4 i) (H : ∀ b b9 : Nat → Int32, post (1 * ((nI h - nI l) + 1)) (1, r, 1, b, a2, a3, a4, a5, a6, a7, a8, b9)) : ∃ n, wX_run_73 post (nI l) (nI h) n 0 1 r 1 a1 a2 a3 a4 a5 a6 a7 a8 a9 := by
  have e7 : a7 (0 : Int32).toNatClampNeg = 1 := by
    rw [sb_cl0]
    exact h7
  refine ⟨0 + 1 + 1, br_f (by decide) ⟨ll_in4, ll_low e7 ⟨ll_in4, br_c (fun _ => ⟨ll_in4, ?_⟩) (fun _ => ?_)⟩⟩⟩
  · exact ll_runPlain e7 hlh hh hix (fun b => nm_e (br_t (by decide) (H b a9)))
  · exact ll_runInLanes hlh hh hix (fun b b9 => nm_e (br_t (by decide) (H b b9)))
theorem ll_runIn {post : Int32 → St2 → Prop} {l h : Nat} (hl : l < 32) (hh : h < 32) (H : ∃ n, wX_run_25 post (nI l) (nI h) c r g a1 a2 a3 a4 a5 a6 a7 a8 a9 n 0) : wpX_run post (c, r, g, a1, a2, a3, a4, a5, a6, a7, a8, a9) (nI l) (nI h) :=
  br_f (nI_pos (by omega)) (br_f (nI_ge (b := 32) hl (by decide)) (br_f (nI_pos (by omega)) (br_t (nI_lt (b := 32) hh (by decide)) H)))
theorem ll_runOut {post : Int32 → St2 → Prop} {x y : Int32} (h : (¬ x < 0 → ¬ 32 ≤ x → ¬ y < 0 → 32 ≤ y)) (H : post (-5) (c, r, g, a1, a2, a3, a4, a5, a6, a7, a8, a9)) : wpX_run post (c, r, g, a1, a2, a3, a4, a5, a6, a7, a8, a9) x y :=
  br_c (fun _ => H) (fun h1 => br_c (fun _ => H) (fun h2 => br_c (fun _ => H) (fun h3 => br_f (ll_n32 (h h1 h2 h3)) H)))
theorem ll_run1 {post : Int32 → St2 → Prop} {A T : Nat → Nat} {l h : Nat} (hA : ll_arOk (a3 0) A) (hA3 : ∀ k, k < 3 → A k < 3) (hT : ll_shOk (a4 0) T) (hl : l < 32) (hh : h < 32)
    (Hb : (∃ k, k < 3 ∧ ¬ (4 ≤ l + T k ∧ l + T k < 36)) ∨ (∃ k, k < 3 ∧ ¬ (4 ≤ h + T k ∧ h + T k < 36)) → post (-2) (1, 0, g, a1, a2, a3, a4, a5, a6, a7, a8, a9))
    (H0 : (∀ k, k < 3 → 4 ≤ l + T k ∧ l + T k < 36) → (∀ k, k < 3 → 4 ≤ h + T k ∧ h + T k < 36) → h < l → post 0 (1, 0, g, a1, a2, a3, a4, a5, a6, a7, a8, a9))
    (H1 : (∀ k, k < 3 → 4 ≤ l + T k ∧ l + T k < 36) → (∀ k, k < 3 → 4 ≤ h + T k ∧ h + T k < 36) → l ≤ h → ∀ b b6 b7 b8 b9 : Nat → Int32, post (1 * ((nI h - nI l) + 1)) (1, 1, 1, b, a2, a3, a4, a5, b6, b7, b8, b9)) :
    wpX_run post (1, 0, g, a1, a2, a3, a4, a5, a6, a7, a8, a9) (nI l) (nI h) := by
  refine ll_runIn hl hh ⟨0 + 1 + 1, br_f (by decide) (ll_outside hT hl (fun gl => br_t rfl (ll_outside hT hh (fun gh => br_t rfl (nm_e (br_t (by decide) ?_))) (fun bh => br_f (by decide) (Hb (Or.inr bh))))) (fun bl => br_f (by decide) (Hb (Or.inl bl))))⟩
  refine pk_le l h (fun z => ll_plan1 (fun b6 b7 b8 h7 => ll_run73 h7 z hh (fun i h1 h2 => ll_ixOk hA hA3 hT (fun k hk => ?_)) (fun b b9 => H1 gl gh z b b6 b7 b8 b9))) (fun z => H0 gl gh z)
  have t1 := gl k hk
  have t2 := gh k hk
  omega
theorem ll_run0 {post : Int32 → St2 → Prop} {l h : Nat} (hl : l < 32) (hh : h < 32) (H : ∀ r' g' : Int32, post 0 (0, r', g', a1, a2, a3, a4, a5, a6, a7, a8, a9)) : wpX_run post (0, 0, g, a1, a2, a3, a4, a5, a6, a7, a8, a9) (nI l) (nI h) := by
  refine ll_runIn hl hh ⟨0 + 1, br_t (by decide) (br_c (fun _ => ll_plan0 ⟨0 + 1, br_t (by decide) ?_⟩) (fun _ => H _ _))⟩
  rw [Int32.zero_mul]
  exact H _ _
end
end
section
/-! statement, exchange, ramp, set -/
section
variable {c r g : Int32} {a1 a2 a3 a4 a5 a6 a7 a8 a9 : Nat → Int32}
theorem ll_badS {post : Int32 → Prop} {t : Nat} {x : Int32} (hx : x = nI t - 4) (ht : t < 16) (h0 : t ≤ 8 → post 0) (h1 : 8 < t → post 1) : wpX_badShift post () x := by
  subst hx
  exact br_f (ll_bs1 t ht) (ek_if (ll_bs2 t ht) h0 (fun z => h1 (by omega)))
theorem ll_badA {post : Int32 → Prop} {t : Nat} {x : Int32} (hx : x = nI t) (ht : t < 4) (h0 : t < 3 → post 0) (h1 : t = 3 → post 1) : wpX_badArray post () x := by
  subst hx
  exact br_f (nI_pos (by omega)) (pk_le t 2 (fun z => h0 (by omega)) (fun z => h1 (by omega)))
theorem ll_badA1 {post : Int32 → Prop} {x : Int32} (h : ¬ x < 0 → ¬ x ≤ 2) (H : post 1) : wpX_badArray post () x :=
  br_c (fun _ => H) (fun z => br_f (h z) H)
theorem ll_st34 {post : Int32 → St2 → Prop} {x0 x1 x2 x3 : Int32} {T : Nat → Nat} (hT : ll_shOk x2 T)
    (h2 : (∃ k, k < 3 ∧ 8 < T k) → post (-2) (0, r, g, a1, a2, a3, a4, a5, a6, a7, a8, a9))
    (h3 : (∀ k, k < 3 → T k ≤ 8) → (¬ x0 < 0 → ¬ x0 ≤ 6) → post (-3) (0, r, g, a1, a2, a3, a4, a5, a6, a7, a8, a9))
    (h4 : (∀ k, k < 3 → T k ≤ 8) → ¬ x0 < 0 → x0 ≤ 6 → ∀ b2 b3 b4 b5 : Nat → Int32, b3 0 = x1 → b4 0 = x2 → post 0 (1, 0, g, a1, b2, b3, b4, b5, a6, a7, a8, a9)) :
    ∃ n, wX_statement_34 post x0 x1 x2 x3 0 r g a1 a2 a3 a4 a5 a6 a7 a8 a9 n 0 :=
  pk_loop (σ := Unit) (fun n k _ => wX_statement_34 post x0 x1 x2 x3 0 r g a1 a2 a3 a4 a5 a6 a7 a8 a9 n (nI k)) (fun k _ => ∀ j, j < k → T j ≤ 8) 3 0 () (by omega) lt_0
    (fun n _ hI => pk_le 3 3 (fun _ => br_c (fun z => h3 hI (fun z' => absurd z z')) (fun z => br_c (fun z6 => br_t (by decide) ⟨ll_in4, nm_e ⟨ll_in4, nm_e ⟨ll_in4, nm_e ⟨ll_in4, nm_e (nm_r (show (0 : Int32) + 1 = 1 from by decide) (h4 hI z z6 _ _ _ _ (by rw [sb_cl0, pk_us]) (by rw [sb_cl0, pk_us])))⟩⟩⟩⟩) (fun z6 => h3 hI (fun _ => z6)))) (fun z => absurd z (by omega)))
    (fun n k _ hk hI hw => pk_le 3 k (fun z => absurd z (by omega)) (fun _ => ll_badS (by rw [(hT k hk).2]) (hT k hk).1
      (fun z => br_t rfl (nm_r (nI_1 k) (hw () (lt_s hI z)))) (fun z => br_f (by decide) (h2 ⟨k, hk, z⟩))))
theorem ll_statement {post : Int32 → St2 → Prop} {x0 x1 x2 x3 : Int32} {A T : Nat → Nat} (hA : ll_arOk x1 A) (hT : ll_shOk x2 T)
    (h1 : (∃ k, k < 3 ∧ A k = 3) → post (-1) (0, r, g, a1, a2, a3, a4, a5, a6, a7, a8, a9))
    (h2 : (∀ k, k < 3 → A k < 3) → (∃ k, k < 3 ∧ 8 < T k) → post (-2) (0, r, g, a1, a2, a3, a4, a5, a6, a7, a8, a9))
    (h3 : (∀ k, k < 3 → A k < 3) → (∀ k, k < 3 → T k ≤ 8) → (¬ x0 < 0 → ¬ x0 ≤ 6) → post (-3) (0, r, g, a1, a2, a3, a4, a5, a6, a7, a8, a9))
    (h4 : (∀ k, k < 3 → A k < 3) → (∀ k, k < 3 → T k ≤ 8) → ¬ x0 < 0 → x0 ≤ 6 → ∀ b2 b3 b4 b5 : Nat → Int32, b3 0 = x1 → b4 0 = x2 → post 0 (1, 0, g, a1, b2, b3, b4, b5, a6, a7, a8, a9)) :
    wpX_statement post (0, r, g, a1, a2, a3, a4, a5, a6, a7, a8, a9) x0 x1 x2 x3 :=
  pk_loop (σ := Unit) (fun n k _ => wX_statement_3 post x0 x1 x2 x3 0 r g a1 a2 a3 a4 a5 a6 a7 a8 a9 n (nI k)) (fun k _ => ∀ j, j < k → A j < 3) 3 0 () (by omega) lt_0
    (fun n _ hI => pk_le 3 3 (fun _ => ll_st34 hT (h2 hI) (h3 hI) (h4 hI)) (fun z => absurd z (by omega)))
    (fun n k _ hk hI hw => pk_le 3 k (fun z => absurd z (by omega)) (fun _ => ll_badA (hA k hk).2 (hA k hk).1
      (fun z => br_t rfl (nm_r (nI_1 k) (hw () (lt_s hI z)))) (fun z => br_f (by decide) (h1 ⟨k, hk, z⟩))))
theorem ll_exch0 {post : Int32 → St2 → Prop} {x : Int32} (H : post (-3) (0, r, g, a1, a2, a3, a4, a5, a6, a7, a8, a9)) : wpX_exchange post (0, r, g, a1, a2, a3, a4, a5, a6, a7, a8, a9) 0 x := by
  unfold wpX_exchange
  exact br_f (by decide) (br_f (by decide) (br_f (by decide) H))
theorem ll_exch1 {post : Int32 → St2 → Prop} {x : Int32} (H0 : x = 0 → ∀ b2 b3 b4 b5 : Nat → Int32, post 0 (1, 0, g, a1, b2, b3, b4, b5, a6, a7, a8, a9)) (H1 : ¬ x = 0 → post (-3) (1, r, g, a1, a2, a3, a4, a5, a6, a7, a8, a9)) : wpX_exchange post (1, r, g, a1, a2, a3, a4, a5, a6, a7, a8, a9) 0 x := by
  unfold wpX_exchange
  refine br_f (by decide) (br_t (by decide) (br_t rfl ?_))
  by_cases e : x = 0
  · subst e
    refine br_f (by decide) (br_t (by decide) (br_t rfl ?_))
    exact ⟨ll_in4, nm_e ⟨ll_in4, ll_in4, nm_e ⟨ll_in4, nm_e ⟨ll_in4, nm_e ⟨ll_in4, ll_in4, nm_e ⟨ll_in4, nm_e ⟨ll_in4, nm_e ⟨ll_in4, ll_in4, nm_e ⟨ll_in4, nm_e ⟨ll_in4, nm_e ⟨ll_in4, ll_in4, nm_e ⟨ll_in4, nm_e (H0 rfl _ _ _ _)⟩⟩⟩⟩⟩⟩⟩⟩⟩⟩⟩⟩
  · exact br_c (fun _ => br_f (by decide) (H1 e)) (fun z => br_c (fun z1 => absurd (ll_lt1 z z1) e) (fun _ => br_f (by decide) (H1 e)))
theorem ll_pl (A i : Nat) : nI A * 32 + nI i = nI (A * 32 + i) := by
  rw [← nI_add, ← pk_mul]
  rfl
theorem ll_ramp {post : Int32 → St2 → Prop} {A : Nat} {x y z : Int32} (hx : x = nI A) (hA : A < 3) (H : ∀ b : Nat → Int32, (∀ i, i < 32 → b (A * 32 + i) = y + nI i * z) → post 0 (c, r, g, b, a2, a3, a4, a5, a6, a7, a8, a9)) : wpX_ramp post (c, r, g, a1, a2, a3, a4, a5, a6, a7, a8, a9) x y z := by
  subst hx
  unfold wpX_ramp
  refine ll_badA rfl (by omega) (fun _ => br_t rfl ?_) (fun q => absurd q (by omega))
  exact pk_loop (fun n i s => wX_ramp_12 post (nI A) y z c r g n (nI i) s a2 a3 a4 a5 a6 a7 a8 a9) (fun k s => ∀ i, i < k → s (A * 32 + i) = y + nI i * z) 32 0 a1 (by omega) lt_0
    (fun n s hI => pk_le 32 32 (fun _ => H s hI) (fun q => absurd q (by omega)))
    (fun n k s hk hI hw => pk_le 32 k (fun q => absurd q (by omega)) (fun _ => ⟨pk_in (A * 32 + k) 96 (by omega) (ll_pl A k), nm_e (nm_r (nI_1 k) (hw _ (fun i hi => by
      rw [pk_cl (A * 32 + k) (ll_pl A k) (by omega)]
      by_cases e : i = k
      · rw [e, pk_us]
      · rw [pk_un (by omega)]
        exact hI i (by omega))))⟩))
theorem ll_rampBad {post : Int32 → St2 → Prop} {x y z : Int32} (hx : ¬ x < 0 → ¬ x ≤ 2) (H : post (-1) (c, r, g, a1, a2, a3, a4, a5, a6, a7, a8, a9)) : wpX_ramp post (c, r, g, a1, a2, a3, a4, a5, a6, a7, a8, a9) x y z := by
  unfold wpX_ramp
  exact ll_badA1 hx (br_f (by decide) H)
theorem ll_setBad {post : Int32 → St2 → Prop} {x y z : Int32} (hx : ¬ x < 0 → ¬ x ≤ 2) (H : post (-1) (c, r, g, a1, a2, a3, a4, a5, a6, a7, a8, a9)) : wpX_set post (c, r, g, a1, a2, a3, a4, a5, a6, a7, a8, a9) x y z := by
  unfold wpX_set
  exact ll_badA1 hx (br_f (by decide) H)
theorem ll_set {post : Int32 → St2 → Prop} {A : Nat} {x y z : Int32} (hx : x = nI A) (hA : A < 3) (H5 : (¬ y < 0 → ¬ y < 32) → post (-5) (c, r, g, a1, a2, a3, a4, a5, a6, a7, a8, a9)) (H : ∀ k, k < 32 → y = nI k → ∀ b : Nat → Int32, post (a1 (A * 32 + k)) (c, r, g, b, a2, a3, a4, a5, a6, a7, a8, a9)) : wpX_set post (c, r, g, a1, a2, a3, a4, a5, a6, a7, a8, a9) x y z := by
  subst hx
  unfold wpX_set
  refine ll_badA rfl (by omega) (fun _ => br_t rfl ?_) (fun q => absurd q (by omega))
  refine br_c (fun q => H5 (fun q' => absurd q q')) (fun q => br_c (fun q2 => ?_) (fun q2 => H5 (fun _ => q2)))
  obtain ⟨k, hk, e⟩ := ll_rng q (fun t => ll_n32 t q2)
  have e1 : nI A * 32 + y = nI (A * 32 + k) := by
    rw [e]
    exact ll_pl A k
  exact ⟨pk_in (A * 32 + k) 96 (by omega) e1, nm_r (e' := a1 (A * 32 + k)) (by rw [pk_cl (A * 32 + k) e1 (by omega)]) ⟨pk_in (A * 32 + k) 96 (by omega) e1, nm_e (H k hk e _)⟩⟩
end
end
section
/-! the law, from its end to its start -/
section
variable {post : Int32 → St0 → Prop} {mc ms kc ks : Nat} {c r g : Int32} {a1 a2 a3 a4 a5 a6 a7 a8 a9 : Nat → Int32} {x0 x3 x4 x5 x9 x15 x16 z0 z1 : Int32}
theorem ll_477 (hp : post 1 ()) (e : z1 = z0) : wL_lawOf_477 post mc ms z0 z1 kc ks := br_t e hp
theorem ll_430a (hp : post 1 ()) {A : Nat} (hx : x0 = nI A) (hA : A < 3) (hb : ∀ i, i < 32 → a1 (A * 32 + i) = x3 + nI i * x4) : wL_lawOf_430 post mc ms x0 x3 x4 x5 0 0 0 kc ks c r g a1 a2 a3 a4 a5 a6 a7 a8 a9 := by
  refine br_t rfl (ll_set hx hA (fun q => br_t rfl ?_) (fun k hk e b => br_t rfl ?_))
  · exact br_c (fun _ => ll_477 hp rfl) (fun q1 => br_f (fun q2 => q q1 (ll_32 (ll_l31 q2))) (ll_477 hp rfl))
  · subst e
    exact br_f (nI_pos (by omega)) (br_t (nI_le (b := 31) (by omega) (by decide)) (ll_477 hp (hb k hk)))
theorem ll_430b (hp : post 1 ()) (hx : ¬ x0 < 0 → ¬ x0 ≤ 2) : wL_lawOf_430 post mc ms x0 x3 x4 x5 1 (-1) (-1) kc ks c r g a1 a2 a3 a4 a5 a6 a7 a8 a9 :=
  br_t rfl (ll_setBad hx (br_f (by decide) (ll_477 hp rfl)))
theorem ll_409a (hp : post 1 ()) {A : Nat} (hx : x0 = nI A) (hA : A < 3) : wL_lawOf_409 post mc ms x0 x3 x4 x5 0 kc ks c r g a1 a2 a3 a4 a5 a6 a7 a8 a9 := by
  unfold wL_lawOf_409
  exact ll_ramp hx hA (fun b hb => br_t rfl (ll_430a hp hx hA hb))
theorem ll_409b (hp : post 1 ()) (hx : ¬ x0 < 0 → ¬ x0 ≤ 2) : wL_lawOf_409 post mc ms x0 x3 x4 x5 1 kc ks c r g a1 a2 a3 a4 a5 a6 a7 a8 a9 := by
  unfold wL_lawOf_409
  exact ll_rampBad hx (br_f (by decide) (ll_430b hp hx))
theorem ll_404 (hp : post 1 ()) (hx : ¬ x0 < 0 → ¬ x0 ≤ 2) : wL_lawOf_404 post mc ms x0 x3 x4 x5 kc ks c r g a1 a2 a3 a4 a5 a6 a7 a8 a9 := ll_409b hp hx
theorem ll_390 (hp : post 1 ()) (e : z1 = z0) : wL_lawOf_390 post mc ms x0 x3 x4 x5 z0 z1 kc ks c r g a1 a2 a3 a4 a5 a6 a7 a8 a9 := by
  refine br_t e (br_c (fun q => ll_404 hp (fun q' => absurd q q')) (fun q => br_c (fun q2 => ?_) (fun q2 => ll_404 hp (fun _ => q2))))
  obtain ⟨A, hA, hx⟩ := ll_rng3 q q2
  exact ll_409a hp hx hA
theorem ll_388 (hp : post 1 ()) (e : z0 = (-3)) : wL_lawOf_388 post mc ms x0 x3 x4 x5 z0 kc ks c r g a1 a2 a3 a4 a5 a6 a7 a8 a9 := ll_390 hp e
theorem ll_361z (hp : post 1 ()) (h9 : ¬ x9 = 0) (e : z1 = z0) : wL_lawOf_361 post mc ms x0 x3 x4 x5 x9 z0 z1 kc ks 0 r g a1 a2 a3 a4 a5 a6 a7 a8 a9 :=
  br_t e (ll_exch0 (br_f h9 (ll_388 hp rfl)))
theorem ll_361o (hp : post 1 ()) (e : z1 = z0) : wL_lawOf_361 post mc ms x0 x3 x4 x5 0 z0 z1 kc ks 1 r g a1 a2 a3 a4 a5 a6 a7 a8 a9 :=
  br_t e (ll_exch1 (fun q b2 b3 b4 b5 => br_t rfl (br_t q (ll_390 hp rfl))) (fun q => br_t rfl (br_f q (ll_388 hp rfl))))
/-! no statement was taken -/
theorem ll_328zo (hp : post 1 ()) (h9 : ¬ x9 = 0) (h : (¬ x4 < 0 → ¬ 32 ≤ x4 → ¬ x5 < 0 → 32 ≤ x5)) : wL_lawOf_328 post mc ms x0 x3 x4 x5 x9 1 x16 z0 kc ks 0 0 g a1 a2 a3 a4 a5 a6 a7 a8 a9 := by
  unfold wL_lawOf_328
  exact ll_runOut h (br_f (by decide) (ll_361z hp h9 rfl))
theorem ll_328zi (hp : post 1 ()) (h9 : ¬ x9 = 0) {l h : Nat} (hl : l < 32) (hh : h < 32) : wL_lawOf_328 post mc ms x0 x3 (nI l) (nI h) x9 0 0 0 kc ks 0 0 g a1 a2 a3 a4 a5 a6 a7 a8 a9 := by
  unfold wL_lawOf_328
  exact ll_run0 hl hh (fun r' g' => br_t rfl (br_t rfl (ll_361z hp h9 rfl)))
/-! one statement was taken -/
theorem ll_328oo (hp : post 1 ()) (h : (¬ x4 < 0 → ¬ 32 ≤ x4 → ¬ x5 < 0 → 32 ≤ x5)) : wL_lawOf_328 post mc ms x0 x3 x4 x5 0 1 x16 z0 kc ks 1 0 g a1 a2 a3 a4 a5 a6 a7 a8 a9 := by
  unfold wL_lawOf_328
  exact ll_runOut h (br_f (by decide) (ll_361o hp rfl))
theorem ll_328ob (hp : post 1 ()) {A T : Nat → Nat} {l h : Nat} (hA : ll_arOk (a3 0) A) (hA3 : ∀ k, k < 3 → A k < 3) (hT : ll_shOk (a4 0) T) (hl : l < 32) (hh : h < 32)
    (hb : ∃ k, k < 3 ∧ (¬ (4 ≤ l + T k ∧ l + T k < 36) ∨ ¬ (4 ≤ h + T k ∧ h + T k < 36))) : wL_lawOf_328 post mc ms x0 x3 (nI l) (nI h) 0 0 1 z0 kc ks 1 0 g a1 a2 a3 a4 a5 a6 a7 a8 a9 := by
  unfold wL_lawOf_328
  obtain ⟨k, hk, hn⟩ := hb
  refine ll_run1 hA hA3 hT hl hh (fun _ => br_t rfl (br_f (by decide) (ll_361o hp rfl))) (fun g1 g2 _ => ?_) (fun g1 g2 _ => ?_)
  · exact absurd hn (fun t => t.elim (fun t1 => t1 (g1 k hk)) (fun t1 => t1 (g2 k hk)))
  · exact absurd hn (fun t => t.elim (fun t1 => t1 (g1 k hk)) (fun t1 => t1 (g2 k hk)))
theorem ll_328of (hp : post 1 ()) {A T : Nat → Nat} {l h : Nat} (hA : ll_arOk (a3 0) A) (hA3 : ∀ k, k < 3 → A k < 3) (hT : ll_shOk (a4 0) T) (hl : l < 32) (hh : h < 32)
    (hg : ∀ k, k < 3 → (4 ≤ l + T k ∧ l + T k < 36) ∧ (4 ≤ h + T k ∧ h + T k < 36)) (hz0 : h < l → z0 = 0) (hz1 : l ≤ h → z0 = (nI h - nI l) + 1) : wL_lawOf_328 post mc ms x0 x3 (nI l) (nI h) 0 0 0 z0 kc ks 1 0 g a1 a2 a3 a4 a5 a6 a7 a8 a9 := by
  unfold wL_lawOf_328
  refine ll_run1 hA hA3 hT hl hh (fun hb => ?_) (fun g1 g2 q => br_t rfl (br_t rfl (ll_361o hp (hz0 q).symm))) (fun g1 g2 q b b6 b7 b8 b9 => br_t rfl (br_t rfl (ll_361o hp ?_)))
  · exact absurd hb (fun t => t.elim (fun ⟨k, hk, t1⟩ => t1 (hg k hk).1) (fun ⟨k, hk, t1⟩ => t1 (hg k hk).2))
  · rw [Int32.one_mul]
    exact (hz1 q).symm
/-! from the least and the most shift on -/
theorem ll_255z {x13 x14 : Int32} (h9 : ¬ x9 = 0) (K : wL_lawOf_328 post mc ms x0 x3 x4 x5 x9 x15 0 0 kc ks c r g a1 a2 a3 a4 a5 a6 a7 a8 a9) : wL_lawOf_255 post mc ms x0 x3 x4 x5 x9 x13 x14 x15 kc ks c r g a1 a2 a3 a4 a5 a6 a7 a8 a9 :=
  br_f h9 (show wL_lawOf_302 post mc ms x0 x3 x4 x5 x9 x15 kc ks c r g a1 a2 a3 a4 a5 a6 a7 a8 a9 from br_f h9 K)
theorem ll_303 (K : ∀ z, wL_lawOf_328 post mc ms x0 x3 x4 x5 0 x15 x16 z kc ks c r g a1 a2 a3 a4 a5 a6 a7 a8 a9) : wL_lawOf_303 post mc ms x0 x3 x4 x5 0 x15 x16 kc ks c r g a1 a2 a3 a4 a5 a6 a7 a8 a9 :=
  br_t rfl (br_c (fun _ => K 0) (fun _ => K _))
theorem ll_303f {l h : Nat} (hl : l < 32) (hh : h < 32) (K0 : h < l → wL_lawOf_328 post mc ms x0 x3 (nI l) (nI h) 0 x15 x16 0 kc ks c r g a1 a2 a3 a4 a5 a6 a7 a8 a9) (K1 : l ≤ h → wL_lawOf_328 post mc ms x0 x3 (nI l) (nI h) 0 x15 x16 ((nI h - nI l) + 1) kc ks c r g a1 a2 a3 a4 a5 a6 a7 a8 a9) : wL_lawOf_303 post mc ms x0 x3 (nI l) (nI h) 0 x15 x16 kc ks c r g a1 a2 a3 a4 a5 a6 a7 a8 a9 :=
  br_t rfl (pk_lt h l (fun q => K0 q) (fun q => K1 q))
theorem ll_298 (K : ∀ z, wL_lawOf_328 post mc ms x0 x3 x4 x5 0 x15 1 z kc ks c r g a1 a2 a3 a4 a5 a6 a7 a8 a9) : wL_lawOf_298 post mc ms x0 x3 x4 x5 0 x15 kc ks c r g a1 a2 a3 a4 a5 a6 a7 a8 a9 := ll_303 K
theorem ll_302 (K : ∀ z, wL_lawOf_328 post mc ms x0 x3 x4 x5 0 x15 0 z kc ks c r g a1 a2 a3 a4 a5 a6 a7 a8 a9) : wL_lawOf_302 post mc ms x0 x3 x4 x5 0 x15 kc ks c r g a1 a2 a3 a4 a5 a6 a7 a8 a9 := ll_303 K
theorem ll_302f {l h : Nat} (hl : l < 32) (hh : h < 32) (K0 : h < l → wL_lawOf_328 post mc ms x0 x3 (nI l) (nI h) 0 x15 0 0 kc ks c r g a1 a2 a3 a4 a5 a6 a7 a8 a9) (K1 : l ≤ h → wL_lawOf_328 post mc ms x0 x3 (nI l) (nI h) 0 x15 0 ((nI h - nI l) + 1) kc ks c r g a1 a2 a3 a4 a5 a6 a7 a8 a9) : wL_lawOf_302 post mc ms x0 x3 (nI l) (nI h) 0 x15 kc ks c r g a1 a2 a3 a4 a5 a6 a7 a8 a9 := ll_303f hl hh K0 K1
theorem ll_255o {x13 x14 : Int32} (K : ∀ x16 z, wL_lawOf_328 post mc ms x0 x3 x4 x5 0 x15 x16 z kc ks c r g a1 a2 a3 a4 a5 a6 a7 a8 a9) : wL_lawOf_255 post mc ms x0 x3 x4 x5 0 x13 x14 x15 kc ks c r g a1 a2 a3 a4 a5 a6 a7 a8 a9 :=
  br_t rfl (br_c (fun _ => ll_298 (K 1)) (fun _ => br_c (fun _ => ll_298 (K 1)) (fun _ => br_c (fun _ => ll_298 (K 1)) (fun _ => br_c (fun _ => ll_302 (K 0)) (fun _ => ll_298 (K 1))))))
theorem ll_255i {l h m M : Nat} (hl : l < 32) (hh : h < 32) (hm : m < 16) (hM : M < 16)
    (Kb : (l + m < 4 ∨ h + m < 4 ∨ 36 ≤ l + M ∨ 36 ≤ h + M) → ∀ z, wL_lawOf_328 post mc ms x0 x3 (nI l) (nI h) 0 x15 1 z kc ks c r g a1 a2 a3 a4 a5 a6 a7 a8 a9)
    (Kf : 4 ≤ l + m → 4 ≤ h + m → l + M < 36 → h + M < 36 → wL_lawOf_302 post mc ms x0 x3 (nI l) (nI h) 0 x15 kc ks c r g a1 a2 a3 a4 a5 a6 a7 a8 a9) : wL_lawOf_255 post mc ms x0 x3 (nI l) (nI h) 0 (nI m - 4) (nI M - 4) x15 kc ks c r g a1 a2 a3 a4 a5 a6 a7 a8 a9 :=
  br_t rfl (ek_if (ll_neg l hl m hm) (fun q => ll_298 (Kb (Or.inl q))) (fun q1 => ek_if (ll_neg h hh m hm) (fun q => ll_298 (Kb (Or.inr (Or.inl q)))) (fun q2 =>
    ek_if (ll_gt31 l hl M hM) (fun q => ll_298 (Kb (Or.inr (Or.inr (Or.inl q))))) (fun q3 => ek_if (ll_le31 h hh M hM) (fun q4 => Kf (by omega) (by omega) (by omega) q4) (fun q4 => ll_298 (Kb (Or.inr (Or.inr (Or.inr (by omega))))))))))
theorem ll_224 {x13 x14 : Int32} (Ko : (¬ x4 < 0 → ¬ 32 ≤ x4 → ¬ x5 < 0 → 32 ≤ x5) → wL_lawOf_255 post mc ms x0 x3 x4 x5 x9 x13 x14 1 kc ks c r g a1 a2 a3 a4 a5 a6 a7 a8 a9)
    (Ki : ∀ l h : Nat, l < 32 → h < 32 → x4 = nI l → x5 = nI h → wL_lawOf_255 post mc ms x0 x3 x4 x5 x9 x13 x14 0 kc ks c r g a1 a2 a3 a4 a5 a6 a7 a8 a9) : wL_lawOf_224 post mc ms x0 x3 x4 x5 x9 x13 x14 kc ks c r g a1 a2 a3 a4 a5 a6 a7 a8 a9 := by
  have K : (¬ x4 < 0 → ¬ 32 ≤ x4 → ¬ x5 < 0 → 32 ≤ x5) → wL_lawOf_250 post mc ms x0 x3 x4 x5 x9 x13 x14 kc ks c r g a1 a2 a3 a4 a5 a6 a7 a8 a9 := Ko
  refine br_c (fun q => K (fun t => absurd q t)) (fun q1 => br_c (fun q => K (fun _ t => absurd (ll_31 q) t)) (fun q2 => br_c (fun q => K (fun _ _ t => absurd q t)) (fun q3 => br_c (fun q4 => ?_) (fun q => K (fun _ _ _ => ll_nl31 q)))))
  obtain ⟨l, hl, e1⟩ := ll_rng q1 (ll_n31 q2)
  obtain ⟨h, hh, e2⟩ := ll_rng q3 (ll_l31 q4)
  exact Ki l h hl hh e1 e2
/-- m is the least and M the most of three -/
def ll_mM (T : Nat → Nat) (m M : Nat) : Prop := (∀ k, k < 3 → m ≤ T k ∧ T k ≤ M) ∧ (∃ k, k < 3 ∧ m = T k) ∧ (∃ k, k < 3 ∧ M = T k)
theorem ll_mk {T : Nat → Nat} {m M : Nat} (h0 : m ≤ T 0 ∧ T 0 ≤ M) (h1 : m ≤ T 1 ∧ T 1 ≤ M) (h2 : m ≤ T 2 ∧ T 2 ≤ M) (hm : ∃ k, k < 3 ∧ m = T k) (hM : ∃ k, k < 3 ∧ M = T k) : ll_mM T m M :=
  ⟨fun k hk => by
    rcases (show k = 0 ∨ k = 1 ∨ k = 2 by omega) with e | e | e
    · rw [e]; exact h0
    · rw [e]; exact h1
    · rw [e]; exact h2, hm, hM⟩
theorem ll_192 {T : Nat → Nat} {m : Nat} (hT : ∀ k, k < 3 → T k < 16) (h0 : m ≤ T 0) (h1 : m ≤ T 1) (h2 : m ≤ T 2) (hm : ∃ k, k < 3 ∧ m = T k)
    (K : ∀ m M : Nat, ll_mM T m M → wL_lawOf_224 post mc ms x0 x3 x4 x5 x9 (nI m - 4) (nI M - 4) kc ks c r g a1 a2 a3 a4 a5 a6 a7 a8 a9) : wL_lawOf_192 post mc ms x0 x3 x4 x5 x9 (nI (T 0) - 4) (nI (T 1) - 4) (nI (T 2) - 4) (nI m - 4) kc ks c r g a1 a2 a3 a4 a5 a6 a7 a8 a9 := by
  have t0 := hT 0 (by decide)
  have t1 := hT 1 (by decide)
  have t2 := hT 2 (by decide)
  refine ek_if (ll_sle _ t0 _ t1) (fun q => ek_if (ll_sle _ t2 _ t1) (fun q2 => K m (T 1) ?_) (fun q2 => K m (T 2) ?_)) (fun q => ek_if (ll_sle _ t2 _ t0) (fun q2 => K m (T 0) ?_) (fun q2 => K m (T 2) ?_))
  · exact ll_mk ⟨h0, q⟩ ⟨h1, Nat.le_refl _⟩ ⟨h2, q2⟩ hm ⟨1, by decide, rfl⟩
  · exact ll_mk ⟨h0, by omega⟩ ⟨h1, by omega⟩ ⟨h2, Nat.le_refl _⟩ hm ⟨2, by decide, rfl⟩
  · exact ll_mk ⟨h0, Nat.le_refl _⟩ ⟨h1, by omega⟩ ⟨h2, q2⟩ hm ⟨0, by decide, rfl⟩
  · exact ll_mk ⟨h0, by omega⟩ ⟨h1, by omega⟩ ⟨h2, Nat.le_refl _⟩ hm ⟨2, by decide, rfl⟩
theorem ll_176 {T : Nat → Nat} {m : Nat} (hT : ∀ k, k < 3 → T k < 16) (h0 : m ≤ T 0) (h1 : m ≤ T 1) (hm : ∃ k, k < 3 ∧ m = T k)
    (K : ∀ m M : Nat, ll_mM T m M → wL_lawOf_224 post mc ms x0 x3 x4 x5 x9 (nI m - 4) (nI M - 4) kc ks c r g a1 a2 a3 a4 a5 a6 a7 a8 a9) : wL_lawOf_176 post mc ms x0 x3 x4 x5 x9 (nI (T 0) - 4) (nI (T 1) - 4) (nI (T 2) - 4) (nI m - 4) kc ks c r g a1 a2 a3 a4 a5 a6 a7 a8 a9 := by
  have t2 := hT 2 (by decide)
  obtain ⟨k, hk, e⟩ := hm
  have tm : m < 16 := by
    rw [e]
    exact hT k hk
  exact ek_if (ll_sle _ tm _ t2) (fun q => ll_192 hT h0 h1 q ⟨k, hk, e⟩ K) (fun q => ll_192 hT (by omega) (by omega) (Nat.le_refl _) ⟨2, by decide, rfl⟩ K)
end
end
section
section
variable {post : Int32 → St0 → Prop} {mc ms kc ks : Nat} {c r g : Int32} {a1 a2 a3 a4 a5 a6 a7 a8 a9 : Nat → Int32} {x0 x1 x2 x3 x4 x5 x9 z0 : Int32}
theorem ll_224z {x13 x14 : Int32} (hp : post 1 ()) (h9 : ¬ x9 = 0) : wL_lawOf_224 post mc ms x0 x3 x4 x5 x9 x13 x14 kc ks 0 0 g a1 a2 a3 a4 a5 a6 a7 a8 a9 := by
  refine ll_224 (fun q => ll_255z h9 (ll_328zo hp h9 q)) (fun l h hl hh e1 e2 => ll_255z h9 ?_)
  subst e1 e2
  exact ll_328zi hp h9 hl hh
theorem ll_224o {A T : Nat → Nat} {m M : Nat} (hp : post 1 ()) (hA : ll_arOk (a3 0) A) (hA3 : ∀ k, k < 3 → A k < 3) (hT : ll_shOk (a4 0) T) (hmM : ll_mM T m M) : wL_lawOf_224 post mc ms x0 x3 x4 x5 0 (nI m - 4) (nI M - 4) kc ks 1 0 g a1 a2 a3 a4 a5 a6 a7 a8 a9 := by
  refine ll_224 (fun q => ll_255o (fun _ _ => ll_328oo hp q)) (fun l h hl hh e1 e2 => ?_)
  subst e1 e2
  obtain ⟨hall, ⟨km, hkm, em⟩, ⟨kM, hkM, eM⟩⟩ := hmM
  have tm : m < 16 := by
    rw [em]
    exact (hT km hkm).1
  have tM : M < 16 := by
    rw [eM]
    exact (hT kM hkM).1
  refine ll_255i hl hh tm tM (fun q z => ll_328ob hp hA hA3 hT hl hh ?_) (fun q1 q2 q3 q4 => ?_)
  · rcases q with q | q | q | q
    · exact ⟨km, hkm, Or.inl (by omega)⟩
    · exact ⟨km, hkm, Or.inr (by omega)⟩
    · exact ⟨kM, hkM, Or.inl (by omega)⟩
    · exact ⟨kM, hkM, Or.inr (by omega)⟩
  · have hg : ∀ k, k < 3 → (4 ≤ l + T k ∧ l + T k < 36) ∧ (4 ≤ h + T k ∧ h + T k < 36) := by
      intro k hk
      have t := hall k hk
      omega
    exact ll_302f hl hh (fun q => ll_328of hp hA hA3 hT hl hh hg (fun _ => rfl) (fun t => absurd t (by omega))) (fun q => ll_328of hp hA hA3 hT hl hh hg (fun t => absurd t (by omega)) (fun _ => rfl))
/-- behind the statement: the three shifts, their least and most -/
theorem ll_tail {T : Nat → Nat} (hT : ll_shOk x2 T) (K : ∀ m M : Nat, ll_mM T m M → wL_lawOf_224 post mc ms x0 x3 x4 x5 z0 (nI m - 4) (nI M - 4) kc ks c r g a1 a2 a3 a4 a5 a6 a7 a8 a9) :
    ∀ x10 : Int32, x10 = (x2 &&& 15) - 4 → ∀ x11 : Int32, x11 = ((x2 >>> ((4 : Int32) &&& 31)) &&& 15) - 4 → ∀ x12 : Int32, x12 = ((x2 >>> ((8 : Int32) &&& 31)) &&& 15) - 4 →
      ((x11 ≤ x10 → wL_lawOf_176 post mc ms x0 x3 x4 x5 z0 x10 x11 x12 x11 kc ks c r g a1 a2 a3 a4 a5 a6 a7 a8 a9) ∧ (¬ x11 ≤ x10 → wL_lawOf_176 post mc ms x0 x3 x4 x5 z0 x10 x11 x12 x10 kc ks c r g a1 a2 a3 a4 a5 a6 a7 a8 a9)) := by
  intro x10 e0 x11 e1 x12 e2
  rw [ll_sh0 hT] at e0
  rw [ll_sh1 hT] at e1
  rw [ll_sh2 hT] at e2
  subst e0 e1 e2
  have hb : ∀ k, k < 3 → T k < 16 := fun k hk => (hT k hk).1
  exact ek_if (ll_sle _ (hb 1 (by decide)) _ (hb 0 (by decide))) (fun q => ll_176 hb q (Nat.le_refl _) ⟨1, by decide, rfl⟩ K) (fun q => ll_176 hb (Nat.le_refl _) (by omega) ⟨0, by decide, rfl⟩ K)
theorem ll_115 {A T : Nat → Nat} (hp : post 1 ()) (hA : ll_arOk x1 A) (hT : ll_shOk x2 T)
    (d1 : (∃ k, k < 3 ∧ A k = 3) → z0 = (-1))
    (d2 : (∀ k, k < 3 → A k < 3) → (∃ k, k < 3 ∧ 8 < T k) → z0 = (-2))
    (d3 : (∀ k, k < 3 → A k < 3) → (∀ k, k < 3 → T k ≤ 8) → (¬ x0 < 0 → ¬ x0 ≤ 6) → z0 = (-3))
    (d4 : (∀ k, k < 3 → A k < 3) → (∀ k, k < 3 → T k ≤ 8) → ¬ x0 < 0 → x0 ≤ 6 → z0 = 0) : wL_lawOf_115 post mc ms x0 x1 x2 x3 x4 x5 z0 kc ks 0 0 g a1 a2 a3 a4 a5 a6 a7 a8 a9 := by
  unfold wL_lawOf_115
  refine ll_statement hA hT (fun q => ?_) (fun q1 q2 => ?_) (fun q1 q2 q3 => ?_) (fun q1 q2 q3 q4 b2 b3 b4 b5 e3 e4 => ?_)
  · have e := d1 q
    subst e
    exact br_t rfl (ll_tail hT (fun _ _ _ => ll_224z hp (by decide)))
  · have e := d2 q1 q2
    subst e
    exact br_t rfl (ll_tail hT (fun _ _ _ => ll_224z hp (by decide)))
  · have e := d3 q1 q2 q3
    subst e
    exact br_t rfl (ll_tail hT (fun _ _ _ => ll_224z hp (by decide)))
  · have e := d4 q1 q2 q3 q4
    subst e
    refine br_t rfl (ll_tail hT (fun m M hmM => ll_224o (A := A) (T := T) hp ?_ q1 ?_ hmM))
    · rw [e3]
      exact hA
    · rw [e4]
      exact hT
theorem ll_78 {A T : Nat → Nat} {x7 zf : Int32} (hp : post 1 ()) (hA : ll_arOk x1 A) (hT : ll_shOk x2 T)
    (h7 : x7 = 0 → ∀ k, k < 3 → A k < 3) (h7' : ¬ x7 = 0 → ∃ k, k < 3 ∧ A k = 3)
    (hf : zf = 0 → ∀ k, k < 3 → T k ≤ 8) (hf' : ¬ zf = 0 → ∃ k, k < 3 ∧ 8 < T k) : wL_lawOf_78 post mc ms x0 x1 x2 x3 x4 x5 x7 zf kc ks 0 0 g a1 a2 a3 a4 a5 a6 a7 a8 a9 := by
  have nA : (∀ k, k < 3 → A k < 3) → (∃ k, k < 3 ∧ A k = 3) → False := fun t ⟨k, hk, e⟩ => by
    have := t k hk
    omega
  have nT : (∀ k, k < 3 → T k ≤ 8) → (∃ k, k < 3 ∧ 8 < T k) → False := fun t ⟨k, hk, e⟩ => by
    have := t k hk
    omega
  refine br_c (fun q7 => br_c (fun qf => ?_) (fun qf => ?_)) (fun q7 => ?_)
  · have gA := h7 q7
    have gT := hf qf
    refine br_c (fun q => ?_) (fun q => br_c (fun q6 => ?_) (fun q6 => ?_))
    · unfold wL_lawOf_109
      exact ll_115 hp hA hT (fun t => (nA gA t).elim) (fun _ t => (nT gT t).elim) (fun _ _ _ => rfl) (fun _ _ t _ => absurd q t)
    · exact ll_115 hp hA hT (fun t => (nA gA t).elim) (fun _ t => (nT gT t).elim) (fun _ _ t => absurd q6 (t q)) (fun _ _ _ _ => rfl)
    · unfold wL_lawOf_109
      exact ll_115 hp hA hT (fun t => (nA gA t).elim) (fun _ t => (nT gT t).elim) (fun _ _ _ => rfl) (fun _ _ _ t => absurd t q6)
  · have gA := h7 q7
    have gT := hf' qf
    exact ll_115 hp hA hT (fun t => (nA gA t).elim) (fun _ _ => rfl) (fun _ t _ => (nT t gT).elim) (fun _ t _ _ => (nT t gT).elim)
  · have gA := h7' q7
    exact ll_115 hp hA hT (fun _ => rfl) (fun t _ => (nA t gA).elim) (fun t _ _ => (nA t gA).elim) (fun t _ _ _ => (nA t gA).elim)
theorem ll_all3 {P : Nat → Prop} (h0 : P 0) (h1 : P 1) (h2 : P 2) : ∀ k, k < 3 → P k := fun _ hk => co_3 h0 h1 h2 hk
theorem ll_39 {A T : Nat → Nat} {x7 : Int32} (hp : post 1 ()) (hA : ll_arOk x1 A) (hT : ll_shOk x2 T)
    (h7 : x7 = 0 → ∀ k, k < 3 → A k < 3) (h7' : ¬ x7 = 0 → ∃ k, k < 3 ∧ A k = 3) : wL_lawOf_39 post mc ms x0 x1 x2 x3 x4 x5 x7 kc ks 0 0 g a1 a2 a3 a4 a5 a6 a7 a8 a9 := by
  have K : (∃ k, k < 3 ∧ 8 < T k) → wL_lawOf_73 post mc ms x0 x1 x2 x3 x4 x5 x7 kc ks 0 0 g a1 a2 a3 a4 a5 a6 a7 a8 a9 := fun q => by
    unfold wL_lawOf_73
    exact ll_78 hp hA hT h7 h7' (fun t => absurd t (by decide)) (fun _ => q)
  unfold wL_lawOf_39
  rw [ll_sh0 hT, ll_sh1 hT, ll_sh2 hT]
  refine ek_if (ll_gt8 _ (hT 0 (by decide)).1) (fun q => K ⟨0, by decide, q⟩) (fun q0 => ek_if (ll_gt8 _ (hT 1 (by decide)).1) (fun q => K ⟨1, by decide, q⟩) (fun q1 => ek_if (ll_le8 _ (hT 2 (by decide)).1) (fun q2 => ?_) (fun q => K ⟨2, by decide, by omega⟩)))
  exact ll_78 hp hA hT h7 h7' (fun _ => ll_all3 (by omega) (by omega) q2) (fun t => absurd rfl t)
theorem ll_lawOf {p0 p1 p2 p3 p4 p5 : Int32} (hp : post 1 ()) : wpL_lawOf post 10 140 () p0 p1 p2 p3 p4 p5 := by
  obtain ⟨A, hA⟩ := ll_arEx p1
  obtain ⟨T, hT⟩ := ll_shEx p2
  refine ⟨by decide, by decide, 9, 128, by decide, by decide, ?_⟩
  refine ⟨by decide, by decide, by decide, by decide, by decide, by decide, by decide, by decide, by decide, by decide, by decide, by decide, by decide, by decide, by decide, by decide, by decide, by decide, ?_⟩
  have t0 := (hA 0 (by decide)).1
  have t1 := (hA 1 (by decide)).1
  have t2 := (hA 2 (by decide)).1
  refine ek_if (ll_ar30 hA) (fun q => ?_) (fun q0 => ek_if (ll_ar31 hA) (fun q => ?_) (fun q1 => ek_if (ll_ar32 hA) (fun q => ?_) (fun q2 => ?_)))
  · unfold wL_lawOf_34
    exact ll_39 hp hA hT (fun t => absurd t (by decide)) (fun _ => ⟨0, by decide, q⟩)
  · unfold wL_lawOf_34
    exact ll_39 hp hA hT (fun t => absurd t (by decide)) (fun _ => ⟨1, by decide, q⟩)
  · unfold wL_lawOf_34
    exact ll_39 hp hA hT (fun t => absurd t (by decide)) (fun _ => ⟨2, by decide, q⟩)
  · exact ll_39 hp hA hT (fun _ => ll_all3 (by omega) (by omega) (by omega)) (fun t => absurd rfl t)
theorem ll_cell {post : Int32 → Prop} {L : Nat} {xs : Nat → Int32} (hL : L ≤ 6) (k : Nat) (hk : k < 6) (H : ∀ v, post v) : wpL_cellAt post L xs () (nI k) :=
  pk_le L k (fun _ => H 0) (fun q => ⟨pk_in k L q, H _⟩)
end
theorem i_vc (xs : Nat → Int32) (L : Nat) (hL : L ≤ 6) : wpL_law (fun r => r = 1) L xs := by
  unfold wpL_law
  refine ll_cell hL 0 (by decide) (fun _ => ll_cell hL 1 (by decide) (fun _ => ll_cell hL 2 (by decide) (fun _ => ll_cell hL 3 (by decide) (fun _ => ll_cell hL 4 (by decide) (fun _ => ll_cell hL 5 (by decide) (fun _ => ?_))))))
  exact ⟨10, 140, by decide, by decide, ll_lawOf rfl⟩
end
