section
/-! ===== the methods that only read: each ends with one answer, whatever is asked of it ===== -/
section
variable (f0 f1 : Int32) (a1 a2 a3 a4 a5 a6 : Nat → Int32)
theorem rd_in (x k : Int32) : ∃ v : Int32, ∀ post : Int32 → Prop, post v → wpX_in post () x k := by
  by_cases h : ((x >>> (k &&& 31)) &&& 1) = 0
  · exact ⟨0, fun post hp => br_t h hp⟩
  · exact ⟨1, fun post hp => br_f h hp⟩
theorem rd_has (k : Int32) : ∃ v : Int32, ∀ post : Int32 → Prop, post v → wpX_has post (f0, f1, a1, a2, a3, a4, a5, a6) k := by
  by_cases h : k < 0
  · exact ⟨0, fun post hp => br_t h hp⟩
  · by_cases h5 : 5 ≤ k
    · exact ⟨0, fun post hp => br_f h (br_t h5 hp)⟩
    · by_cases hb : ((f0 >>> (k &&& 31)) &&& 1) = 0
      · exact ⟨0, fun post hp => br_f h (br_f h5 (br_t hb hp))⟩
      · exact ⟨1, fun post hp => br_f h (br_f h5 (br_f hb hp))⟩
theorem rd_w41 {post : Int32 → Prop} {J : Int32 → Int32 → Prop} {x1 x2 x3 x4 z0 : Int32} (hz : ¬ z0 = 0) (hv : vp_in x4 5) (h : J (x3 + ((((x2 + z0) - 1) / z0) * (a1 x4.toNatClampNeg))) (x4 + 1)) : wX_workIn_41 post J x1 x2 x3 x4 z0 f0 f1 a1 a2 a3 a4 a5 a6 :=
  And.intro hz (And.intro hv (nm_e (nm_e h)))
theorem rd_work5 (x1 x2 : Int32) : ∀ m, m ≤ 5 → ∀ x3 : Int32, ∃ v : Int32, ∀ post : Int32 → Prop, post v → wX_workIn_5 post x1 x2 f0 f1 a1 a2 a3 a4 a5 a6 (m + 1) x3 (nI (5 - m)) := by
  intro m
  induction m with
  | zero => exact fun _ x3 => ⟨x3, fun post hp => br_t (nI_le (a := 5) (b := 5) (by omega) (by decide)) hp⟩
  | succ m ih =>
    intro hm x3
    have e : nI (5 - (m + 1)) + 1 = nI (5 - m) := by rw [nI_1, show 5 - (m + 1) + 1 = 5 - m by omega]
    have hn : ¬ (5 : Int32) ≤ nI (5 - (m + 1)) := nI_ge (b := 5) (by omega) (by decide)
    have hv : vp_in (nI (5 - (m + 1))) 5 := vp_in_nI (by omega) (by decide)
    obtain ⟨r, hr⟩ := rd_in x1 (nI (5 - (m + 1)))
    by_cases h0 : r = 0
    · obtain ⟨v, hw⟩ := ih (by omega) x3
      exact ⟨v, fun post hp => br_f hn (hr _ (br_t h0 (nm_r e (hw post hp))))⟩
    · by_cases h1 : a3 (nI (5 - (m + 1))).toNatClampNeg ≤ 0
      · obtain ⟨v, hw⟩ := ih (by omega) (x3 + ((((x2 + 1) - 1) / 1) * (a1 (nI (5 - (m + 1))).toNatClampNeg)))
        exact ⟨v, fun post hp => br_f hn (hr _ (br_f h0 ⟨hv, br_t h1 (rd_w41 _ _ _ _ _ _ _ _ (by decide) hv (by rw [e]; exact hw post hp))⟩))⟩
      · obtain ⟨v, hw⟩ := ih (by omega) (x3 + ((((x2 + a3 (nI (5 - (m + 1))).toNatClampNeg) - 1) / a3 (nI (5 - (m + 1))).toNatClampNeg) * (a1 (nI (5 - (m + 1))).toNatClampNeg)))
        exact ⟨v, fun post hp => br_f hn (hr _ (br_f h0 ⟨hv, br_f h1 ⟨hv, rd_w41 _ _ _ _ _ _ _ _ (fun z => h1 (by rw [z]; decide)) hv (by rw [e]; exact hw post hp)⟩⟩))⟩
theorem rd_work (x1 x2 : Int32) : ∃ v : Int32, ∀ post : Int32 → Prop, post v → wpX_workIn post (f0, f1, a1, a2, a3, a4, a5, a6) x1 x2 := by
  obtain ⟨v, h⟩ := rd_work5 f0 f1 a1 a2 a3 a4 a5 a6 x1 x2 5 (Nat.le_refl 5) 0
  exact ⟨v, fun post hp => Exists.intro 6 (h post hp)⟩
theorem rd_resp10 (x1 x2 : Int32) (hx : vp_in x1 5) : ∀ m, m ≤ 16 → ∀ x3 : Int32, ∃ v : Int32, ∀ post : Int32 → Prop, post v → wX_responseUnder_10 post x1 x2 f0 f1 a1 a2 a3 a4 a5 a6 (m + 1) x3 (nI (16 - m)) := by
  intro m
  induction m with
  | zero => exact fun _ x3 => ⟨-3, fun post hp => br_t (nI_lt (a := 15) (b := 16) (by omega) (by decide)) hp⟩
  | succ m ih =>
    intro hm x3
    have e : nI (16 - (m + 1)) + 1 = nI (16 - m) := by rw [nI_1, show 16 - (m + 1) + 1 = 16 - m by omega]
    have hn : ¬ (15 : Int32) < nI (16 - (m + 1)) := nI_nlt (a := 15) (b := 16 - (m + 1)) (by omega) (by decide)
    obtain ⟨r, hr⟩ := rd_work f0 f1 a1 a2 a3 a4 a5 a6 x2 x3
    by_cases h0 : a1 x1.toNatClampNeg + r = x3
    · exact ⟨x3, fun post hp => br_f hn ⟨hx, hr _ (nm_e (br_t h0 hp))⟩⟩
    · by_cases h1 : a1 x1.toNatClampNeg + r ≤ a3 x1.toNatClampNeg
      · obtain ⟨v, hw⟩ := ih (by omega) (a1 x1.toNatClampNeg + r)
        exact ⟨v, fun post hp => br_f hn ⟨hx, hr _ (nm_e (br_f h0 ⟨hx, br_t h1 (nm_r e (hw post hp))⟩))⟩⟩
      · exact ⟨-3, fun post hp => br_f hn ⟨hx, hr _ (nm_e (br_f h0 ⟨hx, br_f h1 hp⟩))⟩⟩
theorem rd_resp (x1 x2 : Int32) (hx : vp_in x1 5) : ∃ v : Int32, ∀ post : Int32 → Prop, post v → wpX_responseUnder post (f0, f1, a1, a2, a3, a4, a5, a6) x1 x2 := by
  obtain ⟨v, h⟩ := rd_resp10 f0 f1 a1 a2 a3 a4 a5 a6 x1 x2 hx 16 (Nat.le_refl 16) (a1 x1.toNatClampNeg)
  exact ⟨v, fun post hp => And.intro hx (nm_e (Exists.intro 17 (h post hp)))⟩
theorem rd_itu (x1 x2 : Int32) (hx : vp_in x1 5) : ∃ v : Int32, ∀ post : Int32 → Prop, post v → wpX_inTimeUnder post (f0, f1, a1, a2, a3, a4, a5, a6) x1 x2 := by
  obtain ⟨r, hr⟩ := rd_resp f0 f1 a1 a2 a3 a4 a5 a6 x1 x2 hx
  unfold wpX_inTimeUnder
  dsimp only
  by_cases h0 : r = (-3)
  · exact ⟨0, fun post hp => hr _ (br_t h0 hp)⟩
  · by_cases h1 : a2 x1.toNatClampNeg < r
    · exact ⟨0, fun post hp => hr _ (br_f h0 ⟨hx, br_t h1 hp⟩)⟩
    · exact ⟨1, fun post hp => hr _ (br_f h0 ⟨hx, br_f h1 hp⟩)⟩
/-- placeOf: the first place below the last that holds x1, or the last -/
theorem rd_place2 (c : Nat) (x1 : Int32) (h1 : 1 ≤ c) (h5 : c ≤ 5) : ∀ m i, i + m = c - 1 → (∀ t, t < i → ¬ a4 t = x1) → ∃ j, j ≤ c - 1 ∧ (∀ t, t < j → ¬ a4 t = x1) ∧ (j < c - 1 → a4 j = x1) ∧ ∀ post : Int32 → Prop, post (nI j) → wX_placeOf_2 post x1 f0 (nI c) a1 a2 a3 a4 a5 a6 (m + 1) (nI i) := by
  have hc : nI c - 1 = nI (c - 1) := pk_sub (b := 1) h1
  intro m
  induction m with
  | zero =>
    intro i hi ht
    exact ⟨i, by omega, ht, fun z => absurd z (by omega), fun post hp => pk_le (c - 1) i (fun _ => hp) (fun z => absurd z (by omega)) hc⟩
  | succ m ih =>
    intro i hi ht
    have hv : vp_in (nI i) 5 := vp_in_nI (by omega) (by decide)
    have hcl : (nI i).toNatClampNeg = i := nI_clamp (by omega)
    by_cases h : a4 i = x1
    · exact ⟨i, by omega, ht, fun _ => h, fun post hp => pk_le (c - 1) i (fun z => absurd z (by omega)) (fun _ => ⟨hv, br_t (by rw [hcl]; exact h) hp⟩) hc⟩
    · obtain ⟨j, j1, j2, j3, j4⟩ := ih (i + 1) (by omega) (lt_s ht h)
      exact ⟨j, j1, j2, j3, fun post hp => pk_le (c - 1) i (fun z => absurd z (by omega)) (fun _ => ⟨hv, br_f (by rw [hcl]; exact h) (nm_r (nI_1 i) (j4 post hp))⟩) hc⟩
theorem rd_placeOf (c : Nat) (x1 : Int32) (h1 : 1 ≤ c) (h5 : c ≤ 5) : ∃ j, j ≤ c - 1 ∧ (∀ t, t < j → ¬ a4 t = x1) ∧ (j < c - 1 → a4 j = x1) ∧ ∀ post : Int32 → Prop, post (nI j) → wpX_placeOf post (f0, nI c, a1, a2, a3, a4, a5, a6) x1 := by
  obtain ⟨j, j1, j2, j3, j4⟩ := rd_place2 f0 a1 a2 a3 a4 a5 a6 c x1 h1 h5 (c - 1) 0 (by omega) lt_0
  exact ⟨j, j1, j2, j3, fun post hp => Exists.intro _ (j4 post hp)⟩
theorem rd_mu11 (j : Nat) (hj : j ≤ 5) : ∀ m i, i + m = j → ∀ x2 : Int32, ∃ v : Int32, ∀ post : Int32 → Prop, post v → wX_moreUrgent_11 post (nI j) f0 f1 a1 a2 a3 a4 a5 a6 (m + 1) x2 (nI i) := by
  intro m
  induction m with
  | zero => exact fun i hi x2 => ⟨x2, fun post hp => pk_le j i (fun _ => hp) (fun z => absurd z (by omega))⟩
  | succ m ih =>
    intro i hi x2
    obtain ⟨v, hv⟩ := ih (i + 1) (by omega) (x2 ||| ((1 : Int32) <<< ((a4 (nI i).toNatClampNeg) &&& 31)))
    exact ⟨v, fun post hp => pk_le j i (fun z => absurd z (by omega)) (fun _ => ⟨vp_in_nI (by omega) (by decide), nm_e (nm_r (nI_1 i) (hv post hp))⟩)⟩
theorem rd_more (c : Nat) (x1 : Int32) (h1 : 1 ≤ c) (h5 : c ≤ 5) : ∃ v : Int32, ∀ post : Int32 → Prop, post v → wpX_moreUrgent post (f0, nI c, a1, a2, a3, a4, a5, a6) x1 := by
  obtain ⟨j, j1, j2, j3, j4⟩ := rd_placeOf f0 a1 a2 a3 a4 a5 a6 c x1 h1 h5
  obtain ⟨v, hv⟩ := rd_mu11 f0 (nI c) a1 a2 a3 a4 a5 a6 j (by omega) j 0 (by omega) 0
  unfold wpX_moreUrgent
  dsimp only
  exact ⟨v, fun post hp => j4 _ (Exists.intro _ (hv post hp))⟩
theorem rd_it4 (c : Nat) (h1 : 1 ≤ c) (h5 : c ≤ 5) : ∀ m, m ≤ 5 → ∀ x1 : Int32, ∃ v : Int32, ∀ post : Int32 → Prop, post v → wX_inTime_4 post f0 (nI c) a1 a2 a3 a4 a5 a6 (m + 1) x1 (nI (5 - m)) := by
  intro m
  induction m with
  | zero => exact fun _ x1 => ⟨x1, fun post hp => br_t (nI_le (a := 5) (b := 5) (by omega) (by decide)) hp⟩
  | succ m ih =>
    intro hm x1
    have e : nI (5 - (m + 1)) + 1 = nI (5 - m) := by rw [nI_1, show 5 - (m + 1) + 1 = 5 - m by omega]
    have hn : ¬ (5 : Int32) ≤ nI (5 - (m + 1)) := nI_ge (b := 5) (by omega) (by decide)
    have hv : vp_in (nI (5 - (m + 1))) 5 := vp_in_nI (by omega) (by decide)
    obtain ⟨r, hr⟩ := rd_has f0 (nI c) a1 a2 a3 a4 a5 a6 (nI (5 - (m + 1)))
    by_cases h0 : r = 0
    · obtain ⟨v, hw⟩ := ih (by omega) x1
      exact ⟨v, fun post hp => br_f hn (hr _ (br_t h0 (nm_r e (hw post hp))))⟩
    · obtain ⟨s, hs⟩ := rd_more f0 a1 a2 a3 a4 a5 a6 c (nI (5 - (m + 1))) h1 h5
      obtain ⟨t, ht⟩ := rd_itu f0 (nI c) a1 a2 a3 a4 a5 a6 (nI (5 - (m + 1))) s hv
      by_cases h2 : t = 0
      · obtain ⟨v, hw⟩ := ih (by omega) (x1 ||| 0)
        exact ⟨v, fun post hp => br_f hn (hr _ (br_f h0 (hs _ (ht _ (br_t h2 (nm_e (nm_r e (hw post hp))))))))⟩
      · obtain ⟨v, hw⟩ := ih (by omega) (x1 ||| ((1 : Int32) <<< (nI (5 - (m + 1)) &&& 31)))
        exact ⟨v, fun post hp => br_f hn (hr _ (br_f h0 (hs _ (ht _ (br_f h2 (nm_e (nm_r e (hw post hp))))))))⟩
theorem rd_inTime (c : Nat) (h1 : 1 ≤ c) (h5 : c ≤ 5) : ∃ v : Int32, ∀ post : Int32 → Prop, post v → wpX_inTime post (f0, nI c, a1, a2, a3, a4, a5, a6) := by
  obtain ⟨v, h⟩ := rd_it4 f0 a1 a2 a3 a4 a5 a6 c h1 h5 5 (Nat.le_refl 5) 0
  exact ⟨v, fun post hp => Exists.intro 6 (h post hp)⟩
theorem rd_good (c : Nat) (h1 : 1 ≤ c) (h5 : c ≤ 5) : ∃ v : Int32, (v = 0 ∨ v = 1) ∧ ∀ post : Int32 → Prop, post v → wpX_good post (f0, nI c, a1, a2, a3, a4, a5, a6) := by
  obtain ⟨r, hr⟩ := rd_inTime f0 a1 a2 a3 a4 a5 a6 c h1 h5
  unfold wpX_good
  dsimp only
  by_cases h0 : r = f0
  · exact ⟨1, Or.inr rfl, fun post hp => hr _ (br_t h0 hp)⟩
  · exact ⟨0, Or.inl rfl, fun post hp => hr _ (br_f h0 hp)⟩
end
/-- what good() answers in a state -/
noncomputable def rd_G (u : St1) : Int32 := Classical.epsilon (fun v : Int32 => (v = 0 ∨ v = 1) ∧ ∀ post : Int32 → Prop, post v → wpX_good post u)
theorem rd_Gs {f0 : Int32} {a1 a2 a3 a4 a5 a6 : Nat → Int32} {c : Nat} (h1 : 1 ≤ c) (h5 : c ≤ 5) : (rd_G (f0, nI c, a1, a2, a3, a4, a5, a6) = 0 ∨ rd_G (f0, nI c, a1, a2, a3, a4, a5, a6) = 1) ∧ ∀ post : Int32 → Prop, post (rd_G (f0, nI c, a1, a2, a3, a4, a5, a6)) → wpX_good post (f0, nI c, a1, a2, a3, a4, a5, a6) :=
  Classical.epsilon_spec (rd_good f0 a1 a2 a3 a4 a5 a6 c h1 h5)
end
section
/-! ===== fill and goodOrders: they end, with tables that the state settles ===== -/
theorem rd_b1 : ∀ s, s < 32 → ∀ k, k < 5 → 0 ≤ (nI s &&& (((1 : Int32) <<< (nI k &&& 31)) ^^^ (-1))).toInt ∧ (nI s &&& (((1 : Int32) <<< (nI k &&& 31)) ^^^ (-1))).toInt < ((32 : Nat) : Int) := by decide +kernel
theorem rd_b2 : ∀ s, s < 32 → ∀ k, k < 5 → 0 ≤ (nI s ||| ((1 : Int32) <<< (nI k &&& 31))).toInt ∧ (nI s ||| ((1 : Int32) <<< (nI k &&& 31))).toInt < ((32 : Nat) : Int) := by decide +kernel
section
variable (f0 f1 : Int32) (a1 a2 a3 a4 : Nat → Int32)
theorem rd_f124 (a5 : Nat → Int32) (s : Nat) (hs : s < 32) : ∀ m, m ≤ 5 → ∀ a6 : Nat → Int32, ∃ b6 : Nat → Int32, ∀ (post : St1 → Prop) (J : Int32 → (Nat → Int32) → (Nat → Int32) → (Nat → Int32) → (Nat → Int32) → (Nat → Int32) → (Nat → Int32) → Prop), J (nI (s + 1)) a1 a2 a3 a4 a5 b6 → wX_fill_124 post J (nI s) f0 f1 (m + 1) (nI (5 - m)) a1 a2 a3 a4 a5 a6 := by
  intro m
  induction m with
  | zero => exact fun _ a6 => ⟨a6, fun post J hp => br_t (nI_le (a := 5) (b := 5) (by omega) (by decide)) (nm_r (nI_1 s) hp)⟩
  | succ m ih =>
    intro hm a6
    have e : nI (5 - (m + 1)) + 1 = nI (5 - m) := by rw [nI_1, show 5 - (m + 1) + 1 = 5 - m by omega]
    have hn : ¬ (5 : Int32) ≤ nI (5 - (m + 1)) := nI_ge (b := 5) (by omega) (by decide)
    have hv : vp_in (nI (5 - (m + 1))) 5 := vp_in_nI (by omega) (by decide)
    have hx : vp_in (nI s) 32 := vp_in_nI hs (by decide)
    have hy : vp_in (nI s &&& (((1 : Int32) <<< (nI (5 - (m + 1)) &&& 31)) ^^^ (-1))) 32 := vp_in_iff.mpr (rd_b1 s hs _ (by omega))
    obtain ⟨r, hr⟩ := rd_in (nI s &&& f0) (nI (5 - (m + 1)))
    by_cases h0 : r = 0
    · obtain ⟨b6, hw⟩ := ih (by omega) a6
      exact ⟨b6, fun post J hp => br_f hn (nm_e (hr _ (br_t h0 (nm_r e (hw post J hp)))))⟩
    · obtain ⟨t, ht⟩ := rd_itu f0 f1 a1 a2 a3 a4 a5 a6 (nI (5 - (m + 1))) ((nI s &&& (((1 : Int32) <<< (nI (5 - (m + 1)) &&& 31)) ^^^ (-1))) &&& f0) hv
      by_cases h2 : t = 0
      · obtain ⟨b6, hw⟩ := ih (by omega) a6
        exact ⟨b6, fun post J hp => br_f hn (nm_e (hr _ (br_f h0 (ht _ (br_t h2 (nm_r e (hw post J hp)))))))⟩
      · obtain ⟨b6, hw⟩ := ih (by omega) (upd a6 (nI s).toNatClampNeg ((a6 (nI s).toNatClampNeg) + (a6 (nI s &&& (((1 : Int32) <<< (nI (5 - (m + 1)) &&& 31)) ^^^ (-1))).toNatClampNeg)))
        exact ⟨b6, fun post J hp => br_f hn (nm_e (hr _ (br_f h0 (ht _ (br_f h2 ⟨hx, hy, hx, nm_e (nm_r e (hw post J hp))⟩)))))⟩
theorem rd_f101 (a5 : Nat → Int32) : ∀ m, m ≤ 32 → ∀ a6 : Nat → Int32, ∃ b6 : Nat → Int32, ∀ post : St1 → Prop, post (f0, f1, a1, a2, a3, a4, a5, b6) → wX_fill_101 post f0 f1 (m + 1) (nI (32 - m)) a1 a2 a3 a4 a5 a6 := by
  intro m
  induction m with
  | zero => exact fun _ a6 => ⟨a6, fun post hp => br_t (nI_le (a := 32) (b := 32) (by omega) (by decide)) hp⟩
  | succ m ih =>
    intro hm a6
    have hn : ¬ (32 : Int32) ≤ nI (32 - (m + 1)) := nI_ge (b := 32) (by omega) (by decide)
    have hv : vp_in (nI (32 - (m + 1))) 32 := vp_in_nI (by omega) (by decide)
    have e : 32 - (m + 1) + 1 = 32 - m := by omega
    by_cases h0 : nI (32 - (m + 1)) = 0
    · obtain ⟨c6, hc⟩ := rd_f124 f0 f1 a1 a2 a3 a4 a5 (32 - (m + 1)) (by omega) 5 (by omega) (upd a6 (nI (32 - (m + 1))).toNatClampNeg 1)
      obtain ⟨b6, hw⟩ := ih (by omega) c6
      rw [e] at hc
      exact ⟨b6, fun post hp => br_f hn (br_t h0 ⟨hv, nm_e ⟨6, hc post _ (hw post hp)⟩⟩)⟩
    · obtain ⟨c6, hc⟩ := rd_f124 f0 f1 a1 a2 a3 a4 a5 (32 - (m + 1)) (by omega) 5 (by omega) (upd a6 (nI (32 - (m + 1))).toNatClampNeg 0)
      obtain ⟨b6, hw⟩ := ih (by omega) c6
      rw [e] at hc
      exact ⟨b6, fun post hp => br_f hn (br_f h0 ⟨hv, nm_e ⟨6, hc post _ (hw post hp)⟩⟩)⟩
theorem rd_f28 (a6 : Nat → Int32) (s : Nat) (hs : s < 32) : ∀ m, m ≤ 5 → ∀ a5 : Nat → Int32, ∃ b5 : Nat → Int32, ∀ (post : St1 → Prop) (J : Int32 → (Nat → Int32) → (Nat → Int32) → (Nat → Int32) → (Nat → Int32) → (Nat → Int32) → (Nat → Int32) → Prop), J (nI s + (-1)) a1 a2 a3 a4 b5 a6 → wX_fill_28 post J (nI s) f0 f1 (m + 1) (nI (5 - m)) a1 a2 a3 a4 a5 a6 := by
  intro m
  induction m with
  | zero => exact fun _ a5 => ⟨a5, fun post J hp => br_t (nI_le (a := 5) (b := 5) (by omega) (by decide)) (nm_e hp)⟩
  | succ m ih =>
    intro hm a5
    have e : nI (5 - (m + 1)) + 1 = nI (5 - m) := by rw [nI_1, show 5 - (m + 1) + 1 = 5 - m by omega]
    have hn : ¬ (5 : Int32) ≤ nI (5 - (m + 1)) := nI_ge (b := 5) (by omega) (by decide)
    have hv : vp_in (nI (5 - (m + 1))) 5 := vp_in_nI (by omega) (by decide)
    have hx : vp_in (nI s) 32 := vp_in_nI hs (by decide)
    have hy : vp_in (nI s ||| ((1 : Int32) <<< (nI (5 - (m + 1)) &&& 31))) 32 := vp_in_iff.mpr (rd_b2 s hs _ (by omega))
    obtain ⟨r, hr⟩ := rd_in (f0 &&& (nI s ^^^ (-1))) (nI (5 - (m + 1)))
    by_cases h0 : r = 0
    · obtain ⟨b5, hw⟩ := ih (by omega) a5
      exact ⟨b5, fun post J hp => br_f hn (hr _ (br_t h0 (nm_r e (hw post J hp))))⟩
    · by_cases h1 : (nI s &&& (f0 ^^^ (-1))) = 0
      · obtain ⟨t, ht⟩ := rd_itu f0 f1 a1 a2 a3 a4 a5 a6 (nI (5 - (m + 1))) (nI s) hv
        by_cases h2 : t = 0
        · obtain ⟨b5, hw⟩ := ih (by omega) a5
          exact ⟨b5, fun post J hp => br_f hn (hr _ (br_f h0 (br_t h1 (ht _ (br_t h2 (nm_r e (hw post J hp)))))))⟩
        · obtain ⟨b5, hw⟩ := ih (by omega) (upd a5 (nI s).toNatClampNeg ((a5 (nI s).toNatClampNeg) + (a5 (nI s ||| ((1 : Int32) <<< (nI (5 - (m + 1)) &&& 31))).toNatClampNeg)))
          exact ⟨b5, fun post J hp => br_f hn (hr _ (br_f h0 (br_t h1 (ht _ (br_f h2 ⟨hx, hy, hx, nm_e (nm_r e (hw post J hp))⟩)))))⟩
      · obtain ⟨b5, hw⟩ := ih (by omega) a5
        exact ⟨b5, fun post J hp => br_f hn (hr _ (br_f h0 (br_f h1 (nm_r e (hw post J hp)))))⟩
theorem rd_f3 (a6 : Nat → Int32) : ∀ m, m ≤ 32 → ∀ a5 : Nat → Int32, ∃ b5 b6 : Nat → Int32, ∀ post : St1 → Prop, post (f0, f1, a1, a2, a3, a4, b5, b6) → wX_fill_3 post f0 f1 (m + 1) (nI m + (-1)) a1 a2 a3 a4 a5 a6 := by
  intro m
  induction m with
  | zero =>
    intro _ a5
    obtain ⟨b6, h⟩ := rd_f101 f0 f1 a1 a2 a3 a4 a5 32 (Nat.le_refl 32) a6
    exact ⟨a5, b6, fun post hp => br_t (by decide) ⟨33, h post hp⟩⟩
  | succ m ih =>
    intro hm a5
    rw [pk_m1]
    have hn : ¬ nI m < 0 := nI_pos (by omega)
    have hv : vp_in (nI m) 32 := vp_in_nI (by omega) (by decide)
    by_cases h0 : nI m = f0
    · obtain ⟨c5, hc⟩ := rd_f28 f0 f1 a1 a2 a3 a4 a6 m (by omega) 5 (by omega) (upd a5 (nI m).toNatClampNeg 1)
      obtain ⟨b5, b6, hw⟩ := ih (by omega) c5
      exact ⟨b5, b6, fun post hp => br_f hn (br_t h0 ⟨hv, nm_e ⟨6, hc post _ (hw post hp)⟩⟩)⟩
    · obtain ⟨c5, hc⟩ := rd_f28 f0 f1 a1 a2 a3 a4 a6 m (by omega) 5 (by omega) (upd a5 (nI m).toNatClampNeg 0)
      obtain ⟨b5, b6, hw⟩ := ih (by omega) c5
      exact ⟨b5, b6, fun post hp => br_f hn (br_f h0 ⟨hv, nm_e ⟨6, hc post _ (hw post hp)⟩⟩)⟩
theorem rd_fill (a5 a6 : Nat → Int32) : ∃ b5 b6 : Nat → Int32, ∀ post : St1 → Prop, post (f0, f1, a1, a2, a3, a4, b5, b6) → wpX_fill post (f0, f1, a1, a2, a3, a4, a5, a6) := by
  obtain ⟨b5, b6, h⟩ := rd_f3 f0 f1 a1 a2 a3 a4 a6 32 (Nat.le_refl 32) a5
  have e : nI 32 + (-1) = 31 := by decide
  rw [e] at h
  exact ⟨b5, b6, fun post hp => Exists.intro 33 (h post hp)⟩
theorem rd_orders (a5 a6 : Nat → Int32) : ∃ b5 b6 : Nat → Int32, ∀ post : Int32 → St1 → Prop, post (b5 0) (f0, f1, a1, a2, a3, a4, b5, b6) → wpX_goodOrders post (f0, f1, a1, a2, a3, a4, a5, a6) := by
  obtain ⟨b5, b6, h⟩ := rd_fill f0 f1 a1 a2 a3 a4 a5 a6
  unfold wpX_goodOrders
  dsimp only
  exact ⟨b5, b6, fun post hp => h _ hp⟩
end
end
section
/-! ===== arrays by numbers; add, remove, place ===== -/
def rd_u (f : Nat → Nat) (k x : Nat) : Nat → Nat := fun j => if j = k then x else f j
def rd_a (f : Nat → Nat) : Nat → Int32 := fun j => nI (f j)
theorem rd_us {f : Nat → Nat} {k x : Nat} : rd_u f k x k = x := if_pos rfl
theorem rd_un {f : Nat → Nat} {k x j : Nat} (h : j ≠ k) : rd_u f k x j = f j := if_neg h
theorem rd_upd (f : Nat → Nat) (k x : Nat) : upd (rd_a f) k (nI x) = rd_a (rd_u f k x) := by
  funext j
  show (if j = k then nI x else nI (f j)) = nI (if j = k then x else f j)
  by_cases h : j = k
  · rw [if_pos h, if_pos h]
  · rw [if_neg h, if_neg h]
theorem rd_uu (f : Nat → Nat) (k x y : Nat) : rd_u (rd_u f k x) k y = rd_u f k y := by
  funext j
  by_cases h : j = k
  · rw [h, rd_us, rd_us]
  · rw [rd_un h, rd_un h, rd_un h]
theorem rd_ui {f : Nat → Nat} {k x : Nat} (h : x = f k) : rd_u f k x = f := by
  funext j
  by_cases e : j = k
  · rw [e, rd_us, h]
  · rw [rd_un e]
theorem rd_byte : ∀ x, x < 128 → (nI x).toInt8.toInt32 = nI x := by decide +kernel
theorem rd_nar {x : Nat} (h : x < 128) : vp_nar .byte (nI x) = nI x := by rw [vp_nar_byte, rd_byte x h]
theorem rd_st {f : Nat → Nat} {k x : Nat} (hk : k < 5) (hx : x < 128) : upd (rd_a f) (nI k).toNatClampNeg (nI x).toInt8.toInt32 = rd_a (rd_u f k x) := by
  rw [nI_clamp (by omega), rd_byte x hx, rd_upd]
theorem rd_sn {f : Nat → Nat} {k x : Nat} (hk : k < 5) (hx : x < 128) : upd (rd_a f) (nI k).toNatClampNeg (vp_nar .byte (nI x)) = rd_a (rd_u f k x) := by
  rw [nI_clamp (by omega), rd_nar hx, rd_upd]
theorem rd_bitT : ∀ P, P < 32 → ∀ i, i < 5 → (((nI P >>> (nI i &&& 31)) &&& 1) = 0 ↔ P.testBit i = false) := by decide +kernel
theorem rd_orB : ∀ P, P < 32 → ∀ k, k < 5 → nI P ||| ((1 : Int32) <<< (nI k &&& 31)) = nI (P ||| 2 ^ k) := by decide +kernel
theorem rd_clB : ∀ P, P < 32 → ∀ k, k < 5 → P.testBit k = true → nI P &&& (((1 : Int32) <<< (nI k &&& 31)) ^^^ (-1)) = nI (P - 2 ^ k) := by decide +kernel
theorem rd_hasT {P i : Nat} {f1 : Int32} {a1 a2 a3 a4 a5 a6 : Nat → Int32} {post : Int32 → Prop} (hP : P < 32) (hi : i < 5) (hb : P.testBit i = true) (hp : post 1) : wpX_has post (nI P, f1, a1, a2, a3, a4, a5, a6) (nI i) :=
  br_f (nI_pos (by omega)) (br_f (nI_ge (b := 5) hi (by decide)) (br_f (fun z => absurd ((rd_bitT P hP i hi).mp z) (by rw [hb]; decide)) hp))
theorem rd_hasF {P i : Nat} {f1 : Int32} {a1 a2 a3 a4 a5 a6 : Nat → Int32} {post : Int32 → Prop} (hP : P < 32) (hi : i < 5) (hb : P.testBit i = false) (hp : post 0) : wpX_has post (nI P, f1, a1, a2, a3, a4, a5, a6) (nI i) :=
  br_f (nI_pos (by omega)) (br_f (nI_ge (b := 5) hi (by decide)) (br_t ((rd_bitT P hP i hi).mpr hb) hp))
theorem rd_nums {cc dd pp : Nat} {post : Int32 → Prop} (h1 : 1 ≤ cc) (h2 : cc ≤ dd) (h3 : dd ≤ pp) (h4 : pp ≤ 15) (hp : post 1) : wpX_numbersOk post () (nI cc) (nI dd) (nI pp) :=
  pk_lt cc 1 (fun z => absurd z (by omega)) (fun _ => pk_lt dd cc (fun z => absurd z (by omega)) (fun _ => pk_lt pp dd (fun z => absurd z (by omega)) (fun _ => pk_lt 15 pp (fun z => absurd z (by omega)) (fun _ => hp))))
theorem rd_add14 {post : Int32 → St1 → Prop} {P n k cc dd pp : Nat} {c d p o : Nat → Nat} {a5 a6 : Nat → Int32} (hP : P < 32) (hk : k < 5) (hn : n < 5) (hb : ∀ i, i < k → P.testBit i = true) (hf : P.testBit k = false) (h2 : cc ≤ 15) (h3 : dd ≤ 15) (h4 : pp ≤ 15)
    (hp : post (nI k) (nI (P ||| 2 ^ k), nI (n + 1), rd_a (rd_u c k cc), rd_a (rd_u d k dd), rd_a (rd_u p k pp), rd_a (rd_u o n k), a5, a6)) : ∀ m i, i + m = k → wX_add_14 post (nI cc) (nI dd) (nI pp) (nI P) (nI n) (rd_a c) (rd_a d) (rd_a p) (rd_a o) a5 a6 (m + 1) (nI i) := by
  intro m
  induction m with
  | zero =>
    intro i hi
    obtain rfl : i = k := by omega
    have hv : vp_in (nI i) 5 := vp_in_nI hk (by decide)
    exact br_f (nI_ge (b := 5) hk (by decide)) (rd_hasF hP hk hf (br_t rfl (nm_r (rd_orB P hP i hk) ⟨hv, nm_r (rd_st hk (by omega)) ⟨hv, nm_r (rd_st hk (by omega)) ⟨hv, nm_r (rd_st hk (by omega)) ⟨vp_in_nI hn (by decide), nm_r (rd_st hn (by omega)) (nm_r (nI_1 n) hp)⟩⟩⟩⟩)))
  | succ m ih =>
    intro i hi
    exact br_f (nI_ge (b := 5) (by omega) (by decide)) (rd_hasT hP (by omega) (hb i (by omega)) (br_f (by decide) (nm_r (nI_1 i) (ih (i + 1) (by omega)))))
theorem rd_add {post : Int32 → St1 → Prop} {P n k cc dd pp : Nat} {c d p o : Nat → Nat} {a5 a6 : Nat → Int32} (hP : P < 32) (hk : k < 5) (hn : n < 5) (hb : ∀ i, i < k → P.testBit i = true) (hf : P.testBit k = false) (h1 : 1 ≤ cc) (h2 : cc ≤ dd) (h3 : dd ≤ pp) (h4 : pp ≤ 15)
    (hp : post (nI k) (nI (P ||| 2 ^ k), nI (n + 1), rd_a (rd_u c k cc), rd_a (rd_u d k dd), rd_a (rd_u p k pp), rd_a (rd_u o n k), a5, a6)) : wpX_add post (nI P, nI n, rd_a c, rd_a d, rd_a p, rd_a o, a5, a6) (nI cc) (nI dd) (nI pp) := by
  unfold wpX_add
  dsimp only
  exact rd_nums h1 h2 h3 h4 (br_f (by decide) ⟨k + 1, rd_add14 hP hk hn hb hf (by omega) (by omega) h4 hp k 0 (by omega)⟩)
theorem rd_full {post : Int32 → St1 → Prop} {cc dd pp : Nat} {f1 : Int32} {a1 a2 a3 a4 a5 a6 : Nat → Int32} (h1 : 1 ≤ cc) (h2 : cc ≤ dd) (h3 : dd ≤ pp) (h4 : pp ≤ 15)
    (hp : post (-2) (nI 31, f1, a1, a2, a3, a4, a5, a6)) : wpX_add post (nI 31, f1, a1, a2, a3, a4, a5, a6) (nI cc) (nI dd) (nI pp) := by
  have key : ∀ m i, i + m = 5 → wX_add_14 post (nI cc) (nI dd) (nI pp) (nI 31) f1 a1 a2 a3 a4 a5 a6 (m + 1) (nI i) := by
    intro m
    induction m with
    | zero =>
      intro i hi
      exact br_t (nI_le (a := 5) (by omega) (by omega)) hp
    | succ m ih =>
      intro i hi
      have hb : ∀ i, i < 5 → (31 : Nat).testBit i = true := by decide
      exact br_f (nI_ge (b := 5) (by omega) (by decide)) (rd_hasT (by decide) (by omega) (hb i (by omega)) (br_f (by decide) (nm_r (nI_1 i) (ih (i + 1) (by omega)))))
  unfold wpX_add
  dsimp only
  exact rd_nums h1 h2 h3 h4 (br_f (by decide) ⟨6, key 5 0 (by omega)⟩)
/-- the place of k in the order -/
theorem rd_pos {post : Int32 → Prop} {n k pos : Nat} {f0 : Int32} {a1 a2 a3 a5 a6 : Nat → Int32} {o : Nat → Nat} (ho : ∀ j, o j < 5) (h5 : n ≤ 5) (hn : pos < n) (hk : o pos = k) (hf : ∀ t, t < pos → o t ≠ k) (hp : post (nI pos)) : wpX_placeOf post (f0, nI n, a1, a2, a3, rd_a o, a5, a6) (nI k) := by
  obtain ⟨j, j1, j2, j3, j4⟩ := rd_placeOf f0 a1 a2 a3 (rd_a o) a5 a6 n (nI k) (by omega) h5
  have hk5 : k < 5 := hk ▸ ho pos
  have e : j = pos := by
    rcases Nat.lt_trichotomy j pos with h | h | h
    · have q : nI (o j) = nI k := j3 (by omega)
      rw [nI_eq (by have := ho j; omega) (by omega)] at q
      exact absurd q (hf j h)
    · exact h
    · exact absurd (show nI (o pos) = nI k by rw [hk]) (j2 pos h)
  subst e
  exact j4 post hp
/-- the places i .. n - 1 take what stands one above -/
def rd_sh (o : Nat → Nat) (i n : Nat) : Nat → Nat := fun j => if i ≤ j ∧ j < n then o (j + 1) else o j
/-- the places i + 1 .. t take what stands one below -/
def rd_dn (o : Nat → Nat) (i t : Nat) : Nat → Nat := fun j => if i < j ∧ j ≤ t then o (j - 1) else o j
theorem rd_sh0 (o : Nat → Nat) {i n : Nat} (h : n ≤ i) : rd_sh o i n = o := by
  funext j
  exact if_neg (by omega)
theorem rd_dn0 (o : Nat → Nat) {i t : Nat} (h : t ≤ i) : rd_dn o i t = o := by
  funext j
  exact if_neg (by omega)
theorem rd_shS (o : Nat → Nat) {i n : Nat} (h : i < n) : rd_sh (rd_u o i (o (i + 1))) (i + 1) n = rd_sh o i n := by
  funext j
  unfold rd_sh
  by_cases e : j = i
  · rw [if_neg (by omega), if_pos (by omega), e, rd_us]
  · rw [rd_un e]
    by_cases e2 : i + 1 ≤ j ∧ j < n
    · rw [if_pos e2, if_pos (by omega), rd_un (by omega)]
    · rw [if_neg e2, if_neg (by omega)]
theorem rd_dnS (o : Nat → Nat) {i t : Nat} (h : i ≤ t) : rd_dn (rd_u o (t + 1) (o t)) i t = rd_dn o i (t + 1) := by
  funext j
  unfold rd_dn
  by_cases e : j = t + 1
  · rw [if_neg (by omega), if_pos (by omega), e, rd_us]
    rfl
  · rw [rd_un e]
    by_cases e2 : i < j ∧ j ≤ t
    · rw [if_pos e2, if_pos (by omega), rd_un (by omega)]
    · rw [if_neg e2, if_neg (by omega)]
theorem rd_uB {o : Nat → Nat} (ho : ∀ j, o j < 5) {k x : Nat} (hx : x < 5) : ∀ j, rd_u o k x j < 5 := by
  intro j
  by_cases e : j = k
  · rw [e, rd_us]
    exact hx
  · rw [rd_un e]
    exact ho j
theorem rd_rem28 {post : Int32 → St1 → Prop} {P n k : Nat} {a1 a2 a3 a5 a6 : Nat → Int32} (hP : P < 32) (hk : k < 5) (hb : P.testBit k = true) (hn : n < 5) : ∀ m i (o : Nat → Nat), i + m = n → (∀ j, o j < 5) → post 1 (nI (P - 2 ^ k), nI n, a1, a2, a3, rd_a (rd_sh o i n), a5, a6) → wX_remove_28 post (nI k) (nI P) (nI n) (m + 1) (nI i) a1 a2 a3 (rd_a o) a5 a6 := by
  intro m
  induction m with
  | zero =>
    intro i o hi ho hp
    rw [rd_sh0 o (by omega)] at hp
    exact br_t (nI_le (by omega) (by omega)) (nm_r (rd_clB P hP k hk hb) hp)
  | succ m ih =>
    intro i o hi ho hp
    rw [← rd_shS o (by omega)] at hp
    have hv : nI i + 1 = nI (i + 1) := nI_1 i
    refine br_f (nI_ge (by omega) (by omega)) ⟨pk_in (i + 1) 5 (by omega) hv, vp_in_nI (by omega) (by decide), nm_r ?_ (nm_r hv (ih (i + 1) _ (by omega) (rd_uB ho (ho (i + 1))) hp))⟩
    rw [hv, nI_clamp (show i + 1 < 2 ^ 31 by omega)]
    exact rd_sn (by omega) (by have := ho (i + 1); omega)
theorem rd_remove {post : Int32 → St1 → Prop} {P n k pos : Nat} {a1 a2 a3 a5 a6 : Nat → Int32} {o : Nat → Nat} (hP : P < 32) (hk : k < 5) (hb : P.testBit k = true) (ho : ∀ j, o j < 5) (h5 : n < 5) (hn : pos < n + 1) (hq : o pos = k) (hf : ∀ t, t < pos → o t ≠ k)
    (hp : post 1 (nI (P - 2 ^ k), nI n, a1, a2, a3, rd_a (rd_sh o pos n), a5, a6)) : wpX_remove post (nI P, nI (n + 1), a1, a2, a3, rd_a o, a5, a6) (nI k) := by
  unfold wpX_remove
  dsimp only
  exact rd_hasT hP hk hb (br_f (by decide) (rd_pos ho (by omega) hn hq hf (nm_r (nI_pred n) ⟨_, rd_rem28 hP hk hb h5 (n - pos) pos o (by omega) ho hp⟩)))
theorem rd_pl53 {post : Int32 → St1 → Prop} {k i : Nat} {f0 f1 : Int32} {a1 a2 a3 a5 a6 : Nat → Int32} (hk : k < 5) : ∀ m t (o : Nat → Nat), t = i + m → t < 5 → (∀ j, o j < 5) → post 1 (f0, f1, a1, a2, a3, rd_a (rd_u (rd_dn o i t) i k), a5, a6) → wX_place_53 post (nI k) (nI i) f0 f1 (m + 1) (nI t) a1 a2 a3 (rd_a o) a5 a6 := by
  intro m
  induction m with
  | zero =>
    intro t o ht h5 ho hp
    rw [rd_dn0 o (by omega)] at hp
    exact br_t (nI_le (by omega) (by omega)) ⟨vp_in_nI (by omega) (by decide), nm_r (rd_st (by omega) (by omega)) hp⟩
  | succ m ih =>
    intro t o ht h5 ho hp
    obtain ⟨s, rfl⟩ : ∃ s, t = s + 1 := ⟨i + m, by omega⟩
    rw [← rd_dnS o (by omega)] at hp
    have hv : nI (s + 1) - 1 = nI s := nI_pred s
    refine br_f (nI_ge (by omega) (by omega)) ⟨pk_in s 5 (by omega) hv, vp_in_nI h5 (by decide), nm_r ?_ (nm_r (pk_m1 s) (ih s _ (by omega) (by omega) (rd_uB ho (ho s)) hp))⟩
    rw [hv, nI_clamp (show s < 2 ^ 31 by omega)]
    exact rd_sn (by omega) (by have := ho s; omega)
theorem rd_pl28 {post : Int32 → St1 → Prop} {k i : Nat} {f0 f1 : Int32} {a1 a2 a3 a5 a6 : Nat → Int32} (hi : i < 5) : ∀ m t (o : Nat → Nat), t + m = i → (∀ j, o j < 5) → (∃ fu, wX_place_53 post (nI k) (nI i) f0 f1 fu (nI i) a1 a2 a3 (rd_a (rd_sh o t i)) a5 a6) → wX_place_28 post (nI k) (nI i) f0 f1 (m + 1) (nI t) a1 a2 a3 (rd_a o) a5 a6 := by
  intro m
  induction m with
  | zero =>
    intro t o ht ho hp
    obtain rfl : t = i := by omega
    rw [rd_sh0 o (Nat.le_refl _)] at hp
    exact br_t (nI_le (by omega) (by omega)) hp
  | succ m ih =>
    intro t o ht ho hp
    rw [← rd_shS o (by omega)] at hp
    have hv : nI t + 1 = nI (t + 1) := nI_1 t
    refine br_f (nI_ge (by omega) (by omega)) ⟨pk_in (t + 1) 5 (by omega) hv, vp_in_nI (by omega) (by decide), nm_r ?_ (nm_r hv (ih (t + 1) _ (by omega) (rd_uB ho (ho (t + 1))) hp))⟩
    rw [hv, nI_clamp (show t + 1 < 2 ^ 31 by omega)]
    exact rd_sn (by omega) (by have := ho (t + 1); omega)
/-- k, which stands at pos, is moved to the place i -/
def rd_mv (o : Nat → Nat) (pos i k : Nat) : Nat → Nat := rd_u (rd_dn (rd_sh o pos i) i pos) i k
theorem rd_shB {o : Nat → Nat} (ho : ∀ j, o j < 5) (i n : Nat) : ∀ j, rd_sh o i n j < 5 := by
  intro j
  unfold rd_sh
  split
  · exact ho _
  · exact ho _
theorem rd_dnB {o : Nat → Nat} (ho : ∀ j, o j < 5) (i n : Nat) : ∀ j, rd_dn o i n j < 5 := by
  intro j
  unfold rd_dn
  split
  · exact ho _
  · exact ho _
theorem rd_place {post : Int32 → St1 → Prop} {P n k pos i : Nat} {a1 a2 a3 a5 a6 : Nat → Int32} {o : Nat → Nat} (hP : P < 32) (hk : k < 5) (hb : P.testBit k = true) (ho : ∀ j, o j < 5) (h5 : n ≤ 5) (hn : pos < n) (hq : o pos = k) (hf : ∀ t, t < pos → o t ≠ k) (hi : i < n)
    (hp : post 1 (nI P, nI n, a1, a2, a3, rd_a (rd_mv o pos i k), a5, a6)) : wpX_place post (nI P, nI n, a1, a2, a3, rd_a o, a5, a6) (nI k) (nI i) := by
  unfold wpX_place
  dsimp only
  refine rd_hasT hP hk hb (br_f (by decide) (br_f (nI_pos (by omega)) (br_t (nI_lt hi (by omega)) (rd_pos ho h5 hn hq hf ?_))))
  unfold rd_mv at hp
  by_cases h : pos ≤ i
  · rw [rd_dn0 _ h] at hp
    refine ⟨i - pos + 1, rd_pl28 (by omega) (i - pos) pos o (by omega) ho ⟨1, rd_pl53 hk 0 i _ rfl (by omega) (rd_shB ho pos i) ?_⟩⟩
    rw [rd_dn0 _ (Nat.le_refl i)]
    exact hp
  · rw [rd_sh0 _ (by omega)] at hp
    exact ⟨1, br_t (nI_le (by omega) (by omega)) ⟨pos - i + 1, rd_pl53 hk (pos - i) pos o (by omega) (by omega) ho hp⟩⟩
end
section
/-! ===== the order as a permutation; the law's good; greatestCost, leastPeriod ===== -/
def rd_pm (n : Nat) (o : Nat → Nat) : Prop := (∀ j, o j < 5) ∧ (∀ i, i < n → o i < n) ∧ (∀ k, k < n → ∃ i, i < n ∧ o i = k ∧ ∀ t, t < n → t ≠ i → o t ≠ k)
def rd_sg (pos i j : Nat) : Nat := if j = i then pos else if pos ≤ j ∧ j < i then j + 1 else if i < j ∧ j ≤ pos then j - 1 else j
def rd_si (pos i s : Nat) : Nat := if s = pos then i else if pos < s ∧ s ≤ i then s - 1 else if i ≤ s ∧ s < pos then s + 1 else s
theorem rd_sgN {pos i j n : Nat} (hp : pos < n) (hi : i < n) (hj : j < n) : rd_sg pos i j < n := by
  unfold rd_sg
  grind
theorem rd_siN {pos i j n : Nat} (hp : pos < n) (hi : i < n) (hj : j < n) : rd_si pos i j < n := by
  unfold rd_si
  grind
theorem rd_sgI (pos i s : Nat) : rd_sg pos i (rd_si pos i s) = s := by
  unfold rd_sg rd_si
  grind
theorem rd_siG (pos i j : Nat) : rd_si pos i (rd_sg pos i j) = j := by
  unfold rd_sg rd_si
  grind
theorem rd_mvS {o : Nat → Nat} {pos i k : Nat} (hk : o pos = k) (j : Nat) : rd_mv o pos i k j = o (rd_sg pos i j) := by
  unfold rd_mv rd_u rd_dn rd_sh rd_sg
  grind
theorem rd_mvP {n k pos i : Nat} {o : Nat → Nat} (h : rd_pm n o) (hp : pos < n) (hi : i < n) (hk : o pos = k) : rd_pm n (rd_mv o pos i k) := by
  obtain ⟨h1, h2, h3⟩ := h
  refine ⟨fun j => ?_, fun j hj => ?_, fun q hq => ?_⟩
  · rw [rd_mvS hk]
    exact h1 _
  · rw [rd_mvS hk]
    exact h2 _ (rd_sgN hp hi hj)
  · obtain ⟨s, s1, s2, s3⟩ := h3 q hq
    refine ⟨rd_si pos i s, rd_siN hp hi s1, ?_, fun t ht hne => ?_⟩
    · rw [rd_mvS hk, rd_sgI]
      exact s2
    · rw [rd_mvS hk]
      exact s3 _ (rd_sgN hp hi ht) (fun z => hne (by rw [← z, rd_siG]))
theorem rd_back {o : Nat → Nat} {n pos k : Nat} (hk : o pos = k) (hp : pos < n + 1) : rd_mv (rd_u (rd_sh o pos n) n k) n pos k = o := by
  funext j
  unfold rd_mv rd_u rd_dn rd_sh
  grind
theorem rd_sz {cc dd pp : Nat} (h1 : cc ≤ 15) (h2 : dd ≤ 15) (h3 : pp ≤ 15) : nI (cc + 16 * dd + 256 * pp) &&& 15 = nI cc ∧ (nI (cc + 16 * dd + 256 * pp) >>> ((4 : Int32) &&& 31)) &&& 15 = nI dd ∧ nI (cc + 16 * dd + 256 * pp) >>> ((8 : Int32) &&& 31) = nI pp := by
  refine ⟨?_, ?_, ?_⟩
  · rw [pk_andN (by omega) 4 (by decide)]
    exact congrArg nI (by omega)
  · rw [pk_shrN (by omega) _ 4 (by decide), pk_andN (by omega) 4 (by decide)]
    exact congrArg nI (by omega)
  · rw [pk_shrN (by omega) _ 8 (by decide)]
    exact congrArg nI (by omega)
theorem rd_bt1 : ∀ n, n < 6 → 2 ^ n - 1 < 32 := by decide +kernel
theorem rd_bt2 : ∀ n, n < 6 → ∀ k, k < n → (2 ^ n - 1).testBit k = true := by decide +kernel
theorem rd_bt3 : ∀ n, n < 6 → ∀ k, k < n → 2 ^ n - 1 - 2 ^ k < 32 ∧ (2 ^ n - 1 - 2 ^ k).testBit k = false ∧ (∀ i, i < k → (2 ^ n - 1 - 2 ^ k).testBit i = true) ∧ ((2 ^ n - 1 - 2 ^ k) ||| 2 ^ k) = 2 ^ n - 1 := by decide +kernel
theorem rd_bt4 : ∀ n, n < 5 → (2 ^ n - 1).testBit n = false ∧ ((2 ^ n - 1) ||| 2 ^ n) = 2 ^ (n + 1) - 1 ∧ 2 ^ (n + 1) - 1 - 2 ^ n = 2 ^ n - 1 := by decide +kernel
/-- what good() answers where the fields are these -/
noncomputable def rd_g (P n : Nat) (c d p o : Nat → Nat) (a5 a6 : Nat → Int32) : Int32 := rd_G (nI P, nI n, rd_a c, rd_a d, rd_a p, rd_a o, a5, a6)
theorem rd_gs {P n : Nat} {c d p o : Nat → Nat} {a5 a6 : Nat → Int32} (h1 : 1 ≤ n) (h5 : n ≤ 5) : (rd_g P n c d p o a5 a6 = 0 ∨ rd_g P n c d p o a5 a6 = 1) ∧ ∀ post : Int32 → Prop, post (rd_g P n c d p o a5 a6) → wpX_good post (nI P, nI n, rd_a c, rd_a d, rd_a p, rd_a o, a5, a6) :=
  rd_Gs h1 h5
theorem rd_82 {post : Int32 → St1 → Prop} {P n : Nat} {c d p o : Nat → Nat} {a5 a6 : Nat → Int32} (h1 : 1 ≤ n) (h5 : n ≤ 5) (hp : post (rd_g P n c d p o a5 a6) (nI P, nI n, rd_a c, rd_a d, rd_a p, rd_a o, a5, a6)) : wL_good_82 post 1 (nI P) (nI n) (rd_a c) (rd_a d) (rd_a p) (rd_a o) a5 a6 := by
  unfold wL_good_82
  refine br_f (by decide) ((rd_gs h1 h5).2 _ ?_)
  rcases (rd_gs (P := P) (c := c) (d := d) (p := p) (o := o) (a5 := a5) (a6 := a6) h1 h5).1 with h | h
  · rw [h] at hp
    exact br_t h hp
  · rw [h] at hp
    exact br_f (by rw [h]; decide) hp
theorem rd_lg6 {post : Int32 → St1 → Prop} {n k pos cc dd pp : Nat} {c d p o : Nat → Nat} {a5 a6 : Nat → Int32} (h5 : n + 1 ≤ 5) (hpos : pos < n + 1) (ho : rd_pm (n + 1) o) (hk : o pos = k) (hu : ∀ t, t < n + 1 → t ≠ pos → o t ≠ k) (g1 : 1 ≤ cc) (g2 : cc ≤ dd) (g3 : dd ≤ pp) (g4 : pp ≤ 15)
    (hp : post (rd_g (2 ^ (n + 1) - 1) (n + 1) (rd_u c k cc) (rd_u d k dd) (rd_u p k pp) o a5 a6) (nI (2 ^ (n + 1) - 1), nI (n + 1), rd_a (rd_u c k cc), rd_a (rd_u d k dd), rd_a (rd_u p k pp), rd_a o, a5, a6)) :
    ∀ m i, i + m = n + 1 → wL_good_6 post (nI k) (nI (n + 1)) (nI (cc + 16 * dd + 256 * pp)) (nI (2 ^ (n + 1) - 1)) (nI (n + 1)) (rd_a c) (rd_a d) (rd_a p) (rd_a o) a5 a6 (m + 1) (nI (if pos < i then pos else 0)) (nI i) := by
  have hkn : k < n + 1 := hk ▸ ho.2.1 pos hpos
  have hk5 : k < 5 := by omega
  intro m
  induction m with
  | zero =>
    intro i hi
    obtain ⟨s1, s2, s3⟩ := rd_sz (cc := cc) (dd := dd) (pp := pp) (by omega) (by omega) (by omega)
    obtain ⟨b1, b2, b3, b4⟩ := rd_bt3 (n + 1) (by omega) k hkn
    rw [if_pos (show pos < i by omega)]
    refine br_t (nI_le (by omega) (by omega)) (rd_remove (rd_bt1 _ (by omega)) hk5 (rd_bt2 _ (by omega) k hkn) ho.1 (by omega) hpos hk (fun t ht => hu t (by omega) (by omega)) (br_f (by decide) ?_))
    rw [s1, s2, s3]
    refine rd_add b1 hk5 (by omega) b3 b2 g1 g2 g3 g4 (br_t rfl ?_)
    rw [b4]
    have hB : ∀ j, rd_u (rd_sh o pos n) n k j < 5 := rd_uB (rd_shB ho.1 pos n) hk5
    refine rd_place (pos := n) (rd_bt1 _ (by omega)) hk5 (rd_bt2 _ (by omega) k hkn) hB (by omega) (by omega) rd_us (fun t ht => ?_) (by omega) (br_f (by decide) ?_)
    · rw [rd_un (by omega)]
      unfold rd_sh
      by_cases z : pos ≤ t ∧ t < n
      · rw [if_pos z]
        exact hu (t + 1) (by omega) (by omega)
      · rw [if_neg z]
        exact hu t (by omega) (by omega)
    · rw [rd_back hk hpos]
      exact rd_82 (by omega) h5 hp
  | succ m ih =>
    intro i hi
    have hcl : (nI i).toNatClampNeg = i := nI_clamp (by omega)
    have hi5 := ho.1 i
    refine br_f (nI_ge (by omega) (by omega)) (br_f (nI_pos (by omega)) (br_t (nI_lt (by omega) (by omega)) ⟨vp_in_nI (by omega) (by decide), ?_⟩))
    have t := ih (i + 1) (by omega)
    refine pk_eq (o i) k (fun z => nm_r (nI_1 i) ?_) (fun z => nm_r (nI_1 i) ?_) (by rw [hcl]; rfl)
    · have e : i = pos := by
        by_cases e : i = pos
        · exact e
        · exact absurd z (hu i (by omega) e)
      rw [if_pos (by omega), ← e] at t
      exact t
    · have e : i ≠ pos := fun w => z (by rw [w]; exact hk)
      rw [show (if pos < i + 1 then pos else 0) = (if pos < i then pos else 0) by
        by_cases w : pos < i
        · rw [if_pos w, if_pos (by omega)]
        · rw [if_neg w, if_neg (by omega)]] at t
      exact t
theorem rd_lgood {post : Int32 → St1 → Prop} {n k cc dd pp : Nat} {c d p o : Nat → Nat} {a5 a6 : Nat → Int32} (h1 : 1 ≤ n) (h5 : n ≤ 5) (ho : rd_pm n o) (hk : k < n) (g1 : 1 ≤ cc) (g2 : cc ≤ dd) (g3 : dd ≤ pp) (g4 : pp ≤ 15)
    (hp : post (rd_g (2 ^ n - 1) n (rd_u c k cc) (rd_u d k dd) (rd_u p k pp) o a5 a6) (nI (2 ^ n - 1), nI n, rd_a (rd_u c k cc), rd_a (rd_u d k dd), rd_a (rd_u p k pp), rd_a o, a5, a6)) :
    wpL_good post (nI (2 ^ n - 1), nI n, rd_a c, rd_a d, rd_a p, rd_a o, a5, a6) (nI k) (nI n) (nI (cc + 16 * dd + 256 * pp)) := by
  obtain ⟨q, rfl⟩ : ∃ q, n = q + 1 := ⟨n - 1, by omega⟩
  obtain ⟨pos, p1, p2, p3⟩ := ho.2.2 k hk
  have t := rd_lg6 (c := c) (d := d) (p := p) (a5 := a5) (a6 := a6) h5 p1 ho p2 p3 g1 g2 g3 g4 hp (q + 1) 0 (by omega)
  rw [if_neg (by omega)] at t
  exact Exists.intro _ t
theorem rd_rd {f : Nat → Nat} {k : Nat} (h : k < 5) : rd_a f (nI k).toNatClampNeg = nI (f k) := by
  rw [nI_clamp (by omega)]
  rfl
theorem rd_gc22 {P n k own : Nat} {c d p o : Nat → Nat} {a5 a6 : Nat → Int32} (h1 : 1 ≤ n) (h5 : n ≤ 5) (hk : k < 5) (hd : d k ≤ 15) (hw : own ≤ 15) : ∀ m i b x, i + m = d k + 1 → b < i → (b ≠ 0 → ¬ rd_g P n (rd_u c k b) d p o a5 a6 = 0) → (∀ j, b < j → j < i → rd_g P n (rd_u c k j) d p o a5 a6 = 0) →
    ∃ b', b' ≤ d k ∧ (b' ≠ 0 → ¬ rd_g P n (rd_u c k b') d p o a5 a6 = 0) ∧ (∀ j, b' < j → j ≤ d k → rd_g P n (rd_u c k j) d p o a5 a6 = 0) ∧ ∀ post : Int32 → St1 → Prop, post (nI b') (nI P, nI n, rd_a (rd_u c k own), rd_a d, rd_a p, rd_a o, a5, a6) → wX_greatestCost_22 post (nI k) (nI own) (nI P) (nI n) (m + 1) (nI b) (nI i) (rd_a (rd_u c k x)) (rd_a d) (rd_a p) (rd_a o) a5 a6 := by
  have hv : vp_in (nI k) 5 := vp_in_nI hk (by decide)
  have hx : rd_a d (nI k).toNatClampNeg = nI (d k) := rd_rd hk
  intro m
  induction m with
  | zero =>
    intro i b x hi hb g1 g2
    refine ⟨b, by omega, g1, fun j j1 j2 => g2 j j1 (by omega), fun post hp => And.intro hv (pk_lt (d k) i (fun _ => ⟨hv, nm_r (rd_sn hk (by omega)) ?_⟩) (fun z => absurd z (by omega)) hx)⟩
    rw [rd_uu]
    exact hp
  | succ m ih =>
    intro i b x hi hb g1 g2
    have hst : upd (rd_a (rd_u c k x)) (nI k).toNatClampNeg (nI i).toInt8.toInt32 = rd_a (rd_u c k i) := by rw [rd_st hk (by omega), rd_uu]
    by_cases hg : rd_g P n (rd_u c k i) d p o a5 a6 = 0
    · obtain ⟨b', q1, q2, q3, q4⟩ := ih (i + 1) b i (by omega) (by omega) g1 (fun j j1 j2 => by
        by_cases e : j = i
        · rw [e]; exact hg
        · exact g2 j j1 (by omega))
      exact ⟨b', q1, q2, q3, fun post hp => And.intro hv (pk_lt (d k) i (fun z => absurd z (by omega)) (fun _ => ⟨hv, nm_r hst ((rd_gs h1 h5).2 _ (br_t hg (nm_r (nI_1 i) (q4 post hp))))⟩) hx)⟩
    · obtain ⟨b', q1, q2, q3, q4⟩ := ih (i + 1) i i (by omega) (by omega) (fun _ => hg) (fun j j1 j2 => absurd j1 (by omega))
      exact ⟨b', q1, q2, q3, fun post hp => And.intro hv (pk_lt (d k) i (fun z => absurd z (by omega)) (fun _ => ⟨hv, nm_r hst ((rd_gs h1 h5).2 _ (br_f hg (nm_r (nI_1 i) (q4 post hp))))⟩) hx)⟩
theorem rd_great {P n k : Nat} {c d p o : Nat → Nat} {a5 a6 : Nat → Int32} (h1 : 1 ≤ n) (h5 : n ≤ 5) (hk : k < 5) (hP : P < 32) (hb : P.testBit k = true) (hd : d k ≤ 15) (hw : c k ≤ 15) :
    ∃ b', b' ≤ d k ∧ (b' ≠ 0 → ¬ rd_g P n (rd_u c k b') d p o a5 a6 = 0) ∧ (∀ j, b' < j → j ≤ d k → rd_g P n (rd_u c k j) d p o a5 a6 = 0) ∧ ∀ post : Int32 → St1 → Prop, post (nI b') (nI P, nI n, rd_a c, rd_a d, rd_a p, rd_a o, a5, a6) → wpX_greatestCost post (nI P, nI n, rd_a c, rd_a d, rd_a p, rd_a o, a5, a6) (nI k) := by
  obtain ⟨b', q1, q2, q3, q4⟩ := rd_gc22 (P := P) (c := c) (p := p) (o := o) (a5 := a5) (a6 := a6) h1 h5 hk hd hw (d k) 1 0 (c k) (by omega) (by omega) (fun z => absurd rfl z) (fun j j1 j2 => absurd j1 (by omega))
  rw [rd_ui (f := c) (k := k) rfl] at q4
  refine ⟨b', q1, q2, q3, fun post hp => ?_⟩
  unfold wpX_greatestCost
  dsimp only
  exact rd_hasT hP hk hb (br_f (by decide) ⟨vp_in_nI hk (by decide), nm_r (rd_rd hk) ⟨_, q4 post hp⟩⟩)
theorem rd_lp23 {P n k own : Nat} {c d p o : Nat → Nat} {a5 a6 : Nat → Int32} (h1 : 1 ≤ n) (h5 : n ≤ 5) (hk : k < 5) (hd1 : 1 ≤ d k) (hd : d k ≤ 15) (hw : own ≤ 15) : ∀ m i b y, i + 1 = d k + m → i ≤ 15 → (b = 0 ∨ i < b ∧ b ≤ 15 ∧ ¬ rd_g P n c d (rd_u p k b) o a5 a6 = 0) → (∀ j, i < j → j ≤ 15 → (b = 0 ∨ j < b) → rd_g P n c d (rd_u p k j) o a5 a6 = 0) →
    ∃ b', (b' = 0 ∨ d k ≤ b' ∧ b' ≤ 15 ∧ ¬ rd_g P n c d (rd_u p k b') o a5 a6 = 0) ∧ (∀ j, d k ≤ j → j ≤ 15 → (b' = 0 ∨ j < b') → rd_g P n c d (rd_u p k j) o a5 a6 = 0) ∧ ∀ post : Int32 → St1 → Prop, post (nI b') (nI P, nI n, rd_a c, rd_a d, rd_a (rd_u p k own), rd_a o, a5, a6) → wX_leastPeriod_23 post (nI k) (nI own) (nI P) (nI n) (m + 1) (nI b) (nI i) (rd_a c) (rd_a d) (rd_a (rd_u p k y)) (rd_a o) a5 a6 := by
  have hv : vp_in (nI k) 5 := vp_in_nI hk (by decide)
  have hx : rd_a d (nI k).toNatClampNeg = nI (d k) := rd_rd hk
  intro m
  induction m with
  | zero =>
    intro i b y hi hi2 g1 g2
    refine ⟨b, ?_, fun j j1 j2 j3 => g2 j (by omega) j2 j3, fun post hp => And.intro hv (pk_lt i (d k) (fun _ => ⟨hv, nm_r (rd_sn hk (by omega)) ?_⟩) (fun z => absurd z (by omega)) rfl hx)⟩
    · rcases g1 with g | ⟨ga, gb, gc⟩
      · exact Or.inl g
      · exact Or.inr ⟨by omega, gb, gc⟩
    · rw [rd_uu]
      exact hp
  | succ m ih =>
    intro i b y hi hi2 g1 g2
    obtain ⟨s, rfl⟩ : ∃ s, i = s + 1 := ⟨i - 1, by omega⟩
    have hst : upd (rd_a (rd_u p k y)) (nI k).toNatClampNeg (nI (s + 1)).toInt8.toInt32 = rd_a (rd_u p k (s + 1)) := by rw [rd_st hk (by omega), rd_uu]
    by_cases hg : rd_g P n c d (rd_u p k (s + 1)) o a5 a6 = 0
    · obtain ⟨b', q1, q2, q4⟩ := ih s b (s + 1) (by omega) (by omega) (by
        rcases g1 with g | ⟨ga, gb, gc⟩
        · exact Or.inl g
        · exact Or.inr ⟨by omega, gb, gc⟩) (fun j j1 j2 j3 => by
        by_cases e : j = s + 1
        · rw [e]; exact hg
        · exact g2 j (by omega) j2 j3)
      exact ⟨b', q1, q2, fun post hp => And.intro hv (pk_lt (s + 1) (d k) (fun z => absurd z (by omega)) (fun _ => ⟨hv, nm_r hst ((rd_gs h1 h5).2 _ (br_t hg (nm_r (pk_m1 s) (q4 post hp))))⟩) rfl hx)⟩
    · obtain ⟨b', q1, q2, q4⟩ := ih s (s + 1) (s + 1) (by omega) (by omega) (Or.inr ⟨by omega, by omega, hg⟩) (fun j j1 j2 j3 => absurd j3 (by omega))
      exact ⟨b', q1, q2, fun post hp => And.intro hv (pk_lt (s + 1) (d k) (fun z => absurd z (by omega)) (fun _ => ⟨hv, nm_r hst ((rd_gs h1 h5).2 _ (br_f hg (nm_r (pk_m1 s) (q4 post hp))))⟩) rfl hx)⟩
theorem rd_least {P n k : Nat} {c d p o : Nat → Nat} {a5 a6 : Nat → Int32} (h1 : 1 ≤ n) (h5 : n ≤ 5) (hk : k < 5) (hP : P < 32) (hb : P.testBit k = true) (hd1 : 1 ≤ d k) (hd : d k ≤ 15) (hw : p k ≤ 15) :
    ∃ b', (b' = 0 ∨ d k ≤ b' ∧ b' ≤ 15 ∧ ¬ rd_g P n c d (rd_u p k b') o a5 a6 = 0) ∧ (∀ j, d k ≤ j → j ≤ 15 → (b' = 0 ∨ j < b') → rd_g P n c d (rd_u p k j) o a5 a6 = 0) ∧ ∀ post : Int32 → St1 → Prop, post (nI b') (nI P, nI n, rd_a c, rd_a d, rd_a p, rd_a o, a5, a6) → wpX_leastPeriod post (nI P, nI n, rd_a c, rd_a d, rd_a p, rd_a o, a5, a6) (nI k) := by
  obtain ⟨b', q1, q2, q4⟩ := rd_lp23 (P := P) (c := c) (p := p) (o := o) (a5 := a5) (a6 := a6) h1 h5 hk hd1 hd hw (16 - d k) 15 0 (p k) (by omega) (by omega) (Or.inl rfl) (fun j j1 j2 _ => absurd j1 (by omega))
  rw [rd_ui (f := p) (k := k) rfl] at q4
  refine ⟨b', q1, q2, fun post hp => ?_⟩
  unfold wpX_leastPeriod
  dsimp only
  exact rd_hasT hP hk hb (br_f (by decide) ⟨vp_in_nI hk (by decide), nm_r (rd_rd hk) ⟨_, q4 post hp⟩⟩)
end
section
/-! ===== rows of the kit's BITS text (a starting text): lN under shifts, masks, or ===== -/
theorem wb_tb (n : Nat) : (lN n).toBitVec = BitVec.ofNat 64 n := rfl
theorem wb_inj {a b : Int64} (h : a.toBitVec = b.toBitVec) : a = b := Int64.toBitVec_inj.mp h
theorem wb_tn {n : Nat} (h : n < 2 ^ 64) : (lN n).toBitVec.toNat = n := by rw [wb_tb, BitVec.toNat_ofNat, Nat.mod_eq_of_lt h]
theorem wb_c : ∀ k, k < 64 → ((nI k).toInt64 &&& 63) = lN k := by decide +kernel
theorem wb_sm : ∀ k, k < 64 → (BitVec.ofNat 64 k).smod 64 = BitVec.ofNat 64 k := by decide +kernel
theorem wb_pw {a b : Nat} (h : a ≤ b) : 2 ^ b = 2 ^ a * 2 ^ (b - a) := by rw [← Nat.pow_add]; congr 1; omega
theorem wb_lt2 {a b : Nat} (h : a < b) : 2 ^ a < 2 ^ b := Nat.pow_lt_pow_right (by decide) h
theorem wb_shl (n : Nat) {k : Nat} (hk : k < 64) : lN n <<< ((nI k).toInt64 &&& 63) = lN (n * 2 ^ k) := by
  rw [wb_c k hk]
  apply wb_inj
  rw [Int64.toBitVec_shiftLeft, wb_tb, wb_tb, wb_tb, wb_sm k hk]
  apply BitVec.eq_of_toNat_eq
  rw [BitVec.shiftLeft_eq', BitVec.toNat_shiftLeft, BitVec.toNat_ofNat, BitVec.toNat_ofNat, BitVec.toNat_ofNat, Nat.mod_eq_of_lt (show k < 2 ^ 64 by omega), Nat.shiftLeft_eq, Nat.mul_mod, Nat.mod_mod, ← Nat.mul_mod]
theorem wb_and {a b : Nat} (ha : a < 2 ^ 64) (hb : b < 2 ^ 64) : lN a &&& lN b = lN (a &&& b) := by
  apply wb_inj
  rw [Int64.toBitVec_and, wb_tb, wb_tb, wb_tb]
  apply BitVec.eq_of_toNat_eq
  rw [BitVec.toNat_and, BitVec.toNat_ofNat, BitVec.toNat_ofNat, BitVec.toNat_ofNat, Nat.mod_eq_of_lt ha, Nat.mod_eq_of_lt hb, Nat.mod_eq_of_lt (Nat.and_lt_two_pow _ hb)]
theorem wb_or {a b : Nat} (ha : a < 2 ^ 64) (hb : b < 2 ^ 64) : lN a ||| lN b = lN (a ||| b) := by
  apply wb_inj
  rw [Int64.toBitVec_or, wb_tb, wb_tb, wb_tb]
  apply BitVec.eq_of_toNat_eq
  rw [BitVec.toNat_or, BitVec.toNat_ofNat, BitVec.toNat_ofNat, BitVec.toNat_ofNat, Nat.mod_eq_of_lt ha, Nat.mod_eq_of_lt hb, Nat.mod_eq_of_lt (Nat.or_lt_two_pow ha hb)]
theorem wb_mask {n k : Nat} (hn : n < 2 ^ 64) (hk : k < 64) : lN n &&& lN (2 ^ k - 1) = lN (n % 2 ^ k) := by
  rw [wb_and hn (by have := wb_lt2 hk; omega), Nat.and_two_pow_sub_one_eq_mod]
theorem u_tn {n : Nat} (h : n < 2 ^ 64) : (UInt64.ofNat n).toNat = n := Nat.mod_eq_of_lt h
theorem g_or {k p a b : Nat} (hp : 2 ^ k = p) (ha : a < p) (h : b * p + a < 2 ^ 64) : lN (b * p) ||| lN a = lN (b * p + a) := by
  subst hp
  have h1 : b * 2 ^ k ||| a = b * 2 ^ k + a := by rw [← Nat.shiftLeft_eq, Nat.shiftLeft_add_eq_or_of_lt ha]
  have h3 : UInt64.ofNat (b * 2 ^ k) ||| UInt64.ofNat a = UInt64.ofNat (b * 2 ^ k + a) := UInt64.toNat_inj.mp (by rw [UInt64.toNat_or, u_tn (by omega), u_tn (by omega), u_tn h, h1])
  have h2 := congrArg UInt64.toInt64 h3
  exact h2
theorem g_or' {k p a b : Nat} (hp : 2 ^ k = p) (ha : a < p) (h : a + b * p < 2 ^ 64) : lN a ||| lN (b * p) = lN (a + b * p) := by
  rw [Int64.or_comm, g_or hp ha (by omega), Nat.add_comm]
theorem pf_lI {a : Nat} (h : a < 2 ^ 63) : (lN a).toInt = (a : Int) := lg_ofNat_toInt h
theorem pf_shr {a d : Nat} {D : Int64} (hD : (D.toBitVec.smod 64).toNat = d) (h : a < 2 ^ 62) : lN a >>> D = lN (a / 2 ^ d) := by
  have hd : a / 2 ^ d ≤ a := Nat.div_le_self _ _
  apply Int64.toInt_inj.mp
  have e : (lN a >>> D).toInt = (lN a).toInt >>> d := by
    rw [← hD]
    exact BitVec.toInt_sshiftRight ..
  rw [e, Int.shiftRight_eq_div_pow, pf_lI (by omega), pf_lI (by omega)]
  rfl
/-! ===== the law's packed sizes ===== -/
theorem rd_smod : ∀ k, k < 64 → ((lN k).toBitVec.smod 64).toNat = k := by decide +kernel
theorem rd_szE (a b e : Nat) : nI a + 16 * nI b + 256 * nI e = nI (a + 16 * b + 256 * e) := by
  show nI a + nI 16 * nI b + nI 256 * nI e = _
  rw [pk_mul, pk_mul, nI_add, nI_add]
theorem rd_szF (a b : Nat) : nI a + 16 * nI b + 3840 = nI (a + 16 * b + 256 * 15) := by
  show nI a + nI 16 * nI b + nI 3840 = _
  rw [pk_mul, nI_add, nI_add]
theorem rd_12 (j : Nat) : 12 * nI j = nI (12 * j) := pk_mul 12 j
theorem rd_12p (j e : Nat) : 12 * nI j + nI e = nI (12 * j + e) := by rw [rd_12, nI_add]
theorem rd_sh4 {Z s : Nat} (hs : s < 64) (hZ : Z < 2 ^ 62) : ((lN Z >>> ((nI s).toInt64 &&& 63)) &&& 15).toInt32 = nI (Z / 2 ^ s % 16) := by
  have hq : Z / 2 ^ s ≤ Z := Nat.div_le_self _ _
  have hm : lN (Z / 2 ^ s) &&& 15 = lN (Z / 2 ^ s % 16) := wb_mask (k := 4) (n := Z / 2 ^ s) (by omega) (by decide)
  rw [wb_c s hs, pf_shr (rd_smod s hs) hZ, hm, lN_i]
theorem rd_dv {q a b e : Nat} (ha : a ≤ 15) (hb : b ≤ 15) (he : e ≤ 15) (h : q % 4096 = a + 16 * b + 256 * e) : q % 16 = a ∧ q / 16 % 16 = b ∧ q / 256 % 16 = e := by omega
theorem rd_read {Z j a b e : Nat} (hj : j < 5) (hZ : Z < 2 ^ 62) (ha : a ≤ 15) (hb : b ≤ 15) (he : e ≤ 15) (h : Z / 2 ^ (12 * j) % 4096 = a + 16 * b + 256 * e) :
    ((lN Z >>> ((12 * nI j).toInt64 &&& 63)) &&& 15).toInt32 = nI a ∧ ((lN Z >>> (((12 * nI j) + 4).toInt64 &&& 63)) &&& 15).toInt32 = nI b ∧ ((lN Z >>> (((12 * nI j) + 8).toInt64 &&& 63)) &&& 15).toInt32 = nI e := by
  obtain ⟨d1, d2, d3⟩ := rd_dv ha hb he h
  have e4 : 12 * nI j + 4 = nI (12 * j + 4) := rd_12p j 4
  have e8 : 12 * nI j + 8 = nI (12 * j + 8) := rd_12p j 8
  refine ⟨?_, ?_, ?_⟩
  · rw [rd_12, rd_sh4 (by omega) hZ, d1]
  · rw [e4, rd_sh4 (by omega) hZ, Nat.pow_add, ← Nat.div_div_eq_div_mul]
    exact congrArg nI d2
  · rw [e8, rd_sh4 (by omega) hZ, Nat.pow_add, ← Nat.div_div_eq_div_mul]
    exact congrArg nI d3
theorem rd_pack {Z z k : Nat} (hk : k < 5) (hZ : Z < 2 ^ (12 * k)) (hz : z < 4096) : lN Z ||| ((nI z).toInt64 <<< ((12 * nI k).toInt64 &&& 63)) = lN (Z + z * 2 ^ (12 * k)) := by
  have h1 : 2 ^ (12 * k) ≤ 2 ^ 48 := Nat.pow_le_pow_right (by decide) (by omega)
  have h2 : z * 2 ^ (12 * k) ≤ 4095 * 2 ^ 48 := Nat.mul_le_mul (by omega) h1
  rw [nI_l (by omega), rd_12, wb_shl z (by omega)]
  exact g_or' (k := 12 * k) rfl hZ (by omega)
theorem rd_lt {Z z k : Nat} (hZ : Z < 2 ^ (12 * k)) (hz : z < 4096) : Z + z * 2 ^ (12 * k) < 2 ^ (12 * (k + 1)) := by
  have e : 2 ^ (12 * (k + 1)) = 2 ^ (12 * k) * 4096 := by rw [Nat.mul_add, Nat.pow_add]
  have h2 : z * 2 ^ (12 * k) ≤ 4095 * 2 ^ (12 * k) := Nat.mul_le_mul_right _ (by omega)
  omega
theorem rd_old {Z z k j : Nat} (hj : j < k) : (Z + z * 2 ^ (12 * k)) / 2 ^ (12 * j) % 4096 = Z / 2 ^ (12 * j) % 4096 := by
  have e : 2 ^ (12 * k) = 2 ^ (12 * j) * (4096 * 2 ^ (12 * (k - j - 1))) := by
    rw [show 12 * k = 12 * j + (12 + 12 * (k - j - 1)) by omega, Nat.pow_add, Nat.pow_add]
  have hpos : 0 < 2 ^ (12 * j) := Nat.pow_pos (by decide)
  rw [e, show z * (2 ^ (12 * j) * (4096 * 2 ^ (12 * (k - j - 1)))) = 2 ^ (12 * j) * (4096 * (z * 2 ^ (12 * (k - j - 1)))) by
    rw [Nat.mul_left_comm z, Nat.mul_left_comm z], Nat.add_mul_div_left _ _ hpos, Nat.add_mul_mod_self_left]
theorem rd_new {Z z k : Nat} (hZ : Z < 2 ^ (12 * k)) (hz : z < 4096) : (Z + z * 2 ^ (12 * k)) / 2 ^ (12 * k) % 4096 = z := by
  have hpos : 0 < 2 ^ (12 * k) := Nat.pow_pos (by decide)
  rw [Nat.add_mul_div_right _ _ hpos, Nat.div_eq_of_lt hZ, Nat.zero_add, Nat.mod_eq_of_lt hz]
end
section
/-! ===== one turn of the law's last loop: its checks, from the last to the first ===== -/
def rd_ok (n : Nat) (c d p o : Nat → Nat) : Prop := 1 ≤ n ∧ n ≤ 5 ∧ rd_pm n o ∧ ∀ k, k < n → 1 ≤ c k ∧ c k ≤ d k ∧ d k ≤ p k ∧ p k ≤ 15
/-- what good() answers with task k's cost x and period y -/
noncomputable def rd_h (n k : Nat) (c d p o : Nat → Nat) (a5 a6 : Nat → Int32) (x y : Nat) : Int32 := rd_g (2 ^ n - 1) n (rd_u c k x) d (rd_u p k y) o a5 a6
theorem rd_stp {post : Int32 → St1 → Prop} {n k cc pp : Nat} {c d p o c1 p1 : Nat → Nat} {a5 a6 : Nat → Int32} (hok : rd_ok n c d p o) (hk : k < n) (hc : ∀ z, rd_u c1 k z = rd_u c k z) (hp : ∀ z, rd_u p1 k z = rd_u p k z) (g1 : 1 ≤ cc) (g2 : cc ≤ d k) (g3 : d k ≤ pp) (g4 : pp ≤ 15)
    (H : post (rd_h n k c d p o a5 a6 cc pp) (nI (2 ^ n - 1), nI n, rd_a (rd_u c k cc), rd_a d, rd_a (rd_u p k pp), rd_a o, a5, a6)) :
    wpL_good post (nI (2 ^ n - 1), nI n, rd_a c1, rd_a d, rd_a p1, rd_a o, a5, a6) (nI k) (nI n) (nI (cc + 16 * d k + 256 * pp)) := by
  refine rd_lgood hok.1 hok.2.1 hok.2.2.1 hk g1 g2 g3 g4 ?_
  rw [hc, hp, rd_ui (f := d) (k := k) rfl]
  exact H
/-- what the two questions answer -/
def rd_ans (n k mo le : Nat) (c d p o : Nat → Nat) (a5 a6 : Nat → Int32) : Prop := mo ≤ d k ∧ (mo < d k → rd_h n k c d p o a5 a6 (mo + 1) (p k) = 0) ∧ (le = 0 ∨ d k ≤ le ∧ le ≤ 15) ∧ (le ≠ 0 → ¬ rd_h n k c d p o a5 a6 (c k) le = 0) ∧ (le = 0 → rd_h n k c d p o a5 a6 (c k) 15 = 0) ∧ (d k < le → rd_h n k c d p o a5 a6 (c k) (le - 1) = 0)
section
variable {post : Int32 → Prop} {L : Nat} {xs : Nat → Int32} {J : Int32 → Int32 → Int32 → (Nat → Int32) → (Nat → Int32) → (Nat → Int32) → (Nat → Int32) → (Nat → Int32) → (Nat → Int32) → Int32 → Int32 → (Nat → Int32) → (Nat → Int32) → (Nat → Int32) → (Nat → Int32) → (Nat → Int32) → (Nat → Int32) → Prop} {x4 : Int64} {x7 : Int32} {kc ks : Nat} {n k mo le : Nat} {c d p o : Nat → Nat} {a5 a6 : Nat → Int32}
theorem rd_574 {c1 p1 : Nat → Nat} (hok : rd_ok n c d p o) (hk : k < n) (hA : rd_ans n k mo le c d p o a5 a6) (hJ : J (nI (k + 1)) (nI (2 ^ n - 1)) (nI n) (rd_a c) (rd_a d) (rd_a p) (rd_a o) a5 a6 (nI (2 ^ n - 1)) (nI n) (rd_a c) (rd_a d) (rd_a p) (rd_a o) a5 a6) (hc : ∀ z, rd_u c1 k z = rd_u c k z) (hp : ∀ z, rd_u p1 k z = rd_u p k z) :
    wL_law_574 post L xs J (nI n) x4 x7 (nI k) (nI (c k)) (nI (d k)) (nI (p k)) (nI le) 1 0 1 0 kc ks (nI (2 ^ n - 1)) (nI n) (rd_a c) (rd_a d) (rd_a p) (rd_a o) a5 a6 (nI (2 ^ n - 1)) (nI n) (rd_a c1) (rd_a d) (rd_a p1) (rd_a o) a5 a6 := by
  obtain ⟨b1, b2, b3, b4⟩ := hok.2.2.2 k hk
  unfold wL_law_574
  rw [rd_szE]
  refine br_f (nI_nlt (a := 15) (by have := hA.2.2.1; omega) (by decide)) (br_f (by decide) (br_t rfl (br_f (by decide) (br_t rfl (rd_stp hok hk hc hp b1 b2 b3 b4 ?_)))))
  unfold rd_h
  rw [rd_ui (f := c) (k := k) rfl, rd_ui (f := p) (k := k) rfl]
  exact (rd_gs hok.1 hok.2.1).2 _ (br_t rfl (nm_r (nI_1 k) hJ))
theorem rd_543 {c1 p1 : Nat → Nat} (hok : rd_ok n c d p o) (hk : k < n) (hA : rd_ans n k mo le c d p o a5 a6) (hJ : J (nI (k + 1)) (nI (2 ^ n - 1)) (nI n) (rd_a c) (rd_a d) (rd_a p) (rd_a o) a5 a6 (nI (2 ^ n - 1)) (nI n) (rd_a c) (rd_a d) (rd_a p) (rd_a o) a5 a6) (hc : ∀ z, rd_u c1 k z = rd_u c k z) (hp : ∀ z, rd_u p1 k z = rd_u p k z) :
    wL_law_543 post L xs J (nI n) x4 x7 (nI k) (nI (c k)) (nI (d k)) (nI (p k)) (nI mo) (nI le) 1 0 1 0 kc ks (nI (2 ^ n - 1)) (nI n) (rd_a c) (rd_a d) (rd_a p) (rd_a o) a5 a6 (nI (2 ^ n - 1)) (nI n) (rd_a c1) (rd_a d) (rd_a p1) (rd_a o) a5 a6 := by
  obtain ⟨b1, b2, b3, b4⟩ := hok.2.2.2 k hk
  have m1 := hA.1
  have m2 := hA.2.2.1
  unfold wL_law_543
  exact br_f (nI_pos (by omega)) (br_f (nI_nlt m1 (by omega)) (br_f (nI_pos (by omega)) (pk_le le 0 (fun _ => rd_574 hok hk hA hJ hc hp) (fun z => pk_lt le (d k) (fun w => absurd w (by omega)) (fun _ => rd_574 hok hk hA hJ hc hp)))))
theorem rd_542 {c1 p1 : Nat → Nat} (hok : rd_ok n c d p o) (hk : k < n) (hA : rd_ans n k mo le c d p o a5 a6) (hJ : J (nI (k + 1)) (nI (2 ^ n - 1)) (nI n) (rd_a c) (rd_a d) (rd_a p) (rd_a o) a5 a6 (nI (2 ^ n - 1)) (nI n) (rd_a c) (rd_a d) (rd_a p) (rd_a o) a5 a6) (hc : ∀ z, rd_u c1 k z = rd_u c k z) (hp : ∀ z, rd_u p1 k z = rd_u p k z) :
    wL_law_542 post L xs J (nI n) x4 x7 (nI k) (nI (c k)) (nI (d k)) (nI (p k)) (nI mo) (nI le) 1 0 1 kc ks (nI (2 ^ n - 1)) (nI n) (rd_a c) (rd_a d) (rd_a p) (rd_a o) a5 a6 (nI (2 ^ n - 1)) (nI n) (rd_a c1) (rd_a d) (rd_a p1) (rd_a o) a5 a6 := by
  unfold wL_law_542
  exact rd_543 hok hk hA hJ hc hp
theorem rd_475 {c1 p1 : Nat → Nat} (hok : rd_ok n c d p o) (hk : k < n) (hA : rd_ans n k mo le c d p o a5 a6) (hJ : J (nI (k + 1)) (nI (2 ^ n - 1)) (nI n) (rd_a c) (rd_a d) (rd_a p) (rd_a o) a5 a6 (nI (2 ^ n - 1)) (nI n) (rd_a c) (rd_a d) (rd_a p) (rd_a o) a5 a6) (hc : ∀ z, rd_u c1 k z = rd_u c k z) (hp : ∀ z, rd_u p1 k z = rd_u p k z) :
    wL_law_475 post L xs J (nI n) x4 x7 (nI k) (nI (c k)) (nI (d k)) (nI (p k)) (nI mo) (nI le) 1 0 1 kc ks (nI (2 ^ n - 1)) (nI n) (rd_a c) (rd_a d) (rd_a p) (rd_a o) a5 a6 (nI (2 ^ n - 1)) (nI n) (rd_a c1) (rd_a d) (rd_a p1) (rd_a o) a5 a6 := by
  obtain ⟨b1, b2, b3, b4⟩ := hok.2.2.2 k hk
  have m2 := hA.2.2.1
  unfold wL_law_475
  refine pk_eq le 0 (fun z => ?_) (fun z => pk_le le (d k) (fun _ => rd_542 hok hk hA hJ hc hp) (fun w => ?_))
  · rw [rd_szF]
    refine rd_stp hok hk hc hp b1 b2 (by omega) (by omega) ?_
    rw [hA.2.2.2.2.1 z]
    exact rd_543 hok hk hA hJ (rd_uu c k (c k)) (rd_uu p k 15)
  · have e : nI le - 1 = nI (le - 1) := pk_sub (b := 1) (by omega)
    rw [e, rd_szE]
    refine rd_stp hok hk hc hp b1 b2 (by omega) (by omega) ?_
    exact br_t (hA.2.2.2.2.2 w) (rd_542 hok hk hA hJ (rd_uu c k (c k)) (rd_uu p k (le - 1)))
theorem rd_470 {c1 p1 : Nat → Nat} (hok : rd_ok n c d p o) (hk : k < n) (hA : rd_ans n k mo le c d p o a5 a6) (hJ : J (nI (k + 1)) (nI (2 ^ n - 1)) (nI n) (rd_a c) (rd_a d) (rd_a p) (rd_a o) a5 a6 (nI (2 ^ n - 1)) (nI n) (rd_a c) (rd_a d) (rd_a p) (rd_a o) a5 a6) (hc : ∀ z, rd_u c1 k z = rd_u c k z) (hp : ∀ z, rd_u p1 k z = rd_u p k z) :
    wL_law_470 post L xs J (nI n) x4 x7 (nI k) (nI (c k)) (nI (d k)) (nI (p k)) (nI mo) (nI le) 1 0 kc ks (nI (2 ^ n - 1)) (nI n) (rd_a c) (rd_a d) (rd_a p) (rd_a o) a5 a6 (nI (2 ^ n - 1)) (nI n) (rd_a c1) (rd_a d) (rd_a p1) (rd_a o) a5 a6 := by
  unfold wL_law_470
  exact rd_475 hok hk hA hJ hc hp
theorem rd_437 {c1 p1 : Nat → Nat} (hok : rd_ok n c d p o) (hk : k < n) (hA : rd_ans n k mo le c d p o a5 a6) (hJ : J (nI (k + 1)) (nI (2 ^ n - 1)) (nI n) (rd_a c) (rd_a d) (rd_a p) (rd_a o) a5 a6 (nI (2 ^ n - 1)) (nI n) (rd_a c) (rd_a d) (rd_a p) (rd_a o) a5 a6) (hc : ∀ z, rd_u c1 k z = rd_u c k z) (hp : ∀ z, rd_u p1 k z = rd_u p k z) :
    wL_law_437 post L xs J (nI n) x4 x7 (nI k) (nI (c k)) (nI (d k)) (nI (p k)) (nI mo) (nI le) 1 kc ks (nI (2 ^ n - 1)) (nI n) (rd_a c) (rd_a d) (rd_a p) (rd_a o) a5 a6 (nI (2 ^ n - 1)) (nI n) (rd_a c1) (rd_a d) (rd_a p1) (rd_a o) a5 a6 := by
  obtain ⟨b1, b2, b3, b4⟩ := hok.2.2.2 k hk
  have m2 := hA.2.2.1
  unfold wL_law_437 wL_law_438
  refine pk_eq le 0 (fun z => rd_470 hok hk hA hJ hc hp) (fun z => ?_)
  rw [rd_szE]
  refine rd_stp hok hk hc hp b1 b2 (by omega) (by omega) ?_
  exact br_f (hA.2.2.2.1 z) (rd_470 hok hk hA hJ (rd_uu c k (c k)) (rd_uu p k le))
theorem rd_392 {c1 p1 : Nat → Nat} (hok : rd_ok n c d p o) (hk : k < n) (hA : rd_ans n k mo le c d p o a5 a6) (hJ : J (nI (k + 1)) (nI (2 ^ n - 1)) (nI n) (rd_a c) (rd_a d) (rd_a p) (rd_a o) a5 a6 (nI (2 ^ n - 1)) (nI n) (rd_a c) (rd_a d) (rd_a p) (rd_a o) a5 a6) (hc : ∀ z, rd_u c1 k z = rd_u c k z) (hp : ∀ z, rd_u p1 k z = rd_u p k z) :
    wL_law_392 post L xs J (nI n) x4 x7 (nI k) (nI (c k)) (nI (d k)) (nI (p k)) (nI mo) (nI le) kc ks (nI (2 ^ n - 1)) (nI n) (rd_a c) (rd_a d) (rd_a p) (rd_a o) a5 a6 (nI (2 ^ n - 1)) (nI n) (rd_a c1) (rd_a d) (rd_a p1) (rd_a o) a5 a6 := by
  obtain ⟨b1, b2, b3, b4⟩ := hok.2.2.2 k hk
  have m1 := hA.1
  unfold wL_law_392 wL_law_397
  refine pk_le (d k) mo (fun z => rd_437 hok hk hA hJ hc hp) (fun z => ?_)
  rw [nI_1, rd_szE]
  refine rd_stp hok hk hc hp (by omega) (by omega) b3 b4 ?_
  exact br_t (hA.2.1 z) (rd_437 hok hk hA hJ (rd_uu c k (mo + 1)) (rd_uu p k (p k)))
theorem rd_290 (hok : rd_ok n c d p o) (h7 : n < 5 ∨ x7 = 0) (h1 : post 1)
    (hR : ∀ j, j < n → ((x4 >>> ((12 * nI j).toInt64 &&& 63)) &&& 15).toInt32 = nI (c j) ∧ ((x4 >>> (((12 * nI j) + 4).toInt64 &&& 63)) &&& 15).toInt32 = nI (d j) ∧ ((x4 >>> (((12 * nI j) + 8).toInt64 &&& 63)) &&& 15).toInt32 = nI (p j)) :
    ∀ m k, k + m = n → wL_law_290 post L xs (nI n) x4 x7 kc ks (m + 1) (nI k) (nI (2 ^ n - 1)) (nI n) (rd_a c) (rd_a d) (rd_a p) (rd_a o) a5 a6 (nI (2 ^ n - 1)) (nI n) (rd_a c) (rd_a d) (rd_a p) (rd_a o) a5 a6 := by
  have hn1 := hok.1
  have hn5 := hok.2.1
  intro m
  induction m with
  | zero =>
    intro k hk
    exact br_t (nI_le (by omega) (by omega)) (pk_lt n 5 (fun _ => h1) (fun z => br_t (h7.resolve_left (by omega)) h1))
  | succ m ih =>
    intro k hkm
    have hk : k < n := by omega
    obtain ⟨b1, b2, b3, b4⟩ := hok.2.2.2 k hk
    obtain ⟨r1, r2, r3⟩ := hR k hk
    have hP : 2 ^ n - 1 < 32 := rd_bt1 n (by omega)
    have hb : (2 ^ n - 1).testBit k = true := rd_bt2 n (by omega) k hk
    obtain ⟨mo, m1, m2, m3, m4⟩ := rd_great (P := 2 ^ n - 1) (n := n) (k := k) (c := c) (d := d) (p := p) (o := o) (a5 := a5) (a6 := a6) hn1 hn5 (by omega) hP hb (by omega) (by omega)
    obtain ⟨le, l1, l2, l4⟩ := rd_least (P := 2 ^ n - 1) (n := n) (k := k) (c := c) (d := d) (p := p) (o := o) (a5 := a5) (a6 := a6) hn1 hn5 (by omega) hP hb (by omega) (by omega) (by omega)
    have hA : rd_ans n k mo le c d p o a5 a6 := by
      unfold rd_ans rd_h
      rw [rd_ui (f := c) (k := k) rfl, rd_ui (f := p) (k := k) rfl]
      refine ⟨m1, fun z => m3 _ (by omega) (by omega), ?_, fun z => ?_, fun z => l2 15 (by omega) (by omega) (Or.inl z), fun z => l2 (le - 1) (by omega) ?_ (Or.inr (by omega))⟩
      · rcases l1 with z | z
        · exact Or.inl z
        · exact Or.inr ⟨z.1, z.2.1⟩
      · exact (l1.resolve_left z).2.2
      · rcases l1 with z | z
        · omega
        · omega
    have hJ := ih (k + 1) (by omega)
    refine br_f (nI_ge (by omega) (by omega)) (nm_r r1 (nm_r r2 (nm_r r3 (m4 _ (l4 _ ?_)))))
    refine pk_eq mo 0 (fun z => rd_392 hok hk hA hJ (fun _ => rfl) (fun _ => rfl)) (fun z => ?_)
    rw [rd_szE]
    refine rd_stp hok hk (fun _ => rfl) (fun _ => rfl) (by omega) m1 b3 b4 ?_
    refine br_f ?_ (rd_392 hok hk hA hJ (rd_uu c k mo) (rd_uu p k (p k)))
    unfold rd_h
    rw [rd_ui (f := p) (k := k) rfl]
    exact m2 z
end
end
section
/-! ===== the law's other loops ===== -/
theorem rd_pick {L : Nat} {xs : Nat → Int32} {p1 p2 : Int32} (i N : Nat) (hi : i < 2 ^ 31) (hL : L ≤ 260) (h0 : 0 < N) (hN : N < 2 ^ 31) (e1 : p1 = nI i) (e2 : p2 = nI N) : ∃ v, v < N ∧ ∀ post : Int32 → Prop, post (nI v) → wpL_pick post L xs () p1 p2 := by
  subst e1 e2
  by_cases h : L ≤ i
  · refine ⟨0 % N, Nat.mod_lt _ h0, fun post hp => br_t (nI_le h hi) ⟨nI_ne0 h0 hN, ?_⟩⟩
    have e : (0 : Int32) &&& 2147483647 = nI 0 := by decide
    rw [e, pk_rem (by decide) h0 hN]
    exact hp
  · obtain ⟨j, hj, e⟩ := pk_andE (xs (nI i).toNatClampNeg) (m := 2147483647) 31 (by decide)
    refine ⟨j % N, Nat.mod_lt _ h0, fun post hp => br_f (nI_ge (by omega) (by omega)) ⟨vp_in_nI (by omega) (by omega), nm_e ⟨nI_ne0 h0 hN, ?_⟩⟩⟩
    rw [e, pk_rem hj h0 hN]
    exact hp
theorem rd_fits5 {post : Int32 → St1 → Prop} {cc : Nat} {f1 : Int32} {a1 a2 a3 a4 a5 a6 : Nat → Int32} (h1 : 1 ≤ cc) (h2 : cc ≤ 12) (hp : post 0 (nI 31, f1, a1, a2, a3, a4, a5, a6)) : wpX_fits post (nI 31, f1, a1, a2, a3, a4, a5, a6) (nI cc) 12 15 := by
  unfold wpX_fits
  dsimp only
  exact rd_full (dd := 12) (pp := 15) h1 h2 (by decide) (by decide) (br_f (by decide) hp)
theorem rd_last {n : Nat} {o : Nat → Nat} (ho : rd_pm n o) (hn : n < 5) : rd_pm n (rd_u o n n) := by
  obtain ⟨h1, h2, h3⟩ := ho
  refine ⟨rd_uB h1 hn, fun i hi => ?_, fun k hk => ?_⟩
  · rw [rd_un (by omega)]
    exact h2 i hi
  · obtain ⟨i, i1, i2, i3⟩ := h3 k hk
    refine ⟨i, i1, ?_, fun t ht hne => ?_⟩
    · rw [rd_un (by omega)]
      exact i2
    · rw [rd_un (by omega)]
      exact i3 t ht hne
/-- a task n made and taken away again -/
theorem rd_undo {post : Int32 → St1 → Prop} {n : Nat} {o : Nat → Nat} {a1 a2 a3 a5 a6 : Nat → Int32} (ho : rd_pm n o) (hn : n < 5) (hp : post 1 (nI (2 ^ n - 1), nI n, a1, a2, a3, rd_a (rd_u o n n), a5, a6)) : wpX_remove post (nI (2 ^ (n + 1) - 1), nI (n + 1), a1, a2, a3, rd_a (rd_u o n n), a5, a6) (nI n) := by
  refine rd_remove (pos := n) (rd_bt1 _ (by omega)) hn (rd_bt2 _ (by omega) n (by omega)) (rd_uB ho.1 hn) hn (by omega) rd_us (fun t ht => ?_) ?_
  · rw [rd_un (by omega)]
    have := ho.2.1 t ht
    omega
  · rw [rd_sh0 _ (Nat.le_refl n), (rd_bt4 n hn).2.2]
    exact hp
theorem rd_addN {post : Int32 → St1 → Prop} {n cc dd pp : Nat} {c d p o : Nat → Nat} {a5 a6 : Nat → Int32} (hn : n < 5) (g1 : 1 ≤ cc) (g2 : cc ≤ dd) (g3 : dd ≤ pp) (g4 : pp ≤ 15)
    (hp : post (nI n) (nI (2 ^ (n + 1) - 1), nI (n + 1), rd_a (rd_u c n cc), rd_a (rd_u d n dd), rd_a (rd_u p n pp), rd_a (rd_u o n n), a5, a6)) : wpX_add post (nI (2 ^ n - 1), nI n, rd_a c, rd_a d, rd_a p, rd_a o, a5, a6) (nI cc) (nI dd) (nI pp) := by
  refine rd_add (k := n) (rd_bt1 n (by omega)) hn hn (rd_bt2 n (by omega)) (rd_bt4 n hn).1 g1 g2 g3 g4 ?_
  rw [(rd_bt4 n hn).2.1]
  exact hp
section
variable {post : Int32 → Prop} {L : Nat} {xs : Nat → Int32} {x4 : Int64} {kc ks : Nat} {n : Nat} {c d p : Nat → Nat} {a5 a6 : Nat → Int32}
theorem rd_272 {x7 : Int32} {b5 b6 : Nat → Int32} {o : Nat → Nat} (ho : rd_pm n o) (hn : n < 5) (hok : rd_ok n c d p (rd_u o n n)) (h1 : post 1)
    (hR : ∀ j, j < n → ((x4 >>> ((12 * nI j).toInt64 &&& 63)) &&& 15).toInt32 = nI (c j) ∧ ((x4 >>> (((12 * nI j) + 4).toInt64 &&& 63)) &&& 15).toInt32 = nI (d j) ∧ ((x4 >>> (((12 * nI j) + 8).toInt64 &&& 63)) &&& 15).toInt32 = nI (p j)) :
    wL_law_272 post L xs (nI n) x4 x7 x7 kc ks (nI (2 ^ n - 1)) (nI n) (rd_a c) (rd_a d) (rd_a p) (rd_a (rd_u o n n)) b5 b6 (nI (2 ^ (n + 1) - 1)) (nI (n + 1)) (rd_a c) (rd_a d) (rd_a p) (rd_a (rd_u o n n)) b5 b6 := by
  unfold wL_law_272
  exact br_t rfl (rd_undo ho hn (br_f (by decide) ⟨n + 1, rd_290 hok (Or.inl hn) h1 hR n 0 (by omega)⟩))
theorem rd_155 (hL : L ≤ 260) (h1 : post 1)
    (hR : ∀ j, j < n → ((x4 >>> ((12 * nI j).toInt64 &&& 63)) &&& 15).toInt32 = nI (c j) ∧ ((x4 >>> (((12 * nI j) + 4).toInt64 &&& 63)) &&& 15).toInt32 = nI (d j) ∧ ((x4 >>> (((12 * nI j) + 8).toInt64 &&& 63)) &&& 15).toInt32 = nI (p j)) :
    ∀ m i (o : Nat → Nat), rd_ok n c d p o → L ≤ i + 2 * m → i ≤ 261 → wL_law_155 post L xs (nI n) x4 kc ks (m + 1) (nI i) (nI (2 ^ n - 1)) (nI n) (rd_a c) (rd_a d) (rd_a p) (rd_a o) a5 a6 (nI (2 ^ n - 1)) (nI n) (rd_a c) (rd_a d) (rd_a p) (rd_a o) a5 a6 := by
  have fin : ∀ f i (o : Nat → Nat), rd_ok n c d p o → L ≤ i → i ≤ 261 → wL_law_155 post L xs (nI n) x4 kc ks (f + 1) (nI i) (nI (2 ^ n - 1)) (nI n) (rd_a c) (rd_a d) (rd_a p) (rd_a o) a5 a6 (nI (2 ^ n - 1)) (nI n) (rd_a c) (rd_a d) (rd_a p) (rd_a o) a5 a6 := by
    intro f i o hok hi hi2
    obtain ⟨n1, n5, ho, hb⟩ := hok
    obtain ⟨v, hv, hpk⟩ := rd_pick (L := L) (xs := xs) (p1 := 1) (p2 := 15) 1 15 (by decide) hL (by decide) (by decide) rfl rfl
    have e3 : 1 + (nI v - nI v / 3 * 3) = nI (1 + v % 3) := by
      show nI 1 + (nI v - nI v / nI 3 * nI 3) = _
      rw [pk_rem (by omega) (by decide) (by decide), nI_add]
    refine br_t (nI_le hi (by omega)) (hpk _ ⟨by decide, ?_⟩)
    rw [e3]
    by_cases hn : n < 5
    · obtain ⟨b5, b6, hG⟩ := rd_orders (nI (2 ^ (n + 1) - 1)) (nI (n + 1)) (rd_a (rd_u c n (1 + v % 3))) (rd_a (rd_u d n 12)) (rd_a (rd_u p n 15)) (rd_a (rd_u o n n)) a5 a6
      have hok' : rd_ok n (rd_u c n (1 + v % 3)) (rd_u d n 12) (rd_u p n 15) (rd_u o n n) := by
        refine ⟨n1, n5, rd_last ho hn, fun k hk => ?_⟩
        rw [rd_un (by omega), rd_un (by omega), rd_un (by omega)]
        exact hb k hk
      have hR' : ∀ j, j < n → ((x4 >>> ((12 * nI j).toInt64 &&& 63)) &&& 15).toInt32 = nI (rd_u c n (1 + v % 3) j) ∧ ((x4 >>> (((12 * nI j) + 4).toInt64 &&& 63)) &&& 15).toInt32 = nI (rd_u d n 12 j) ∧ ((x4 >>> (((12 * nI j) + 8).toInt64 &&& 63)) &&& 15).toInt32 = nI (rd_u p n 15 j) := by
        intro j hj
        rw [rd_un (show j ≠ n by omega), rd_un (show j ≠ n by omega), rd_un (show j ≠ n by omega)]
        exact hR j hj
      have hnn : ¬ (5 : Int32) ≤ nI n := nI_ge (b := 5) hn (by decide)
      unfold wpX_fits
      dsimp only
      by_cases hs : b5 0 ≤ 0
      · refine rd_addN (dd := 12) (pp := 15) hn (by omega) (by omega) (by decide) (by decide) (br_t (nI_pos' (by omega)) (hG _ (rd_undo ho hn (br_t hs (br_f hnn ⟨by decide, ?_⟩)))))
        exact rd_addN (dd := 12) (pp := 15) hn (by omega) (by omega) (by decide) (by decide) (br_t rfl (hG _ (br_t hs (rd_272 ho hn hok' h1 hR'))))
      · refine rd_addN (dd := 12) (pp := 15) hn (by omega) (by omega) (by decide) (by decide) (br_t (nI_pos' (by omega)) (hG _ (rd_undo ho hn (br_f hs (br_f hnn ⟨by decide, ?_⟩)))))
        exact rd_addN (dd := 12) (pp := 15) hn (by omega) (by omega) (by decide) (by decide) (br_t rfl (hG _ (br_f hs (rd_272 ho hn hok' h1 hR'))))
    · obtain rfl : n = 5 := by omega
      exact rd_fits5 (by omega) (by omega) (br_t (nI_le (a := 5) (b := 5) (by omega) (by decide)) ⟨6, rd_290 ⟨n1, n5, ho, hb⟩ (Or.inr rfl) h1 hR 5 0 (by omega)⟩)
  intro m
  induction m with
  | zero => exact fun i o hok hi hi2 => fin 0 i o hok (by omega) hi2
  | succ m ih =>
    intro i o hok hi hi2
    by_cases hle : L ≤ i
    · exact fin (m + 1) i o hok hle hi2
    · obtain ⟨n1, n5, ho, hb⟩ := hok
      obtain ⟨k, hk, hpk⟩ := rd_pick (L := L) (xs := xs) (p1 := nI i) (p2 := nI n) i n (by omega) hL (by omega) (by omega) rfl rfl
      obtain ⟨t, ht, hpt⟩ := rd_pick (L := L) (xs := xs) (p1 := nI i + 1) (p2 := nI n) (i + 1) n (by omega) hL (by omega) (by omega) (nI_1 i) rfl
      obtain ⟨pos, p1, p2, p3⟩ := ho.2.2 k hk
      have hP : 2 ^ n - 1 < 32 := rd_bt1 n (by omega)
      have hB : (2 ^ n - 1).testBit k = true := rd_bt2 n (by omega) k hk
      have e2 : nI i + 2 = nI (i + 2) := nI_add i 2
      have hu : ∀ s, s < pos → o s ≠ k := fun s hs => p3 s (by omega) (by omega)
      exact br_f (nI_ge (by omega) (by omega)) (hpk _ (hpt _ (rd_place hP (by omega) hB ho.1 n5 p1 p2 hu ht (br_f (by decide) (rd_place hP (by omega) hB ho.1 n5 p1 p2 hu ht (br_f (by decide) (nm_r e2 (ih (i + 2) _ ⟨n1, n5, rd_mvP ho p1 ht p2, hb⟩ (by omega) (by omega)))))))))
end
/-- the tasks 0 .. k - 1 are made: their numbers, as packed, and their order -/
def rd_bld (k Z : Nat) (c d p o : Nat → Nat) : Prop := Z < 2 ^ (12 * k) ∧ (∀ j, j < k → Z / 2 ^ (12 * j) % 4096 = c j + 16 * d j + 256 * p j) ∧ (∀ j, j < k → 1 ≤ c j ∧ c j ≤ d j ∧ d j ≤ p j ∧ p j ≤ 15) ∧ (∀ j, j < k → o j = j) ∧ ∀ j, o j < 5
theorem rd_bldS {k Z cc dd pp : Nat} {c d p o : Nat → Nat} (h : rd_bld k Z c d p o) (hk : k < 5) (g1 : 1 ≤ cc) (g2 : cc ≤ dd) (g3 : dd ≤ pp) (g4 : pp ≤ 15) : rd_bld (k + 1) (Z + (cc + 16 * dd + 256 * pp) * 2 ^ (12 * k)) (rd_u c k cc) (rd_u d k dd) (rd_u p k pp) (rd_u o k k) := by
  obtain ⟨h1, h2, h3, h4, h5⟩ := h
  have hz : cc + 16 * dd + 256 * pp < 4096 := by omega
  refine ⟨rd_lt h1 hz, fun j hj => ?_, fun j hj => ?_, fun j hj => ?_, rd_uB h5 hk⟩
  · by_cases e : j = k
    · rw [e, rd_us, rd_us, rd_us, rd_new h1 hz]
    · rw [rd_un e, rd_un e, rd_un e, rd_old (by omega)]
      exact h2 j (by omega)
  · by_cases e : j = k
    · rw [e, rd_us, rd_us, rd_us]
      exact ⟨g1, g2, g3, g4⟩
    · rw [rd_un e, rd_un e, rd_un e]
      exact h3 j (by omega)
  · by_cases e : j = k
    · rw [e, rd_us]
    · rw [rd_un e]
      exact h4 j (by omega)
theorem rd_31 {post : Int32 → Prop} {L : Nat} {xs : Nat → Int32} {kc ks n : Nat} {a5 a6 : Nat → Int32} (hL : L ≤ 260) (h1 : post 1) (n1 : 1 ≤ n) (n5 : n ≤ 5) : ∀ m k Z (c d p o : Nat → Nat), k + m = n → rd_bld k Z c d p o → wL_law_31 post L xs (nI n) kc ks (m + 1) (lN Z) (nI k) (nI (2 ^ k - 1)) (nI k) (rd_a c) (rd_a d) (rd_a p) (rd_a o) a5 a6 (nI (2 ^ k - 1)) (nI k) (rd_a c) (rd_a d) (rd_a p) (rd_a o) a5 a6 := by
  intro m
  induction m with
  | zero =>
    intro k Z c d p o hk hB
    obtain rfl : k = n := by omega
    obtain ⟨b1, b2, b3, b4, b5⟩ := hB
    have hpw : 2 ^ (12 * k) ≤ 2 ^ 60 := Nat.pow_le_pow_right (by decide) (by omega)
    have ho : rd_pm k o := by
      refine ⟨b5, fun i hi => by rw [b4 i hi]; exact hi, fun q hq => ⟨q, hq, b4 q hq, fun t ht hne => by rw [b4 t ht]; exact hne⟩⟩
    refine br_t (nI_le (by omega) (by omega)) ⟨131, rd_155 hL h1 (fun j hj => ?_) 130 6 o ⟨n1, n5, ho, b3⟩ (by omega) (by omega)⟩
    have q := b3 j hj
    exact rd_read (by omega) (by omega) (by omega) (by omega) (by omega) (b2 j hj)
  | succ m ih =>
    intro k Z c d p o hk hB
    have hk5 : k < 5 := by omega
    obtain ⟨u, hu, hpk⟩ := rd_pick (L := L) (xs := xs) (p1 := nI k + 1) (p2 := 1048576) (k + 1) 1048576 (by omega) hL (by decide) (by decide) (nI_1 k) rfl
    obtain ⟨pp, hpp⟩ : ∃ pp, pp = 15 - u % 8 := ⟨_, rfl⟩
    have q1 : u / 8 % pp < pp := Nat.mod_lt _ (by omega)
    obtain ⟨dd, hdd⟩ : ∃ dd, dd = pp - u / 8 % pp := ⟨_, rfl⟩
    have q2 : u / 120 % 3 % dd < dd := Nat.mod_lt _ (by omega)
    obtain ⟨cc, hcc⟩ : ∃ cc, cc = 1 + u / 120 % 3 % dd := ⟨_, rfl⟩
    have e8 : 15 - (nI u - nI u / 8 * 8) = nI pp := by
      show nI 15 - (nI u - nI u / nI 8 * nI 8) = _
      rw [pk_rem (by omega) (by decide) (by decide), pk_sub (by omega), hpp]
    have e9 : nI pp - (nI u / 8 - nI u / 8 / nI pp * nI pp) = nI dd := by
      show nI pp - (nI u / nI 8 - nI u / nI 8 / nI pp * nI pp) = _
      rw [pk_div (by omega) (by decide) (by decide), pk_rem (by omega) (by omega) (by omega), pk_sub (by omega), hdd]
    have e10 : 1 + ((nI u / 120 - nI u / 120 / 3 * 3) - (nI u / 120 - nI u / 120 / 3 * 3) / nI dd * nI dd) = nI cc := by
      show nI 1 + ((nI u / nI 120 - nI u / nI 120 / nI 3 * nI 3) - (nI u / nI 120 - nI u / nI 120 / nI 3 * nI 3) / nI dd * nI dd) = _
      rw [pk_div (by omega) (by decide) (by decide), pk_rem (by omega) (by decide) (by decide), pk_rem (by omega) (by omega) (by omega), nI_add, hcc]
    have e4 : lN Z ||| (((nI cc + 16 * nI dd) + 256 * nI pp).toInt64 <<< ((12 * nI k).toInt64 &&& 63)) = lN (Z + (cc + 16 * dd + 256 * pp) * 2 ^ (12 * k)) := by
      rw [rd_szE, rd_pack hk5 hB.1 (by omega)]
    have hnx := ih (k + 1) _ _ _ _ _ (by omega) (rd_bldS hB hk5 (cc := cc) (dd := dd) (pp := pp) (by omega) (by omega) (by omega) (by omega))
    exact br_f (nI_ge (by omega) (by omega)) (hpk _ ⟨by decide, nm_r e8 ⟨by decide, nI_ne0 (by omega) (by omega), nm_r e9 ⟨by decide, by decide, nI_ne0 (by omega) (by omega), nm_r e10 (nm_r e4 (rd_addN hk5 (by omega) (by omega) (by omega) (by omega) (br_t rfl (rd_addN hk5 (by omega) (by omega) (by omega) (by omega) (br_t rfl (nm_r (nI_1 k) hnx))))))⟩⟩⟩)
end
section
theorem i_vc (xs : Nat → Int32) (L : Nat) (hL : L ≤ 260) : wpL_law (fun r => r = 1) L xs := by
  have hB : rd_bld 0 0 (fun _ => 0) (fun _ => 0) (fun _ => 0) (fun _ => 0) := ⟨by decide, fun j hj => absurd hj (by omega), fun j hj => absurd hj (by omega), fun j hj => absurd hj (by omega), fun _ => Nat.zero_lt_succ 4⟩
  obtain ⟨v, hv, hpk⟩ := rd_pick (L := L) (xs := xs) (p1 := 0) (p2 := 5) 0 5 (by decide) hL (by decide) (by decide) rfl rfl
  unfold wpL_law
  refine ⟨6, 84, by decide, by decide, ?_⟩
  refine ⟨by decide, by decide, by decide, by decide, by decide, by decide, by decide, by decide, by decide, by decide, by decide, by decide, ?_⟩
  refine ⟨by decide, by decide, 6, 84, by decide, by decide, ?_⟩
  refine ⟨by decide, by decide, by decide, by decide, by decide, by decide, by decide, by decide, by decide, by decide, by decide, by decide, ?_⟩
  have e : 1 + nI v = nI (1 + v) := nI_add 1 v
  have t := rd_31 (post := fun r => r = 1) (xs := xs) (kc := 14) (ks := 184) (n := 1 + v) (a5 := fun _ => 0) (a6 := fun _ => 0) hL rfl (by omega) (by omega) (1 + v) 0 0 _ _ _ _ (by omega) hB
  exact hpk _ (nm_r e ⟨_, t⟩)
end
