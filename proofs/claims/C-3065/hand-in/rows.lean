section
/-! types: the argument's and the result's place, agreement -/
def zk_ar (t : Int32) : Int32 := (t - 3) / 3
def zk_re (t : Int32) : Int32 := (t - 3) - (t - 3) / 3 * 3
def zk_pa (a b : Int32) : Int32 := if a = b then 1 else if a = 0 then 1 else if b = 0 then 1 else 0
def zk_ag (s t : Int32) : Int32 :=
  if s < 0 then 0 else if 12 ≤ s then 0 else if t < 0 then 0 else if 12 ≤ t then 0
  else if s < 3 then zk_pa s t else if t < 3 then zk_pa s t
  else if zk_pa (zk_ar s) (zk_ar t) = 0 then 0 else zk_pa (zk_re s) (zk_re t)
theorem zk_10 : ¬ (1 : Int32) = 0 := by decide
theorem zk_30 : ¬ (3 : Int32) = 0 := by decide
theorem zk_pa01 (a b : Int32) : zk_pa a b = 0 ∨ zk_pa a b = 1 := by
  unfold zk_pa
  by_cases h1 : a = b
  · rw [if_pos h1]; exact Or.inr rfl
  · by_cases h2 : a = 0
    · rw [if_neg h1, if_pos h2]; exact Or.inr rfl
    · by_cases h3 : b = 0
      · rw [if_neg h1, if_neg h2, if_pos h3]; exact Or.inr rfl
      · rw [if_neg h1, if_neg h2, if_neg h3]; exact Or.inl rfl
theorem zk_pan (a b : Int32) : narrow .boolean (.int (zk_pa a b)) = .int (zk_pa a b) := by
  rcases zk_pa01 a b with e | e <;> rw [e] <;> rfl
theorem zk_paR (a : Int32) : zk_pa a a = 1 := if_pos rfl
theorem zk_pa0 {a b : Int32} (h1 : ¬ a = b) (h2 : ¬ a = 0) (h3 : ¬ b = 0) : zk_pa a b = 0 := by
  unfold zk_pa
  rw [if_neg h1, if_neg h2, if_neg h3]
theorem zk_ag_s {s t : Int32} (h : s < 0 ∨ 12 ≤ s) : zk_ag s t = 0 := by
  unfold zk_ag
  rcases h with h | h <;> simp only [if_pos h, ite_self]
theorem zk_ag_t {s t : Int32} (h : t < 0 ∨ 12 ≤ t) : zk_ag s t = 0 := by
  unfold zk_ag
  rcases h with h | h <;> simp only [if_pos h, ite_self]
theorem zk_ag_p {s t : Int32} (s0 : ¬ s < 0) (s1 : ¬ 12 ≤ s) (t0 : ¬ t < 0) (t1 : ¬ 12 ≤ t) (h : s < 3 ∨ t < 3) : zk_ag s t = zk_pa s t := by
  unfold zk_ag
  rw [if_neg s0, if_neg s1, if_neg t0, if_neg t1]
  rcases h with h | h <;> simp only [if_pos h, ite_self]
theorem zk_ag_f {s t : Int32} (s0 : ¬ s < 0) (s1 : ¬ 12 ≤ s) (t0 : ¬ t < 0) (t1 : ¬ 12 ≤ t) (s3 : ¬ s < 3) (t3 : ¬ t < 3) :
    zk_ag s t = if zk_pa (zk_ar s) (zk_ar t) = 0 then 0 else zk_pa (zk_re s) (zk_re t) := by
  unfold zk_ag
  rw [if_neg s0, if_neg s1, if_neg t0, if_neg t1, if_neg s3, if_neg t3]
/-! X -/
theorem zk_xit1 {post : Int32 → Prop} {p : Int32} (h0 : ¬ p < 0) (h1 : ¬ 12 ≤ p) (h : post 1) : wpX_isType post p := br_f h0 (br_f h1 h)
theorem zk_xit0 {post : Int32 → Prop} {p : Int32} (hp : p < 0 ∨ 12 ≤ p) (h : post 0) : wpX_isType post p := by
  by_cases h0 : p < 0
  · exact br_t h0 h
  · exact br_f h0 (br_t (hp.resolve_left h0) h)
theorem zk_xpa {post : Int32 → Prop} {a b : Int32} (h : post (zk_pa a b)) : wpX_plainAgree post a b := by
  unfold zk_pa at h
  by_cases h1 : a = b
  · rw [if_pos h1] at h; exact br_t h1 h
  · by_cases h2 : a = 0
    · rw [if_neg h1, if_pos h2] at h; exact br_f h1 (br_t h2 h)
    · by_cases h3 : b = 0
      · rw [if_neg h1, if_neg h2, if_pos h3] at h; exact br_f h1 (br_f h2 (br_t h3 h))
      · rw [if_neg h1, if_neg h2, if_neg h3] at h; exact br_f h1 (br_f h2 (br_f h3 h))
theorem zk_xar {post : Int32 → Prop} {t : Int32} (h : post (zk_ar t)) : wpX_argumentOf post t := And.intro zk_30 h
theorem zk_xre {post : Int32 → Prop} {t : Int32} (h : post (zk_re t)) : wpX_resultOf post t := And.intro zk_30 h
theorem zk_xag {post : Int32 → Prop} {u : SX} {s t : Int32} (h : post (zk_ag s t)) : wpX_agree post u s t := by
  obtain ⟨f1, f2, f3, f4, f5, f6, f7, a1, a2⟩ := u
  unfold wpX_agree
  dsimp only
  by_cases hs : s < 0 ∨ 12 ≤ s
  · rw [zk_ag_s hs] at h
    exact zk_xit0 hs (br_t rfl h)
  · have s0 : ¬ s < 0 := fun z => hs (Or.inl z)
    have s1 : ¬ 12 ≤ s := fun z => hs (Or.inr z)
    by_cases ht : t < 0 ∨ 12 ≤ t
    · rw [zk_ag_t ht] at h
      exact zk_xit1 s0 s1 (br_f zk_10 (zk_xit0 ht (br_t rfl h)))
    · have t0 : ¬ t < 0 := fun z => ht (Or.inl z)
      have t1 : ¬ 12 ≤ t := fun z => ht (Or.inr z)
      refine zk_xit1 s0 s1 (br_f zk_10 (zk_xit1 t0 t1 (br_f zk_10 ?_)))
      by_cases s3 : s < 3
      · rw [zk_ag_p s0 s1 t0 t1 (Or.inl s3)] at h
        exact br_t s3 (br_t rfl (zk_xpa ⟨zk_pan s t, h⟩))
      · by_cases t3 : t < 3
        · rw [zk_ag_p s0 s1 t0 t1 (Or.inr t3)] at h
          exact br_f s3 (br_f zk_10 (br_t t3 (br_t rfl (zk_xpa ⟨zk_pan s t, h⟩))))
        · rw [zk_ag_f s0 s1 t0 t1 s3 t3] at h
          refine br_f s3 (br_f zk_10 (br_f t3 (br_f zk_10 (zk_xar (zk_xre (zk_xar (zk_xpa ?_)))))))
          by_cases p : zk_pa (zk_ar s) (zk_ar t) = 0
          · rw [if_pos p] at h; exact br_t p h
          · rw [if_neg p] at h
            refine br_f p (zk_xre (zk_xpa ?_))
            rcases zk_pa01 (zk_re s) (zk_re t) with e | e
            · rw [e] at h; exact br_t e h
            · rw [e] at h; exact br_f (by rw [e]; exact zk_10) h
/-! Y -/
theorem zk_11 {p : Int32} : 11 < p ↔ 12 ≤ p := by
  rw [Int32.lt_iff_toInt_lt, Int32.le_iff_toInt_le]
  have a : (11 : Int32).toInt = 11 := by decide
  have b : (12 : Int32).toInt = 12 := by decide
  rw [a, b]
  omega
theorem zk_yit1 {post : Int32 → Prop} {u : SY} {p : Int32} (h0 : ¬ p < 0) (h1 : ¬ 12 ≤ p) (h : post 1) : wpY_isType post u p := by
  obtain ⟨f1, f2, f3, f4, f5, f6, f7, a1, a2⟩ := u
  exact br_f h0 (br_f (fun z => h1 (zk_11.mp z)) h)
theorem zk_yit0 {post : Int32 → Prop} {u : SY} {p : Int32} (hp : p < 0 ∨ 12 ≤ p) (h : post 0) : wpY_isType post u p := by
  obtain ⟨f1, f2, f3, f4, f5, f6, f7, a1, a2⟩ := u
  by_cases h0 : p < 0
  · exact br_t h0 h
  · exact br_f h0 (br_t (zk_11.mpr (hp.resolve_left h0)) h)
theorem zk_ypa {post : Int32 → Prop} {u : SY} {a b : Int32} (h : post (zk_pa a b)) : wpY_simple post u a b := by
  obtain ⟨f1, f2, f3, f4, f5, f6, f7, a1, a2⟩ := u
  unfold zk_pa at h
  by_cases h1 : a = b
  · rw [if_pos h1] at h; exact br_t h1 h
  · by_cases h2 : a = 0
    · rw [if_neg h1, if_pos h2] at h; exact br_f h1 (br_t h2 h)
    · by_cases h3 : b = 0
      · rw [if_neg h1, if_neg h2, if_pos h3] at h; exact br_f h1 (br_f h2 (br_t h3 h))
      · rw [if_neg h1, if_neg h2, if_neg h3] at h; exact br_f h1 (br_f h2 (br_f h3 h))
theorem zk_yar {post : Int32 → Prop} {u : SY} {t : Int32} (h : post (zk_ar t)) : wpY_from post u t := by
  obtain ⟨f1, f2, f3, f4, f5, f6, f7, a1, a2⟩ := u
  exact And.intro zk_30 h
theorem zk_yre {post : Int32 → Prop} {u : SY} {t : Int32} (h : post (zk_re t)) : wpY_into post u t := by
  obtain ⟨f1, f2, f3, f4, f5, f6, f7, a1, a2⟩ := u
  exact And.intro zk_30 h
theorem zk_n0 {x : Int32} (h : ¬ x < 3) : ¬ x = 0 := fun z => h (by rw [z]; decide)
theorem zk_yag {post : Int32 → Prop} {u : SY} {s t : Int32} (h : post (zk_ag s t)) : wpY_agree post u s t := by
  obtain ⟨f1, f2, f3, f4, f5, f6, f7, a1, a2⟩ := u
  unfold wpY_agree
  dsimp only
  by_cases hs : s < 0 ∨ 12 ≤ s
  · rw [zk_ag_s hs] at h
    exact zk_yit0 hs (br_t rfl h)
  · have s0 : ¬ s < 0 := fun z => hs (Or.inl z)
    have s1 : ¬ 12 ≤ s := fun z => hs (Or.inr z)
    by_cases ht : t < 0 ∨ 12 ≤ t
    · rw [zk_ag_t ht] at h
      exact zk_yit1 s0 s1 (br_f zk_10 (zk_yit0 ht (br_t rfl h)))
    · have t0 : ¬ t < 0 := fun z => ht (Or.inl z)
      have t1 : ¬ 12 ≤ t := fun z => ht (Or.inr z)
      refine zk_yit1 s0 s1 (br_f zk_10 (zk_yit1 t0 t1 (br_f zk_10 (zk_ypa ?_))))
      by_cases s3 : s < 3
      · rw [zk_ag_p s0 s1 t0 t1 (Or.inl s3)] at h
        rcases zk_pa01 s t with e | e
        · rw [e] at h; exact br_t e (br_t s3 h)
        · rw [e] at h; exact br_f (by rw [e]; exact zk_10) h
      · by_cases t3 : t < 3
        · rw [zk_ag_p s0 s1 t0 t1 (Or.inr t3)] at h
          rcases zk_pa01 s t with e | e
          · rw [e] at h; exact br_t e (br_f s3 (br_t t3 h))
          · rw [e] at h; exact br_f (by rw [e]; exact zk_10) h
        · rw [zk_ag_f s0 s1 t0 t1 s3 t3] at h
          by_cases est : s = t
          · subst est
            rw [zk_paR, if_neg zk_10, zk_paR] at h
            exact br_f (by rw [zk_paR]; exact zk_10) h
          · refine br_t (zk_pa0 est (zk_n0 s3) (zk_n0 t3)) (br_f s3 (br_f t3 (zk_yar (zk_yar (zk_ypa ?_)))))
            by_cases p : zk_pa (zk_ar s) (zk_ar t) = 0
            · rw [if_pos p] at h; exact br_t p h
            · rw [if_neg p] at h
              refine br_f p (zk_yre (zk_yre (zk_ypa ?_)))
              rcases zk_pa01 (zk_re s) (zk_re t) with e | e
              · rw [e] at h; exact br_t e h
              · rw [e] at h; exact br_f (by rw [e]; exact zk_10) h
/-! agreeing: the two loops in lockstep -/
section
variable {x1 x2 x3 x4 x5 x6 x7 y1 y2 y3 y4 y5 y6 y7 : Int32} {xa xb ya yb : Nat → Int32}
theorem zk_12 : nI 12 = 12 := by decide +kernel
theorem zk_cnt (t : Int32) : ∀ d j : Nat, j + d = 12 → ∀ c : Int32, ∃ r : Int32,
    (∀ post : Int32 → Prop, post r → wX_agreeing_14 post t x1 x2 x3 x4 x5 x6 x7 xa xb (d + 1) c (nI j)) ∧
    (∀ post : Int32 → Prop, wpY_isType (fun q => (q = 0 → post (-100)) ∧ (¬ q = 0 → post r)) (y1, y2, y3, y4, y5, y6, y7, ya, yb) t →
      wY_agreeing_4 post t y1 y2 y3 y4 y5 y6 y7 ya yb (d + 1) c (nI j)) := by
  intro d
  induction d with
  | zero =>
    intro j hj c
    have h : (12 : Int32) ≤ nI j := by rw [← zk_12]; exact nI_le (by omega) (by omega)
    exact ⟨c, fun _ hp => br_t h hp, fun _ hp => br_t h hp⟩
  | succ d ih =>
    intro j hj c
    have h : ¬ (12 : Int32) ≤ nI j := by rw [← zk_12]; exact nI_ge (by omega) (by omega)
    by_cases z : zk_ag (nI j) t = 0
    · obtain ⟨r, hX, hY⟩ := ih (j + 1) (by omega) c
      exact ⟨r, fun post hp => br_f h (zk_xag (br_t z (nm_r (Int32.add_zero c) (nm_r (nI_1 j) (hX post hp))))),
        fun post hp => br_f h (zk_yag (br_t z (nm_r (nI_1 j) (hY post hp))))⟩
    · obtain ⟨r, hX, hY⟩ := ih (j + 1) (by omega) (c + 1)
      exact ⟨r, fun post hp => br_f h (zk_xag (br_f z (nm_e (nm_r (nI_1 j) (hX post hp))))),
        fun post hp => br_f h (zk_yag (br_f z (nm_e (nm_r (nI_1 j) (hY post hp)))))⟩
end
end
section
/-! labels, demands -/
def zk_lab (l : Int32) : Prop := ¬ l < 1 ∧ ¬ 9 < l
theorem zk_labN {l : Int32} (h : zk_lab l) : ∃ j : Nat, j < 10 ∧ 0 < j ∧ l = nI j := by
  have h0 : ¬ l < 0 := fun z => h.1 (Int32.lt_trans z (by decide))
  obtain ⟨j, hj, e⟩ := nI_of2 (x := l) (M := 9) (n := 9) (by decide) h0 (Int32.not_lt.mp h.2)
  refine ⟨j, by omega, ?_, e⟩
  rcases Nat.eq_zero_or_pos j with z | z
  · subst z; subst e; exact absurd (by decide) h.1
  · exact z
theorem zk_tab1 : ∀ j, j < 10 → 0 < j → (¬ nI j ≤ 0 ∧ ¬ nI j = 0 ∧ ¬ -(nI j) = 0) := by decide +kernel
theorem zk_tab2 : ∀ j, j < 10 → 0 < j → ((nI j).toInt8.toInt32 = nI j ∧ (-(nI j)).toInt8.toInt32 = -(nI j)) := by decide +kernel
theorem zk_labpos {l : Int32} (h : zk_lab l) : ¬ l ≤ 0 := by
  obtain ⟨j, a, b, rfl⟩ := zk_labN h
  exact (zk_tab1 j a b).1
theorem zk_labne {l : Int32} (h : zk_lab l) : ¬ l = 0 := by
  obtain ⟨j, a, b, rfl⟩ := zk_labN h
  exact (zk_tab1 j a b).2.1
theorem zk_labnn {l : Int32} (h : zk_lab l) : ¬ -l = 0 := by
  obtain ⟨j, a, b, rfl⟩ := zk_labN h
  exact (zk_tab1 j a b).2.2
theorem zk_labb {l : Int32} (h : zk_lab l) : l.toInt8.toInt32 = l := by
  obtain ⟨j, a, b, rfl⟩ := zk_labN h
  exact (zk_tab2 j a b).1
theorem zk_labm {l : Int32} (h : zk_lab l) : (-l).toInt8.toInt32 = -l := by
  obtain ⟨j, a, b, rfl⟩ := zk_labN h
  exact (zk_tab2 j a b).2
theorem zk_12b {i : Int32} (h : i = 1 ∨ i = 2) : i.toInt8.toInt32 = i := by
  rcases h with h | h <;> subst h <;> decide
/-- the two demands of one place (kinds w, w', labels b, b') against the labels that blame a number, a truth (g0, g1) -/
def zk_D (w w' b b' g0 g1 : Int32) : Prop :=
  (w = 0 ∧ w' = 0 ∧ g0 = 0 ∧ g1 = 0) ∨
  (w = 1 ∧ zk_lab g1 ∧ b = g1 ∧ ((w' = 0 ∧ g0 = 0) ∨ (¬ w' = 0 ∧ zk_lab g0 ∧ b' = g0))) ∨
  (w = 2 ∧ zk_lab g0 ∧ b = g0 ∧ ((w' = 0 ∧ g1 = 0) ∨ (¬ w' = 0 ∧ zk_lab g1 ∧ b' = g1)))
def zk_ya (i k l g : Int32) : Int32 := if i ≤ 0 then g else if i = k + 1 then g else l
def zk_yo (o k l g : Int32) : Int32 := if o ≤ 0 then g else if o = k + 1 then g else if g = 0 then l else g
theorem zk_ya0 (k l g : Int32) : zk_ya 0 k l g = g := if_pos (by decide)
theorem zk_yo0 (k l g : Int32) : zk_yo 0 k l g = g := if_pos (by decide)
theorem zk_ya10 (l g : Int32) : zk_ya 1 0 l g = g := by unfold zk_ya; rw [if_neg (by decide), if_pos (by decide)]
theorem zk_ya11 (l g : Int32) : zk_ya 1 1 l g = l := by unfold zk_ya; rw [if_neg (by decide), if_neg (by decide)]
theorem zk_ya20 (l g : Int32) : zk_ya 2 0 l g = l := by unfold zk_ya; rw [if_neg (by decide), if_neg (by decide)]
theorem zk_ya21 (l g : Int32) : zk_ya 2 1 l g = g := by unfold zk_ya; rw [if_neg (by decide), if_pos (by decide)]
theorem zk_yo10 (l g : Int32) : zk_yo 1 0 l g = g := by unfold zk_yo; rw [if_neg (by decide), if_pos (by decide)]
theorem zk_yo11 (l g : Int32) : zk_yo 1 1 l g = if g = 0 then l else g := by unfold zk_yo; rw [if_neg (by decide), if_neg (by decide)]
theorem zk_yo20 (l g : Int32) : zk_yo 2 0 l g = if g = 0 then l else g := by unfold zk_yo; rw [if_neg (by decide), if_neg (by decide)]
theorem zk_yo21 (l g : Int32) : zk_yo 2 1 l g = g := by unfold zk_yo; rw [if_neg (by decide), if_pos (by decide)]
section
variable {w w' b b' g0 g1 i l : Int32}
theorem zk_no01 (e : w = 1) (z : w = 0) : False := by rw [e] at z; exact absurd z (by decide)
theorem zk_no02 (e : w = 2) (z : w = 0) : False := by rw [e] at z; exact absurd z (by decide)
theorem zk_no12 (e : w = 1) (z : w = 2) : False := by rw [e] at z; exact absurd z (by decide)
theorem zk_Dw (h : zk_D w w' b b' g0 g1) (hw : ¬ w = 0) : (w = 1 ∨ w = 2) ∧ zk_lab b := by
  rcases h with ⟨e, _⟩ | ⟨e, hl, eb, _⟩ | ⟨e, hl, eb, _⟩
  · exact absurd e hw
  · exact ⟨Or.inl e, by rw [eb]; exact hl⟩
  · exact ⟨Or.inr e, by rw [eb]; exact hl⟩
theorem zk_D1 (hi : i = 1 ∨ i = 2) (hl : zk_lab l) (h : zk_D w w' b b' g0 g1) (hw : w = 0 ∨ w = i) : zk_D i w' l b' (zk_ya i 0 l g0) (zk_ya i 1 l g1) := by
  rcases hi with hi | hi <;> subst hi
  · rw [zk_ya10, zk_ya11]
    rcases h with ⟨_, a, c, d⟩ | ⟨_, _, _, c⟩ | ⟨e, _⟩
    · exact Or.inr (Or.inl ⟨rfl, hl, rfl, Or.inl ⟨a, c⟩⟩)
    · exact Or.inr (Or.inl ⟨rfl, hl, rfl, c⟩)
    · rcases hw with z | z
      · exact (zk_no02 e z).elim
      · exact (zk_no12 z e).elim
  · rw [zk_ya20, zk_ya21]
    rcases h with ⟨_, a, c, d⟩ | ⟨e, _⟩ | ⟨_, _, _, c⟩
    · exact Or.inr (Or.inr ⟨rfl, hl, rfl, Or.inl ⟨a, d⟩⟩)
    · rcases hw with z | z
      · exact (zk_no01 e z).elim
      · exact (zk_no12 e z).elim
    · exact Or.inr (Or.inr ⟨rfl, hl, rfl, c⟩)
theorem zk_D2 (hi : i = 1 ∨ i = 2) (hl : zk_lab l) (h : zk_D w w' b b' g0 g1) (hw : ¬ w = 0) (hw' : ¬ w = i) : zk_D i w l b (zk_ya i 0 l g0) (zk_ya i 1 l g1) := by
  rcases hi with hi | hi <;> subst hi
  · rw [zk_ya10, zk_ya11]
    rcases h with ⟨e, _⟩ | ⟨e, _⟩ | ⟨_, c, d, _⟩
    · exact absurd e hw
    · exact absurd e hw'
    · exact Or.inr (Or.inl ⟨rfl, hl, rfl, Or.inr ⟨hw, c, d⟩⟩)
  · rw [zk_ya20, zk_ya21]
    rcases h with ⟨e, _⟩ | ⟨_, c, d, _⟩ | ⟨e, _⟩
    · exact absurd e hw
    · exact Or.inr (Or.inr ⟨rfl, hl, rfl, Or.inr ⟨hw, c, d⟩⟩)
    · exact absurd e hw'
theorem zk_D3 (hi : i = 1 ∨ i = 2) (hl : zk_lab l) (h : zk_D w w' b b' g0 g1) (hw : w = 0) : zk_D i w' l b' (zk_yo i 0 l g0) (zk_yo i 1 l g1) := by
  rcases h with ⟨_, a, c, d⟩ | ⟨e, _⟩ | ⟨e, _⟩
  · rcases hi with hi | hi <;> subst hi
    · rw [zk_yo10, zk_yo11, if_pos d]
      exact Or.inr (Or.inl ⟨rfl, hl, rfl, Or.inl ⟨a, c⟩⟩)
    · rw [zk_yo20, zk_yo21, if_pos c]
      exact Or.inr (Or.inr ⟨rfl, hl, rfl, Or.inl ⟨a, d⟩⟩)
  · exact (zk_no01 e hw).elim
  · exact (zk_no02 e hw).elim
theorem zk_D4 (hi : i = 1 ∨ i = 2) (h : zk_D w w' b b' g0 g1) (hw : w = i) : zk_D w w' b b' (zk_yo i 0 l g0) (zk_yo i 1 l g1) := by
  have h' := h
  rcases hi with hi | hi <;> subst hi
  · rcases h' with ⟨e, _⟩ | ⟨_, c, _⟩ | ⟨e, _⟩
    · exact (zk_no01 hw e).elim
    · rw [zk_yo10, zk_yo11, if_neg (zk_labne c)]; exact h
    · exact (zk_no12 hw e).elim
  · rcases h' with ⟨e, _⟩ | ⟨e, _⟩ | ⟨_, c, _⟩
    · exact (zk_no02 hw e).elim
    · exact (zk_no12 e hw).elim
    · rw [zk_yo20, zk_yo21, if_neg (zk_labne c)]; exact h
theorem zk_D5 (hi : i = 1 ∨ i = 2) (hl : zk_lab l) (h : zk_D w w' b b' g0 g1) (hw : ¬ w = 0) (hw' : ¬ w = i) (hz : w' = 0) : zk_D w i b l (zk_yo i 0 l g0) (zk_yo i 1 l g1) := by
  rcases hi with hi | hi <;> subst hi
  · rcases h with ⟨e, _⟩ | ⟨e, _⟩ | ⟨e, c, d, ⟨_, f⟩ | ⟨f, _⟩⟩
    · exact absurd e hw
    · exact absurd e hw'
    · rw [zk_yo10, zk_yo11, if_pos f]
      exact Or.inr (Or.inr ⟨e, c, d, Or.inr ⟨by decide, hl, rfl⟩⟩)
    · exact absurd hz f
  · rcases h with ⟨e, _⟩ | ⟨e, c, d, ⟨_, f⟩ | ⟨f, _⟩⟩ | ⟨e, _⟩
    · exact absurd e hw
    · rw [zk_yo20, zk_yo21, if_pos f]
      exact Or.inr (Or.inl ⟨e, c, d, Or.inr ⟨by decide, hl, rfl⟩⟩)
    · exact absurd hz f
    · exact absurd e hw'
theorem zk_D6 (hi : i = 1 ∨ i = 2) (h : zk_D w w' b b' g0 g1) (hw : ¬ w = 0) (hw' : ¬ w = i) (hz : ¬ w' = 0) : zk_D w w' b b' (zk_yo i 0 l g0) (zk_yo i 1 l g1) := by
  have h' := h
  rcases hi with hi | hi <;> subst hi
  · rcases h' with ⟨e, _⟩ | ⟨e, _⟩ | ⟨e, c, d, ⟨f, _⟩ | ⟨_, f, _⟩⟩
    · exact absurd e hw
    · exact absurd e hw'
    · exact absurd f hz
    · rw [zk_yo10, zk_yo11, if_neg (zk_labne f)]; exact h
  · rcases h' with ⟨e, _⟩ | ⟨e, c, d, ⟨f, _⟩ | ⟨_, f, _⟩⟩ | ⟨e, _⟩
    · exact absurd e hw
    · exact absurd f hz
    · rw [zk_yo20, zk_yo21, if_neg (zk_labne f)]; exact h
    · exact absurd e hw'
end
/-! X: a demand ahead, a demand behind, a wrapping -/
section
variable {wn bl ag oc : Nat → Int32} {i l g0 g1 : Int32}
theorem zk_xdf (hi : i = 1 ∨ i = 2) (hl : zk_lab l) (h : zk_D (wn 0) (wn 1) (-(bl 0)) (-(bl 1)) g0 g1) :
    ∃ wn' bl' : Nat → Int32, zk_D (wn' 0) (wn' 1) (-(bl' 0)) (-(bl' 1)) (zk_ya i 0 l g0) (zk_ya i 1 l g1) ∧
      wn' 2 = wn 2 ∧ wn' 3 = wn 3 ∧ bl' 2 = bl 2 ∧ bl' 3 = bl 3 ∧
      ∀ (x1 x2 x3 x4 x5 x6 x7 : Int32) (Q : SX → Prop), Q (x1, x2, x3, x4, x5, x6, x7, wn', bl') → wpX_demandFirst Q (x1, x2, x3, x4, x5, x6, x7, wn, bl) i (-l) := by
  have ei : vp_nar .byte i.toInt8.toInt32 = i := by rw [vp_nar_byte, zk_12b hi, zk_12b hi]
  have el : vp_nar .byte (-l).toInt8.toInt32 = -l := by rw [vp_nar_byte, zk_labm hl, zk_labm hl]
  by_cases hw : wn 0 = 0 ∨ wn 0 = i
  · refine ⟨upd wn 0 i, upd bl 0 (-l), ?_, rfl, rfl, rfl, rfl, fun x1 x2 x3 x4 x5 x6 x7 Q hp => ?_⟩
    · show zk_D i (wn 1) (-(-l)) (-(bl 1)) _ _
      rw [Int32.neg_neg]
      exact zk_D1 hi hl h hw
    · by_cases z : wn 0 = 0
      · exact br_t z (nm_r (e' := upd wn 0 i) (by rw [ei]) (nm_r (e' := upd bl 0 (-l)) (by rw [el]) hp))
      · exact br_f z (br_t (hw.resolve_left z) (nm_r (e' := upd wn 0 i) (by rw [ei]) (nm_r (e' := upd bl 0 (-l)) (by rw [el]) hp)))
  · have w0 : ¬ wn 0 = 0 := fun z => hw (Or.inl z)
    have wi : ¬ wn 0 = i := fun z => hw (Or.inr z)
    obtain ⟨hk, hb⟩ := zk_Dw h w0
    have ew : vp_nar .byte (wn 0) = wn 0 := by rw [vp_nar_byte, zk_12b hk]
    have eb : vp_nar .byte (bl 0) = bl 0 := by
      have e := zk_labm hb
      rw [Int32.neg_neg] at e
      rw [vp_nar_byte, e]
    refine ⟨upd (upd wn 1 (wn 0)) 0 i, upd (upd bl 1 (bl 0)) 0 (-l), ?_, rfl, rfl, rfl, rfl, fun x1 x2 x3 x4 x5 x6 x7 Q hp => ?_⟩
    · show zk_D i (wn 0) (-(-l)) (-(bl 0)) _ _
      rw [Int32.neg_neg]
      exact zk_D2 hi hl h w0 wi
    · exact br_f w0 (br_f wi (nm_r (e' := upd wn 1 (wn 0)) (by rw [ew]) (nm_r (e' := upd bl 1 (bl 0)) (by rw [eb])
        (nm_r (e' := upd (upd wn 1 (wn 0)) 0 i) (by rw [ei]) (nm_r (e' := upd (upd bl 1 (bl 0)) 0 (-l)) (by rw [el]) hp)))))
theorem zk_xdl (hi : i = 1 ∨ i = 2) (hl : zk_lab l) (h : zk_D (wn 2) (wn 3) (bl 2) (bl 3) g0 g1) :
    ∃ wn' bl' : Nat → Int32, zk_D (wn' 2) (wn' 3) (bl' 2) (bl' 3) (zk_yo i 0 l g0) (zk_yo i 1 l g1) ∧
      wn' 0 = wn 0 ∧ wn' 1 = wn 1 ∧ bl' 0 = bl 0 ∧ bl' 1 = bl 1 ∧
      ∀ (x1 x2 x3 x4 x5 x6 x7 : Int32) (Q : SX → Prop), Q (x1, x2, x3, x4, x5, x6, x7, wn', bl') → wpX_demandLast Q (x1, x2, x3, x4, x5, x6, x7, wn, bl) i l := by
  have ei : vp_nar .byte i.toInt8.toInt32 = i := by rw [vp_nar_byte, zk_12b hi, zk_12b hi]
  have el : vp_nar .byte l.toInt8.toInt32 = l := by rw [vp_nar_byte, zk_labb hl, zk_labb hl]
  by_cases w0 : wn 2 = 0
  · refine ⟨upd wn 2 i, upd bl 2 l, ?_, rfl, rfl, rfl, rfl, fun x1 x2 x3 x4 x5 x6 x7 Q hp => ?_⟩
    · exact zk_D3 hi hl h w0
    · exact br_t w0 (nm_r (e' := upd wn 2 i) (by rw [ei]) (nm_r (e' := upd bl 2 l) (by rw [el]) hp))
  · by_cases wi : wn 2 = i
    · exact ⟨wn, bl, zk_D4 hi h wi, rfl, rfl, rfl, rfl, fun x1 x2 x3 x4 x5 x6 x7 Q hp => br_f w0 (br_t wi hp)⟩
    · by_cases w3 : wn 3 = 0
      · refine ⟨upd wn 3 i, upd bl 3 l, ?_, rfl, rfl, rfl, rfl, fun x1 x2 x3 x4 x5 x6 x7 Q hp => ?_⟩
        · exact zk_D5 hi hl h w0 wi w3
        · exact br_f w0 (br_f wi (br_t w3 (nm_r (e' := upd wn 3 i) (by rw [ei]) (nm_r (e' := upd bl 3 l) (by rw [el]) hp))))
      · exact ⟨wn, bl, zk_D6 hi h w0 wi w3, rfl, rfl, rfl, rfl, fun x1 x2 x3 x4 x5 x6 x7 Q hp => br_f w0 (br_f wi (br_f w3 hp))⟩
end
/-! a function's type -/
def zk_fn (t : Int32) : Prop := ¬ t < 3 ∧ ¬ 12 ≤ t
theorem zk_fnT : ∀ j, j < 12 → 3 ≤ j → ((zk_ar (nI j) = 0 ∨ zk_ar (nI j) = 1 ∨ zk_ar (nI j) = 2) ∧ (zk_re (nI j) = 0 ∨ zk_re (nI j) = 1 ∨ zk_re (nI j) = 2)) := by decide +kernel
theorem zk_fnN {t : Int32} (h : zk_fn t) : ∃ j : Nat, j < 12 ∧ 3 ≤ j ∧ t = nI j := by
  have h0 : ¬ t < 0 := fun z => h.1 (Int32.lt_trans z (by decide))
  obtain ⟨j, hj, e⟩ := nI_of (x := t) h0
  have a := h.1
  have b := h.2
  rw [e, show (3 : Int32) = nI 3 from by decide, nI_ltI hj (by decide)] at a
  rw [e, show (12 : Int32) = nI 12 from by decide, nI_leI (by decide) hj] at b
  exact ⟨j, by omega, by omega, e⟩
theorem zk_fnA {t : Int32} (h : zk_fn t) (z : ¬ zk_ar t = 0) : zk_ar t = 1 ∨ zk_ar t = 2 := by
  obtain ⟨j, a, b, rfl⟩ := zk_fnN h
  exact (zk_fnT j a b).1.resolve_left z
theorem zk_fnR {t : Int32} (h : zk_fn t) (z : ¬ zk_re t = 0) : zk_re t = 1 ∨ zk_re t = 2 := by
  obtain ⟨j, a, b, rfl⟩ := zk_fnN h
  exact (zk_fnT j a b).2.resolve_left z
def zk_ia (s t : Int32) : Int32 := if zk_ar t = 0 then zk_ar s else 0
def zk_io (s t : Int32) : Int32 := if zk_re s = 0 then zk_re t else 0
section
variable {wn bl ag oc : Nat → Int32} {s t l g0 g1 o0 o1 : Int32}
theorem zk_x26 (ht : zk_fn t) (hl : zk_lab l) (h : zk_D (wn 2) (wn 3) (bl 2) (bl 3) o0 o1) :
    ∃ wn' bl' : Nat → Int32, zk_D (wn' 2) (wn' 3) (bl' 2) (bl' 3) (zk_yo (zk_io s t) 0 l o0) (zk_yo (zk_io s t) 1 l o1) ∧
      wn' 0 = wn 0 ∧ wn' 1 = wn 1 ∧ bl' 0 = bl 0 ∧ bl' 1 = bl 1 ∧
      ∀ (x1 x2 x3 x4 x5 x6 x7 : Int32) (Q : SX → Prop), Q (x1, x2, x3, x4, x5, x6, x7, wn', bl') → wX_wrap_26 Q s t l x1 x2 x3 x4 x5 x6 x7 wn bl := by
  by_cases c : zk_re s = 0
  · have e : zk_io s t = zk_re t := if_pos c
    by_cases d : zk_re t = 0
    · refine ⟨wn, bl, ?_, rfl, rfl, rfl, rfl, fun x1 x2 x3 x4 x5 x6 x7 Q hp => zk_xre (zk_xre (br_t c (br_t d hp)))⟩
      rw [e, d, zk_yo0, zk_yo0]; exact h
    · obtain ⟨wn', bl', a1, a2, a3, a4, a5, H⟩ := zk_xdl (zk_fnR ht d) hl h
      refine ⟨wn', bl', ?_, a2, a3, a4, a5, fun x1 x2 x3 x4 x5 x6 x7 Q hp => zk_xre (zk_xre (br_t c (br_f d (H _ _ _ _ _ _ _ _ hp))))⟩
      rw [e]; exact a1
  · have e : zk_io s t = 0 := if_neg c
    refine ⟨wn, bl, ?_, rfl, rfl, rfl, rfl, fun x1 x2 x3 x4 x5 x6 x7 Q hp => zk_xre (zk_xre (br_f c hp))⟩
    rw [e, zk_yo0, zk_yo0]; exact h
theorem zk_xw (hs : zk_fn s) (ht : zk_fn t) (hl : zk_lab l) (hA : zk_D (wn 0) (wn 1) (-(bl 0)) (-(bl 1)) g0 g1) (hO : zk_D (wn 2) (wn 3) (bl 2) (bl 3) o0 o1) :
    ∃ wn' bl' : Nat → Int32, zk_D (wn' 0) (wn' 1) (-(bl' 0)) (-(bl' 1)) (zk_ya (zk_ia s t) 0 l g0) (zk_ya (zk_ia s t) 1 l g1) ∧
      zk_D (wn' 2) (wn' 3) (bl' 2) (bl' 3) (zk_yo (zk_io s t) 0 l o0) (zk_yo (zk_io s t) 1 l o1) ∧
      ∀ (x1 x2 x3 x4 x5 x6 x7 : Int32) (Q : SX → Prop), Q (x1, x2, x3, x4, x5, x6, x7, wn', bl') → wpX_wrap Q (x1, x2, x3, x4, x5, x6, x7, wn, bl) s t l := by
  by_cases c : zk_ar t = 0
  · have e : zk_ia s t = zk_ar s := if_pos c
    by_cases d : zk_ar s = 0
    · obtain ⟨wn', bl', a1, a2, a3, a4, a5, H⟩ := zk_x26 (s := s) ht hl hO
      refine ⟨wn', bl', ?_, a1, fun x1 x2 x3 x4 x5 x6 x7 Q hp => by unfold wpX_wrap; dsimp only; exact zk_xar (zk_xar (br_t c (br_t d (H _ _ _ _ _ _ _ _ hp))))⟩
      rw [e, d, zk_ya0, zk_ya0, a2, a3, a4, a5]; exact hA
    · obtain ⟨wn1, bl1, b1, b2, b3, b4, b5, H1⟩ := zk_xdf (zk_fnA hs d) hl hA
      rw [← b2, ← b3, ← b4, ← b5] at hO
      obtain ⟨wn', bl', a1, a2, a3, a4, a5, H⟩ := zk_x26 (s := s) ht hl hO
      refine ⟨wn', bl', ?_, a1, fun x1 x2 x3 x4 x5 x6 x7 Q hp => by unfold wpX_wrap; dsimp only; exact zk_xar (zk_xar (br_t c (br_f d (H1 _ _ _ _ _ _ _ _ (H _ _ _ _ _ _ _ _ hp)))))⟩
      rw [e, a2, a3, a4, a5]; exact b1
  · have e : zk_ia s t = 0 := if_neg c
    obtain ⟨wn', bl', a1, a2, a3, a4, a5, H⟩ := zk_x26 (s := s) ht hl hO
    refine ⟨wn', bl', ?_, a1, fun x1 x2 x3 x4 x5 x6 x7 Q hp => by unfold wpX_wrap; dsimp only; exact zk_xar (zk_xar (br_f c (H _ _ _ _ _ _ _ _ hp)))⟩
    rw [e, zk_ya0, zk_ya0, a2, a3, a4, a5]; exact hA
end
/-! Y: the wrapping's loop -/
section
variable {y1 y2 y3 y4 y5 y6 y7 : Int32} {ag oc : Nat → Int32}
theorem zk_y78 {post : SY → Prop} {J : Int32 → (Nat → Int32) → (Nat → Int32) → Prop} {l x4 o k z0 : Int32} (hk : vp_in k 2)
    (h : J (k + 1) (upd ag k.toNatClampNeg z0) (upd oc k.toNatClampNeg (zk_yo o k l (oc k.toNatClampNeg)))) :
    wY_wrap_78 post J l x4 o k z0 k y1 y2 y3 y4 y5 y6 y7 ag oc := by
  unfold zk_yo at h
  refine And.intro hk (nm_e ?_)
  by_cases h1 : o ≤ 0
  · rw [if_pos h1] at h
    exact br_t h1 (And.intro hk (And.intro hk (nm_e (nm_e h))))
  · by_cases h2 : o = k + 1
    · rw [if_neg h1, if_pos h2] at h
      exact br_f h1 (br_t h2 (And.intro hk (And.intro hk (nm_e (nm_e h)))))
    · by_cases h3 : oc k.toNatClampNeg = 0
      · rw [if_neg h1, if_neg h2, if_pos h3] at h
        exact br_f h1 (br_f h2 (And.intro hk (br_t h3 (And.intro hk (nm_e (nm_e h))))))
      · rw [if_neg h1, if_neg h2, if_neg h3] at h
        exact br_f h1 (br_f h2 (And.intro hk (br_f h3 (And.intro hk (And.intro hk (nm_e (nm_e h)))))))
theorem zk_y41 {post : SY → Prop} {l i o k : Int32} {n : Nat} (hk : vp_in k 2) (h2 : ¬ 2 ≤ k)
    (h : wY_wrap_41 post l i o y1 y2 y3 y4 y5 y6 y7 n (k + 1) (upd ag k.toNatClampNeg (zk_ya i k l (ag k.toNatClampNeg))) (upd oc k.toNatClampNeg (zk_yo o k l (oc k.toNatClampNeg)))) :
    wY_wrap_41 post l i o y1 y2 y3 y4 y5 y6 y7 (n + 1) k ag oc := by
  unfold zk_ya at h
  refine br_f h2 ?_
  by_cases h1 : i ≤ 0
  · rw [if_pos h1] at h
    exact br_t h1 (And.intro hk (zk_y78 hk h))
  · by_cases h3 : i = k + 1
    · rw [if_neg h1, if_pos h3] at h
      exact br_f h1 (br_t h3 (And.intro hk (zk_y78 hk h)))
    · rw [if_neg h1, if_neg h3] at h
      exact br_f h1 (br_f h3 (zk_y78 hk h))
theorem zk_c0 : (0 : Int32).toNatClampNeg = 0 := by decide
theorem zk_c1 : (1 : Int32).toNatClampNeg = 1 := by decide
theorem zk_i0 : vp_in 0 2 := vp_in_iff.mpr (by decide)
theorem zk_i1 : vp_in 1 2 := vp_in_iff.mpr (by decide)
theorem zk_p1 : (0 : Int32) + 1 = 1 := by decide
theorem zk_p2 : (1 : Int32) + 1 = 2 := by decide
theorem zk_yw {post : SY → Prop} {l i o : Int32} (hp : post (y1, y2, y3, y4, y5, y6, y7, upd (upd ag 0 (zk_ya i 0 l (ag 0))) 1 (zk_ya i 1 l (ag 1)), upd (upd oc 0 (zk_yo o 0 l (oc 0))) 1 (zk_yo o 1 l (oc 1)))) :
    wY_wrap_41 post l i o y1 y2 y3 y4 y5 y6 y7 3 0 ag oc := by
  refine zk_y41 zk_i0 (by decide) ?_
  rw [zk_c0, zk_p1]
  refine zk_y41 zk_i1 (by decide) ?_
  rw [zk_c1, zk_p2]
  exact br_t (by decide) hp
end
section
variable {ag oc : Nat → Int32} {s t l : Int32}
theorem zk_ywr : ∃ ag' oc' : Nat → Int32, ag' 0 = zk_ya (zk_ia s t) 0 l (ag 0) ∧ ag' 1 = zk_ya (zk_ia s t) 1 l (ag 1) ∧
    oc' 0 = zk_yo (zk_io s t) 0 l (oc 0) ∧ oc' 1 = zk_yo (zk_io s t) 1 l (oc 1) ∧
    ∀ (y1 y2 y3 y4 y5 y6 y7 : Int32) (Q : SY → Prop), Q (y1, y2, y3, y4, y5, y6, y7, ag', oc') → wpY_wrap Q (y1, y2, y3, y4, y5, y6, y7, ag, oc) s t l := by
  refine ⟨upd (upd ag 0 (zk_ya (zk_ia s t) 0 l (ag 0))) 1 (zk_ya (zk_ia s t) 1 l (ag 1)), upd (upd oc 0 (zk_yo (zk_io s t) 0 l (oc 0))) 1 (zk_yo (zk_io s t) 1 l (oc 1)), rfl, rfl, rfl, rfl, fun y1 y2 y3 y4 y5 y6 y7 Q hp => ?_⟩
  have H := zk_yw hp
  have h17 : wY_wrap_17 Q s t l (zk_ia s t) y1 y2 y3 y4 y5 y6 y7 ag oc := by
    by_cases c : zk_re s = 0
    · rw [show zk_io s t = zk_re t from if_pos c] at H
      exact zk_yre (br_t c (zk_yre ⟨3, H⟩))
    · rw [show zk_io s t = 0 from if_neg c] at H
      exact zk_yre (br_f c ⟨3, H⟩)
  unfold wpY_wrap; dsimp only
  by_cases c : zk_ar t = 0
  · rw [show zk_ia s t = zk_ar s from if_pos c] at h17
    exact zk_yar (br_t c (zk_yar h17))
  · rw [show zk_ia s t = 0 from if_neg c] at h17
    exact zk_yar (br_f c h17)
/-- one wrapping, both sides: related demands again -/
theorem zk_ww {wn bl : Nat → Int32} (hs : zk_fn s) (ht : zk_fn t) (hl : zk_lab l) (hA : zk_D (wn 0) (wn 1) (-(bl 0)) (-(bl 1)) (ag 0) (ag 1)) (hO : zk_D (wn 2) (wn 3) (bl 2) (bl 3) (oc 0) (oc 1)) :
    ∃ wn' bl' ag' oc' : Nat → Int32, zk_D (wn' 0) (wn' 1) (-(bl' 0)) (-(bl' 1)) (ag' 0) (ag' 1) ∧ zk_D (wn' 2) (wn' 3) (bl' 2) (bl' 3) (oc' 0) (oc' 1) ∧
    (∀ (x1 x2 x3 x4 x5 x6 x7 : Int32) (Q : SX → Prop), Q (x1, x2, x3, x4, x5, x6, x7, wn', bl') → wpX_wrap Q (x1, x2, x3, x4, x5, x6, x7, wn, bl) s t l) ∧
    (∀ (y1 y2 y3 y4 y5 y6 y7 : Int32) (Q : SY → Prop), Q (y1, y2, y3, y4, y5, y6, y7, ag', oc') → wpY_wrap Q (y1, y2, y3, y4, y5, y6, y7, ag, oc) s t l) := by
  obtain ⟨wn', bl', a, b, H⟩ := zk_xw hs ht hl hA hO
  obtain ⟨ag', oc', e1, e2, e3, e4, K⟩ := zk_ywr (ag := ag) (oc := oc) (s := s) (t := t) (l := l)
  rw [← e1, ← e2] at a
  rw [← e3, ← e4] at b
  exact ⟨wn', bl', ag', oc', a, b, H, K⟩
/-- a wrapping from a type to itself leaves the reference's labels -/
theorem zk_ww0 : ∃ ag' oc' : Nat → Int32, ag' 0 = ag 0 ∧ ag' 1 = ag 1 ∧ oc' 0 = oc 0 ∧ oc' 1 = oc 1 ∧
    (∀ (y1 y2 y3 y4 y5 y6 y7 : Int32) (Q : SY → Prop), Q (y1, y2, y3, y4, y5, y6, y7, ag', oc') → wpY_wrap Q (y1, y2, y3, y4, y5, y6, y7, ag, oc) t t l) := by
  obtain ⟨ag', oc', e1, e2, e3, e4, K⟩ := zk_ywr (ag := ag) (oc := oc) (s := t) (t := t) (l := l)
  have a : zk_ia t t = 0 := by
    unfold zk_ia
    by_cases c : zk_ar t = 0
    · rw [if_pos c]; exact c
    · rw [if_neg c]
  have b : zk_io t t = 0 := by
    unfold zk_io
    by_cases c : zk_re t = 0
    · rw [if_pos c]; exact c
    · rw [if_neg c]
  rw [a, zk_ya0] at e1 e2
  rw [b, zk_yo0] at e3 e4
  exact ⟨ag', oc', e1, e2, e3, e4, K⟩
end
end
section
/-! meeting the demands -/
def zk_mt (w w' b b' k : Int32) : Int32 := if w = 0 then 0 else if w = k + 1 then (if w' = 0 then 0 else b') else b
theorem zk_mtn {w w' b b' k : Int32} : zk_mt w w' (-b) (-b') k = -(zk_mt w w' b b' k) := by
  have z : (0 : Int32) = -0 := by decide
  unfold zk_mt
  by_cases h1 : w = 0
  · rw [if_pos h1, if_pos h1]; exact z
  · by_cases h2 : w = k + 1
    · by_cases h3 : w' = 0
      · rw [if_neg h1, if_neg h1, if_pos h2, if_pos h2, if_pos h3, if_pos h3]; exact z
      · rw [if_neg h1, if_neg h1, if_pos h2, if_pos h2, if_neg h3, if_neg h3]
    · rw [if_neg h1, if_neg h1, if_neg h2, if_neg h2]
theorem zk_Dm0 {w w' b b' g0 g1 : Int32} (h : zk_D w w' b b' g0 g1) : zk_mt w w' b b' (nI 0) = g0 ∧ (g0 = 0 ∨ zk_lab g0) := by
  have e1 : nI 0 + 1 = 1 := by decide
  unfold zk_mt
  rw [e1]
  rcases h with ⟨e, _, c, _⟩ | ⟨e, hl, eb, ⟨a, c⟩ | ⟨a, c, d⟩⟩ | ⟨e, hl, eb, _⟩
  · rw [if_pos e]; exact ⟨c.symm, Or.inl c⟩
  · rw [if_neg (fun z => zk_no01 e z), if_pos e, if_pos a]; exact ⟨c.symm, Or.inl c⟩
  · rw [if_neg (fun z => zk_no01 e z), if_pos e, if_neg a]; exact ⟨d, Or.inr c⟩
  · rw [if_neg (fun z => zk_no02 e z), if_neg (fun z => zk_no12 z e)]; exact ⟨eb, Or.inr hl⟩
theorem zk_Dm1 {w w' b b' g0 g1 : Int32} (h : zk_D w w' b b' g0 g1) : zk_mt w w' b b' (nI 1) = g1 ∧ (g1 = 0 ∨ zk_lab g1) := by
  have e1 : nI 1 + 1 = 2 := by decide
  unfold zk_mt
  rw [e1]
  rcases h with ⟨e, _, _, c⟩ | ⟨e, hl, eb, _⟩ | ⟨e, hl, eb, ⟨a, c⟩ | ⟨a, c, d⟩⟩
  · rw [if_pos e]; exact ⟨c.symm, Or.inl c⟩
  · rw [if_neg (fun z => zk_no01 e z), if_neg (fun z => zk_no12 e z)]; exact ⟨eb, Or.inr hl⟩
  · rw [if_neg (fun z => zk_no02 e z), if_pos e, if_pos a]; exact ⟨c.symm, Or.inl c⟩
  · rw [if_neg (fun z => zk_no02 e z), if_pos e, if_neg a]; exact ⟨d, Or.inr c⟩
theorem zk_Dm {w w' b b' : Int32} (g : Nat → Int32) (h : zk_D w w' b b' (g 0) (g 1)) {j : Nat} (hj : j < 2) : zk_mt w w' b b' (nI j) = g j ∧ (g j = 0 ∨ zk_lab (g j)) := by
  have e : j = 0 ∨ j = 1 := by omega
  rcases e with e | e <;> subst e
  · exact zk_Dm0 h
  · exact zk_Dm1 h
/-! X -/
def zk_gk (v : Int32) (j : Nat) : Nat := if v = 1 then j else if v = 2 then 1 else if v = 3 then 1 else 0
theorem zk_gk2 {v : Int32} {j : Nat} (hj : j < 2) : zk_gk v j < 2 := by
  unfold zk_gk
  by_cases h1 : v = 1
  · rw [if_pos h1]; exact hj
  · by_cases h2 : v = 2
    · rw [if_neg h1, if_pos h2]; decide
    · by_cases h3 : v = 3
      · rw [if_neg h1, if_neg h2, if_pos h3]; decide
      · rw [if_neg h1, if_neg h2, if_neg h3]; decide
def zk_gv (v n : Int32) : Int32 := if v = 0 then n + 1 else if v = 2 then 1 - n else if v = 3 then (if n ≤ 0 then 0 else 1) else if v = 4 then 7 else n
def zk_ok2 (a n : Int32) : Prop := a = 0 ∨ (a = 1 ∧ (n = 0 ∨ n = 1))
section
variable {x1 x2 x3 x4 x5 x6 x7 : Int32} {wn bl : Nat → Int32}
theorem zk_xm {post : Int32 → Prop} {p k r : Int32} {i j : Nat} (hi : p.toNatClampNeg = i) (hj : (p + 1).toNatClampNeg = j) (a : vp_in p 4) (b : vp_in (p + 1) 4)
    (e : zk_mt (wn i) (wn j) (bl i) (bl j) k = r) (h : post r) : wpX_meet post (x1, x2, x3, x4, x5, x6, x7, wn, bl) p k := by
  subst hi; subst hj; subst e
  unfold zk_mt at h
  by_cases h1 : wn p.toNatClampNeg = 0
  · rw [if_pos h1] at h
    exact nm_e (And.intro a (br_t h1 h))
  · by_cases h2 : wn p.toNatClampNeg = k + 1
    · by_cases h3 : wn (p + 1).toNatClampNeg = 0
      · rw [if_neg h1, if_pos h2, if_pos h3] at h
        exact nm_e (And.intro a (br_f h1 (And.intro a (br_t h2 (And.intro b (br_t h3 h))))))
      · rw [if_neg h1, if_pos h2, if_neg h3] at h
        exact nm_e (And.intro a (br_f h1 (And.intro a (br_t h2 (And.intro b (br_f h3 (And.intro b h)))))))
    · rw [if_neg h1, if_neg h2] at h
      exact nm_e (And.intro a (br_f h1 (And.intro a (br_f h2 (And.intro a h)))))
theorem zk_xm0 {post : Int32 → Prop} {k r : Int32} (e : zk_mt (wn 0) (wn 1) (bl 0) (bl 1) k = r) (h : post r) : wpX_meet post (x1, x2, x3, x4, x5, x6, x7, wn, bl) 0 k :=
  zk_xm (i := 0) (j := 1) (by decide) (by decide) (vp_in_iff.mpr (by decide)) (vp_in_iff.mpr (by decide)) e h
theorem zk_xm2 {post : Int32 → Prop} {k r : Int32} (e : zk_mt (wn 2) (wn 3) (bl 2) (bl 3) k = r) (h : post r) : wpX_meet post (x1, x2, x3, x4, x5, x6, x7, wn, bl) 2 k :=
  zk_xm (i := 2) (j := 3) (by decide) (by decide) (vp_in_iff.mpr (by decide)) (vp_in_iff.mpr (by decide)) e h
theorem zk_xgk {post : Int32 → Prop} {j : Nat} (h : post (nI (zk_gk x4 j))) : wpX_givenKind post (x1, x2, x3, x4, x5, x6, x7, wn, bl) (nI j) := by
  unfold zk_gk at h
  by_cases h1 : x4 = 1
  · rw [if_pos h1] at h; exact br_t h1 h
  · by_cases h2 : x4 = 2
    · rw [if_neg h1, if_pos h2] at h; exact br_f h1 (br_t h2 h)
    · by_cases h3 : x4 = 3
      · rw [if_neg h1, if_neg h2, if_pos h3] at h; exact br_f h1 (br_f h2 (br_t h3 h))
      · rw [if_neg h1, if_neg h2, if_neg h3] at h; exact br_f h1 (br_f h2 (br_f h3 h))
theorem zk_xgv {post : Int32 → Prop} {n : Int32} (h : post (zk_gv x4 n)) : wpX_given post (x1, x2, x3, x4, x5, x6, x7, wn, bl) n := by
  unfold zk_gv at h
  by_cases h0 : x4 = 0
  · rw [if_pos h0] at h; exact br_t h0 h
  · by_cases h2 : x4 = 2
    · rw [if_neg h0, if_pos h2] at h; exact br_f h0 (br_t h2 h)
    · by_cases h3 : x4 = 3
      · by_cases hn : n ≤ 0
        · rw [if_neg h0, if_neg h2, if_pos h3, if_pos hn] at h; exact br_f h0 (br_f h2 (br_t h3 (br_t hn h)))
        · rw [if_neg h0, if_neg h2, if_pos h3, if_neg hn] at h; exact br_f h0 (br_f h2 (br_t h3 (br_f hn h)))
      · by_cases h4 : x4 = 4
        · rw [if_neg h0, if_neg h2, if_neg h3, if_pos h4] at h; exact br_f h0 (br_f h2 (br_f h3 (br_t h4 h)))
        · rw [if_neg h0, if_neg h2, if_neg h3, if_neg h4] at h; exact br_f h0 (br_f h2 (br_f h3 (br_f h4 h)))
theorem zk_xcg {post : Int32 → SX → Prop} {a n : Int32} (h : zk_ok2 a n) (K : wX_call_23 post a n 1 x1 x2 x3 x4 x5 x6 x7 wn bl) : wpX_call post (x1, x2, x3, x4, x5, x6, x7, wn, bl) a n := by
  rcases h with h | ⟨h, h2 | h2⟩
  · exact br_t h K
  · exact br_f (by rw [h]; decide) (br_t h (br_t h2 K))
  · exact br_f (by rw [h]; decide) (br_t h (br_f (by rw [h2]; decide) (br_t h2 K)))
theorem zk_xcb {post : Int32 → SX → Prop} {a n : Int32} (h : ¬ zk_ok2 a n) (K : wX_call_23 post a n 0 x1 x2 x3 x4 x5 x6 x7 wn bl) : wpX_call post (x1, x2, x3, x4, x5, x6, x7, wn, bl) a n := by
  have h0 : ¬ a = 0 := fun z => h (Or.inl z)
  by_cases h1 : a = 1
  · exact br_f h0 (br_t h1 (br_f (fun z => h (Or.inr ⟨h1, Or.inl z⟩)) (br_f (fun z => h (Or.inr ⟨h1, Or.inr z⟩)) K)))
  · exact br_f h0 (br_f h1 K)
theorem zk_xc73 {post : Int32 → SX → Prop} {a n : Int32} (h : zk_ok2 a n) (h0 : ¬ x1 = 0) (h3 : ¬ x2 < 3) (hd : zk_ar x2 = 0 ∨ zk_ar x2 = a + 1)
    (K : wX_call_73 post a n x1 x2 x3 x4 x5 x6 x7 wn bl) : wpX_call post (x1, x2, x3, x4, x5, x6, x7, wn, bl) a n := by
  refine zk_xcg h (br_f h0 (br_f h3 (br_f zk_10 (br_f zk_10 (zk_xar ?_)))))
  by_cases d : zk_ar x2 = 0
  · exact br_t d K
  · exact br_f d (br_t (hd.resolve_left d) K)
end
/-! Y -/
theorem zk_gv1 (n : Int32) : zk_gv 1 n = n := by unfold zk_gv; rw [if_neg (by decide), if_neg (by decide), if_neg (by decide), if_neg (by decide)]
theorem zk_gv5 (n : Int32) : zk_gv 5 n = n := by unfold zk_gv; rw [if_neg (by decide), if_neg (by decide), if_neg (by decide), if_neg (by decide)]
theorem zk_r4 {v : Int32} (hr : ¬ v < 0 ∧ ¬ 5 < v) (h0 : ¬ v = 0) (h1 : ¬ v = 1) (h2 : ¬ v = 2) (h3 : ¬ v = 3) (h5 : ¬ v = 5) : v = 4 := by
  obtain ⟨j, hj, e⟩ := nI_of2 (x := v) (M := 5) (n := 5) (by decide) hr.1 (Int32.not_lt.mp hr.2)
  have c : j = 0 ∨ j = 1 ∨ j = 2 ∨ j = 3 ∨ j = 4 ∨ j = 5 := by omega
  rcases c with c | c | c | c | c | c <;> subst c
  · exact absurd e h0
  · exact absurd e h1
  · exact absurd e h2
  · exact absurd e h3
  · exact e
  · exact absurd e h5
section
variable {y1 y2 y3 y4 y5 y6 y7 : Int32} {ag oc : Nat → Int32}
theorem zk_y192a {post : Int32 → SY → Prop} {q : Nat} {z : Int32} (hq : q < 2) (ho : oc q = 0) (h : post 0 (y1, y2, y3, y4, 1, nI q, z, ag, oc)) : wY_call_192 post (nI q) z y1 y2 y3 y4 y5 y6 y7 ag oc := by
  have e : (nI q).toNatClampNeg = q := nI_clamp (by omega)
  exact And.intro (vp_in_nI hq (by decide)) (br_t (by rw [e, ho]; decide) h)
theorem zk_y192b {post : Int32 → SY → Prop} {q : Nat} {z : Int32} (hq : q < 2) (ho : zk_lab (oc q)) (h : post (oc q) (y1, y2, y3, y4, y5, y6, y7, ag, oc)) : wY_call_192 post (nI q) z y1 y2 y3 y4 y5 y6 y7 ag oc := by
  have e : (nI q).toNatClampNeg = q := nI_clamp (by omega)
  refine And.intro (vp_in_nI hq (by decide)) (br_f (by rw [e]; exact zk_labpos ho) (And.intro (vp_in_nI hq (by decide)) ?_))
  rw [e]; exact h
theorem zk_y121 {post : Int32 → SY → Prop} {n z : Int32} (hr : ¬ y3 < 0 ∧ ¬ 5 < y3) (h : wY_call_192 post z (zk_gv y3 n) y1 y2 y3 y4 y5 y6 y7 ag oc) : wY_call_121 post n z y1 y2 y3 y4 y5 y6 y7 ag oc := by
  by_cases h0 : y3 = 0
  · rw [show zk_gv y3 n = n + 1 from if_pos h0] at h
    exact br_t h0 h
  · by_cases h1 : y3 = 1
    · subst h1
      rw [zk_gv1] at h
      exact br_f h0 (br_t rfl h)
    · by_cases h5 : y3 = 5
      · subst h5
        rw [zk_gv5] at h
        exact br_f h0 (br_f h1 (br_t rfl h))
      · unfold zk_gv at h
        by_cases h2 : y3 = 2
        · rw [if_neg h0, if_pos h2] at h
          exact br_f h0 (br_f h1 (br_f h5 (br_t h2 h)))
        · by_cases h3 : y3 = 3
          · by_cases hn : n ≤ 0
            · rw [if_neg h0, if_neg h2, if_pos h3, if_pos hn] at h
              exact br_f h0 (br_f h1 (br_f h5 (br_f h2 (br_t h3 (br_t hn h)))))
            · rw [if_neg h0, if_neg h2, if_pos h3, if_neg hn] at h
              exact br_f h0 (br_f h1 (br_f h5 (br_f h2 (br_t h3 (br_f hn h)))))
          · rw [if_neg h0, if_neg h2, if_neg h3, if_pos (zk_r4 hr h0 h1 h2 h3 h5)] at h
            exact br_f h0 (br_f h1 (br_f h5 (br_f h2 (br_f h3 h))))
theorem zk_y71a {post : Int32 → SY → Prop} {j : Nat} {n : Int32} (hj : j < 2) (ha : ag j = 0) (h : wY_call_121 post n (nI (zk_gk y3 j)) y1 y2 y3 y4 y5 y6 y7 ag oc) : wY_call_71 post (nI j) n y1 y2 y3 y4 y5 y6 y7 ag oc := by
  have e : (nI j).toNatClampNeg = j := nI_clamp (by omega)
  refine And.intro (vp_in_nI hj (by decide)) (br_t (by rw [e, ha]; decide) ?_)
  unfold zk_gk at h
  by_cases h1 : y3 = 1
  · rw [if_pos h1] at h; exact br_t h1 h
  · by_cases h2 : y3 = 2
    · rw [if_neg h1, if_pos h2] at h; exact br_f h1 (br_t h2 h)
    · by_cases h3 : y3 = 3
      · rw [if_neg h1, if_neg h2, if_pos h3] at h; exact br_f h1 (br_f h2 (br_t h3 h))
      · rw [if_neg h1, if_neg h2, if_neg h3] at h; exact br_f h1 (br_f h2 (br_f h3 h))
theorem zk_y71b {post : Int32 → SY → Prop} {j : Nat} {n : Int32} (hj : j < 2) (ha : zk_lab (ag j)) (h : post (-(ag j)) (y1, y2, y3, y4, y5, y6, y7, ag, oc)) : wY_call_71 post (nI j) n y1 y2 y3 y4 y5 y6 y7 ag oc := by
  have e : (nI j).toNatClampNeg = j := nI_clamp (by omega)
  refine And.intro (vp_in_nI hj (by decide)) (br_f (by rw [e]; exact zk_labpos ha) (And.intro (vp_in_nI hj (by decide)) ?_))
  rw [e]; exact h
theorem zk_ycg {post : Int32 → SY → Prop} {a n : Int32} (h : zk_ok2 a n) (K : wY_call_23 post a n 1 y1 y2 y3 y4 y5 y6 y7 ag oc) : wpY_call post (y1, y2, y3, y4, y5, y6, y7, ag, oc) a n := by
  rcases h with h | ⟨h, h2 | h2⟩
  · exact br_t h K
  · exact br_f (by rw [h]; decide) (br_t h (br_t h2 K))
  · exact br_f (by rw [h]; decide) (br_t h (br_f (by rw [h2]; decide) (br_t h2 K)))
theorem zk_ycb {post : Int32 → SY → Prop} {a n : Int32} (h : ¬ zk_ok2 a n) (K : wY_call_23 post a n 0 y1 y2 y3 y4 y5 y6 y7 ag oc) : wpY_call post (y1, y2, y3, y4, y5, y6, y7, ag, oc) a n := by
  have h0 : ¬ a = 0 := fun z => h (Or.inl z)
  by_cases h1 : a = 1
  · exact br_f h0 (br_t h1 (br_f (fun z => h (Or.inr ⟨h1, Or.inl z⟩)) (br_f (fun z => h (Or.inr ⟨h1, Or.inr z⟩)) K)))
  · exact br_f h0 (br_f h1 K)
theorem zk_yc71 {post : Int32 → SY → Prop} {a n : Int32} (h : zk_ok2 a n) (h0 : ¬ y1 = 0) (h3 : ¬ y4 < 3) (hd : zk_ar y4 = 0 ∨ zk_ar y4 = a + 1)
    (K : wY_call_71 post a n y1 y2 y3 y4 y5 y6 y7 ag oc) : wpY_call post (y1, y2, y3, y4, y5, y6, y7, ag, oc) a n := by
  refine zk_ycg h (br_f h0 (br_f h3 (br_f zk_10 (zk_yar ?_))))
  by_cases d : zk_ar y4 = 0
  · exact br_t d K
  · exact br_f d (zk_yar (br_t (hd.resolve_left d) K))
end
end
section
/-! set -/
def zk_ok1 (a n : Int32) : Prop := a = 0 ∨ (a = 1 ∧ (n = 0 ∨ n = 1)) ∨ (a = 2 ∧ ¬ n < 0 ∧ ¬ 5 < n)
def zk_tf (n : Int32) : Int32 := if n = 0 then 7 else if n = 1 then 3 else if n = 2 then 11 else if n = 3 then 8 else if n = 4 then 4 else 10
def zk_ty (a n : Int32) : Int32 := if a = 2 then zk_tf n else a + 1
theorem zk_n10 {a : Int32} (h : a = 1) : ¬ a = 0 := fun z => zk_no01 h z
theorem zk_n20 {a : Int32} (h : a = 2) : ¬ a = 0 := fun z => zk_no02 h z
theorem zk_n21 {a : Int32} (h : a = 2) : ¬ a = 1 := fun z => zk_no12 z h
theorem zk_n12 {a : Int32} (h : a = 1) : ¬ a = 2 := fun z => zk_no12 h z
theorem zk_xtf {post : Int32 → Prop} {n : Int32} (h : post (zk_tf n)) : wpX_typeOfFunction post n := by
  unfold zk_tf at h
  by_cases h0 : n = 0
  · rw [if_pos h0] at h; exact br_t h0 h
  · by_cases h1 : n = 1
    · rw [if_neg h0, if_pos h1] at h; exact br_f h0 (br_t h1 h)
    · by_cases h2 : n = 2
      · rw [if_neg h0, if_neg h1, if_pos h2] at h; exact br_f h0 (br_f h1 (br_t h2 h))
      · by_cases h3 : n = 3
        · rw [if_neg h0, if_neg h1, if_neg h2, if_pos h3] at h; exact br_f h0 (br_f h1 (br_f h2 (br_t h3 h)))
        · by_cases h4 : n = 4
          · rw [if_neg h0, if_neg h1, if_neg h2, if_neg h3, if_pos h4] at h; exact br_f h0 (br_f h1 (br_f h2 (br_f h3 (br_t h4 h))))
          · rw [if_neg h0, if_neg h1, if_neg h2, if_neg h3, if_neg h4] at h; exact br_f h0 (br_f h1 (br_f h2 (br_f h3 (br_f h4 h))))
theorem zk_yarr {post : Int32 → Prop} {u : SY} {a b : Int32} (r : Int32) (e : (3 + (3 * a)) + b = r) (h : post r) : wpY_arrow post u a b := by
  obtain ⟨f1, f2, f3, f4, f5, f6, f7, a1, a2⟩ := u
  subst e
  exact h
theorem zk_ytf {post : Int32 → Prop} {u : SY} {n : Int32} (h : post (zk_tf n)) : wpY_own post u n := by
  obtain ⟨f1, f2, f3, f4, f5, f6, f7, a1, a2⟩ := u
  unfold zk_tf at h
  by_cases h0 : n = 0
  · rw [if_pos h0] at h; exact br_t h0 (zk_yarr 7 (by decide) h)
  · by_cases h1 : n = 1
    · rw [if_neg h0, if_pos h1] at h; exact br_f h0 (br_t h1 (zk_yarr 3 (by decide) h))
    · by_cases h2 : n = 2
      · rw [if_neg h0, if_neg h1, if_pos h2] at h; exact br_f h0 (br_f h1 (br_t h2 (zk_yarr 11 (by decide) h)))
      · by_cases h3 : n = 3
        · rw [if_neg h0, if_neg h1, if_neg h2, if_pos h3] at h; exact br_f h0 (br_f h1 (br_f h2 (br_t h3 (zk_yarr 8 (by decide) h))))
        · by_cases h4 : n = 4
          · rw [if_neg h0, if_neg h1, if_neg h2, if_neg h3, if_pos h4] at h; exact br_f h0 (br_f h1 (br_f h2 (br_f h3 (br_t h4 (zk_yarr 4 (by decide) h)))))
          · rw [if_neg h0, if_neg h1, if_neg h2, if_neg h3, if_neg h4] at h; exact br_f h0 (br_f h1 (br_f h2 (br_f h3 (br_f h4 (zk_yarr 10 (by decide) h)))))
theorem zk_nb0 : vp_nar .byte 0 = 0 := by rw [vp_nar_byte]; decide
section
variable {x1 x2 x3 x4 x5 x6 x7 : Int32} {wn bl : Nat → Int32}
theorem zk_x87s {post : Int32 → SX → Prop} {n j : Nat} {k k' : Int32} (hk : vp_in k 4) (h4 : ¬ 4 ≤ k) (hj : k.toNatClampNeg = j) (hk' : k + 1 = k')
    (h : wX_set_87 post x1 x2 x3 x4 x5 x6 x7 n k' (upd wn j 0) bl) : wX_set_87 post x1 x2 x3 x4 x5 x6 x7 (n + 1) k wn bl := by
  subst hj; subst hk'
  exact br_f h4 (And.intro hk (nm_r (e' := upd wn k.toNatClampNeg 0) (by rw [zk_nb0]) (nm_e h)))
theorem zk_x87 {post : Int32 → SX → Prop} (h : post x2 (x1, x2, x3, x4, x5, x6, x7, upd (upd (upd (upd wn 0 0) 1 0) 2 0) 3 0, bl)) : wX_set_87 post x1 x2 x3 x4 x5 x6 x7 5 0 wn bl := by
  refine zk_x87s (j := 0) (k' := 1) (vp_in_iff.mpr (by decide)) (by decide) (by decide) (by decide) ?_
  refine zk_x87s (j := 1) (k' := 2) (vp_in_iff.mpr (by decide)) (by decide) (by decide) (by decide) ?_
  refine zk_x87s (j := 2) (k' := 3) (vp_in_iff.mpr (by decide)) (by decide) (by decide) (by decide) ?_
  refine zk_x87s (j := 3) (k' := 4) (vp_in_iff.mpr (by decide)) (by decide) (by decide) (by decide) ?_
  exact br_t (by decide) h
theorem zk_x37 {post : Int32 → SX → Prop} {a n : Int32} (h : post (zk_ty a n) (1, zk_ty a n, a, n, 0, x6, x7, upd (upd (upd (upd wn 0 0) 1 0) 2 0) 3 0, bl)) : wX_set_37 post a n 1 x1 x2 x3 x4 x5 x6 x7 wn bl := by
  refine br_f zk_10 ?_
  by_cases h2 : a = 2
  · rw [show zk_ty a n = zk_tf n from if_pos h2] at h
    exact br_t h2 (zk_xtf ⟨5, zk_x87 h⟩)
  · rw [show zk_ty a n = a + 1 from if_neg h2] at h
    exact br_f h2 (nm_e ⟨5, zk_x87 h⟩)
theorem zk_xsg {post : Int32 → SX → Prop} {a n : Int32} (h : zk_ok1 a n) (K : wX_set_37 post a n 1 x1 x2 x3 x4 x5 x6 x7 wn bl) : wpX_set post (x1, x2, x3, x4, x5, x6, x7, wn, bl) a n := by
  rcases h with h | ⟨h, h2 | h2⟩ | ⟨h, h2, h3⟩
  · exact br_t h K
  · exact br_f (zk_n10 h) (br_t h (br_t h2 K))
  · exact br_f (zk_n10 h) (br_t h (br_f (zk_n10 h2) (br_t h2 K)))
  · exact br_f (zk_n20 h) (br_f (zk_n21 h) (br_t h (br_f h2 (br_f h3 K))))
theorem zk_xsb {post : Int32 → SX → Prop} {a n : Int32} (h : ¬ zk_ok1 a n) (K : post (-100) (x1, x2, x3, x4, x5, x6, x7, wn, bl)) : wpX_set post (x1, x2, x3, x4, x5, x6, x7, wn, bl) a n := by
  have K36 : wX_set_36 post a n x1 x2 x3 x4 x5 x6 x7 wn bl := br_t rfl K
  have h0 : ¬ a = 0 := fun z => h (Or.inl z)
  by_cases h1 : a = 1
  · exact br_f h0 (br_t h1 (br_f (fun z => h (Or.inr (Or.inl ⟨h1, Or.inl z⟩))) (br_f (fun z => h (Or.inr (Or.inl ⟨h1, Or.inr z⟩))) (br_f (zk_n12 h1) K36))))
  · by_cases h2 : a = 2
    · by_cases hn : n < 0
      · exact br_f h0 (br_f h1 (br_t h2 (br_t hn K36)))
      · by_cases h5 : 5 < n
        · exact br_f h0 (br_f h1 (br_t h2 (br_f hn (br_t h5 K36))))
        · exact absurd (Or.inr (Or.inr ⟨h2, hn, h5⟩)) h
    · exact br_f h0 (br_f h1 (br_f h2 K36))
end
section
variable {y1 y2 y3 y4 y5 y6 y7 : Int32} {ag oc : Nat → Int32}
theorem zk_y89s {post : Int32 → SY → Prop} {n j : Nat} {k k' : Int32} (hk : vp_in k 2) (h4 : ¬ 2 ≤ k) (hj : k.toNatClampNeg = j) (hk' : k + 1 = k')
    (h : wY_set_89 post y1 y2 y3 y4 y5 y6 y7 n k' (upd ag j 0) (upd oc j 0)) : wY_set_89 post y1 y2 y3 y4 y5 y6 y7 (n + 1) k ag oc := by
  subst hj; subst hk'
  exact br_f h4 (And.intro hk (nm_e (And.intro hk (nm_e (nm_e h)))))
theorem zk_y89 {post : Int32 → SY → Prop} (h : post y4 (y1, y2, y3, y4, 0, y6, y7, upd (upd ag 0 0) 1 0, upd (upd oc 0 0) 1 0)) : wY_set_89 post y1 y2 y3 y4 y5 y6 y7 3 0 ag oc := by
  refine zk_y89s (j := 0) (k' := 1) zk_i0 (by decide) (by decide) (by decide) ?_
  refine zk_y89s (j := 1) (k' := 2) zk_i1 (by decide) (by decide) (by decide) ?_
  exact br_t (by decide) h
theorem zk_y37 {post : Int32 → SY → Prop} {a n : Int32} (ok : zk_ok1 a n) (h : post (zk_ty a n) (1, a, n, zk_ty a n, 0, y6, y7, upd (upd ag 0 0) 1 0, upd (upd oc 0 0) 1 0)) : wY_set_37 post a n 1 y1 y2 y3 y4 y5 y6 y7 ag oc := by
  refine br_f zk_10 ?_
  rcases ok with e | ⟨e, _⟩ | ⟨e, _⟩
  · subst e
    rw [show zk_ty 0 n = 1 from by unfold zk_ty; rw [if_neg (by decide)]; decide] at h
    exact br_t rfl ⟨3, zk_y89 h⟩
  · subst e
    rw [show zk_ty 1 n = 2 from by unfold zk_ty; rw [if_neg (by decide)]; decide] at h
    exact br_f zk_10 (br_t rfl ⟨3, zk_y89 h⟩)
  · rw [show zk_ty a n = zk_tf n from if_pos e] at h
    exact br_f (zk_n20 e) (br_f (zk_n21 e) (zk_ytf ⟨3, zk_y89 h⟩))
theorem zk_ysg {post : Int32 → SY → Prop} {a n : Int32} (h : zk_ok1 a n) (K : wY_set_37 post a n 1 y1 y2 y3 y4 y5 y6 y7 ag oc) : wpY_set post (y1, y2, y3, y4, y5, y6, y7, ag, oc) a n := by
  rcases h with h | ⟨h, h2 | h2⟩ | ⟨h, h2, h3⟩
  · exact br_t h K
  · exact br_f (zk_n10 h) (br_t h (br_t h2 K))
  · exact br_f (zk_n10 h) (br_t h (br_f (zk_n10 h2) (br_t h2 K)))
  · exact br_f (zk_n20 h) (br_f (zk_n21 h) (br_t h (br_f h2 (br_f h3 K))))
theorem zk_ysb {post : Int32 → SY → Prop} {a n : Int32} (h : ¬ zk_ok1 a n) (K : post (-100) (y1, y2, y3, y4, y5, y6, y7, ag, oc)) : wpY_set post (y1, y2, y3, y4, y5, y6, y7, ag, oc) a n := by
  have K36 : wY_set_36 post a n y1 y2 y3 y4 y5 y6 y7 ag oc := br_t rfl K
  have h0 : ¬ a = 0 := fun z => h (Or.inl z)
  by_cases h1 : a = 1
  · exact br_f h0 (br_t h1 (br_f (fun z => h (Or.inr (Or.inl ⟨h1, Or.inl z⟩))) (br_f (fun z => h (Or.inr (Or.inl ⟨h1, Or.inr z⟩))) (br_f (zk_n12 h1) K36))))
  · by_cases h2 : a = 2
    · by_cases hn : n < 0
      · exact br_f h0 (br_f h1 (br_t h2 (br_t hn K36)))
      · by_cases h5 : 5 < n
        · exact br_f h0 (br_f h1 (br_t h2 (br_f hn (br_t h5 K36))))
        · exact absurd (Or.inr (Or.inr ⟨h2, hn, h5⟩)) h
    · exact br_f h0 (br_f h1 (br_f h2 K36))
end
/-! cast, X: one row an outcome -/
def zk_pre (x s t l : Int32) : Prop := ¬ x = 0 ∧ ¬ t < 0 ∧ ¬ 12 ≤ t ∧ ¬ l < 1 ∧ ¬ 9 < l ∧ ¬ zk_ag s t = 0
section
variable {x1 x2 x3 x4 x5 x6 x7 t l : Int32} {wn bl wn' bl' : Nat → Int32} {post : Int32 → SX → Prop}
theorem zk_xbad (hb : x1 = 0 ∨ (t < 0 ∨ 12 ≤ t) ∨ l < 1 ∨ 9 < l ∨ zk_ag x2 t = 0) (K : post (-100) (x1, x2, x3, x4, x5, x6, x7, wn, bl)) : wpX_cast post (x1, x2, x3, x4, x5, x6, x7, wn, bl) t l := by
  by_cases h0 : x1 = 0
  · exact br_t h0 K
  · by_cases ht : t < 0 ∨ 12 ≤ t
    · exact br_f h0 (zk_xit0 ht (br_t rfl K))
    · by_cases l1 : l < 1
      · exact br_f h0 (zk_xit1 (fun z => ht (Or.inl z)) (fun z => ht (Or.inr z)) (br_f zk_10 (br_t l1 K)))
      · by_cases l9 : 9 < l
        · exact br_f h0 (zk_xit1 (fun z => ht (Or.inl z)) (fun z => ht (Or.inr z)) (br_f zk_10 (br_f l1 (br_t l9 K))))
        · exact br_f h0 (zk_xit1 (fun z => ht (Or.inl z)) (fun z => ht (Or.inr z)) (br_f zk_10 (br_f l1 (br_f l9 (zk_xag (br_t ((((hb.resolve_left h0).resolve_left ht).resolve_left l1).resolve_left l9) K))))))
theorem zk_xsame (P : zk_pre x1 x2 t l) (e : x2 = t) (K : post 0 (x1, t, x3, x4, x5, x6, x7, wn, bl)) : wpX_cast post (x1, x2, x3, x4, x5, x6, x7, wn, bl) t l := by
  obtain ⟨h0, t0, t1, l1, l9, hg⟩ := P
  refine br_f h0 (zk_xit1 t0 t1 (br_f zk_10 (br_f l1 (br_f l9 (zk_xag (br_f hg ?_))))))
  exact br_t e K
theorem zk_xok0 (P : zk_pre x1 x2 t l) (ne : ¬ x2 = t) (z : x2 = 0) (t3 : t < 3) (k : x3 + 1 = t) (K : post 0 (x1, t, x3, x4, x5, x6, x7, wn, bl)) : wpX_cast post (x1, x2, x3, x4, x5, x6, x7, wn, bl) t l := by
  obtain ⟨h0, t0, t1, l1, l9, hg⟩ := P
  refine br_f h0 (zk_xit1 t0 t1 (br_f zk_10 (br_f l1 (br_f l9 (zk_xag (br_f hg ?_))))))
  exact br_f ne (br_t z (br_t t3 (br_t rfl (br_t k K))))
theorem zk_xf0 (P : zk_pre x1 x2 t l) (ne : ¬ x2 = t) (z : x2 = 0) (t3 : t < 3) (k : ¬ x3 + 1 = t) (K : post l (0, t, x3, x4, x5, x6, x7, wn, bl)) : wpX_cast post (x1, x2, x3, x4, x5, x6, x7, wn, bl) t l := by
  obtain ⟨h0, t0, t1, l1, l9, hg⟩ := P
  refine br_f h0 (zk_xit1 t0 t1 (br_f zk_10 (br_f l1 (br_f l9 (zk_xag (br_f hg ?_))))))
  exact br_f ne (br_t z (br_t t3 (br_t rfl (br_f k K))))
theorem zk_xf1 (P : zk_pre x1 x2 t l) (ne : ¬ x2 = t) (z : x2 = 0) (t3 : ¬ t < 3) (k : ¬ x3 = 2) (K : post l (0, t, x3, x4, x5, x6, x7, wn, bl)) : wpX_cast post (x1, x2, x3, x4, x5, x6, x7, wn, bl) t l := by
  obtain ⟨h0, t0, t1, l1, l9, hg⟩ := P
  refine br_f h0 (zk_xit1 t0 t1 (br_f zk_10 (br_f l1 (br_f l9 (zk_xag (br_f hg ?_))))))
  exact br_f ne (br_t z (br_f t3 (br_f zk_10 (br_t z (br_f k K)))))
theorem zk_xw0 (P : zk_pre x1 x2 t l) (ne : ¬ x2 = t) (z : x2 = 0) (t3 : ¬ t < 3) (k : x3 = 2)
    (H : ∀ Q : SX → Prop, Q (x1, t, x3, x4, x5, x6, x7, wn', bl') → wpX_wrap Q (x1, t, x3, x4, x5, x6, x7, wn, bl) 3 t l)
    (K : post 0 (x1, t, x3, x4, x5, x6, x7, wn', bl')) : wpX_cast post (x1, x2, x3, x4, x5, x6, x7, wn, bl) t l := by
  obtain ⟨h0, t0, t1, l1, l9, hg⟩ := P
  refine br_f h0 (zk_xit1 t0 t1 (br_f zk_10 (br_f l1 (br_f l9 (zk_xag (br_f hg ?_))))))
  have s3 : x2 < 3 := by rw [z]; decide
  have K139 : wX_cast_139 post l t 3 x1 t x3 x4 x5 x6 x7 wn bl := H _ K
  have K120 : wX_cast_120 post t l x2 x1 t x3 x4 x5 x6 x7 wn bl := br_t z (br_f (zk_n0 t3) K139)
  have K106 : wX_cast_106 post t l x2 x1 t x3 x4 x5 x6 x7 wn bl := br_t s3 (br_t rfl (br_f t3 (br_f zk_10 K120)))
  exact br_f ne (br_t z (br_f t3 (br_f zk_10 (br_t z (br_t k K106)))))
theorem zk_xok1 (P : zk_pre x1 x2 t l) (ne : ¬ x2 = t) (nz : ¬ x2 = 0) (s3 : x2 < 3) (t3 : t < 3) (K : post 0 (x1, t, x3, x4, x5, x6, x7, wn, bl)) : wpX_cast post (x1, x2, x3, x4, x5, x6, x7, wn, bl) t l := by
  obtain ⟨h0, t0, t1, l1, l9, hg⟩ := P
  refine br_f h0 (zk_xit1 t0 t1 (br_f zk_10 (br_f l1 (br_f l9 (zk_xag (br_f hg ?_))))))
  have K106 : wX_cast_106 post t l x2 x1 t x3 x4 x5 x6 x7 wn bl := br_t s3 (br_t rfl (br_t t3 (br_t rfl K)))
  exact br_f ne (br_f nz (br_f nz K106))
theorem zk_xw1 (P : zk_pre x1 x2 t l) (ne : ¬ x2 = t) (s3 : ¬ x2 < 3) (tz : t = 0)
    (H : ∀ Q : SX → Prop, Q (x1, t, x3, x4, x5, x6, x7, wn', bl') → wpX_wrap Q (x1, t, x3, x4, x5, x6, x7, wn, bl) x2 3 l)
    (K : post 0 (x1, t, x3, x4, x5, x6, x7, wn', bl')) : wpX_cast post (x1, x2, x3, x4, x5, x6, x7, wn, bl) t l := by
  obtain ⟨h0, t0, t1, l1, l9, hg⟩ := P
  refine br_f h0 (zk_xit1 t0 t1 (br_f zk_10 (br_f l1 (br_f l9 (zk_xag (br_f hg ?_))))))
  have nz := zk_n0 s3
  have K139 : wX_cast_139 post l 3 x2 x1 t x3 x4 x5 x6 x7 wn bl := H _ K
  have K120 : wX_cast_120 post t l x2 x1 t x3 x4 x5 x6 x7 wn bl := br_f nz (br_t tz K139)
  have K106 : wX_cast_106 post t l x2 x1 t x3 x4 x5 x6 x7 wn bl := br_f s3 (br_f zk_10 K120)
  exact br_f ne (br_f nz (br_f nz K106))
theorem zk_xw2 (P : zk_pre x1 x2 t l) (ne : ¬ x2 = t) (s3 : ¬ x2 < 3) (t3 : ¬ t < 3)
    (H : ∀ Q : SX → Prop, Q (x1, t, x3, x4, x5, x6, x7, wn', bl') → wpX_wrap Q (x1, t, x3, x4, x5, x6, x7, wn, bl) x2 t l)
    (K : post 0 (x1, t, x3, x4, x5, x6, x7, wn', bl')) : wpX_cast post (x1, x2, x3, x4, x5, x6, x7, wn, bl) t l := by
  obtain ⟨h0, t0, t1, l1, l9, hg⟩ := P
  refine br_f h0 (zk_xit1 t0 t1 (br_f zk_10 (br_f l1 (br_f l9 (zk_xag (br_f hg ?_))))))
  have nz := zk_n0 s3
  have K139 : wX_cast_139 post l t x2 x1 t x3 x4 x5 x6 x7 wn bl := H _ K
  have K120 : wX_cast_120 post t l x2 x1 t x3 x4 x5 x6 x7 wn bl := br_f nz (br_f (zk_n0 t3) K139)
  have K106 : wX_cast_106 post t l x2 x1 t x3 x4 x5 x6 x7 wn bl := br_f s3 (br_f zk_10 K120)
  exact br_f ne (br_f nz (br_f nz K106))
end
/-! cast, Y -/
section
variable {y1 y2 y3 y4 y5 y6 y7 t l : Int32} {ag oc ag' oc' : Nat → Int32} {post : Int32 → SY → Prop}
theorem zk_ybad (hb : y1 = 0 ∨ (t < 0 ∨ 12 ≤ t) ∨ l < 1 ∨ 9 < l ∨ zk_ag y4 t = 0) (K : post (-100) (y1, y2, y3, y4, y5, y6, y7, ag, oc)) : wpY_cast post (y1, y2, y3, y4, y5, y6, y7, ag, oc) t l := by
  by_cases h0 : y1 = 0
  · exact br_t h0 K
  · by_cases l1 : l < 1
    · exact br_f h0 (br_t l1 K)
    · by_cases l9 : 9 < l
      · exact br_f h0 (br_f l1 (br_t l9 K))
      · have hg : zk_ag y4 t = 0 := by
          rcases hb with h | h | h | h | h
          · exact absurd h h0
          · exact zk_ag_t h
          · exact absurd h l1
          · exact absurd h l9
          · exact h
        exact br_f h0 (br_f l1 (br_f l9 (zk_yag (br_t hg K))))
theorem zk_yc1 (P : zk_pre y1 y4 t l) (hz : y4 = 0 → (t = 1 → y2 = 0) ∧ (t = 2 → y2 = 1) ∧ (¬ t < 3 → y2 = 2)) (K : wY_cast_83 post t l 0 y1 y2 y3 y4 y5 y6 y7 ag oc) : wpY_cast post (y1, y2, y3, y4, y5, y6, y7, ag, oc) t l := by
  obtain ⟨h0, t0, t1, l1, l9, hg⟩ := P
  refine br_f h0 (br_f l1 (br_f l9 (zk_yag (br_f hg ?_))))
  by_cases z : y4 = 0
  · obtain ⟨a, b, c⟩ := hz z
    refine br_t z ?_
    have K65 : wY_cast_65 post t l y1 y2 y3 y4 y5 y6 y7 ag oc := by
      by_cases t3 : t < 3
      · exact br_t t3 K
      · exact br_f t3 (br_t (c t3) K)
    have K52 : wY_cast_52 post t l y1 y2 y3 y4 y5 y6 y7 ag oc := by
      by_cases t2 : t = 2
      · exact br_t t2 (br_t (b t2) K65)
      · exact br_f t2 K65
    by_cases t1' : t = 1
    · exact br_t t1' (br_t (a t1') K52)
    · exact br_f t1' K52
  · exact br_f z K
theorem zk_yc0 (P : zk_pre y1 y4 t l) (z : y4 = 0) (hf : (t = 1 ∧ ¬ y2 = 0) ∨ (t = 2 ∧ ¬ y2 = 1) ∨ (¬ t < 3 ∧ ¬ y2 = 2)) (K : post l (0, y2, y3, y4, y5, y6, y7, ag, oc)) : wpY_cast post (y1, y2, y3, y4, y5, y6, y7, ag, oc) t l := by
  obtain ⟨h0, t0, t1, l1, l9, hg⟩ := P
  refine br_f h0 (br_f l1 (br_f l9 (zk_yag (br_f hg (br_t z ?_)))))
  have K78 : wY_cast_78 post t l y1 y2 y3 y4 y5 y6 y7 ag oc := br_f zk_10 K
  rcases hf with ⟨a, b⟩ | ⟨a, b⟩ | ⟨a, b⟩
  · exact br_t a (br_f b K78)
  · exact br_f (zk_n21 a) (br_t a (br_f b K78))
  · exact br_f (fun e => a (by rw [e]; decide)) (br_f (fun e => a (by rw [e]; decide)) (br_f a (br_f b K78)))
theorem zk_yok (P : zk_pre y1 y4 t l) (s3 : y4 < 3) (hz : y4 = 0 → t < 3 ∧ (t = 1 → y2 = 0) ∧ (t = 2 → y2 = 1)) (K : post 0 (y1, y2, y3, t, y5, y6, y7, ag, oc)) : wpY_cast post (y1, y2, y3, y4, y5, y6, y7, ag, oc) t l := by
  refine zk_yc1 P (fun z => ⟨(hz z).2.1, (hz z).2.2, fun a => absurd (hz z).1 a⟩) (br_t rfl ?_)
  have K116 : wY_cast_116 post t l y1 y2 y3 y4 y5 y6 y7 ag oc := br_t s3 (br_t s3 K)
  by_cases z : y4 = 0
  · exact br_t z (br_t (hz z).1 K116)
  · exact br_f z K116
theorem zk_y144 {s t' : Int32} (s3 : ¬ s < 3) (t3 : ¬ t' < 3) (H : ∀ Q : SY → Prop, Q (y1, y2, y3, y4, y5, y6, y7, ag', oc') → wpY_wrap Q (y1, y2, y3, y4, y5, y6, y7, ag, oc) s t' l)
    (K : post 0 (y1, y2, y3, t, y5, y6, y7, ag', oc')) : wY_cast_144 post t l s t' y1 y2 y3 y4 y5 y6 y7 ag oc := br_f s3 (br_f t3 (H _ K))
theorem zk_33 : ¬ (3 : Int32) < 3 := by decide
theorem zk_yw0 (P : zk_pre y1 y4 t l) (z : y4 = 0) (t3 : ¬ t < 3) (k : y2 = 2) (H : ∀ Q : SY → Prop, Q (y1, y2, y3, y4, y5, y6, y7, ag', oc') → wpY_wrap Q (y1, y2, y3, y4, y5, y6, y7, ag, oc) 3 t l)
    (K : post 0 (y1, y2, y3, t, y5, y6, y7, ag', oc')) : wpY_cast post (y1, y2, y3, y4, y5, y6, y7, ag, oc) t l := by
  have s3 : y4 < 3 := by rw [z]; decide
  have K144 := zk_y144 (post := post) zk_33 t3 H K
  have K120 : wY_cast_120 post t l 3 y1 y2 y3 y4 y5 y6 y7 ag oc := br_t s3 K144
  exact zk_yc1 P (fun _ => ⟨fun e => absurd (by rw [e]; decide) t3, fun e => absurd (by rw [e]; decide) t3, fun _ => k⟩) (br_t rfl (br_t z (br_f t3 (zk_yarr 3 (by decide) K120))))
theorem zk_yw1 (P : zk_pre y1 y4 t l) (s3 : ¬ y4 < 3) (tz : t = 0) (H : ∀ Q : SY → Prop, Q (y1, y2, y3, y4, y5, y6, y7, ag', oc') → wpY_wrap Q (y1, y2, y3, y4, y5, y6, y7, ag, oc) y4 3 l)
    (K : post 0 (y1, y2, y3, t, y5, y6, y7, ag', oc')) : wpY_cast post (y1, y2, y3, y4, y5, y6, y7, ag, oc) t l := by
  have K144 := zk_y144 (post := post) s3 zk_33 H K
  have K116 : wY_cast_116 post t l y1 y2 y3 y4 y5 y6 y7 ag oc := br_f s3 (br_t tz (zk_yarr 3 (by decide) K144))
  exact zk_yc1 P (fun z => absurd z (zk_n0 s3)) (br_t rfl (br_f (zk_n0 s3) K116))
theorem zk_yw2 (P : zk_pre y1 y4 t l) (s3 : ¬ y4 < 3) (t3 : ¬ t < 3) (H : ∀ Q : SY → Prop, Q (y1, y2, y3, y4, y5, y6, y7, ag', oc') → wpY_wrap Q (y1, y2, y3, y4, y5, y6, y7, ag, oc) y4 t l)
    (K : post 0 (y1, y2, y3, t, y5, y6, y7, ag', oc')) : wpY_cast post (y1, y2, y3, y4, y5, y6, y7, ag, oc) t l := by
  have K144 := zk_y144 (post := post) s3 t3 H K
  have K116 : wY_cast_116 post t l y1 y2 y3 y4 y5 y6 y7 ag oc := br_f s3 (br_f (zk_n0 t3) K144)
  exact zk_yc1 P (fun z => absurd z (zk_n0 s3)) (br_t rfl (br_f (zk_n0 s3) K116))
end
end
section
/-- alike but for the type of a value that is gone; the demands against the labels that blame -/
def i_Rel (_ : Nat) (u : SX) (v : SY) : Prop :=
  ∃ (th ty kd vl cl rk rs td : Int32) (wn bl ag oc : Nat → Int32), u = (th, ty, kd, vl, cl, rk, rs, wn, bl) ∧ v = (th, kd, vl, td, cl, rk, rs, ag, oc) ∧
    (¬ th = 0 → td = ty ∧ (¬ ty < 3 → kd = 2) ∧ (kd = 2 → ¬ vl < 0 ∧ ¬ 5 < vl)) ∧
    zk_D (wn 0) (wn 1) (-(bl 0)) (-(bl 1)) (ag 0) (ag 1) ∧ zk_D (wn 2) (wn 3) (bl 2) (bl 3) (oc 0) (oc 1)
theorem i_up {k : Nat} {u : SX} {v : SY} (h : i_Rel k u v) : i_Rel (k + 3) u v := h
theorem i_vc0 : wpX_init (fun u => wpY_init (fun v => i_Rel 0 u v)) :=
  ⟨0, 0, 0, 0, 0, 0, 0, 0, fun _ => 0, fun _ => 0, fun _ => 0, fun _ => 0, rfl, rfl, fun h => absurd rfl h, Or.inl ⟨rfl, rfl, rfl, rfl⟩, Or.inl ⟨rfl, rfl, rfl, rfl⟩⟩
theorem i_vc_set {k : Nat} {u : SX} {v : SY} (I : i_Rel k u v) (hk : k + 3 ≤ 1536) (v1 : Int32) (v2 : Int32) : wpX_set (fun r u' => wpY_set (fun r' v' => r' = r ∧ i_Rel (k + 3) u' v') v v1 v2) u v1 v2 := by
  have J := i_up I
  obtain ⟨th, ty, kd, vl, cl, rk, rs, td, wn, bl, ag, oc, rfl, rfl, hI, hA, hO⟩ := I
  by_cases ok : zk_ok1 v1 v2
  · refine zk_xsg ok (zk_x37 (zk_ysg ok (zk_y37 ok ⟨rfl, ?_⟩)))
    refine ⟨1, zk_ty v1 v2, v1, v2, 0, rk, rs, zk_ty v1 v2, _, bl, _, _, rfl, rfl, fun _ => ⟨rfl, ?_, ?_⟩, Or.inl ⟨rfl, rfl, rfl, rfl⟩, Or.inl ⟨rfl, rfl, rfl, rfl⟩⟩
    · intro h3
      rcases ok with e | ⟨e, _⟩ | ⟨e, _⟩
      · subst e
        exact absurd (show zk_ty 0 v2 < 3 from by unfold zk_ty; rw [if_neg (by decide)]; decide) h3
      · subst e
        exact absurd (show zk_ty 1 v2 < 3 from by unfold zk_ty; rw [if_neg (by decide)]; decide) h3
      · exact e
    · intro h2
      rcases ok with e | ⟨e, _⟩ | ⟨_, e⟩
      · exact (zk_no02 h2 e).elim
      · exact (zk_no12 e h2).elim
      · exact e
  · exact zk_xsb ok (zk_ysb ok ⟨rfl, J⟩)
theorem zk_k1 {x : Int32} (h : x + 1 = 1) : x = 0 := by
  have e : x + 1 - 1 = 1 - 1 := by rw [h]
  rw [Int32.add_sub_cancel] at e
  exact e
theorem zk_k2 {x : Int32} (h : x + 1 = 2) : x = 1 := by
  have e : x + 1 - 1 = 2 - 1 := by rw [h]
  rw [Int32.add_sub_cancel] at e
  exact e
theorem zk_t12 {t : Int32} (t0 : ¬ t < 0) (t3 : t < 3) (ne : ¬ 0 = t) : t = 1 ∨ t = 2 := by
  obtain ⟨j, hj, e⟩ := nI_of (x := t) t0
  rw [e, show (3 : Int32) = nI 3 from by decide, nI_ltI hj (by decide)] at t3
  have c : j = 0 ∨ j = 1 ∨ j = 2 := by omega
  rcases c with c | c | c <;> subst c
  · exact absurd e.symm ne
  · exact Or.inl e
  · exact Or.inr e
theorem i_vc_cast {k : Nat} {u : SX} {v : SY} (I : i_Rel k u v) (hk : k + 3 ≤ 1536) (v1 : Int32) (v2 : Int32) : wpX_cast (fun r u' => wpY_cast (fun r' v' => r' = r ∧ i_Rel (k + 3) u' v') v v1 v2) u v1 v2 := by
  have J := i_up I
  obtain ⟨th, ty, kd, vl, cl, rk, rs, td, wn, bl, ag, oc, rfl, rfl, hI, hA, hO⟩ := I
  by_cases h0 : th = 0
  · exact zk_xbad (Or.inl h0) (zk_ybad (Or.inl h0) ⟨rfl, J⟩)
  obtain ⟨e, hk2, hr⟩ := hI h0
  subst e
  by_cases hb : (v1 < 0 ∨ 12 ≤ v1) ∨ v2 < 1 ∨ 9 < v2 ∨ zk_ag td v1 = 0
  · exact zk_xbad (Or.inr hb) (zk_ybad (Or.inr hb) ⟨rfl, J⟩)
  have t0 : ¬ v1 < 0 := fun z => hb (Or.inl (Or.inl z))
  have t1 : ¬ 12 ≤ v1 := fun z => hb (Or.inl (Or.inr z))
  have l1 : ¬ v2 < 1 := fun z => hb (Or.inr (Or.inl z))
  have l9 : ¬ 9 < v2 := fun z => hb (Or.inr (Or.inr (Or.inl z)))
  have hg : ¬ zk_ag td v1 = 0 := fun z => hb (Or.inr (Or.inr (Or.inr z)))
  have s0 : ¬ td < 0 := fun z => hg (zk_ag_s (Or.inl z))
  have s1 : ¬ 12 ≤ td := fun z => hg (zk_ag_s (Or.inr z))
  have P : zk_pre th td v1 v2 := ⟨h0, t0, t1, l1, l9, hg⟩
  have hl : zk_lab v2 := ⟨l1, l9⟩
  have f3 : zk_fn 3 := ⟨by decide, by decide⟩
  by_cases ne : td = v1
  · subst ne
    by_cases s3 : td < 3
    · refine zk_xsame P rfl (zk_yok P s3 (fun z => ⟨s3, fun e => (zk_no01 e z).elim, fun e => (zk_no02 e z).elim⟩) ⟨rfl, J⟩)
    · obtain ⟨ag', oc', e1, e2, e3, e4, H⟩ := zk_ww0 (ag := ag) (oc := oc) (t := td) (l := v2)
      refine zk_xsame P rfl (zk_yw2 P s3 s3 (fun Q h => H _ _ _ _ _ _ _ Q h) ⟨rfl, ?_⟩)
      rw [← e1, ← e2] at hA
      rw [← e3, ← e4] at hO
      exact ⟨th, td, kd, vl, cl, rk, rs, td, wn, bl, ag', oc', rfl, rfl, hI, hA, hO⟩
  · by_cases z : td = 0
    · by_cases t3 : v1 < 3
      · have c12 : v1 = 1 ∨ v1 = 2 := zk_t12 t0 t3 (fun e => ne (z.trans e))
        by_cases q : kd + 1 = v1
        · refine zk_xok0 P ne z t3 q (zk_yok P (by rw [z]; decide) (fun _ => ⟨t3, fun e => zk_k1 (q.trans e), fun e => zk_k2 (q.trans e)⟩) ⟨rfl, ?_⟩)
          exact ⟨th, v1, kd, vl, cl, rk, rs, v1, wn, bl, ag, oc, rfl, rfl, fun _ => ⟨rfl, fun n3 => absurd t3 n3, hr⟩, hA, hO⟩
        · refine zk_xf0 P ne z t3 q (zk_yc0 P z ?_ ⟨rfl, ?_⟩)
          · rcases c12 with e | e
            · exact Or.inl ⟨e, fun w => q (by rw [w, e]; decide)⟩
            · exact Or.inr (Or.inl ⟨e, fun w => q (by rw [w, e]; decide)⟩)
          · exact ⟨0, v1, kd, vl, cl, rk, rs, td, wn, bl, ag, oc, rfl, rfl, fun n0 => absurd rfl n0, hA, hO⟩
      · by_cases q : kd = 2
        · obtain ⟨wn', bl', ag', oc', dA, dO, HX, HY⟩ := zk_ww f3 ⟨t3, t1⟩ hl hA hO
          refine zk_xw0 P ne z t3 q (fun Q h => HX _ _ _ _ _ _ _ Q h) (zk_yw0 P z t3 q (fun Q h => HY _ _ _ _ _ _ _ Q h) ⟨rfl, ?_⟩)
          exact ⟨th, v1, kd, vl, cl, rk, rs, v1, wn', bl', ag', oc', rfl, rfl, fun _ => ⟨rfl, fun _ => q, hr⟩, dA, dO⟩
        · refine zk_xf1 P ne z t3 q (zk_yc0 P z (Or.inr (Or.inr ⟨t3, q⟩)) ⟨rfl, ?_⟩)
          exact ⟨0, v1, kd, vl, cl, rk, rs, td, wn, bl, ag, oc, rfl, rfl, fun n0 => absurd rfl n0, hA, hO⟩
    · by_cases s3 : td < 3
      · have t3 : v1 < 3 := by
          by_cases t3 : v1 < 3
          · exact t3
          · exact absurd ((zk_ag_p s0 s1 t0 t1 (Or.inl s3)).trans (zk_pa0 ne z (zk_n0 t3))) hg
        refine zk_xok1 P ne z s3 t3 (zk_yok P s3 (fun z' => absurd z' z) ⟨rfl, ?_⟩)
        exact ⟨th, v1, kd, vl, cl, rk, rs, v1, wn, bl, ag, oc, rfl, rfl, fun _ => ⟨rfl, fun n3 => absurd t3 n3, hr⟩, hA, hO⟩
      · by_cases tz : v1 = 0
        · obtain ⟨wn', bl', ag', oc', dA, dO, HX, HY⟩ := zk_ww ⟨s3, s1⟩ f3 hl hA hO
          refine zk_xw1 P ne s3 tz (fun Q h => HX _ _ _ _ _ _ _ Q h) (zk_yw1 P s3 tz (fun Q h => HY _ _ _ _ _ _ _ Q h) ⟨rfl, ?_⟩)
          exact ⟨th, v1, kd, vl, cl, rk, rs, v1, wn', bl', ag', oc', rfl, rfl, fun _ => ⟨rfl, fun _ => hk2 s3, hr⟩, dA, dO⟩
        · have t3 : ¬ v1 < 3 := fun t3 => hg ((zk_ag_p s0 s1 t0 t1 (Or.inr t3)).trans (zk_pa0 ne z tz))
          obtain ⟨wn', bl', ag', oc', dA, dO, HX, HY⟩ := zk_ww ⟨s3, s1⟩ ⟨t3, t1⟩ hl hA hO
          refine zk_xw2 P ne s3 t3 (fun Q h => HX _ _ _ _ _ _ _ Q h) (zk_yw2 P s3 t3 (fun Q h => HY _ _ _ _ _ _ _ Q h) ⟨rfl, ?_⟩)
          exact ⟨th, v1, kd, vl, cl, rk, rs, v1, wn', bl', ag', oc', rfl, rfl, fun _ => ⟨rfl, fun _ => hk2 s3, hr⟩, dA, dO⟩
theorem i_vc_type {k : Nat} {u : SX} {v : SY} (I : i_Rel k u v) (hk : k + 3 ≤ 1536) : wpX_type (fun r => wpY_type (fun r' => r' = r ∧ i_Rel (k + 3) u v) v) u := by
  have J := i_up I
  obtain ⟨th, ty, kd, vl, cl, rk, rs, td, wn, bl, ag, oc, rfl, rfl, hI, hA, hO⟩ := I
  by_cases h0 : th = 0
  · exact br_t h0 (br_t h0 ⟨rfl, J⟩)
  · exact br_f h0 (br_f h0 ⟨(hI h0).1, J⟩)
theorem i_vc_kind {k : Nat} {u : SX} {v : SY} (I : i_Rel k u v) (hk : k + 3 ≤ 1536) : wpX_kind (fun r => wpY_kind (fun r' => r' = r ∧ i_Rel (k + 3) u v) v) u := by
  have J := i_up I
  obtain ⟨th, ty, kd, vl, cl, rk, rs, td, wn, bl, ag, oc, rfl, rfl, hI, hA, hO⟩ := I
  by_cases h0 : th = 0
  · exact br_t h0 (br_t h0 ⟨rfl, J⟩)
  · exact br_f h0 (br_f h0 ⟨rfl, J⟩)
theorem i_vc_raw {k : Nat} {u : SX} {v : SY} (I : i_Rel k u v) (hk : k + 3 ≤ 1536) : wpX_raw (fun r => wpY_raw (fun r' => r' = r ∧ i_Rel (k + 3) u v) v) u := by
  have J := i_up I
  obtain ⟨th, ty, kd, vl, cl, rk, rs, td, wn, bl, ag, oc, rfl, rfl, hI, hA, hO⟩ := I
  by_cases h0 : th = 0
  · exact br_t h0 (br_t h0 ⟨rfl, J⟩)
  · exact br_f h0 (br_f h0 ⟨rfl, J⟩)
theorem zk_ok2N {a n : Int32} (h : zk_ok2 a n) : ∃ j : Nat, j < 2 ∧ a = nI j := by
  rcases h with e | ⟨e, _⟩
  · exact ⟨0, by decide, e⟩
  · exact ⟨1, by decide, e⟩
theorem i_vc_call {k : Nat} {u : SX} {v : SY} (I : i_Rel k u v) (hk : k + 3 ≤ 1536) (v1 : Int32) (v2 : Int32) : wpX_call (fun r u' => wpY_call (fun r' v' => r' = r ∧ i_Rel (k + 3) u' v') v v1 v2) u v1 v2 := by
  have J := i_up I
  obtain ⟨th, ty, kd, vl, cl, rk, rs, td, wn, bl, ag, oc, rfl, rfl, hI, hA, hO⟩ := I
  by_cases h0 : th = 0
  · by_cases ok : zk_ok2 v1 v2
    · exact zk_xcg ok (br_t h0 (zk_ycg ok (br_t h0 ⟨rfl, J⟩)))
    · exact zk_xcb ok (br_t h0 (zk_ycb ok (br_t h0 ⟨rfl, J⟩)))
  obtain ⟨e, hk2, hr⟩ := hI h0
  subst e
  by_cases h3 : td < 3
  · by_cases ok : zk_ok2 v1 v2
    · exact zk_xcg ok (br_f h0 (br_t h3 (br_t rfl (zk_ycg ok (br_f h0 (br_t h3 ⟨rfl, J⟩))))))
    · exact zk_xcb ok (br_f h0 (br_t h3 (br_t rfl (zk_ycb ok (br_f h0 (br_t h3 ⟨rfl, J⟩))))))
  by_cases ok : zk_ok2 v1 v2
  · by_cases hd : zk_ar td = 0 ∨ zk_ar td = v1 + 1
    · obtain ⟨j, hj, e⟩ := zk_ok2N ok
      subst e
      have r5 := hr (hk2 h3)
      obtain ⟨eA, lA⟩ := zk_Dm ag hA hj
      obtain ⟨eO, lO⟩ := zk_Dm oc hO (zk_gk2 (v := vl) hj)
      have eB : zk_mt (wn 0) (wn 1) (bl 0) (bl 1) (nI j) = -(ag j) := by
        rw [← eA, zk_mtn, Int32.neg_neg]
      rcases lA with a0 | al
      · have m0 : zk_mt (wn 0) (wn 1) (bl 0) (bl 1) (nI j) = 0 := by rw [eB, a0]; decide
        rcases lO with o0 | ol
        · refine zk_xc73 ok h0 h3 hd (zk_xm0 m0 (br_t rfl (zk_xgk (zk_xm2 (eO.trans o0) (br_t rfl (zk_xgv ?_))))))
          refine zk_yc71 ok h0 h3 hd (zk_y71a hj a0 (zk_y121 r5 (zk_y192a (zk_gk2 hj) o0 ⟨rfl, ?_⟩)))
          exact ⟨th, td, kd, vl, 1, nI (zk_gk vl j), zk_gv vl v2, td, wn, bl, ag, oc, rfl, rfl, hI, hA, hO⟩
        · refine zk_xc73 ok h0 h3 hd (zk_xm0 m0 (br_t rfl (zk_xgk (zk_xm2 eO (br_f (zk_labne ol) ?_)))))
          exact zk_yc71 ok h0 h3 hd (zk_y71a hj a0 (zk_y121 r5 (zk_y192b (zk_gk2 hj) ol ⟨rfl, J⟩)))
      · refine zk_xc73 ok h0 h3 hd (zk_xm0 eB (br_f (zk_labnn al) ?_))
        exact zk_yc71 ok h0 h3 hd (zk_y71b hj al ⟨rfl, J⟩)
    · have d0 : ¬ zk_ar td = 0 := fun z => hd (Or.inl z)
      have d1 : ¬ zk_ar td = v1 + 1 := fun z => hd (Or.inr z)
      exact zk_xcg ok (br_f h0 (br_f h3 (br_f zk_10 (br_f zk_10 (zk_xar (br_f d0 (br_f d1 (zk_ycg ok (br_f h0 (br_f h3 (br_f zk_10 (zk_yar (br_f d0 (zk_yar (br_f d1 ⟨rfl, J⟩)))))))))))))))
  · exact zk_xcb ok (br_f h0 (br_f h3 (br_f zk_10 (br_t rfl (zk_ycb ok (br_f h0 (br_f h3 (br_t rfl ⟨rfl, J⟩))))))))
theorem i_vc_resultKind {k : Nat} {u : SX} {v : SY} (I : i_Rel k u v) (hk : k + 3 ≤ 1536) : wpX_resultKind (fun r => wpY_resultKind (fun r' => r' = r ∧ i_Rel (k + 3) u v) v) u := by
  have J := i_up I
  obtain ⟨th, ty, kd, vl, cl, rk, rs, td, wn, bl, ag, oc, rfl, rfl, hI, hA, hO⟩ := I
  by_cases h0 : cl = 0
  · exact br_t h0 (br_t h0 ⟨rfl, J⟩)
  · exact br_f h0 (br_f h0 ⟨rfl, J⟩)
theorem i_vc_result {k : Nat} {u : SX} {v : SY} (I : i_Rel k u v) (hk : k + 3 ≤ 1536) : wpX_result (fun r => wpY_result (fun r' => r' = r ∧ i_Rel (k + 3) u v) v) u := by
  have J := i_up I
  obtain ⟨th, ty, kd, vl, cl, rk, rs, td, wn, bl, ag, oc, rfl, rfl, hI, hA, hO⟩ := I
  by_cases h0 : cl = 0
  · exact br_t h0 (br_t h0 ⟨rfl, J⟩)
  · exact br_f h0 (br_f h0 ⟨rfl, J⟩)
theorem i_vc_agree {k : Nat} {u : SX} {v : SY} (I : i_Rel k u v) (hk : k + 3 ≤ 1536) (v1 : Int32) (v2 : Int32) : wpX_agree (fun r => wpY_agree (fun r' => r' = r ∧ i_Rel (k + 3) u v) v v1 v2) u v1 v2 :=
  zk_xag (zk_yag ⟨rfl, i_up I⟩)
theorem i_vc_agreeing {k : Nat} {u : SX} {v : SY} (I : i_Rel k u v) (hk : k + 3 ≤ 1536) (v1 : Int32) : wpX_agreeing (fun r => wpY_agreeing (fun r' => r' = r ∧ i_Rel (k + 3) u v) v v1) u v1 := by
  have J := i_up I
  obtain ⟨th, ty, kd, vl, cl, rk, rs, td, wn, bl, ag, oc, rfl, rfl, hI, hA, hO⟩ := I
  obtain ⟨r, hX, hY⟩ := zk_cnt (x1 := th) (x2 := ty) (x3 := kd) (x4 := vl) (x5 := cl) (x6 := rk) (x7 := rs) (xa := wn) (xb := bl)
    (y1 := th) (y2 := kd) (y3 := vl) (y4 := td) (y5 := cl) (y6 := rk) (y7 := rs) (ya := ag) (yb := oc) v1 12 0 rfl 0
  rw [nI_0] at hX hY
  by_cases ht : v1 < 0 ∨ 12 ≤ v1
  · unfold wpX_agreeing
    dsimp only
    exact zk_xit0 ht (br_t rfl (Exists.intro 13 (hY _ (zk_yit0 ht (br_t rfl ⟨rfl, J⟩)))))
  · have t0 : ¬ v1 < 0 := fun z => ht (Or.inl z)
    have t1 : ¬ 12 ≤ v1 := fun z => ht (Or.inr z)
    unfold wpX_agreeing
    dsimp only
    exact zk_xit1 t0 t1 (br_f zk_10 (Exists.intro 13 (hX _ (Exists.intro 13 (hY _ (zk_yit1 t0 t1 (br_f zk_10 ⟨rfl, J⟩)))))))
end
