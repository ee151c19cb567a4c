section
/-! places of the ring, small facts -/
theorem ro_ix : ∀ k, k < 6 → ((0 : Int32) + nI k) - ((0 : Int32) + nI k) / 6 * 6 = nI k := by decide +kernel
theorem ro_cl {i : Nat} (h : i < 6) : (nI i).toNatClampNeg = i := nI_clamp (by omega)
theorem ro_cl4 {i : Nat} (h : i < 4) : (nI i).toNatClampNeg = i := nI_clamp (by omega)
theorem ro_in {i : Nat} (h : i < 6) : vp_in (nI i) 6 := vp_in_nI h (by decide)
theorem ro_in4 {i : Nat} (h : i < 4) : vp_in (nI i) 4 := vp_in_nI h (by decide)
theorem ro_neg : ∀ i, i < 6 → ¬ (-1 : Int32) = nI i := by decide +kernel
theorem ro_b8 : ∀ a, a < 64 → (nI a).toInt8.toInt32 = nI a := by decide +kernel
theorem ro_bm1 : (-1 : Int32).toInt8.toInt32 = -1 := by decide
theorem ro_nb0 : vp_nar .boolean 0 = 0 := by rfl
theorem ro_nb1 : vp_nar .boolean 1 = 1 := by rfl
theorem ro_and3 : ∀ p, p < 64 → nI p &&& 3 = nI (p % 4) := by decide +kernel
theorem ro_shr2 : ∀ p, p < 64 → (nI p >>> ((2 : Int32) &&& 31)) &&& 3 = nI (p / 4 % 4) := by decide +kernel
theorem ro_shr4 : ∀ p, p < 64 → nI p >>> ((4 : Int32) &&& 31) = nI (p / 16) := by decide +kernel
theorem ro_shr4a : ∀ p, p < 64 → (nI p >>> ((4 : Int32) &&& 31)) &&& 3 = nI (p / 16) := by decide +kernel
theorem ro_fa0 {x : Int32} (h : ¬ x < 0) (h1 : ¬ (1 : Int32) ≤ x) : x = 0 := by
  obtain ⟨j, hj, rfl⟩ := nI_of h
  by_cases e : j = 0
  · rw [e]; rfl
  · exact absurd (nI_le (a := 1) (b := j) (by omega) hj) h1
theorem ro_fan {x : Int32} (h : ¬ x < 0) (h1 : ¬ (0 : Int32) ≤ x) : False := by
  obtain ⟨j, hj, rfl⟩ := nI_of h
  exact h1 (nI_pos' hj)
/-- a maker: none, or a place of the ring -/
def ro_m (z : Int32) : Prop := z = -1 ∨ ∃ i : Nat, i < 6 ∧ z = nI i
/-- what 'work' makes of a result, of the trap flag -/
def ro_res (o x y p m : Int32) (a5 : Nat → Int32) : Int32 :=
  if o = 1 then x + y else if o = 2 then x * y else if o = 3 then (if y = 0 then 0 else x / y) else if o = 4 then a5 (x &&& 7).toNatClampNeg else if o = 6 then (if x = 0 then m else p + 1) else m
def ro_trap (o x y tr : Int32) : Int32 :=
  if o = 3 then (if y = 0 then 1 else 0) else if o = 4 then (if 0 ≤ x then 0 else 1) else if o = 5 then (if 0 ≤ y then 0 else 1) else if o = 9 then 1 else tr
/-- place 0 of the ring while it waits, works, is ready -/
def ro_K (s l m d tr x y : Int32) (b8 b9 b10 b11 b12 b15 b16 b17 b18 : Nat → Int32) : Prop :=
  b8 0 = s ∧ b9 0 = l ∧ b10 0 = m ∧ b11 0 = d ∧ b12 0 = tr ∧ b15 0 = -1 ∧ b16 0 = -1 ∧ b17 0 = x ∧ b18 0 = y
/-- the operands that an instruction reads -/
def ro_opd (o : Int32) (p : Nat) (a4 : Nat → Int32) (x y : Int32) : Prop :=
  (o = 1 ∨ o = 2 ∨ o = 3 → x = a4 (p / 4 % 4) ∧ y = a4 (p / 16)) ∧ (o = 4 → x = a4 (p / 4 % 4)) ∧ (o = 5 → x = a4 (p % 4) ∧ y = a4 (p / 4 % 4)) ∧ (o = 6 → x = a4 (p % 4))
end
section
/-! work, hand -/
theorem ro_work {post : St2 → Prop} {sz aa st ct gb fa fe fi un : Int32} {a1 a2 a3 a4 a5 a6 a7 a8 a9 a10 a11 a12 a13 a14 a15 a16 a17 a18 a19 : Nat → Int32} {i : Nat} (hi : i < 6)
    (H : ∀ b10 b11 b12 : Nat → Int32, (∀ j, j ≠ i → b10 j = a10 j ∧ b11 j = a11 j ∧ b12 j = a12 j) → b10 i = ro_res (a6 i) (a17 i) (a18 i) (a7 i) (a10 i) a5 → b12 i = ro_trap (a6 i) (a17 i) (a18 i) (a12 i) → (a6 i = 5 → b11 i = a18 i &&& 7) → post (sz, aa, st, ct, gb, fa, fe, fi, un, a1, a2, a3, a4, a5, a6, a7, a8, a9, b10, b11, b12, a13, a14, a15, a16, a17, a18, a19)) :
    wpX_work post (sz, aa, st, ct, gb, fa, fe, fi, un, a1, a2, a3, a4, a5, a6, a7, a8, a9, a10, a11, a12, a13, a14, a15, a16, a17, a18, a19) (nI i) := by
  have hin := ro_in hi
  unfold wpX_work
  dsimp only
  rw [ro_cl hi]
  refine ⟨hin, nm_e ⟨hin, nm_e ⟨hin, nm_e ?_⟩⟩⟩
  refine br_c (fun h1 => ⟨hin, nm_e (H _ a11 a12 (fun j hj => ⟨pk_un hj, rfl, rfl⟩) ?_ ?_ ?_)⟩) (fun h1 => ?_)
  · rw [pk_us]; simp [ro_res, h1]
  · simp [ro_trap, h1]
  · intro h; rw [h1] at h; exact absurd h (by decide)
  refine br_c (fun h2 => ⟨hin, nm_e (H _ a11 a12 (fun j hj => ⟨pk_un hj, rfl, rfl⟩) ?_ ?_ ?_)⟩) (fun h2 => ?_)
  · rw [pk_us]; simp [ro_res, h2]
  · simp [ro_trap, h2]
  · intro h; rw [h2] at h; exact absurd h (by decide)
  refine br_c (fun h3 => ?_) (fun h3 => ?_)
  · have k5 : ¬ a6 i = 5 := by rw [h3]; decide
    refine br_c (fun hy => ?_) (fun hy => ?_)
    · unfold wX_work_78
      rw [ro_cl hi]
      refine ⟨hin, nm_r (by rw [ro_nb1]) (br_t hy ⟨hin, nm_e (H _ a11 _ (fun j hj => ⟨pk_un hj, rfl, pk_un hj⟩) ?_ ?_ (fun h => absurd h k5))⟩)⟩
      · rw [pk_us]; simp [ro_res, h3, hy]
      · rw [pk_us]; simp [ro_trap, h3, hy]
    · unfold wX_work_78
      rw [ro_cl hi]
      refine ⟨hin, nm_r (by rw [ro_nb0]) (br_f hy ⟨hy, hin, nm_e (H _ a11 _ (fun j hj => ⟨pk_un hj, rfl, pk_un hj⟩) ?_ ?_ (fun h => absurd h k5))⟩)⟩
      · rw [pk_us]; simp [ro_res, h3, hy]
      · rw [pk_us]; simp [ro_trap, h3, hy]
  refine br_c (fun h4 => ?_) (fun h4 => ?_)
  · have k5 : ¬ a6 i = 5 := by rw [h4]; decide
    have h7 : vp_in (a17 i &&& 7) 8 := pk_andIn (a17 i) (m := 7) 3 (by decide) (by decide)
    refine br_c (fun hy => ?_) (fun hy => ?_)
    · unfold wX_work_119
      rw [ro_cl hi]
      refine ⟨hin, nm_r (by rw [ro_nb0]) ⟨h7, hin, nm_e (H _ a11 _ (fun j hj => ⟨pk_un hj, rfl, pk_un hj⟩) ?_ ?_ (fun h => absurd h k5))⟩⟩
      · rw [pk_us]; simp [ro_res, h4]
      · rw [pk_us]; simp [ro_trap, h4, hy]
    · unfold wX_work_119
      rw [ro_cl hi]
      refine ⟨hin, nm_r (by rw [ro_nb1]) ⟨h7, hin, nm_e (H _ a11 _ (fun j hj => ⟨pk_un hj, rfl, pk_un hj⟩) ?_ ?_ (fun h => absurd h k5))⟩⟩
      · rw [pk_us]; simp [ro_res, h4]
      · rw [pk_us]; simp [ro_trap, h4, hy]
  refine br_c (fun h5 => ?_) (fun h5 => ?_)
  · refine br_c (fun hy => ?_) (fun hy => ?_)
    · unfold wX_work_158
      rw [ro_cl hi]
      refine ⟨hin, nm_r (by rw [ro_nb0]) ⟨hin, nm_e (H a10 _ _ (fun j hj => ⟨rfl, pk_un hj, pk_un hj⟩) ?_ ?_ (fun _ => pk_us))⟩⟩
      · simp [ro_res, h5]
      · rw [pk_us]; simp [ro_trap, h5, hy]
    · unfold wX_work_158
      rw [ro_cl hi]
      refine ⟨hin, nm_r (by rw [ro_nb1]) ⟨hin, nm_e (H a10 _ _ (fun j hj => ⟨rfl, pk_un hj, pk_un hj⟩) ?_ ?_ (fun _ => pk_us))⟩⟩
      · simp [ro_res, h5]
      · rw [pk_us]; simp [ro_trap, h5, hy]
  refine br_c (fun h6 => ?_) (fun h6 => ?_)
  · refine br_c (fun hx => ⟨hin, hin, nm_e (H _ a11 a12 (fun j hj => ⟨pk_un hj, rfl, rfl⟩) ?_ ?_ (fun h => absurd h h5))⟩) (fun hx => ⟨hin, hin, nm_e (H _ a11 a12 (fun j hj => ⟨pk_un hj, rfl, rfl⟩) ?_ ?_ (fun h => absurd h h5))⟩)
    · rw [pk_us]; simp [ro_res, h6, hx]
    · simp [ro_trap, h6]
    · rw [pk_us]; simp [ro_res, h6, hx]
    · simp [ro_trap, h6]
  refine br_c (fun h9 => ⟨hin, nm_e (H a10 a11 _ (fun j hj => ⟨rfl, rfl, pk_un hj⟩) ?_ ?_ (fun h => absurd h h5))⟩) (fun h9 => H a10 a11 a12 (fun j _ => ⟨rfl, rfl, rfl⟩) ?_ ?_ (fun h => absurd h h5))
  · simp [ro_res, h9]
  · rw [pk_us]; simp [ro_trap, h9]
  · simp [ro_res, h1, h2, h3, h4, h6]
  · simp [ro_trap, h3, h4, h5, h9]
theorem ro_hand {post : St2 → Prop} {sz aa st ct gb fa fe : Int32} {a1 a2 a3 a4 a5 a6 a7 a8 a9 a10 a11 a12 a13 a14 a15 a16 a17 a18 a19 : Nat → Int32} {u i : Nat} (hu : u ≤ 6) (hi : i < 6) (h15 : a15 0 = -1) (h16 : a16 0 = -1)
    (H : ∀ b15 b16 b17 b18 : Nat → Int32, b15 0 = -1 → b16 0 = -1 → b17 0 = a17 0 → b18 0 = a18 0 → post (sz, aa, st, ct, gb, fa, fe, 0, nI u, a1, a2, a3, a4, a5, a6, a7, a8, a9, a10, a11, a12, a13, a14, b15, b16, b17, b18, a19)) :
    wpX_hand post (sz, aa, st, ct, gb, fa, fe, 0, nI u, a1, a2, a3, a4, a5, a6, a7, a8, a9, a10, a11, a12, a13, a14, a15, a16, a17, a18, a19) (nI i) := by
  unfold wpX_hand
  dsimp only
  have key : ∀ (n k : Nat) (b15 b16 b17 b18 : Nat → Int32), k ≤ u → u - k < n → b15 0 = -1 → b16 0 = -1 → b17 0 = a17 0 → b18 0 = a18 0 → wX_hand_2 post (nI i) sz aa st ct gb fa fe 0 (nI u) n (nI k) a1 a2 a3 a4 a5 a6 a7 a8 a9 a10 a11 a12 a13 a14 b15 b16 b17 b18 a19 := by
    intro n
    induction n with
    | zero => intro k b15 b16 b17 b18 hk hn; omega
    | succ n ih =>
      intro k b15 b16 b17 b18 hk hn e15 e16 e17 e18
      refine pk_le u k (fun _ => H _ _ _ _ e15 e16 e17 e18) (fun hlt => ⟨by decide, nm_r (ro_ix k (by omega)) ⟨ro_in (by omega), ?_⟩⟩)
      have hk6 : k < 6 := by omega
      have h49 : ∀ c15 c17 : Nat → Int32, c15 0 = -1 → c17 0 = a17 0 → wX_hand_49 post (wX_hand_2 post (nI i) sz aa st ct gb fa fe 0 (nI u) n) (nI i) (nI k) (nI k) sz aa st ct gb fa fe 0 (nI u) a1 a2 a3 a4 a5 a6 a7 a8 a9 a10 a11 a12 a13 a14 c15 b16 c17 b18 a19 := by
        intro c15 c17 f15 f17
        unfold wX_hand_49
        rw [ro_cl hk6, ro_cl hi]
        refine ⟨ro_in hk6, br_c (fun hq => ⟨ro_in hk6, nm_e ⟨ro_in hi, ro_in hk6, nm_e (nm_r (nI_1 k) (ih (k + 1) _ _ _ _ (by omega) (by omega) f15 ?_ f17 ?_))⟩⟩) (fun _ => nm_r (nI_1 k) (ih (k + 1) _ _ _ _ (by omega) (by omega) f15 e16 f17 e18))⟩
        · have hz : (0 : Nat) ≠ k := by
            intro h
            rw [← h, e16] at hq
            exact ro_neg i hi hq
          rw [pk_un hz]; exact e16
        · have hz : (0 : Nat) ≠ k := by
            intro h
            rw [← h, e16] at hq
            exact ro_neg i hi hq
          rw [pk_un hz]; exact e18
      rw [ro_cl hk6, ro_cl hi]
      refine br_c (fun hq => ⟨ro_in hk6, nm_e ⟨ro_in hi, ro_in hk6, nm_e (h49 _ _ ?_ ?_)⟩⟩) (fun _ => h49 b15 b17 e15 e17)
      · have hz : (0 : Nat) ≠ k := by
          intro h
          rw [← h, e15] at hq
          exact ro_neg i hi hq
        rw [pk_un hz]; exact e15
      · have hz : (0 : Nat) ≠ k := by
          intro h
          rw [← h, e15] at hq
          exact ro_neg i hi hq
        rw [pk_un hz]; exact e17
  exact ⟨u + 1, key (u + 1) 0 a15 a16 a17 a18 (by omega) (by omega) h15 h16 rfl rfl⟩
end
section
/-! complete -/
theorem ro_c52 {post : St2 → Prop} {J : Int32 → Int32 → Int32 → Int32 → Int32 → Int32 → Int32 → Int32 → Int32 → Int32 → Int32 → (Nat → Int32) → (Nat → Int32) → (Nat → Int32) → (Nat → Int32) → (Nat → Int32) → (Nat → Int32) → (Nat → Int32) → (Nat → Int32) → (Nat → Int32) → (Nat → Int32) → (Nat → Int32) → (Nat → Int32) → (Nat → Int32) → (Nat → Int32) → (Nat → Int32) → (Nat → Int32) → (Nat → Int32) → (Nat → Int32) → (Nat → Int32) → Prop} {sz aa st ct gb fa fe : Int32} {a1 a2 a3 a4 a5 a6 a7 a8 a9 a10 a11 a12 a13 a14 a15 a16 a17 a18 a19 : Nat → Int32} {u i k : Nat} {x1 : Int32} (hu : u ≤ 6) (hi : i < 6) (h15 : a15 0 = -1) (h16 : a16 0 = -1)
    (H0 : ¬ (a9 i = 0 ∧ ¬ x1 = 0) → J x1 (nI (k + 1)) sz aa st ct gb fa fe 0 (nI u) a1 a2 a3 a4 a5 a6 a7 a8 a9 a10 a11 a12 a13 a14 a15 a16 a17 a18 a19)
    (H1 : a9 i = 0 → ¬ x1 = 0 → ∀ b8 b10 b11 b12 b15 b16 b17 b18 : Nat → Int32, (∀ j, j ≠ i → b8 j = a8 j ∧ b10 j = a10 j ∧ b11 j = a11 j ∧ b12 j = a12 j) → b8 i = 2 → b10 i = ro_res (a6 i) (a17 i) (a18 i) (a7 i) (a10 i) a5 → b12 i = ro_trap (a6 i) (a17 i) (a18 i) (a12 i) → (a6 i = 5 → b11 i = a18 i &&& 7) → b15 0 = -1 → b16 0 = -1 → b17 0 = a17 0 → b18 0 = a18 0 → J 0 (nI (k + 1)) sz aa st ct gb fa fe 0 (nI u) a1 a2 a3 a4 a5 a6 a7 b8 a9 b10 b11 b12 a13 a14 b15 b16 b17 b18 a19) :
    wX_complete_52 post J x1 (nI k) (nI i) sz aa st ct gb fa fe 0 (nI u) a1 a2 a3 a4 a5 a6 a7 a8 a9 a10 a11 a12 a13 a14 a15 a16 a17 a18 a19 := by
  unfold wX_complete_52
  rw [ro_cl hi]
  refine ⟨ro_in hi, br_c (fun h9 => br_c (fun h1 => nm_r (nI_1 k) (H0 (fun h => h.2 h1))) (fun h1 => ?_)) (fun h9 => nm_r (nI_1 k) (H0 (fun h => h9 h.1)))⟩
  refine ro_work hi (fun b10 b11 b12 hf e10 e12 e11 => ⟨ro_in hi, nm_e ?_⟩)
  refine ro_hand hu hi h15 h16 (fun b15 b16 b17 b18 e15 e16 e17 e18 => nm_r (nI_1 k) ?_)
  exact H1 h9 h1 _ _ _ _ _ _ _ _ (fun j hj => ⟨pk_un hj, hf j hj⟩) pk_us e10 e12 e11 e15 e16 e17 e18
theorem ro_c4 {post : St2 → Prop} {sz aa st ct gb fa fe : Int32} {a1 a2 a3 a4 a5 a6 a7 a13 a14 a19 : Nat → Int32} {u : Nat} {s l m d tr x y : Int32} (hu : u ≤ 6)
    (H : ∀ b8 b9 b10 b11 b12 b15 b16 b17 b18 : Nat → Int32, ro_K s l m d tr x y b8 b9 b10 b11 b12 b15 b16 b17 b18 → post (sz, aa, st, ct, gb, fa, fe, 0, nI u, a1, a2, a3, a4, a5, a6, a7, b8, b9, b10, b11, b12, a13, a14, b15, b16, b17, b18, a19)) :
    ∀ (n k : Nat) (x1 : Int32) (b8 b9 b10 b11 b12 b15 b16 b17 b18 : Nat → Int32), 1 ≤ k → k ≤ u → u - k < n → ro_K s l m d tr x y b8 b9 b10 b11 b12 b15 b16 b17 b18 → wX_complete_4 post n x1 (nI k) sz aa st ct gb fa fe 0 (nI u) a1 a2 a3 a4 a5 a6 a7 b8 b9 b10 b11 b12 a13 a14 b15 b16 b17 b18 a19 := by
  intro n
  induction n with
  | zero => intro k x1 b8 b9 b10 b11 b12 b15 b16 b17 b18 h1 hk hn; omega
  | succ n ih =>
    intro k x1 b8 b9 b10 b11 b12 b15 b16 b17 b18 h1 hk hn hK
    refine pk_le u k (fun _ => H _ _ _ _ _ _ _ _ _ hK) (fun hlt => ⟨by decide, nm_r (ro_ix k (by omega)) ⟨ro_in (by omega), ?_⟩⟩)
    have hk6 : k < 6 := by omega
    have h0 : (0 : Nat) ≠ k := by omega
    have h52 : ∀ c9 : Nat → Int32, c9 0 = l → wX_complete_52 post (wX_complete_4 post n) x1 (nI k) (nI k) sz aa st ct gb fa fe 0 (nI u) a1 a2 a3 a4 a5 a6 a7 b8 c9 b10 b11 b12 a13 a14 b15 b16 b17 b18 a19 := by
      intro c9 hc9
      obtain ⟨e8, e9, e10, e11, e12, e15, e16, e17, e18⟩ := hK
      refine ro_c52 hu hk6 e15 e16 (fun _ => ih (k + 1) x1 _ _ _ _ _ _ _ _ _ (by omega) (by omega) (by omega) ⟨e8, hc9, e10, e11, e12, e15, e16, e17, e18⟩) (fun _ _ d8 d10 d11 d12 d15 d16 d17 d18 hf _ _ _ _ g15 g16 g17 g18 => ih (k + 1) 0 _ _ _ _ _ _ _ _ _ (by omega) (by omega) (by omega) ⟨(hf 0 h0).1.trans e8, hc9, (hf 0 h0).2.1.trans e10, (hf 0 h0).2.2.1.trans e11, (hf 0 h0).2.2.2.trans e12, g15, g16, g17.trans e17, g18.trans e18⟩)
    rw [ro_cl hk6]
    exact br_c (fun _ => ⟨ro_in hk6, br_c (fun _ => h52 b9 hK.2.1) (fun _ => ⟨ro_in hk6, ro_in hk6, nm_e (h52 _ (by rw [pk_un h0]; exact hK.2.1))⟩)⟩) (fun _ => nm_r (nI_1 k) (ih (k + 1) x1 _ _ _ _ _ _ _ _ _ (by omega) (by omega) (by omega) hK))
/-- nothing under way -/
theorem ro_complete_0 {post : St2 → Prop} {sz aa st ct gb fa fe : Int32} {a1 a2 a3 a4 a5 a6 a7 a8 a9 a10 a11 a12 a13 a14 a15 a16 a17 a18 a19 : Nat → Int32} (H : post (sz, aa, st, ct, gb, fa, fe, 0, 0, a1, a2, a3, a4, a5, a6, a7, a8, a9, a10, a11, a12, a13, a14, a15, a16, a17, a18, a19)) : wpX_complete post (sz, aa, st, ct, gb, fa, fe, 0, 0, a1, a2, a3, a4, a5, a6, a7, a8, a9, a10, a11, a12, a13, a14, a15, a16, a17, a18, a19) := by
  unfold wpX_complete
  dsimp only
  exact ⟨1, pk_le 0 0 (fun _ => H) (fun h => absurd h (by omega))⟩
/-- place 0 isn't at work -/
theorem ro_complete_keep {post : St2 → Prop} {sz aa st ct gb fa fe : Int32} {a1 a2 a3 a4 a5 a6 a7 a8 a9 a10 a11 a12 a13 a14 a15 a16 a17 a18 a19 : Nat → Int32} {u : Nat} {s l m d tr x y : Int32} (h1 : 1 ≤ u) (hu : u ≤ 6) (hs : ¬ s = 1) (hK : ro_K s l m d tr x y a8 a9 a10 a11 a12 a15 a16 a17 a18)
    (H : ∀ b8 b9 b10 b11 b12 b15 b16 b17 b18 : Nat → Int32, ro_K s l m d tr x y b8 b9 b10 b11 b12 b15 b16 b17 b18 → post (sz, aa, st, ct, gb, fa, fe, 0, nI u, a1, a2, a3, a4, a5, a6, a7, b8, b9, b10, b11, b12, a13, a14, b15, b16, b17, b18, a19)) :
    wpX_complete post (sz, aa, st, ct, gb, fa, fe, 0, nI u, a1, a2, a3, a4, a5, a6, a7, a8, a9, a10, a11, a12, a13, a14, a15, a16, a17, a18, a19) := by
  unfold wpX_complete
  dsimp only
  refine ⟨(u + 1) + 1, pk_le u 0 (fun h => absurd h (by omega)) (fun hlt => ⟨by decide, nm_r (ro_ix 0 (by omega)) ⟨ro_in (by omega), ?_⟩⟩)⟩
  rw [ro_cl (show 0 < 6 by omega)]
  refine br_f (by rw [hK.1]; exact hs) (nm_r (nI_1 0) ?_)
  exact ro_c4 hu H (u + 1) 1 1 _ _ _ _ _ _ _ _ _ (by omega) h1 (by omega) hK
theorem ro_dec : ∀ l, l < 6 → (nI (l + 1) - 1).toInt8.toInt32 = nI l := by decide +kernel
/-- place 0 works on -/
theorem ro_complete_dec {post : St2 → Prop} {sz aa st ct gb fa fe : Int32} {a1 a2 a3 a4 a5 a6 a7 a8 a9 a10 a11 a12 a13 a14 a15 a16 a17 a18 a19 : Nat → Int32} {u k : Nat} {m d tr x y : Int32} (h1 : 1 ≤ u) (hu : u ≤ 6) (hk : k < 4) (hK : ro_K 1 (nI (k + 2)) m d tr x y a8 a9 a10 a11 a12 a15 a16 a17 a18)
    (H : ∀ b8 b9 b10 b11 b12 b15 b16 b17 b18 : Nat → Int32, ro_K 1 (nI (k + 1)) m d tr x y b8 b9 b10 b11 b12 b15 b16 b17 b18 → post (sz, aa, st, ct, gb, fa, fe, 0, nI u, a1, a2, a3, a4, a5, a6, a7, b8, b9, b10, b11, b12, a13, a14, b15, b16, b17, b18, a19)) :
    wpX_complete post (sz, aa, st, ct, gb, fa, fe, 0, nI u, a1, a2, a3, a4, a5, a6, a7, a8, a9, a10, a11, a12, a13, a14, a15, a16, a17, a18, a19) := by
  unfold wpX_complete
  dsimp only
  refine ⟨(u + 1) + 1, pk_le u 0 (fun h => absurd h (by omega)) (fun hlt => ⟨by decide, nm_r (ro_ix 0 (by omega)) ⟨ro_in (by omega), ?_⟩⟩)⟩
  obtain ⟨e8, e9, e10, e11, e12, e15, e16, e17, e18⟩ := hK
  rw [ro_cl (show 0 < 6 by omega), e8, e9, ro_dec (k + 1) (by omega)]
  refine br_t rfl ⟨ro_in (by omega), pk_le (k + 2) 0 (fun h => absurd h (by omega)) (fun _ => ⟨ro_in (by omega), ro_in (by omega), nm_e ?_⟩)⟩
  refine ro_c52 hu (by omega) e15 e16 (fun _ => ro_c4 hu H (u + 1) 1 1 _ _ _ _ _ _ _ _ _ (by omega) h1 (by omega) ⟨e8, pk_us, e10, e11, e12, e15, e16, e17, e18⟩) (fun h => ?_)
  rw [pk_us] at h
  exact absurd h (nI_ne0 (by omega) (by omega))
/-- place 0 is through -/
theorem ro_complete_fin {post : St2 → Prop} {sz aa st ct gb fa fe : Int32} {a1 a2 a3 a4 a5 a6 a7 a8 a9 a10 a11 a12 a13 a14 a15 a16 a17 a18 a19 : Nat → Int32} {u : Nat} {m d tr x y : Int32} (h1 : 1 ≤ u) (hu : u ≤ 6) (hK : ro_K 1 (nI 1) m d tr x y a8 a9 a10 a11 a12 a15 a16 a17 a18)
    (H : ∀ (d' : Int32) (b8 b9 b10 b11 b12 b15 b16 b17 b18 : Nat → Int32), (a6 0 = 5 → d' = y &&& 7) → ro_K 2 (nI 0) (ro_res (a6 0) x y (a7 0) m a5) d' (ro_trap (a6 0) x y tr) x y b8 b9 b10 b11 b12 b15 b16 b17 b18 → post (sz, aa, st, ct, gb, fa, fe, 0, nI u, a1, a2, a3, a4, a5, a6, a7, b8, b9, b10, b11, b12, a13, a14, b15, b16, b17, b18, a19)) :
    wpX_complete post (sz, aa, st, ct, gb, fa, fe, 0, nI u, a1, a2, a3, a4, a5, a6, a7, a8, a9, a10, a11, a12, a13, a14, a15, a16, a17, a18, a19) := by
  unfold wpX_complete
  dsimp only
  refine ⟨(u + 1) + 1, pk_le u 0 (fun h => absurd h (by omega)) (fun hlt => ⟨by decide, nm_r (ro_ix 0 (by omega)) ⟨ro_in (by omega), ?_⟩⟩)⟩
  obtain ⟨e8, e9, e10, e11, e12, e15, e16, e17, e18⟩ := hK
  rw [ro_cl (show 0 < 6 by omega), e8, e9, ro_dec 0 (by omega)]
  refine br_t rfl ⟨ro_in (by omega), pk_le 1 0 (fun h => absurd h (by omega)) (fun _ => ⟨ro_in (by omega), ro_in (by omega), nm_e ?_⟩)⟩
  refine ro_c52 hu (by omega) e15 e16 (fun h => absurd ⟨pk_us, by decide⟩ h) (fun _ _ d8 d10 d11 d12 d15 d16 d17 d18 hf f8 f10 f12 f11 g15 g16 g17 g18 => ?_)
  rw [e17, e18, e10] at f10
  rw [e17, e18, e12] at f12
  rw [e18] at f11
  exact ro_c4 hu (H (d11 0) · · · · · · · · · f11 ·) (u + 1) 1 0 _ _ _ _ _ _ _ _ _ (by omega) h1 (by omega) ⟨f8, pk_us, f10, rfl, f12, g15, g16, g17.trans e17, g18.trans e18⟩
end
section
/-! begin -/
theorem ro_lat {P : Int32 → Prop} {o : Int32} (H : ∀ l, 1 ≤ l → l ≤ 5 → P (nI l)) : wpX_latency P () o :=
  br_c (fun _ => H 5 (by omega) (by omega)) (fun _ => br_c (fun _ => H 3 (by omega) (by omega)) (fun _ => br_c (fun _ => H 2 (by omega) (by omega)) (fun _ => H 1 (by omega) (by omega))))
theorem ro_b215 {post : St2 → Prop} {J : Int32 → Int32 → Int32 → (Nat → Int32) → (Nat → Int32) → (Nat → Int32) → (Nat → Int32) → (Nat → Int32) → (Nat → Int32) → (Nat → Int32) → (Nat → Int32) → (Nat → Int32) → (Nat → Int32) → (Nat → Int32) → (Nat → Int32) → (Nat → Int32) → (Nat → Int32) → (Nat → Int32) → (Nat → Int32) → (Nat → Int32) → (Nat → Int32) → (Nat → Int32) → Prop} {sz aa st ct gb fa fe fi un : Int32} {a1 a2 a3 a4 a5 a6 a7 a8 a9 a10 a11 a12 a13 a14 a15 a16 a17 a18 a19 : Nat → Int32} {x1 x2 : Int32} {k i : Nat} (hi : i < 6) (H : ∀ x2', J x1 x2' (nI (k + 1)) a1 a2 a3 a4 a5 a6 a7 a8 a9 a10 a11 a12 a13 a14 a15 a16 a17 a18 a19) :
    wX_begin_215 post J x1 x2 (nI k) (nI i) sz aa st ct gb fa fe fi un a1 a2 a3 a4 a5 a6 a7 a8 a9 a10 a11 a12 a13 a14 a15 a16 a17 a18 a19 := by
  unfold wX_begin_215
  exact ⟨ro_in hi, br_c (fun _ => nm_e (nm_r (nI_1 k) (H _))) (fun _ => nm_e (nm_r (nI_1 k) (H _)))⟩
theorem ro_b184 {post : St2 → Prop} {J : Int32 → Int32 → Int32 → (Nat → Int32) → (Nat → Int32) → (Nat → Int32) → (Nat → Int32) → (Nat → Int32) → (Nat → Int32) → (Nat → Int32) → (Nat → Int32) → (Nat → Int32) → (Nat → Int32) → (Nat → Int32) → (Nat → Int32) → (Nat → Int32) → (Nat → Int32) → (Nat → Int32) → (Nat → Int32) → (Nat → Int32) → (Nat → Int32) → (Nat → Int32) → Prop} {sz aa st ct gb fa fe fi un : Int32} {a1 a2 a3 a4 a5 a6 a7 a8 a9 a10 a11 a12 a13 a14 a15 a16 a17 a18 a19 : Nat → Int32} {x1 x2 x5 : Int32} {k i : Nat} (hi : i < 6) (H : ∀ x1' x2' l, 1 ≤ l → l ≤ 5 → J x1' x2' (nI (k + 1)) a1 a2 a3 a4 a5 a6 a7 (upd a8 i 1) (upd a9 i (nI l)) a10 a11 a12 a13 a14 a15 a16 a17 a18 a19) :
    wX_begin_184 post J x1 x2 (nI k) (nI i) x5 sz aa st ct gb fa fe fi un a1 a2 a3 a4 a5 a6 a7 a8 a9 a10 a11 a12 a13 a14 a15 a16 a17 a18 a19 := by
  unfold wX_begin_184
  rw [ro_cl hi]
  refine ⟨ro_in hi, nm_e ⟨ro_in hi, ro_lat (fun l h1 h5 => ⟨ro_in hi, nm_r (by rw [ro_b8 l (by omega)]) (nm_e (ro_b215 hi (fun x2' => H _ _ l h1 h5)))⟩)⟩⟩
/-- any place -/
theorem ro_b116 {post : St2 → Prop} {J : Int32 → Int32 → Int32 → (Nat → Int32) → (Nat → Int32) → (Nat → Int32) → (Nat → Int32) → (Nat → Int32) → (Nat → Int32) → (Nat → Int32) → (Nat → Int32) → (Nat → Int32) → (Nat → Int32) → (Nat → Int32) → (Nat → Int32) → (Nat → Int32) → (Nat → Int32) → (Nat → Int32) → (Nat → Int32) → (Nat → Int32) → (Nat → Int32) → (Nat → Int32) → Prop} {sz aa st ct gb fa fe fi un : Int32} {a1 a2 a3 a4 a5 a6 a7 a8 a9 a10 a11 a12 a13 a14 a15 a16 a17 a18 a19 : Nat → Int32} {x1 x2 z : Int32} {k i : Nat} (hi : i < 6) (H : ∀ x1' x2' b8 b9, (∀ j, j ≠ i → b8 j = a8 j ∧ b9 j = a9 j) → J x1' x2' (nI (k + 1)) a1 a2 a3 a4 a5 a6 a7 b8 b9 a10 a11 a12 a13 a14 a15 a16 a17 a18 a19) :
    wX_begin_116 post J x1 x2 (nI k) (nI i) z sz aa st ct gb fa fe fi un a1 a2 a3 a4 a5 a6 a7 a8 a9 a10 a11 a12 a13 a14 a15 a16 a17 a18 a19 := by
  have h215 : wX_begin_215 post J x1 x2 (nI k) (nI i) sz aa st ct gb fa fe fi un a1 a2 a3 a4 a5 a6 a7 a8 a9 a10 a11 a12 a13 a14 a15 a16 a17 a18 a19 := ro_b215 hi (fun x2' => H _ _ a8 a9 (fun j _ => ⟨rfl, rfl⟩))
  have h184 : wX_begin_184 post J x1 x2 (nI k) (nI i) z sz aa st ct gb fa fe fi un a1 a2 a3 a4 a5 a6 a7 a8 a9 a10 a11 a12 a13 a14 a15 a16 a17 a18 a19 := ro_b184 hi (fun x1' x2' l _ _ => H _ _ _ _ (fun j hj => ⟨pk_un hj, pk_un hj⟩))
  have h169 : wX_begin_169 post J x1 x2 (nI k) (nI i) z sz aa st ct gb fa fe fi un a1 a2 a3 a4 a5 a6 a7 a8 a9 a10 a11 a12 a13 a14 a15 a16 a17 a18 a19 := by
    unfold wX_begin_169
    exact ⟨ro_in hi, br_c (fun _ => br_c (fun _ => h184) (fun _ => h215)) (fun _ => h184)⟩
  have h153 : ∀ w, wX_begin_153 post J x1 x2 (nI k) (nI i) z w sz aa st ct gb fa fe fi un a1 a2 a3 a4 a5 a6 a7 a8 a9 a10 a11 a12 a13 a14 a15 a16 a17 a18 a19 := by
    intro w
    unfold wX_begin_153
    exact br_c (fun _ => h215) (fun _ => br_c (fun _ => h169) (fun _ => br_c (fun _ => h169) (fun _ => h215)))
  unfold wX_begin_116
  exact ⟨ro_in hi, br_c (fun _ => ⟨ro_in hi, br_c (fun _ => h153 0) (fun _ => ⟨ro_in hi, br_c (fun _ => h153 0) (fun _ => h153 1)⟩)⟩) (fun _ => h153 0)⟩
/-- a place that doesn't wait -/
theorem ro_b116_skip {post : St2 → Prop} {J : Int32 → Int32 → Int32 → (Nat → Int32) → (Nat → Int32) → (Nat → Int32) → (Nat → Int32) → (Nat → Int32) → (Nat → Int32) → (Nat → Int32) → (Nat → Int32) → (Nat → Int32) → (Nat → Int32) → (Nat → Int32) → (Nat → Int32) → (Nat → Int32) → (Nat → Int32) → (Nat → Int32) → (Nat → Int32) → (Nat → Int32) → (Nat → Int32) → (Nat → Int32) → Prop} {sz aa st ct gb fa fe fi un : Int32} {a1 a2 a3 a4 a5 a6 a7 a8 a9 a10 a11 a12 a13 a14 a15 a16 a17 a18 a19 : Nat → Int32} {x1 x2 z : Int32} {k i : Nat} (hi : i < 6) (h8 : ¬ a8 i = 0) (H : ∀ x2', J x1 x2' (nI (k + 1)) a1 a2 a3 a4 a5 a6 a7 a8 a9 a10 a11 a12 a13 a14 a15 a16 a17 a18 a19) :
    wX_begin_116 post J x1 x2 (nI k) (nI i) z sz aa st ct gb fa fe fi un a1 a2 a3 a4 a5 a6 a7 a8 a9 a10 a11 a12 a13 a14 a15 a16 a17 a18 a19 := by
  unfold wX_begin_116
  rw [ro_cl hi]
  refine ⟨ro_in hi, br_f h8 ?_⟩
  unfold wX_begin_152 wX_begin_153
  exact br_t rfl (ro_b215 hi H)
/-- place 0 begins -/
theorem ro_b116_first {post : St2 → Prop} {J : Int32 → Int32 → Int32 → (Nat → Int32) → (Nat → Int32) → (Nat → Int32) → (Nat → Int32) → (Nat → Int32) → (Nat → Int32) → (Nat → Int32) → (Nat → Int32) → (Nat → Int32) → (Nat → Int32) → (Nat → Int32) → (Nat → Int32) → (Nat → Int32) → (Nat → Int32) → (Nat → Int32) → (Nat → Int32) → (Nat → Int32) → (Nat → Int32) → (Nat → Int32) → Prop} {sz aa st ct gb fa fe fi un : Int32} {a1 a2 a3 a4 a5 a6 a7 a8 a9 a10 a11 a12 a13 a14 a15 a16 a17 a18 a19 : Nat → Int32} {z : Int32} {k i : Nat} (hi : i < 6) (h8 : a8 i = 0) (h15 : a15 i = -1) (h16 : a16 i = -1) (H : ∀ x1' x2' l, 1 ≤ l → l ≤ 5 → J x1' x2' (nI (k + 1)) a1 a2 a3 a4 a5 a6 a7 (upd a8 i 1) (upd a9 i (nI l)) a10 a11 a12 a13 a14 a15 a16 a17 a18 a19) :
    wX_begin_116 post J 0 0 (nI k) (nI i) z sz aa st ct gb fa fe fi un a1 a2 a3 a4 a5 a6 a7 a8 a9 a10 a11 a12 a13 a14 a15 a16 a17 a18 a19 := by
  have h184 : wX_begin_184 post J 0 0 (nI k) (nI i) z sz aa st ct gb fa fe fi un a1 a2 a3 a4 a5 a6 a7 a8 a9 a10 a11 a12 a13 a14 a15 a16 a17 a18 a19 := ro_b184 hi H
  have h169 : wX_begin_169 post J 0 0 (nI k) (nI i) z sz aa st ct gb fa fe fi un a1 a2 a3 a4 a5 a6 a7 a8 a9 a10 a11 a12 a13 a14 a15 a16 a17 a18 a19 := by
    unfold wX_begin_169
    exact ⟨ro_in hi, br_c (fun _ => br_t rfl h184) (fun _ => h184)⟩
  unfold wX_begin_116
  rw [ro_cl hi]
  refine ⟨ro_in hi, br_t h8 ⟨ro_in hi, br_f (by rw [h15]; decide) ⟨ro_in hi, br_f (by rw [h16]; decide) ?_⟩⟩⟩
  unfold wX_begin_153
  exact br_f (by decide) (br_c (fun _ => h169) (fun _ => br_t rfl h169))
theorem ro_b70 {post : St2 → Prop} {sz aa st ct gb fa fe : Int32} {a1 a2 a3 a4 a5 a6 a7 a10 a11 a12 a13 a14 a15 a16 a17 a18 a19 : Nat → Int32} {u : Nat} {s l : Int32} (hu : u ≤ 6)
    (H : ∀ b8 b9 : Nat → Int32, b8 0 = s → b9 0 = l → post (sz, aa, st, ct, gb, fa, fe, 0, nI u, a1, a2, a3, a4, a5, a6, a7, b8, b9, a10, a11, a12, a13, a14, a15, a16, a17, a18, a19)) :
    ∀ (n k : Nat) (x1 x2 : Int32) (b8 b9 : Nat → Int32), 1 ≤ k → k ≤ u → u - k < n → b8 0 = s → b9 0 = l → wX_begin_70 post sz aa st ct gb fa fe 0 (nI u) n x1 x2 (nI k) a1 a2 a3 a4 a5 a6 a7 b8 b9 a10 a11 a12 a13 a14 a15 a16 a17 a18 a19 := by
  intro n
  induction n with
  | zero => intro k x1 x2 b8 b9 h1 hk hn; omega
  | succ n ih =>
    intro k x1 x2 b8 b9 h1 hk hn e8 e9
    refine pk_le u k (fun _ => H _ _ e8 e9) (fun hlt => ⟨by decide, nm_r (ro_ix k (by omega)) ⟨ro_in (by omega), ?_⟩⟩)
    have hk6 : k < 6 := by omega
    have h0 : (0 : Nat) ≠ k := by omega
    have h116 : ∀ z, wX_begin_116 post (wX_begin_70 post sz aa st ct gb fa fe 0 (nI u) n) x1 x2 (nI k) (nI k) z sz aa st ct gb fa fe 0 (nI u) a1 a2 a3 a4 a5 a6 a7 b8 b9 a10 a11 a12 a13 a14 a15 a16 a17 a18 a19 := fun z =>
      ro_b116 hk6 (fun x1' x2' c8 c9 hf => ih (k + 1) x1' x2' c8 c9 (by omega) (by omega) (by omega) ((hf 0 h0).1.trans e8) ((hf 0 h0).2.trans e9))
    exact br_c (fun _ => h116 1) (fun _ => ⟨ro_in hk6, br_c (fun _ => h116 1) (fun _ => h116 0)⟩)
theorem ro_b4 {post : St2 → Prop} {sz aa st ct gb fa fe : Int32} {a1 a2 a3 a4 a5 a6 a7 a8 a9 a10 a11 a12 a13 a14 a15 a16 a17 a18 a19 : Nat → Int32} {u : Nat} (hu : u ≤ 6) (H : ∀ x1, ∃ n, wX_begin_70 post sz aa st ct gb fa fe 0 (nI u) n x1 0 0 a1 a2 a3 a4 a5 a6 a7 a8 a9 a10 a11 a12 a13 a14 a15 a16 a17 a18 a19) :
    ∀ (n k : Nat) (x1 : Int32), k ≤ u → u - k < n → wX_begin_4 post sz aa st ct gb fa fe 0 (nI u) a1 a2 a3 a4 a5 a6 a7 a8 a9 a10 a11 a12 a13 a14 a15 a16 a17 a18 a19 n x1 (nI k) := by
  intro n
  induction n with
  | zero => intro k x1 hk hn; omega
  | succ n ih =>
    intro k x1 hk hn
    refine pk_le u k (fun _ => H x1) (fun hlt => ⟨by decide, nm_r (ro_ix k (by omega)) ⟨ro_in (by omega), ?_⟩⟩)
    have hk6 : k < 6 := by omega
    have hi : ∀ y, wX_begin_4 post sz aa st ct gb fa fe 0 (nI u) a1 a2 a3 a4 a5 a6 a7 a8 a9 a10 a11 a12 a13 a14 a15 a16 a17 a18 a19 n y (nI (k + 1)) := fun y => ih (k + 1) y (by omega) (by omega)
    exact br_c (fun _ => ⟨ro_in hk6, br_c (fun _ => nm_e (nm_r (nI_1 k) (hi _))) (fun _ => ⟨ro_in hk6, br_c (fun _ => nm_e (nm_r (nI_1 k) (hi _))) (fun _ => nm_e (nm_r (nI_1 k) (hi _)))⟩)⟩) (fun _ => nm_e (nm_r (nI_1 k) (hi _)))
theorem ro_begin_0 {post : St2 → Prop} {sz aa st ct gb fa fe : Int32} {a1 a2 a3 a4 a5 a6 a7 a8 a9 a10 a11 a12 a13 a14 a15 a16 a17 a18 a19 : Nat → Int32} (H : post (sz, aa, st, ct, gb, fa, fe, 0, 0, a1, a2, a3, a4, a5, a6, a7, a8, a9, a10, a11, a12, a13, a14, a15, a16, a17, a18, a19)) : wpX_begin post (sz, aa, st, ct, gb, fa, fe, 0, 0, a1, a2, a3, a4, a5, a6, a7, a8, a9, a10, a11, a12, a13, a14, a15, a16, a17, a18, a19) := by
  unfold wpX_begin
  dsimp only
  exact ⟨1, pk_le 0 0 (fun _ => ⟨1, pk_le 0 0 (fun _ => H) (fun h => absurd h (by omega))⟩) (fun h => absurd h (by omega))⟩
theorem ro_begin_keep {post : St2 → Prop} {sz aa st ct gb fa fe : Int32} {a1 a2 a3 a4 a5 a6 a7 a8 a9 a10 a11 a12 a13 a14 a15 a16 a17 a18 a19 : Nat → Int32} {u : Nat} (h1 : 1 ≤ u) (hu : u ≤ 6) (h8 : ¬ a8 0 = 0)
    (H : ∀ b8 b9 : Nat → Int32, b8 0 = a8 0 → b9 0 = a9 0 → post (sz, aa, st, ct, gb, fa, fe, 0, nI u, a1, a2, a3, a4, a5, a6, a7, b8, b9, a10, a11, a12, a13, a14, a15, a16, a17, a18, a19)) : wpX_begin post (sz, aa, st, ct, gb, fa, fe, 0, nI u, a1, a2, a3, a4, a5, a6, a7, a8, a9, a10, a11, a12, a13, a14, a15, a16, a17, a18, a19) := by
  unfold wpX_begin
  dsimp only
  refine ⟨u + 1, ro_b4 hu (fun x1 => ⟨(u + 1) + 1, ?_⟩) (u + 1) 0 0 (by omega) (by omega)⟩
  refine pk_le u 0 (fun h => absurd h (by omega)) (fun hlt => ⟨by decide, nm_r (ro_ix 0 (by omega)) ⟨ro_in (by omega), ?_⟩⟩)
  have h116 : ∀ z, wX_begin_116 post (wX_begin_70 post sz aa st ct gb fa fe 0 (nI u) (u + 1)) x1 0 (nI 0) (nI 0) z sz aa st ct gb fa fe 0 (nI u) a1 a2 a3 a4 a5 a6 a7 a8 a9 a10 a11 a12 a13 a14 a15 a16 a17 a18 a19 := fun z =>
    ro_b116_skip (by omega) h8 (fun x2' => ro_b70 hu H (u + 1) 1 _ _ _ _ (by omega) (by omega) (by omega) rfl rfl)
  exact br_c (fun _ => h116 1) (fun _ => ⟨ro_in (by omega), br_c (fun _ => h116 1) (fun _ => h116 0)⟩)
theorem ro_begin_one {post : St2 → Prop} {sz aa st ct gb fa fe : Int32} {a1 a2 a3 a4 a5 a6 a7 a8 a9 a10 a11 a12 a13 a14 a15 a16 a17 a18 a19 : Nat → Int32} (h8 : a8 0 = 0) (h15 : a15 0 = -1) (h16 : a16 0 = -1)
    (H : ∀ (l : Nat) (b8 b9 : Nat → Int32), 1 ≤ l → l ≤ 5 → b8 0 = 1 → b9 0 = nI l → post (sz, aa, st, ct, gb, fa, fe, 0, nI 1, a1, a2, a3, a4, a5, a6, a7, b8, b9, a10, a11, a12, a13, a14, a15, a16, a17, a18, a19)) : wpX_begin post (sz, aa, st, ct, gb, fa, fe, 0, nI 1, a1, a2, a3, a4, a5, a6, a7, a8, a9, a10, a11, a12, a13, a14, a15, a16, a17, a18, a19) := by
  unfold wpX_begin
  dsimp only
  refine ⟨1 + 1, pk_le 1 0 (fun h => absurd h (by omega)) (fun hlt => ⟨by decide, nm_r (ro_ix 0 (by omega)) ⟨ro_in (by omega), ?_⟩⟩)⟩
  refine br_f (by rw [ro_cl (show 0 < 6 by omega), h8]; decide) (nm_r (show (0 : Int32) ||| 0 = 0 by decide) (nm_r (nI_1 0) ?_))
  refine pk_le 1 1 (fun _ => ⟨2 + 1, ?_⟩) (fun h => absurd h (by omega))
  refine pk_le 1 0 (fun h => absurd h (by omega)) (fun hlt => ⟨by decide, nm_r (ro_ix 0 (by omega)) ⟨ro_in (by omega), ?_⟩⟩)
  have h116 : ∀ z, wX_begin_116 post (wX_begin_70 post sz aa st ct gb fa fe 0 (nI 1) 2) 0 0 (nI 0) (nI 0) z sz aa st ct gb fa fe 0 (nI 1) a1 a2 a3 a4 a5 a6 a7 a8 a9 a10 a11 a12 a13 a14 a15 a16 a17 a18 a19 := fun z =>
    ro_b116_first (by omega) h8 h15 h16 (fun x1' x2' l h1 h5 => ro_b70 (s := 1) (l := nI l) (by omega) (fun b8 b9 => H l b8 b9 h1 h5) 2 1 _ _ _ _ (by omega) (by omega) (by omega) pk_us pk_us)
  exact br_c (fun _ => h116 1) (fun _ => ⟨ro_in (by omega), br_c (fun _ => h116 1) (fun _ => h116 0)⟩)
end
section
/-! issue: the operands, where fetching goes on -/
theorem ro_readLeft {post : St2 → Prop} {sz aa st ct gb fa fe fi un : Int32} {a1 a2 a3 a4 a5 a6 a7 a8 a9 a10 a11 a12 a13 a14 a15 a16 a17 a18 a19 : Nat → Int32} {i r : Nat} (hi : i < 6) (hr : r < 4) (hm : ro_m (a19 r))
    (H : ∀ b15 b17 : Nat → Int32, (∀ j, j ≠ i → b15 j = a15 j ∧ b17 j = a17 j) → (a19 r = -1 → b15 i = -1 ∧ b17 i = a4 r) → post (sz, aa, st, ct, gb, fa, fe, fi, un, a1, a2, a3, a4, a5, a6, a7, a8, a9, a10, a11, a12, a13, a14, b15, a16, b17, a18, a19)) :
    wpX_readLeft post (sz, aa, st, ct, gb, fa, fe, fi, un, a1, a2, a3, a4, a5, a6, a7, a8, a9, a10, a11, a12, a13, a14, a15, a16, a17, a18, a19) (nI i) (nI r) := by
  unfold wpX_readLeft
  dsimp only
  rw [ro_cl4 hr]
  rcases hm with hm | ⟨f, hf, hm⟩
  · refine ⟨ro_in4 hr, nm_r hm (br_t (by decide) ?_)⟩
    unfold wX_readLeft_25 wX_readLeft_26
    refine br_t rfl ?_
    unfold wX_readLeft_43
    rw [ro_cl hi, ro_cl4 hr, ro_bm1]
    exact ⟨ro_in hi, nm_e (br_f (by decide) ⟨ro_in4 hr, ro_in hi, nm_e (H _ _ (fun j hj => ⟨pk_un hj, pk_un hj⟩) (fun _ => ⟨pk_us, pk_us⟩))⟩)⟩
  · have h43 : ∀ z, wX_readLeft_43 post (nI i) (nI r) (nI f) z (nI i) sz aa st ct gb fa fe fi un a1 a2 a3 a4 a5 a6 a7 a8 a9 a10 a11 a12 a13 a14 a15 a16 a17 a18 a19 := by
      intro z
      unfold wX_readLeft_43
      rw [ro_cl hi]
      exact ⟨ro_in hi, nm_e (br_t (nI_pos' (by omega)) ⟨ro_in hf, ro_in hi, nm_e (H _ _ (fun j hj => ⟨pk_un hj, pk_un hj⟩) (fun h => absurd (h.symm.trans hm) (ro_neg f hf)))⟩)⟩
    have h26 : ∀ z, wX_readLeft_26 post (nI i) (nI r) (nI f) z sz aa st ct gb fa fe fi un a1 a2 a3 a4 a5 a6 a7 a8 a9 a10 a11 a12 a13 a14 a15 a16 a17 a18 a19 := by
      intro z
      unfold wX_readLeft_26
      exact br_c (fun _ => h43 _) (fun _ => h43 _)
    exact ⟨ro_in4 hr, nm_r hm (br_f (nI_pos (by omega)) ⟨ro_in hf, br_c (fun _ => h26 0) (fun _ => h26 1)⟩)⟩
theorem ro_readRight {post : St2 → Prop} {sz aa st ct gb fa fe fi un : Int32} {a1 a2 a3 a4 a5 a6 a7 a8 a9 a10 a11 a12 a13 a14 a15 a16 a17 a18 a19 : Nat → Int32} {i r : Nat} (hi : i < 6) (hr : r < 4) (hm : ro_m (a19 r))
    (H : ∀ b16 b18 : Nat → Int32, (∀ j, j ≠ i → b16 j = a16 j ∧ b18 j = a18 j) → (a19 r = -1 → b16 i = -1 ∧ b18 i = a4 r) → post (sz, aa, st, ct, gb, fa, fe, fi, un, a1, a2, a3, a4, a5, a6, a7, a8, a9, a10, a11, a12, a13, a14, a15, b16, a17, b18, a19)) :
    wpX_readRight post (sz, aa, st, ct, gb, fa, fe, fi, un, a1, a2, a3, a4, a5, a6, a7, a8, a9, a10, a11, a12, a13, a14, a15, a16, a17, a18, a19) (nI i) (nI r) := by
  unfold wpX_readRight
  dsimp only
  rw [ro_cl4 hr]
  rcases hm with hm | ⟨f, hf, hm⟩
  · refine ⟨ro_in4 hr, nm_r hm (br_t (by decide) ?_)⟩
    unfold wX_readRight_25 wX_readRight_26
    refine br_t rfl ?_
    unfold wX_readRight_43
    rw [ro_cl hi, ro_cl4 hr, ro_bm1]
    exact ⟨ro_in hi, nm_e (br_f (by decide) ⟨ro_in4 hr, ro_in hi, nm_e (H _ _ (fun j hj => ⟨pk_un hj, pk_un hj⟩) (fun _ => ⟨pk_us, pk_us⟩))⟩)⟩
  · have h43 : ∀ z, wX_readRight_43 post (nI i) (nI r) (nI f) z (nI i) sz aa st ct gb fa fe fi un a1 a2 a3 a4 a5 a6 a7 a8 a9 a10 a11 a12 a13 a14 a15 a16 a17 a18 a19 := by
      intro z
      unfold wX_readRight_43
      rw [ro_cl hi]
      exact ⟨ro_in hi, nm_e (br_t (nI_pos' (by omega)) ⟨ro_in hf, ro_in hi, nm_e (H _ _ (fun j hj => ⟨pk_un hj, pk_un hj⟩) (fun h => absurd (h.symm.trans hm) (ro_neg f hf)))⟩)⟩
    have h26 : ∀ z, wX_readRight_26 post (nI i) (nI r) (nI f) z sz aa st ct gb fa fe fi un a1 a2 a3 a4 a5 a6 a7 a8 a9 a10 a11 a12 a13 a14 a15 a16 a17 a18 a19 := by
      intro z
      unfold wX_readRight_26
      exact br_c (fun _ => h43 _) (fun _ => h43 _)
    exact ⟨ro_in4 hr, nm_r hm (br_f (nI_pos (by omega)) ⟨ro_in hf, br_c (fun _ => h26 0) (fun _ => h26 1)⟩)⟩
theorem ro_ro84 {post : St2 → Prop} {sz aa st ct gb fa fe fi un : Int32} {a1 a2 a3 a4 a5 a6 a7 a8 a9 a10 a11 a12 a13 a14 a15 a16 a17 a18 a19 : Nat → Int32} {i p : Nat} {o : Int32} (hi : i < 6) (hm : ∀ r, r < 4 → ro_m (a19 r))
    (H : ∀ b14 b19 : Nat → Int32, (∀ j, j ≠ i → b14 j = a14 j) → (∀ r, r < 4 → ro_m (b19 r)) → (¬ 4 < o → b14 i = nI (p % 4)) → post (sz, aa, st, ct, gb, fa, fe, fi, un, a1, a2, a3, a4, a5, a6, a7, a8, a9, a10, a11, a12, a13, b14, a15, a16, a17, a18, b19)) :
    wX_readOperands_84 post (nI i) o (nI (p % 4)) sz aa st ct gb fa fe fi un a1 a2 a3 a4 a5 a6 a7 a8 a9 a10 a11 a12 a13 a14 a15 a16 a17 a18 a19 := by
  have h4 : p % 4 < 4 := Nat.mod_lt _ (by omega)
  unfold wX_readOperands_84
  rw [ro_cl hi, ro_cl4 h4]
  refine br_c (fun h => H a14 a19 (fun j _ => rfl) hm (fun h' => absurd h h')) (fun h => ⟨ro_in hi, nm_e ⟨ro_in4 h4, nm_e (H _ _ (fun j hj => pk_un hj) (fun r hr => ?_) (fun _ => ?_))⟩⟩)
  · by_cases e : r = p % 4
    · rw [e, pk_us]; exact Or.inr ⟨i, hi, ro_b8 i (by omega)⟩
    · rw [pk_un e]; exact hm r hr
  · rw [pk_us]; exact ro_b8 _ (by omega)
theorem ro_readOps {post : St2 → Prop} {sz aa st ct gb fa fe fi un : Int32} {a1 a2 a3 a4 a5 a6 a7 a8 a9 a10 a11 a12 a13 a14 a15 a16 a17 a18 a19 : Nat → Int32} {i p : Nat} {o : Int32} (hi : i < 6) (hp : p < 64) (hm : ∀ r, r < 4 → ro_m (a19 r))
    (H : ∀ b14 b15 b16 b17 b18 b19 : Nat → Int32, (∀ j, j ≠ i → b14 j = a14 j ∧ b15 j = a15 j ∧ b16 j = a16 j ∧ b17 j = a17 j ∧ b18 j = a18 j) → (∀ r, r < 4 → ro_m (b19 r)) → ((∀ r, r < 4 → a19 r = -1) → a15 i = -1 → a16 i = -1 → b15 i = -1 ∧ b16 i = -1 ∧ ro_opd o p a4 (b17 i) (b18 i)) → (¬ 4 < o → b14 i = nI (p % 4)) → post (sz, aa, st, ct, gb, fa, fe, fi, un, a1, a2, a3, a4, a5, a6, a7, a8, a9, a10, a11, a12, a13, b14, b15, b16, b17, b18, b19)) :
    wpX_readOperands post (sz, aa, st, ct, gb, fa, fe, fi, un, a1, a2, a3, a4, a5, a6, a7, a8, a9, a10, a11, a12, a13, a14, a15, a16, a17, a18, a19) (nI i) o (nI p) := by
  have ka : p % 4 < 4 := Nat.mod_lt _ (by omega)
  have kb : p / 4 % 4 < 4 := Nat.mod_lt _ (by omega)
  have kc : p / 16 < 4 := by omega
  unfold wpX_readOperands
  dsimp only
  refine nm_r (ro_and3 p hp) (nm_r (ro_shr2 p hp) (nm_r (ro_shr4 p hp) ?_))
  have h49 : o < 1 ∨ 4 < o → wX_readOperands_49 post (nI i) o (nI (p % 4)) (nI (p / 4 % 4)) sz aa st ct gb fa fe fi un a1 a2 a3 a4 a5 a6 a7 a8 a9 a10 a11 a12 a13 a14 a15 a16 a17 a18 a19 := by
    intro ho
    have n1 : ¬ (o = 1 ∨ o = 2 ∨ o = 3) := by
      rintro (h | h | h) <;> rw [h] at ho <;> exact absurd ho (by decide)
    have n4 : ¬ o = 4 := by
      intro h
      rw [h] at ho
      exact absurd ho (by decide)
    unfold wX_readOperands_49
    refine br_c (fun h5 => ?_) (fun h5 => br_c (fun h6 => ?_) (fun h6 => ?_))
    · refine ro_readLeft hi ka (hm _ ka) (fun b15 b17 f15 g15 => ?_)
      refine ro_readRight hi kb (hm _ kb) (fun b16 b18 f16 g16 => ?_)
      exact ro_ro84 hi hm (fun b14 b19 f14 hm' h14 => H b14 b15 b16 b17 b18 b19 (fun j hj => ⟨f14 j hj, (f15 j hj).1, (f16 j hj).1, (f15 j hj).2, (f16 j hj).2⟩) hm' (fun ha _ _ => ⟨(g15 (ha _ ka)).1, (g16 (ha _ kb)).1, fun h => absurd h n1, fun h => absurd h n4, fun _ => ⟨(g15 (ha _ ka)).2, (g16 (ha _ kb)).2⟩, fun h => absurd (h5.symm.trans h) (by decide)⟩) h14)
    · refine ro_readLeft hi ka (hm _ ka) (fun b15 b17 f15 g15 => ?_)
      exact ro_ro84 hi hm (fun b14 b19 f14 hm' h14 => H b14 b15 a16 b17 a18 b19 (fun j hj => ⟨f14 j hj, (f15 j hj).1, rfl, (f15 j hj).2, rfl⟩) hm' (fun ha _ e16 => ⟨(g15 (ha _ ka)).1, e16, fun h => absurd h n1, fun h => absurd h n4, fun h => absurd h h5, fun _ => (g15 (ha _ ka)).2⟩) h14)
    · exact ro_ro84 hi hm (fun b14 b19 f14 hm' h14 => H b14 a15 a16 a17 a18 b19 (fun j hj => ⟨f14 j hj, rfl, rfl, rfl, rfl⟩) hm' (fun ha e15 e16 => ⟨e15, e16, fun h => absurd h n1, fun h => absurd h n4, fun h => absurd h h5, fun h => absurd h h6⟩) h14)
  refine br_c (fun h => h49 (Or.inl h)) (fun h1 => br_c (fun h => h49 (Or.inr h)) (fun h4 => ?_))
  have n5 : ¬ o = 5 := by
    intro h
    rw [h] at h4
    exact absurd h4 (by decide)
  have n6 : ¬ o = 6 := by
    intro h
    rw [h] at h4
    exact absurd h4 (by decide)
  refine ro_readLeft hi kb (hm _ kb) (fun b15 b17 f15 g15 => br_c (fun e4 => ?_) (fun e4 => ?_))
  · have n1 : ¬ (o = 1 ∨ o = 2 ∨ o = 3) := by
      rw [e4]; decide
    exact ro_ro84 hi hm (fun b14 b19 f14 hm' h14 => H b14 b15 a16 b17 a18 b19 (fun j hj => ⟨f14 j hj, (f15 j hj).1, rfl, (f15 j hj).2, rfl⟩) hm' (fun ha _ e16 => ⟨(g15 (ha _ kb)).1, e16, fun h => absurd h n1, fun _ => (g15 (ha _ kb)).2, fun h => absurd h n5, fun h => absurd h n6⟩) h14)
  · refine ro_readRight hi kc (hm _ kc) (fun b16 b18 f16 g16 => ?_)
    exact ro_ro84 hi hm (fun b14 b19 f14 hm' h14 => H b14 b15 b16 b17 b18 b19 (fun j hj => ⟨f14 j hj, (f15 j hj).1, (f16 j hj).1, (f15 j hj).2, (f16 j hj).2⟩) hm' (fun ha _ _ => ⟨(g15 (ha _ kb)).1, (g16 (ha _ kc)).1, fun _ => ⟨(g15 (ha _ kb)).2, (g16 (ha _ kc)).2⟩, fun h => absurd h e4, fun h => absurd h n5, fun h => absurd h n6⟩) h14)
theorem ro_follow {post : St2 → Prop} {sz aa st ct gb fa fe fi un : Int32} {a1 a2 a3 a4 a5 a6 a7 a8 a9 a10 a11 a12 a13 a14 a15 a16 a17 a18 a19 : Nat → Int32} {i : Nat} {o n : Int32} (hi : i < 6)
    (H : ∀ (fa' fe' : Int32) (b10 b13 : Nat → Int32), (∀ j, j ≠ i → b10 j = a10 j ∧ b13 j = a13 j) → (o = 0 ∨ ¬ o < 6 → b10 i = n) → post (sz, aa, st, ct, gb, fa', fe', fi, un, a1, a2, a3, a4, a5, a6, a7, a8, a9, b10, a11, a12, b13, a14, a15, a16, a17, a18, a19)) :
    wpX_follow post (sz, aa, st, ct, gb, fa, fe, fi, un, a1, a2, a3, a4, a5, a6, a7, a8, a9, a10, a11, a12, a13, a14, a15, a16, a17, a18, a19) (nI i) o n := by
  have h27 : ∀ (b10 : Nat → Int32) (x4 : Int32), (∀ j, j ≠ i → b10 j = a10 j) → (o = 0 ∨ ¬ o < 6 → b10 i = n) → wX_follow_27 post (nI i) o n x4 sz aa st ct gb fa fe fi un a1 a2 a3 a4 a5 a6 a7 a8 a9 b10 a11 a12 a13 a14 a15 a16 a17 a18 a19 := by
    intro b10 x4 f10 g10
    have h75 : ∀ z, wX_follow_75 post (nI i) z (nI i) sz aa st ct gb fa fe fi un a1 a2 a3 a4 a5 a6 a7 a8 a9 b10 a11 a12 a13 a14 a15 a16 a17 a18 a19 := by
      intro z
      unfold wX_follow_75
      rw [ro_cl hi]
      exact ⟨ro_in hi, nm_e ⟨ro_in hi, nm_e (H _ _ _ _ (fun j hj => ⟨f10 j hj, pk_un hj⟩) g10)⟩⟩
    have h57 : ∀ z, wX_follow_57 post (nI i) n x4 z sz aa st ct gb fa fe fi un a1 a2 a3 a4 a5 a6 a7 a8 a9 b10 a11 a12 a13 a14 a15 a16 a17 a18 a19 := by
      intro z
      unfold wX_follow_57
      exact br_c (fun _ => h75 _) (fun _ => h75 _)
    unfold wX_follow_27
    exact br_c (fun _ => ⟨ro_in hi, br_c (fun _ => h57 0) (fun _ => h57 1)⟩) (fun _ => br_c (fun _ => H _ _ _ _ (fun j hj => ⟨f10 j hj, rfl⟩) g10) (fun _ => br_c (fun _ => H _ _ _ _ (fun j hj => ⟨f10 j hj, rfl⟩) g10) (fun _ => H _ _ _ _ (fun j hj => ⟨f10 j hj, rfl⟩) g10)))
  have h20 : ∀ x4, wX_follow_20 post (nI i) o n x4 sz aa st ct gb fa fe fi un a1 a2 a3 a4 a5 a6 a7 a8 a9 a10 a11 a12 a13 a14 a15 a16 a17 a18 a19 := by
    intro x4
    unfold wX_follow_20
    rw [ro_cl hi]
    exact ⟨ro_in hi, nm_e (h27 _ x4 (fun j hj => pk_un hj) (fun _ => pk_us))⟩
  unfold wpX_follow
  dsimp only
  exact ⟨ro_in hi, nm_e (br_c (fun _ => h20 _) (fun h0 => br_c (fun h6 => h27 _ _ (fun _ _ => rfl) (fun h => h.elim (fun z => absurd z h0) (fun z => absurd h6 z))) (fun _ => h20 _)))⟩
theorem ro_i72 {post : St2 → Prop} {sz aa st ct gb fe : Int32} {a1 a2 a3 a4 a5 a6 a7 a8 a9 a10 a11 a12 a13 a14 a15 a16 a17 a18 a19 : Nat → Int32} {u i p : Nat} {o : Int32} (hi : i < 6) (hp : p < 64) (h2 : a2 0 = nI p) (hm : ∀ r, r < 4 → ro_m (a19 r))
    (H : ∀ (fa' fe' : Int32) (b6 b7 b8 b10 b12 b13 b14 b15 b16 b17 b18 b19 : Nat → Int32), (∀ j, j ≠ i → b6 j = a6 j ∧ b7 j = a7 j ∧ b8 j = a8 j ∧ b10 j = a10 j ∧ b12 j = a12 j ∧ b14 j = a14 j ∧ b15 j = a15 j ∧ b16 j = a16 j ∧ b17 j = a17 j ∧ b18 j = a18 j) → (∀ r, r < 4 → ro_m (b19 r)) → b6 i = o.toInt8.toInt32 → b7 i = 0 → b8 i = 0 → b12 i = 0 → ((∀ r, r < 4 → a19 r = -1) → b15 i = -1 ∧ b16 i = -1 ∧ ro_opd o p a4 (b17 i) (b18 i)) → (¬ 4 < o → b14 i = nI (p % 4)) → (o = 0 ∨ ¬ o < 6 → b10 i = a3 0) → post (sz, aa, st, ct, gb, fa', fe', 0, (nI (u + 1)), a1, a2, a3, a4, a5, b6, b7, b8, a9, b10, a11, b12, b13, b14, b15, b16, b17, b18, b19)) :
    wX_issue_72 post (nI i) 1 o sz aa st ct gb 0 fe 0 (nI u) a1 a2 a3 a4 a5 a6 a7 a8 a9 a10 a11 a12 a13 a14 a15 a16 a17 a18 a19 := by
  unfold wX_issue_72
  rw [ro_cl hi]
  refine ⟨ro_in hi, nm_e ⟨ro_in hi, nm_e ⟨ro_in hi, nm_e ⟨ro_in hi, nm_e ⟨ro_in hi, nm_e ⟨ro_in hi, nm_e (nm_r (nI_1 u) (br_f (by decide) ⟨pk_in 0 16 (by omega), ?_⟩))⟩⟩⟩⟩⟩⟩
  rw [sb_cl0, h2]
  refine ro_readOps hi hp hm (fun b14 b15 b16 b17 b18 b19 fr hm' g h14 => ⟨pk_in 0 16 (by omega), ?_⟩)
  rw [sb_cl0]
  refine ro_follow hi (fun fa' fe' b10 b13 f10 g10 => ?_)
  exact H fa' fe' _ _ _ b10 _ b13 b14 b15 b16 b17 b18 b19 (fun j hj => ⟨pk_un hj, pk_un hj, pk_un hj, (f10 j hj).1, pk_un hj, (fr j hj).1, (fr j hj).2.1.trans (pk_un hj), (fr j hj).2.2.1.trans (pk_un hj), (fr j hj).2.2.2.1, (fr j hj).2.2.2.2⟩) hm' pk_us pk_us pk_us pk_us (fun ha => g ha pk_us pk_us) h14 g10
theorem ro_i72n {post : St2 → Prop} {sz aa st ct gb fa fe : Int32} {a1 a2 a3 a4 a5 a6 a7 a8 a9 a10 a11 a12 a13 a14 a15 a16 a17 a18 a19 : Nat → Int32} {u i : Nat} (hi : i < 6) (H : post (sz, aa, st, ct, gb, fa, 0, 0, (nI (u + 1)), a1, a2, a3, a4, a5, upd a6 i 9, upd a7 i fa, upd a8 i 0, a9, a10, a11, upd a12 i 0, a13, a14, (upd a15 i (-1)), (upd a16 i (-1)), a17, a18, a19)) :
    wX_issue_72 post (nI i) 0 9 sz aa st ct gb fa fe 0 (nI u) a1 a2 a3 a4 a5 a6 a7 a8 a9 a10 a11 a12 a13 a14 a15 a16 a17 a18 a19 := by
  unfold wX_issue_72
  rw [ro_cl hi, show (9 : Int32).toInt8.toInt32 = 9 by decide]
  exact ⟨ro_in hi, nm_e ⟨ro_in hi, nm_e ⟨ro_in hi, nm_e ⟨ro_in hi, nm_e ⟨ro_in hi, nm_e ⟨ro_in hi, nm_e (nm_r (nI_1 u) (br_t rfl H))⟩⟩⟩⟩⟩⟩
/-- the program: none, or one instruction -/
def ro_prog (sz : Int32) (a2 : Nat → Int32) (p : Nat) : Prop := sz = 0 ∨ (sz = 1 ∧ a2 0 = nI p ∧ p < 64)
theorem ro_issue_next {post : St2 → Prop} {sz aa st ct gb fa fe : Int32} {a1 a2 a3 a4 a5 a6 a7 a8 a9 a10 a11 a12 a13 a14 a15 a16 a17 a18 a19 : Nat → Int32} {u p : Nat} (h1 : 1 ≤ u) (hu : u ≤ 6) (hs : ro_prog sz a2 p) (hm : ∀ r, r < 4 → ro_m (a19 r))
    (H : ∀ (u' : Nat) (fa' fe' : Int32) (b6 b7 b8 b10 b12 b13 b14 b15 b16 b17 b18 b19 : Nat → Int32), 1 ≤ u' → u' ≤ 6 → b6 0 = a6 0 → b7 0 = a7 0 → b8 0 = a8 0 → b10 0 = a10 0 → b12 0 = a12 0 → b14 0 = a14 0 → b15 0 = a15 0 → b16 0 = a16 0 → b17 0 = a17 0 → b18 0 = a18 0 → (∀ r, r < 4 → ro_m (b19 r)) → post (sz, aa, st, ct, gb, fa', fe', 0, nI u', a1, a2, a3, a4, a5, b6, b7, b8, a9, b10, a11, b12, b13, b14, b15, b16, b17, b18, b19)) :
    wpX_issue post (sz, aa, st, ct, gb, fa, fe, 0, nI u, a1, a2, a3, a4, a5, a6, a7, a8, a9, a10, a11, a12, a13, a14, a15, a16, a17, a18, a19) := by
  have hsame := H u fa fe a6 a7 a8 a10 a12 a13 a14 a15 a16 a17 a18 a19 h1 hu rfl rfl rfl rfl rfl rfl rfl rfl rfl rfl hm
  unfold wpX_issue
  dsimp only
  refine pk_le 6 u (fun _ => hsame) (fun hlt => br_c (fun _ => hsame) (fun _ => ⟨by decide, nm_r (ro_ix u (by omega)) ?_⟩))
  have h0 : (0 : Nat) ≠ u := by omega
  have h52 : wX_issue_52 post (nI u) sz aa st ct gb fa fe 0 (nI u) a1 a2 a3 a4 a5 a6 a7 a8 a9 a10 a11 a12 a13 a14 a15 a16 a17 a18 a19 := by
    unfold wX_issue_52 wX_issue_53
    exact br_t rfl (ro_i72n hlt (H (u + 1) _ _ _ _ _ _ _ _ _ _ _ _ _ _ (by omega) (by omega) (pk_un h0) (pk_un h0) (pk_un h0) rfl (pk_un h0) rfl (pk_un h0) (pk_un h0) rfl rfl hm))
  refine br_c (fun _ => h52) (fun hn => br_c (fun _ => h52) (fun hn2 => ?_))
  rcases hs with hs | ⟨hs, h2, hp⟩
  · rw [hs] at hn2
    exact (ro_fan hn hn2).elim
  · rw [hs] at hn2
    have e := ro_fa0 hn hn2
    subst e
    unfold wX_issue_53
    refine br_f (by decide) ⟨pk_in 0 16 (by omega), ro_i72 hlt hp h2 hm (fun fa' fe' b6 b7 b8 b10 b12 b13 b14 b15 b16 b17 b18 b19 fr hm' _ _ _ _ _ _ _ => ?_)⟩
    obtain ⟨f6, f7, f8, f10, f12, f14, f15, f16, f17, f18⟩ := fr 0 h0
    exact H (u + 1) fa' fe' _ _ _ _ _ _ _ _ _ _ _ _ (by omega) (by omega) f6 f7 f8 f10 f12 f14 f15 f16 f17 f18 hm'
/-- the one instruction -/
theorem ro_issue_first {post : St2 → Prop} {sz aa st ct gb : Int32} {a1 a2 a3 a4 a5 a6 a7 a8 a9 a10 a11 a12 a13 a14 a15 a16 a17 a18 a19 : Nat → Int32} {q p : Nat} (hs : sz = 1) (h1 : a1 0 = nI q) (hq : q < 64) (h2 : a2 0 = nI p) (hp : p < 64) (hm : ∀ r, r < 4 → a19 r = -1)
    (H : ∀ (fa' fe' : Int32) (b6 b7 b8 b10 b12 b13 b14 b15 b16 b17 b18 b19 : Nat → Int32), b6 0 = nI q → b7 0 = 0 → b8 0 = 0 → b12 0 = 0 → b15 0 = -1 → b16 0 = -1 → ro_opd (nI q) p a4 (b17 0) (b18 0) → (¬ 4 < nI q → b14 0 = nI (p % 4)) → (nI q = 0 ∨ ¬ nI q < 6 → b10 0 = a3 0) → (∀ r, r < 4 → ro_m (b19 r)) → post (sz, aa, st, ct, gb, fa', fe', 0, nI 1, a1, a2, a3, a4, a5, b6, b7, b8, a9, b10, a11, b12, b13, b14, b15, b16, b17, b18, b19)) :
    wpX_issue post (sz, aa, st, ct, gb, 0, 1, 0, 0, a1, a2, a3, a4, a5, a6, a7, a8, a9, a10, a11, a12, a13, a14, a15, a16, a17, a18, a19) := by
  unfold wpX_issue
  dsimp only
  refine pk_le 6 0 (fun h => absurd h (by omega)) (fun _ => br_f (by decide) ⟨by decide, nm_r (show ((0 : Int32) + 0) - (0 + 0) / 6 * 6 = nI 0 by decide) (br_f (by decide) (br_f (by rw [hs]; decide) ?_))⟩)
  unfold wX_issue_53
  refine br_f (by decide) ⟨pk_in 0 16 (by omega), ?_⟩
  rw [sb_cl0, h1]
  refine ro_i72 (u := 0) (by omega) hp h2 (fun r hr => Or.inl (hm r hr)) (fun fa' fe' b6 b7 b8 b10 b12 b13 b14 b15 b16 b17 b18 b19 _ hm' e6 e7 e8 e12 g h14 h10 => ?_)
  exact H fa' fe' _ _ _ _ _ _ _ _ _ _ _ _ (e6.trans (ro_b8 q hq)) e7 e8 e12 (g hm).1 (g hm).2.1 (g hm).2.2 h14 h10 hm'
/-- no instruction -/
theorem ro_issue_none {post : St2 → Prop} {sz aa st ct gb : Int32} {a1 a2 a3 a4 a5 a6 a7 a8 a9 a10 a11 a12 a13 a14 a15 a16 a17 a18 a19 : Nat → Int32} (hs : sz = 0) (H : post (sz, aa, st, ct, gb, 0, 0, 0, nI 1, a1, a2, a3, a4, a5, upd a6 0 9, upd a7 0 0, upd a8 0 0, a9, a10, a11, upd a12 0 0, a13, a14, (upd a15 0 (-1)), (upd a16 0 (-1)), a17, a18, a19)) :
    wpX_issue post (sz, aa, st, ct, gb, 0, 1, 0, 0, a1, a2, a3, a4, a5, a6, a7, a8, a9, a10, a11, a12, a13, a14, a15, a16, a17, a18, a19) := by
  unfold wpX_issue
  dsimp only
  refine pk_le 6 0 (fun h => absurd h (by omega)) (fun _ => br_f (by decide) ⟨by decide, nm_r (show ((0 : Int32) + 0) - (0 + 0) / 6 * 6 = nI 0 by decide) (br_f (by decide) (br_t (by rw [hs]; decide) ?_))⟩)
  unfold wX_issue_52 wX_issue_53
  exact br_t rfl (ro_i72n (u := 0) (by omega) H)
end
section
/-! refetch, retire -/
theorem ro_refetch {post : St2 → Prop} {sz aa st ct gb fa fe fi un : Int32} {a1 a2 a3 a4 a5 a6 a7 a8 a9 a10 a11 a12 a13 a14 a15 a16 a17 a18 a19 : Nat → Int32} {p0 : Int32} (H : ∀ b19 : Nat → Int32, (∀ r, r < 4 → b19 r = -1) → post (sz, aa, st, ct, gb, p0, 1, 0, 0, a1, a2, a3, a4, a5, a6, a7, a8, a9, a10, a11, a12, a13, a14, a15, a16, a17, a18, b19)) : wpX_refetch post (sz, aa, st, ct, gb, fa, fe, fi, un, a1, a2, a3, a4, a5, a6, a7, a8, a9, a10, a11, a12, a13, a14, a15, a16, a17, a18, a19) p0 := by
  unfold wpX_refetch
  dsimp only
  have key : ∀ (n k : Nat) (b19 : Nat → Int32), k ≤ 4 → 4 - k < n → (∀ r, r < k → b19 r = -1) → wX_refetch_22 post sz aa st ct gb p0 1 0 0 n (nI k) a1 a2 a3 a4 a5 a6 a7 a8 a9 a10 a11 a12 a13 a14 a15 a16 a17 a18 b19 := by
    intro n
    induction n with
    | zero => intro k b19 hk hn; omega
    | succ n ih =>
      intro k b19 hk hn hb
      refine pk_le 4 k (fun h => H b19 (fun r hr => hb r (by omega))) (fun hlt => ⟨ro_in4 hlt, nm_e (nm_r (nI_1 k) (ih (k + 1) _ (by omega) (by omega) (fun r hr => ?_)))⟩)
      rw [ro_cl4 hlt]
      by_cases e : r = k
      · rw [e, pk_us]
      · rw [pk_un e]; exact hb r (by omega)
  exact ⟨5, key 5 0 a19 (by omega) (by omega) (fun r hr => absurd hr (by omega))⟩
theorem ro_retire_no {post : Int32 → St2 → Prop} {sz aa st ct gb fa fe un : Int32} {a1 a2 a3 a4 a5 a6 a7 a8 a9 a10 a11 a12 a13 a14 a15 a16 a17 a18 a19 : Nat → Int32} (h : un = 0 ∨ ¬ a8 0 = 2) (H : post 0 (sz, aa, st, ct, gb, fa, fe, 0, un, a1, a2, a3, a4, a5, a6, a7, a8, a9, a10, a11, a12, a13, a14, a15, a16, a17, a18, a19)) : wpX_retire post (sz, aa, st, ct, gb, fa, fe, 0, un, a1, a2, a3, a4, a5, a6, a7, a8, a9, a10, a11, a12, a13, a14, a15, a16, a17, a18, a19) := by
  unfold wpX_retire
  dsimp only
  refine br_c (fun _ => H) (fun hn => ⟨pk_in 0 6 (by omega), ?_⟩)
  rw [sb_cl0]
  exact br_f (h.elim (fun z => absurd z hn) id) H
theorem ro_retire_yes {post : Int32 → St2 → Prop} {sz aa st ct gb fa fe : Int32} {a1 a2 a3 a4 a5 a6 a7 a8 a9 a10 a11 a12 a13 a14 a15 a16 a17 a18 a19 : Nat → Int32} {u : Nat} (h1 : 1 ≤ u) (hu : u ≤ 6) (h8 : a8 0 = 2) (h7 : a7 0 = 0) (h14 : ¬ 4 < a6 0 → ∃ t : Nat, t < 4 ∧ a14 0 = nI t) (h11 : a6 0 = 5 → vp_in (a11 0) 8)
    (Ht : ¬ a12 0 = 0 → post 0 (sz, aa, 3, ct, gb, fa, fe, 0, nI u, a1, a2, a3, a4, a5, a6, a7, a8, a9, a10, a11, a12, a13, a14, a15, a16, a17, a18, a19))
    (H : a12 0 = 0 → ∀ (aa' st' ct' fa' fe' fi' un' : Int32) (b4 b5 b19 : Nat → Int32), aa' = (if a6 0 = 8 then aa else if a6 0 < 6 then 1 else a10 0) → b4 0 = (if 4 < a6 0 then a4 0 else if a14 0 = 0 then a10 0 else a4 0) → post 1 (sz, aa', st', ct', gb, fa', fe', fi', un', a1, a2, a3, b4, b5, a6, a7, a8, a9, a10, a11, a12, a13, a14, a15, a16, a17, a18, b19)) :
    wpX_retire post (sz, aa, st, ct, gb, fa, fe, 0, nI u, a1, a2, a3, a4, a5, a6, a7, a8, a9, a10, a11, a12, a13, a14, a15, a16, a17, a18, a19) := by
  have hin : vp_in (0 : Int32) 6 := pk_in 0 6 (by omega)
  unfold wpX_retire
  dsimp only
  rw [sb_cl0]
  refine br_f (nI_ne0 (by omega) (by omega)) ⟨hin, br_t h8 ⟨hin, br_c (fun h12 => ⟨hin, nm_e (nm_e ⟨by decide, nm_e (nm_e ?_)⟩)⟩) Ht⟩⟩
  have h157 : ∀ (ct' fi' un' : Int32) (b4 b5 b19 : Nat → Int32), b4 0 = (if 4 < a6 0 then a4 0 else if a14 0 = 0 then a10 0 else a4 0) → wX_retire_157 post 0 (a6 0) sz aa st ct' gb fa fe fi' un' a1 a2 a3 b4 b5 a6 a7 a8 a9 a10 a11 a12 a13 a14 a15 a16 a17 a18 b19 := by
    intro ct' fi' un' b4 b5 b19 e4
    have h194 : ∀ z, z = (if a6 0 = 8 then aa else if a6 0 < 6 then 1 else a10 0) → wX_retire_194 post 0 (a6 0) z sz aa st ct' gb fa fe fi' un' a1 a2 a3 b4 b5 a6 a7 a8 a9 a10 a11 a12 a13 a14 a15 a16 a17 a18 b19 := by
      intro z hz
      unfold wX_retire_194
      exact br_c (fun _ => ⟨hin, hin, br_c (fun _ => H h12 _ _ _ _ _ _ _ _ _ _ hz e4) (fun _ => ro_refetch (fun c19 _ => H h12 _ _ _ _ _ _ _ _ _ _ hz e4))⟩) (fun _ => H h12 _ _ _ _ _ _ _ _ _ _ hz e4)
    unfold wX_retire_157
    rw [sb_cl0, h7]
    exact br_c (fun g => H h12 _ _ _ _ _ _ _ _ _ _ (by rw [if_pos g]) e4) (fun g => br_c (fun g6 => ⟨hin, h194 _ (by rw [if_neg g, if_pos g6]; rfl)⟩) (fun g6 => ⟨hin, h194 _ (by rw [if_neg g, if_neg g6])⟩))
  refine br_c (fun g => br_c (fun g5 => ⟨hin, hin, h11 g5, nm_e (h157 _ _ _ _ _ _ (by rw [if_pos g]))⟩) (fun g5 => h157 _ _ _ _ _ _ (by rw [if_pos g]))) (fun g => ?_)
  obtain ⟨t, ht, e14⟩ := h14 g
  have hv : vp_in (a14 0) 4 := by rw [e14]; exact ro_in4 ht
  have e4 : upd a4 (a14 0).toNatClampNeg (a10 0) 0 = (if 4 < a6 0 then a4 0 else if a14 0 = 0 then a10 0 else a4 0) := by
    rw [if_neg g, e14, ro_cl4 ht]
    by_cases e : t = 0
    · rw [e, nI_0, if_pos rfl, pk_us]
    · rw [if_neg (nI_ne0 (by omega) (by omega)), pk_un (by omega)]
  exact ⟨hin, hin, hv, nm_e ⟨hin, hv, br_c (fun _ => ⟨hin, hv, nm_e (h157 _ _ _ _ _ _ e4)⟩) (fun _ => h157 _ _ _ _ _ _ e4)⟩⟩
end
section
/-! finish: place 0 ready, at work, waiting; the start. Q: what is asked of the count, the position, register 0 -/
theorem ro_finR {post : Int32 → St2 → Prop} {Q : Int32 → Int32 → Int32 → Prop} {sz ct gb fa fe : Int32} {a1 a2 a3 a4 a5 a6 a7 a8 a9 a10 a11 a12 a13 a14 a15 a16 a17 a18 a19 : Nat → Int32} {u : Nat} {o l m d tr x y : Int32} (h1 : 1 ≤ u) (hu : u ≤ 6) (e6 : a6 0 = o) (e7 : a7 0 = 0) (e14 : ¬ 4 < o → ∃ t : Nat, t < 4 ∧ a14 0 = nI t) (hK : ro_K 2 l m d tr x y a8 a9 a10 a11 a12 a15 a16 a17 a18) (hd : o = 5 → d = y &&& 7)
    (Qt : ¬ tr = 0 → Q 0 0 (a4 0)) (Qf : tr = 0 → Q 1 (if o = 8 then 0 else if o < 6 then 1 else m) (if 4 < o then a4 0 else if a14 0 = 0 then m else a4 0))
    (HF : ∀ (r sz aa st ct gb fa fe fi un : Int32) (a1 a2 a3 a4 a5 a6 a7 a8 a9 a10 a11 a12 a13 a14 a15 a16 a17 a18 a19 : Nat → Int32), Q r aa (a4 0) → post r (sz, aa, st, ct, gb, fa, fe, fi, un, a1, a2, a3, a4, a5, a6, a7, a8, a9, a10, a11, a12, a13, a14, a15, a16, a17, a18, a19)) {n c : Nat} (hc : c < 3000) :
    wX_finish_28 post 1 (n + 1 + 1) 0 (nI c) sz 0 1 ct gb fa fe 0 (nI u) a1 a2 a3 a4 a5 a6 a7 a8 a9 a10 a11 a12 a13 a14 a15 a16 a17 a18 a19 := by
  obtain ⟨e8, e9, e10, e11, e12, e15, e16, e17, e18⟩ := hK
  subst e6
  have h11 : a6 0 = 5 → vp_in (a11 0) 8 := by
    intro h
    rw [e11, hd h]
    exact pk_andIn y (m := 7) 3 (by decide) (by decide)
  refine pk_le 3216 c (fun h => absurd h (by omega)) (fun _ => br_f (by decide) (br_t rfl (ro_retire_yes h1 hu e8 e7 e14 h11 (fun ht => ?_) (fun ht aa' st' ct' fa' fe' fi' un' b4 b5 b19 ea e4 => ?_))))
  · rw [e12] at ht
    refine nm_r (show (0 : Int32) + 0 = 0 by decide) (br_f (by decide) (br_f (by decide) (nm_r (nI_1 c) ?_)))
    exact pk_le 3216 (c + 1) (fun h => absurd h (by omega)) (fun _ => br_f (by decide) (br_f (by decide) (HF _ _ _ _ _ _ _ _ _ _ _ _ _ _ _ _ _ _ _ _ _ _ _ _ _ _ _ _ _ (Qt ht))))
  · rw [e12] at ht
    rw [e10] at ea e4
    refine nm_r (show (0 : Int32) + 1 = 1 by decide) (br_t (by decide) (nm_r (nI_1 c) ?_))
    refine pk_le 3216 (c + 1) (fun h => absurd h (by omega)) (fun _ => br_t (by decide) (HF _ _ _ _ _ _ _ _ _ _ _ _ _ _ _ _ _ _ _ _ _ _ _ _ _ _ _ _ _ ?_))
    rw [ea, e4]
    exact Qf ht
theorem ro_finK {post : Int32 → St2 → Prop} {Q : Int32 → Int32 → Int32 → Prop} {sz gb : Int32} {a1 a2 a3 a4 a5 : Nat → Int32} {p : Nat} {o m x y t : Int32} (hs : ro_prog sz a2 p) (ht : ¬ 4 < o → ∃ t' : Nat, t' < 4 ∧ t = nI t')
    (Qt : ¬ ro_trap o x y 0 = 0 → Q 0 0 (a4 0)) (Qf : ro_trap o x y 0 = 0 → Q 1 (if o = 8 then 0 else if o < 6 then 1 else ro_res o x y 0 m a5) (if 4 < o then a4 0 else if t = 0 then ro_res o x y 0 m a5 else a4 0))
    (HF : ∀ (r sz aa st ct gb fa fe fi un : Int32) (a1 a2 a3 a4 a5 a6 a7 a8 a9 a10 a11 a12 a13 a14 a15 a16 a17 a18 a19 : Nat → Int32), Q r aa (a4 0) → post r (sz, aa, st, ct, gb, fa, fe, fi, un, a1, a2, a3, a4, a5, a6, a7, a8, a9, a10, a11, a12, a13, a14, a15, a16, a17, a18, a19)) :
    ∀ (l n c u : Nat) (d ct fa fe : Int32) (a6 a7 a8 a9 a10 a11 a12 a13 a14 a15 a16 a17 a18 a19 : Nat → Int32), l ≤ 4 → c + l < 2000 → 1 ≤ u → u ≤ 6 → a6 0 = o → a7 0 = 0 → a14 0 = t → (∀ r, r < 4 → ro_m (a19 r)) → ro_K 1 (nI (l + 1)) m d 0 x y a8 a9 a10 a11 a12 a15 a16 a17 a18 → wX_finish_28 post 1 (n + 1 + 1 + 1 + l) 0 (nI c) sz 0 1 ct gb fa fe 0 (nI u) a1 a2 a3 a4 a5 a6 a7 a8 a9 a10 a11 a12 a13 a14 a15 a16 a17 a18 a19 := by
  intro l
  induction l with
  | zero =>
    intro n c u d ct fa fe a6 a7 a8 a9 a10 a11 a12 a13 a14 a15 a16 a17 a18 a19 _ hc h1 hu e6 e7 e14 hm hK
    refine pk_le 3216 c (fun h => absurd h (by omega)) (fun _ => br_f (by decide) (br_t rfl (ro_retire_no (Or.inr (by rw [hK.1]; decide)) (nm_r (show (0 : Int32) + 0 = 0 by decide) (br_f (by decide) (br_t rfl ?_))))))
    refine ro_complete_fin h1 hu hK (fun d' b8 b9 b10 b11 b12 b15 b16 b17 b18 hd hK2 => ?_)
    rw [e6, e7] at hK2
    rw [e6] at hd
    obtain ⟨k8, k9, k10, k11, k12, k15, k16, k17, k18⟩ := hK2
    refine ro_begin_keep h1 hu (by rw [k8]; decide) (fun c8 c9 f8 f9 => ?_)
    refine ro_issue_next h1 hu hs hm (fun u' fa' fe' d6 d7 d8 d10 d12 d13 d14 d15 d16 d17 d18 d19 h1' hu' g6 g7 g8 g10 g12 g14 g15 g16 g17 g18 hm' => nm_r (nI_1 c) ?_)
    exact ro_finR h1' hu' (g6.trans e6) (g7.trans e7) (fun h => by rw [g14, e14]; exact ht h) ⟨g8.trans (f8.trans k8), f9.trans k9, g10.trans k10, k11, g12.trans k12, g15.trans k15, g16.trans k16, g17.trans k17, g18.trans k18⟩ hd Qt (fun h => by rw [g14, e14]; exact Qf h) HF (by omega)
  | succ l ih =>
    intro n c u d ct fa fe a6 a7 a8 a9 a10 a11 a12 a13 a14 a15 a16 a17 a18 a19 hl hc h1 hu e6 e7 e14 hm hK
    refine pk_le 3216 c (fun h => absurd h (by omega)) (fun _ => br_f (by decide) (br_t rfl (ro_retire_no (Or.inr (by rw [hK.1]; decide)) (nm_r (show (0 : Int32) + 0 = 0 by decide) (br_f (by decide) (br_t rfl ?_))))))
    refine ro_complete_dec (k := l) h1 hu (by omega) hK (fun b8 b9 b10 b11 b12 b15 b16 b17 b18 hK2 => ?_)
    obtain ⟨k8, k9, k10, k11, k12, k15, k16, k17, k18⟩ := hK2
    refine ro_begin_keep h1 hu (by rw [k8]; decide) (fun c8 c9 f8 f9 => ?_)
    refine ro_issue_next h1 hu hs hm (fun u' fa' fe' d6 d7 d8 d10 d12 d13 d14 d15 d16 d17 d18 d19 h1' hu' g6 g7 g8 g10 g12 g14 g15 g16 g17 g18 hm' => nm_r (nI_1 c) ?_)
    exact ih n (c + 1) u' d ct fa' fe' _ _ _ _ _ _ _ _ _ _ _ _ _ _ (by omega) (by omega) h1' hu' (g6.trans e6) (g7.trans e7) (g14.trans e14) hm' ⟨g8.trans (f8.trans k8), f9.trans k9, g10.trans k10, k11, g12.trans k12, g15.trans k15, g16.trans k16, g17.trans k17, g18.trans k18⟩
/-- place 0 waits, alone -/
theorem ro_finW {post : Int32 → St2 → Prop} {Q : Int32 → Int32 → Int32 → Prop} {sz ct gb fa fe : Int32} {a1 a2 a3 a4 a5 a6 a7 a8 a9 a10 a11 a12 a13 a14 a15 a16 a17 a18 a19 : Nat → Int32} {p : Nat} {o l m d x y t : Int32} (hs : ro_prog sz a2 p) (ht : ¬ 4 < o → ∃ t' : Nat, t' < 4 ∧ t = nI t') (e6 : a6 0 = o) (e7 : a7 0 = 0) (e14 : a14 0 = t) (hm : ∀ r, r < 4 → ro_m (a19 r)) (hK : ro_K 0 l m d 0 x y a8 a9 a10 a11 a12 a15 a16 a17 a18)
    (Qt : ¬ ro_trap o x y 0 = 0 → Q 0 0 (a4 0)) (Qf : ro_trap o x y 0 = 0 → Q 1 (if o = 8 then 0 else if o < 6 then 1 else ro_res o x y 0 m a5) (if 4 < o then a4 0 else if t = 0 then ro_res o x y 0 m a5 else a4 0))
    (HF : ∀ (r sz aa st ct gb fa fe fi un : Int32) (a1 a2 a3 a4 a5 a6 a7 a8 a9 a10 a11 a12 a13 a14 a15 a16 a17 a18 a19 : Nat → Int32), Q r aa (a4 0) → post r (sz, aa, st, ct, gb, fa, fe, fi, un, a1, a2, a3, a4, a5, a6, a7, a8, a9, a10, a11, a12, a13, a14, a15, a16, a17, a18, a19)) {c : Nat} (hc : c < 1000) :
    wX_finish_28 post 1 (20 + 1) 0 (nI c) sz 0 1 ct gb fa fe 0 (nI 1) a1 a2 a3 a4 a5 a6 a7 a8 a9 a10 a11 a12 a13 a14 a15 a16 a17 a18 a19 := by
  refine pk_le 3216 c (fun h => absurd h (by omega)) (fun _ => br_f (by decide) (br_t rfl (ro_retire_no (Or.inr (by rw [hK.1]; decide)) (nm_r (show (0 : Int32) + 0 = 0 by decide) (br_f (by decide) (br_t rfl ?_))))))
  refine ro_complete_keep (by omega) (by omega) (by decide) hK (fun b8 b9 b10 b11 b12 b15 b16 b17 b18 hK2 => ?_)
  obtain ⟨k8, k9, k10, k11, k12, k15, k16, k17, k18⟩ := hK2
  refine ro_begin_one k8 k15 k16 (fun l' c8 c9 hl1 hl5 f8 f9 => ?_)
  refine ro_issue_next (by omega) (by omega) hs hm (fun u' fa' fe' d6 d7 d8 d10 d12 d13 d14 d15 d16 d17 d18 d19 h1' hu' g6 g7 g8 g10 g12 g14 g15 g16 g17 g18 hm' => nm_r (nI_1 c) ?_)
  obtain ⟨w, rfl⟩ : ∃ w, l' = w + 1 := ⟨l' - 1, by omega⟩
  have key := ro_finK hs ht Qt Qf HF (gb := gb) (a1 := a1) (a3 := a3) w (17 - w) (c + 1) u' d ct fa' fe' d6 d7 d8 c9 d10 b11 d12 d13 d14 d15 d16 d17 d18 d19 (by omega) (by omega) h1' hu' (g6.trans e6) (g7.trans e7) (g14.trans e14) hm' ⟨g8.trans f8, f9, g10.trans k10, k11, g12.trans k12, g15.trans k15, g16.trans k16, g17.trans k17, g18.trans k18⟩
  rw [show 17 - w + 1 + 1 + 1 + w = 20 by omega] at key
  exact key
/-- the ring is empty, one instruction -/
theorem ro_fin_good {post : Int32 → St2 → Prop} {Q : Int32 → Int32 → Int32 → Prop} {ct gb : Int32} {a1 a2 a3 a4 a5 a6 a7 a8 a9 a10 a11 a12 a13 a14 a15 a16 a17 a18 a19 : Nat → Int32} {q p : Nat} (h1 : a1 0 = nI q) (hq : q ≤ 8) (h2 : a2 0 = nI p) (hp : p < 64) (hm : ∀ r, r < 4 → a19 r = -1)
    (Qt : ∀ x y, ro_opd (nI q) p a4 x y → ¬ ro_trap (nI q) x y 0 = 0 → Q 0 0 (a4 0)) (Qf : ∀ x y m, ro_opd (nI q) p a4 x y → (nI q = 0 ∨ ¬ nI q < 6 → m = a3 0) → ro_trap (nI q) x y 0 = 0 → Q 1 (if nI q = 8 then 0 else if nI q < 6 then 1 else ro_res (nI q) x y 0 m a5) (if 4 < nI q then a4 0 else if nI (p % 4) = 0 then ro_res (nI q) x y 0 m a5 else a4 0))
    (HF : ∀ (r sz aa st ct gb fa fe fi un : Int32) (a1 a2 a3 a4 a5 a6 a7 a8 a9 a10 a11 a12 a13 a14 a15 a16 a17 a18 a19 : Nat → Int32), Q r aa (a4 0) → post r (sz, aa, st, ct, gb, fa, fe, fi, un, a1, a2, a3, a4, a5, a6, a7, a8, a9, a10, a11, a12, a13, a14, a15, a16, a17, a18, a19)) :
    wpX_finish post (1, 0, 1, ct, gb, 0, 1, 0, 0, a1, a2, a3, a4, a5, a6, a7, a8, a9, a10, a11, a12, a13, a14, a15, a16, a17, a18, a19) 1 := by
  unfold wpX_finish
  dsimp only
  refine br_t (by decide) (br_t (by decide) ⟨20 + 1 + 1, ?_⟩)
  refine pk_le 3216 0 (fun h => absurd h (by omega)) (fun _ => br_f (by decide) (br_t rfl (ro_retire_no (Or.inl rfl) (nm_r (show (0 : Int32) + 0 = 0 by decide) (br_f (by decide) (br_t rfl ?_))))))
  refine ro_complete_0 (ro_begin_0 ?_)
  refine ro_issue_first rfl h1 (by omega) h2 hp hm (fun fa' fe' b6 b7 b8 b10 b12 b13 b14 b15 b16 b17 b18 b19 e6 e7 e8 e12 e15 e16 ho e14 e10 hm' => nm_r (nI_1 0) ?_)
  have hg : ¬ 4 < nI q → b14 0 = nI (p % 4) := e14
  refine ro_finW (t := b14 0) (Or.inr ⟨rfl, h2, hp⟩) (fun h => ⟨p % 4, by omega, e14 h⟩) e6 e7 rfl hm' ⟨e8, rfl, rfl, rfl, e12, e15, e16, rfl, rfl⟩ (Qt _ _ ho) (fun h => ?_) HF (by omega)
  have z := Qf _ _ _ ho e10 h
  by_cases g : 4 < nI q
  · rw [if_pos g] at z ⊢; exact z
  · rw [if_neg g] at z ⊢; rw [e14 g]; exact z
/-- the ring is empty, no instruction -/
theorem ro_fin_bad {post : Int32 → St2 → Prop} {Q : Int32 → Int32 → Int32 → Prop} {ct gb : Int32} {a1 a2 a3 a4 a5 a6 a7 a8 a9 a10 a11 a12 a13 a14 a15 a16 a17 a18 a19 : Nat → Int32} (hm : ∀ r, r < 4 → a19 r = -1) (Qt : Q 0 0 (a4 0))
    (HF : ∀ (r sz aa st ct gb fa fe fi un : Int32) (a1 a2 a3 a4 a5 a6 a7 a8 a9 a10 a11 a12 a13 a14 a15 a16 a17 a18 a19 : Nat → Int32), Q r aa (a4 0) → post r (sz, aa, st, ct, gb, fa, fe, fi, un, a1, a2, a3, a4, a5, a6, a7, a8, a9, a10, a11, a12, a13, a14, a15, a16, a17, a18, a19)) :
    wpX_finish post (0, 0, 1, ct, gb, 0, 1, 0, 0, a1, a2, a3, a4, a5, a6, a7, a8, a9, a10, a11, a12, a13, a14, a15, a16, a17, a18, a19) 1 := by
  unfold wpX_finish
  dsimp only
  refine br_t (by decide) (br_t (by decide) ⟨20 + 1 + 1, ?_⟩)
  refine pk_le 3216 0 (fun h => absurd h (by omega)) (fun _ => br_f (by decide) (br_t rfl (ro_retire_no (Or.inl rfl) (nm_r (show (0 : Int32) + 0 = 0 by decide) (br_f (by decide) (br_t rfl ?_))))))
  refine ro_complete_0 (ro_begin_0 ?_)
  refine ro_issue_none rfl (nm_r (nI_1 0) ?_)
  exact ro_finW (p := 0) (o := 9) (Or.inl rfl) (fun h => absurd (show (4 : Int32) < 9 by decide) h) pk_us pk_us rfl (fun r hr => Or.inl (hm r hr)) ⟨pk_us, rfl, rfl, rfl, pk_us, pk_us, pk_us, rfl, rfl⟩ (fun _ => Qt) (fun h => absurd h (by simp [ro_trap])) HF (by omega)
end
section
/-! the law's own arithmetic -/
theorem ro_law_bad {post : Int32 → St0 → Prop} {mc ms kc ks : Nat} {x0 x1 x2 x3 : Int32} (hp : post 1 ()) : wL_lawOf_83 post mc ms x0 x1 x2 x3 1 (-1) 0 0 0 0 kc ks := by
  have h276 : ∀ x12 x19 z, wL_lawOf_276 post mc ms 1 (-1) 0 0 0 0 x12 1 x19 z kc ks := by
    intro x12 x19 z
    unfold wL_lawOf_276 wL_lawOf_295 wL_lawOf_310 wL_lawOf_326 wL_lawOf_341 wL_lawOf_347
    exact br_f (by decide) (br_t rfl (br_t rfl (br_f (by decide) (br_t rfl (br_f (by decide) (br_t rfl (br_f (by decide) (br_t rfl hp))))))))
  have h221 : ∀ x12 x15 x16 z, wL_lawOf_221 post mc ms x0 x2 1 (-1) 0 0 0 0 x12 x15 x16 1 z kc ks := by
    intro x12 x15 x16 z
    unfold wL_lawOf_221 wL_lawOf_275
    exact br_c (fun _ => h276 _ _ _) (fun _ => br_c (fun _ => h276 _ _ _) (fun _ => br_c (fun _ => h276 _ _ _) (fun _ => br_c (fun _ => br_c (fun _ => h276 _ _ _) (fun h => ⟨h, h276 _ _ _⟩)) (fun _ => h276 _ _ _))))
  have h160 : ∀ x12 x15 x16, wL_lawOf_160 post mc ms x0 x2 x3 1 (-1) 0 0 0 0 x12 x15 x16 kc ks := by
    intro x12 x15 x16
    unfold wL_lawOf_160 wL_lawOf_165 wL_lawOf_192 wL_lawOf_193 wL_lawOf_206
    exact br_t rfl (br_c (fun _ => h221 _ _ _ _) (fun _ => br_t rfl (br_c (fun _ => h221 _ _ _ _) (fun _ => h221 _ _ _ _))))
  have h115 : ∀ x12 x14 z, wL_lawOf_115 post mc ms x0 x2 x3 1 (-1) 0 0 0 0 x12 x14 z kc ks := by
    intro x12 x14 z
    unfold wL_lawOf_115 wL_lawOf_128
    exact br_c (fun _ => br_t rfl (h160 _ _ _)) (fun _ => br_t rfl (h160 _ _ _))
  unfold wL_lawOf_83
  exact nm_e (nm_e (nm_e (br_c (fun _ => h115 _ _ _) (fun _ => h115 _ _ _))))
/-- what the law asks of a good instruction: y, z its operands, a its register -/
def ro_T (o y z : Int32) : Prop := (o = 3 ∧ z = 0) ∨ ((o = 4 ∨ o = 5) ∧ ¬ 0 ≤ y)
def ro_made (o n y z : Int32) : Int32 := if o = 0 then n else if o = 1 then y + z else if o = 2 then y * z else if o = 3 then (if z = 0 then 0 else y / z) else 0
def ro_next (o a n v : Int32) : Int32 := if o = 7 then n else if o = 6 ∧ (¬ a = 1 ∨ v = 0) then n else if o = 8 then 0 else 1
def ro_Q (o a y z n v : Int32) (r at' s : Int32) : Prop := (ro_T o y z → r = 0 ∧ at' = 0 ∧ s = 0) ∧ (¬ ro_T o y z → r = 1 ∧ at' = ro_next o a n v ∧ s = (if a = 0 then ro_made o n y z else 0))
theorem ro_law_good {post : Int32 → St0 → Prop} {mc ms kc ks : Nat} {x0 x1 x2 x3 x8 x9 x10 : Int32} (hp : post 1 ())
    (hQ : ro_Q x0 (x1 &&& 3) (if (x1 >>> ((2 : Int32) &&& 31)) &&& 3 = 1 then x3 else 0) (if (x1 >>> ((4 : Int32) &&& 31)) &&& 3 = 1 then x3 else 0) x2 x3 x8 x9 x10) :
    wL_lawOf_83 post mc ms x0 x1 x2 x3 1 0 x8 x9 x10 1 kc ks := by
  have h276 : ∀ x12 x17 x19 z, (¬ x17 = 0 → x8 = 0 ∧ x9 = 0 ∧ x10 = 0) → (x17 = 0 → x8 = 1 ∧ x9 = x19 ∧ x10 = (if x12 = 0 then z else 0)) → wL_lawOf_276 post mc ms 1 0 x8 x9 x10 1 x12 x17 x19 z kc ks := by
    intro x12 x17 x19 z ht hf
    unfold wL_lawOf_276 wL_lawOf_295 wL_lawOf_310 wL_lawOf_326 wL_lawOf_341 wL_lawOf_347
    refine br_f (by decide) (br_f (by decide) (br_t rfl (br_c (fun g => ?_) (fun g => ?_))))
    · obtain ⟨e8, e9, e10⟩ := hf g
      exact br_t e8 (br_t g (br_t e9 (br_t g (br_c (fun h => br_t (by rw [e10, if_pos h]) hp) (fun h => br_t (by rw [e10, if_neg h]) hp)))))
    · obtain ⟨e8, e9, e10⟩ := ht g
      exact br_t e8 (br_f g (br_t e9 (br_f g (br_t e10 hp))))
  have h221 : ∀ x12 x15 x16 x17 z, (¬ x17 = 0 → x8 = 0 ∧ x9 = 0 ∧ x10 = 0) → (x17 = 0 → x8 = 1 ∧ x9 = z ∧ x10 = (if x12 = 0 then ro_made x0 x2 x15 x16 else 0)) → wL_lawOf_221 post mc ms x0 x2 1 0 x8 x9 x10 1 x12 x15 x16 x17 z kc ks := by
    intro x12 x15 x16 x17 z ht hf
    unfold wL_lawOf_221 wL_lawOf_275
    refine br_c (fun g0 => h276 _ _ _ _ ht (fun h => ?_)) (fun g0 => br_c (fun g1 => h276 _ _ _ _ ht (fun h => ?_)) (fun g1 => br_c (fun g2 => h276 _ _ _ _ ht (fun h => ?_)) (fun g2 => br_c (fun g3 => br_c (fun g => h276 _ _ _ _ ht (fun h => ?_)) (fun g => ⟨g, h276 _ _ _ _ ht (fun h => ?_)⟩)) (fun g3 => h276 _ _ _ _ ht (fun h => ?_)))))
    · have z := hf h; unfold ro_made at z; rw [if_pos g0] at z; exact z
    · have z := hf h; unfold ro_made at z; rw [if_neg g0, if_pos g1] at z; exact z
    · have z := hf h; unfold ro_made at z; rw [if_neg g0, if_neg g1, if_pos g2] at z; exact z
    · have z := hf h; unfold ro_made at z; rw [if_neg g0, if_neg g1, if_neg g2, if_pos g3, if_pos g] at z; exact z
    · have z := hf h; unfold ro_made at z; rw [if_neg g0, if_neg g1, if_neg g2, if_pos g3, if_neg g] at z; exact z
    · have z := hf h; unfold ro_made at z; rw [if_neg g0, if_neg g1, if_neg g2, if_neg g3] at z; exact z
  have h165 : ∀ x12 x15 x16 x17, (¬ x17 = 0 → x8 = 0 ∧ x9 = 0 ∧ x10 = 0) → (x17 = 0 → x8 = 1 ∧ x9 = ro_next x0 x12 x2 x3 ∧ x10 = (if x12 = 0 then ro_made x0 x2 x15 x16 else 0)) → wL_lawOf_165 post mc ms x0 x2 x3 1 0 x8 x9 x10 1 x12 x15 x16 x17 kc ks := by
    intro x12 x15 x16 x17 ht hf
    have n188 : x0 = 6 → (¬ x12 = 1 ∨ x3 = 0) → wL_lawOf_188 post mc ms x0 x2 1 0 x8 x9 x10 1 x12 x15 x16 x17 kc ks := by
      intro g6 gz
      unfold wL_lawOf_188 wL_lawOf_193 wL_lawOf_206
      refine br_f (by rw [g6]; decide) (br_f (by decide) (h221 _ _ _ _ _ ht (fun h => ?_)))
      have z := hf h
      unfold ro_next at z
      rw [if_neg (by rw [g6]; decide), if_pos ⟨g6, gz⟩] at z
      exact z
    have n192 : ¬ (x0 = 6 ∧ (¬ x12 = 1 ∨ x3 = 0)) → wL_lawOf_192 post mc ms x0 x2 1 0 x8 x9 x10 1 x12 x15 x16 x17 kc ks := by
      intro gz
      unfold wL_lawOf_192 wL_lawOf_193 wL_lawOf_206
      refine br_c (fun g7 => h221 _ _ _ _ _ ht (fun h => ?_)) (fun g7 => br_t rfl (br_c (fun g8 => h221 _ _ _ _ _ ht (fun h => ?_)) (fun g8 => h221 _ _ _ _ _ ht (fun h => ?_))))
      · have z := hf h; unfold ro_next at z; rw [if_pos g7] at z; exact z
      · have z := hf h; unfold ro_next at z; rw [if_neg g7, if_neg gz, if_pos g8] at z; exact z
      · have z := hf h; unfold ro_next at z; rw [if_neg g7, if_neg gz, if_neg g8] at z; exact z
    unfold wL_lawOf_165
    exact br_f (by decide) (br_c (fun g6 => br_c (fun g1 => br_c (fun g => n188 g6 (Or.inr g)) (fun g => n192 (fun h => h.2.elim (fun z => z g1) g))) (fun g1 => n188 g6 (Or.inl g1))) (fun g6 => n192 (fun h => g6 h.1)))
  have h128 : ∀ x12 x15 x16, ro_Q x0 x12 x15 x16 x2 x3 x8 x9 x10 → wL_lawOf_128 post mc ms x0 x2 x3 1 0 x8 x9 x10 1 x12 x15 x16 kc ks := by
    intro x12 x15 x16 hq
    have n160 : ro_T x0 x15 x16 → wL_lawOf_160 post mc ms x0 x2 x3 1 0 x8 x9 x10 1 x12 x15 x16 kc ks := by
      intro t
      unfold wL_lawOf_160
      exact h165 _ _ _ _ (fun _ => hq.1 t) (fun h => absurd h (by decide))
    have n164 : ¬ ro_T x0 x15 x16 → wL_lawOf_164 post mc ms x0 x2 x3 1 0 x8 x9 x10 1 x12 x15 x16 kc ks := by
      intro t
      unfold wL_lawOf_164
      exact h165 _ _ _ _ (fun h => absurd rfl h) (fun _ => hq.2 t)
    have n145 : ¬ (x0 = 3 ∧ x16 = 0) → wL_lawOf_145 post mc ms x0 x2 x3 1 0 x8 x9 x10 1 x12 x15 x16 kc ks := by
      intro n3
      have n155 : (x0 = 4 ∨ x0 = 5) → wL_lawOf_155 post mc ms x0 x2 x3 1 0 x8 x9 x10 1 x12 x15 x16 kc ks := by
        intro g45
        unfold wL_lawOf_155
        exact br_c (fun g => n164 (fun t => t.elim n3 (fun t => t.2 g))) (fun g => n160 (Or.inr ⟨g45, g⟩))
      unfold wL_lawOf_145
      exact br_c (fun g4 => n155 (Or.inl g4)) (fun g4 => br_c (fun g5 => n155 (Or.inr g5)) (fun g5 => n164 (fun t => t.elim n3 (fun t => t.1.elim g4 g5))))
    unfold wL_lawOf_128
    exact br_f (by decide) (br_c (fun g3 => br_c (fun g => n160 (Or.inl ⟨g3, g⟩)) (fun g => n145 (fun h => g h.2))) (fun g3 => n145 (fun h => g3 h.1)))
  unfold wL_lawOf_83
  refine nm_e (nm_e (nm_e (br_c (fun gb => ?_) (fun gb => ?_))))
  · rw [if_pos gb] at hQ
    unfold wL_lawOf_115
    refine br_c (fun gc => ?_) (fun gc => ?_)
    · rw [if_pos gc] at hQ
      exact h128 _ _ _ hQ
    · rw [if_neg gc] at hQ
      exact h128 _ _ _ hQ
  · rw [if_neg gb] at hQ
    unfold wL_lawOf_115
    refine br_c (fun gc => ?_) (fun gc => ?_)
    · rw [if_pos gc] at hQ
      exact h128 _ _ _ hQ
    · rw [if_neg gc] at hQ
      exact h128 _ _ _ hQ
/-! what the machine makes is what the law asks -/
theorem ro_reg {v : Int32} : ∀ b, b < 4 → upd (fun _ => 0) 1 v b = (if nI b = 1 then v else 0) := by
  intro b hb
  have h : b = 0 ∨ b = 1 ∨ b = 2 ∨ b = 3 := by omega
  rcases h with rfl | rfl | rfl | rfl
  · rw [pk_un (by decide), if_neg (by decide)]
  · rw [pk_us, if_pos (by decide)]
  · rw [pk_un (by decide), if_neg (by decide)]
  · rw [pk_un (by decide), if_neg (by decide)]
theorem ro_nine {q : Nat} (hq : q ≤ 8) : nI q = 0 ∨ nI q = 1 ∨ nI q = 2 ∨ nI q = 3 ∨ nI q = 4 ∨ nI q = 5 ∨ nI q = 6 ∨ nI q = 7 ∨ nI q = 8 := by
  revert q
  decide +kernel
theorem ro_pure_t {o a y z n v x w : Int32} {a4 : Nat → Int32} {p : Nat} (ho : o = 0 ∨ o = 1 ∨ o = 2 ∨ o = 3 ∨ o = 4 ∨ o = 5 ∨ o = 6 ∨ o = 7 ∨ o = 8) (hy : a4 (p / 4 % 4) = y) (hz : a4 (p / 16) = z) (h0 : a4 0 = 0)
    (hd : ro_opd o p a4 x w) (ht : ¬ ro_trap o x w 0 = 0) : ro_Q o a y z n v 0 0 (a4 0) := by
  obtain ⟨d1, d4, d5, d6⟩ := hd
  refine ⟨fun _ => ⟨rfl, rfl, h0⟩, fun g => absurd ?_ ht⟩
  rw [← hy, ← hz] at g
  rcases ho with rfl | rfl | rfl | rfl | rfl | rfl | rfl | rfl | rfl <;> simp_all [ro_trap, ro_T]
theorem ro_pure_f {o a y z n v x w m : Int32} {a4 : Nat → Int32} {p : Nat} (ho : o = 0 ∨ o = 1 ∨ o = 2 ∨ o = 3 ∨ o = 4 ∨ o = 5 ∨ o = 6 ∨ o = 7 ∨ o = 8) (hy : a4 (p / 4 % 4) = y) (hz : a4 (p / 16) = z) (ha : a4 (p % 4) = (if a = 1 then v else 0)) (h0 : a4 0 = 0)
    (hd : ro_opd o p a4 x w) (hm : o = 0 ∨ ¬ o < 6 → m = n) (ht : ro_trap o x w 0 = 0) :
    ro_Q o a y z n v 1 (if o = 8 then 0 else if o < 6 then 1 else ro_res o x w 0 m (fun _ => 0)) (if 4 < o then a4 0 else if a = 0 then ro_res o x w 0 m (fun _ => 0) else a4 0) := by
  obtain ⟨d1, d4, d5, d6⟩ := hd
  refine ⟨fun g => absurd ht ?_, fun g => ⟨rfl, ?_, ?_⟩⟩
  · rcases ho with rfl | rfl | rfl | rfl | rfl | rfl | rfl | rfl | rfl <;> simp_all [ro_trap, ro_T]
  · by_cases hA : a = 1 <;> rcases ho with rfl | rfl | rfl | rfl | rfl | rfl | rfl | rfl | rfl <;> simp_all [ro_trap, ro_T, ro_res, ro_next]
  · rcases ho with rfl | rfl | rfl | rfl | rfl | rfl | rfl | rfl | rfl <;> simp_all [ro_trap, ro_T, ro_res, ro_made]
end
section
/-! the law -/
theorem ro_init {post : St2 → Prop} {sz aa st ct gb fa fe fi un : Int32} (H : post (sz, aa, st, ct, gb, fa, fe, fi, un, fun _ => 0, fun _ => 0, fun _ => 0, fun _ => 0, fun _ => 0, fun _ => 0, fun _ => 0, fun _ => 0, fun _ => 0, fun _ => 0, fun _ => 0, fun _ => 0, fun _ => 0, fun _ => 0, fun _ => 0, fun _ => 0, fun _ => 0, fun _ => 0, fun _ => 0)) : wpX_init post 19 142 (sz, aa, st, ct, gb, fa, fe, fi, un) := by
  unfold wpX_init
  dsimp only
  exact ⟨by decide, by decide, by decide, by decide, by decide, by decide, by decide, by decide, by decide, by decide, by decide, by decide, by decide, by decide, by decide, by decide, by decide, by decide, by decide, by decide, by decide, by decide, by decide, by decide, by decide, by decide, by decide, by decide, by decide, by decide, by decide, by decide, by decide, by decide, by decide, by decide, by decide, by decide, H⟩
theorem ro_set {post : Int32 → St2 → Prop} {sz aa ct gb fa fe fi un : Int32} {a1 a2 a3 a4 a5 a6 a7 a8 a9 a10 a11 a12 a13 a14 a15 a16 a17 a18 a19 : Nat → Int32} {v : Int32} (H : post 1 (sz, aa, 0, ct, gb, fa, fe, fi, un, a1, a2, a3, upd a4 1 v, a5, a6, a7, a8, a9, a10, a11, a12, a13, a14, a15, a16, a17, a18, a19)) : wpX_set post (sz, aa, 0, ct, gb, fa, fe, fi, un, a1, a2, a3, a4, a5, a6, a7, a8, a9, a10, a11, a12, a13, a14, a15, a16, a17, a18, a19) 1 v := by
  unfold wpX_set
  dsimp only
  exact br_f (by decide) (br_f (by decide) (br_f (by decide) ⟨pk_in 1 4 (by omega), nm_r (by rw [pk_cl 1]) H⟩))
theorem ro_emit_bad {post : Int32 → St2 → Prop} {sz aa st ct gb fa fe fi un : Int32} {a1 a2 a3 a4 a5 a6 a7 a8 a9 a10 a11 a12 a13 a14 a15 a16 a17 a18 a19 : Nat → Int32} {p0 p1 p2 : Int32} (hb : ¬ (¬ p0 < 0 ∧ ¬ 8 < p0 ∧ ¬ p1 < 0 ∧ p1 ≤ 63)) (H : post (-1) (sz, aa, st, ct, gb, fa, fe, fi, un, a1, a2, a3, a4, a5, a6, a7, a8, a9, a10, a11, a12, a13, a14, a15, a16, a17, a18, a19)) : wpX_emit post (sz, aa, st, ct, gb, fa, fe, fi, un, a1, a2, a3, a4, a5, a6, a7, a8, a9, a10, a11, a12, a13, a14, a15, a16, a17, a18, a19) p0 p1 p2 := by
  unfold wpX_emit
  dsimp only
  exact br_c (fun _ => H) (fun h1 => br_c (fun _ => H) (fun h2 => br_c (fun _ => H) (fun h3 => br_c (fun h4 => absurd ⟨h1, h2, h3, h4⟩ hb) (fun _ => H))))
theorem ro_emit_good {post : Int32 → St2 → Prop} {aa st ct gb fa fe fi un : Int32} {a1 a2 a3 a4 a5 a6 a7 a8 a9 a10 a11 a12 a13 a14 a15 a16 a17 a18 a19 : Nat → Int32} {q p : Nat} {n : Int32} (hq : q ≤ 8) (hp : p < 64) (H : post 0 (1, 0, 0, 0, gb, fa, fe, fi, un, (upd a1 0 (nI q)), (upd a2 0 (nI p)), upd a3 0 n, a4, a5, a6, a7, a8, a9, a10, a11, a12, a13, a14, a15, a16, a17, a18, a19)) : wpX_emit post (0, aa, st, ct, gb, fa, fe, fi, un, a1, a2, a3, a4, a5, a6, a7, a8, a9, a10, a11, a12, a13, a14, a15, a16, a17, a18, a19) (nI q) (nI p) n := by
  unfold wpX_emit
  dsimp only
  rw [sb_cl0, ro_b8 q (by omega), ro_b8 p hp]
  refine br_f (nI_pos (by omega)) (pk_lt 8 q (fun h => absurd h (by omega)) (fun _ => br_f (nI_pos (by omega)) (pk_le p 63 (fun _ => br_t (by decide) ⟨pk_in 0 16 (by omega), nm_e ⟨pk_in 0 16 (by omega), nm_e ⟨pk_in 0 16 (by omega), nm_e (nm_r (show (0 : Int32) + 1 = 1 by decide) ?_)⟩⟩⟩) (fun h => absurd h (by omega)))))
  unfold wpX_idle
  dsimp only
  rw [show (1 : Int32) - 1 = 0 by decide]
  exact H
theorem ro_lawOf_bad {p0 p1 p2 p3 p4 : Int32} (hb : ¬ (¬ p0 < 0 ∧ ¬ 8 < p0 ∧ ¬ p1 < 0 ∧ p1 ≤ 63)) : wpL_lawOf (fun r _ => r = 1) 20 170 () p0 p1 p2 p3 p4 := by
  unfold wpL_lawOf
  refine ⟨by decide, by decide, 19, 142, by decide, by decide, ro_init ?_⟩
  refine ro_set (ro_emit_bad hb ?_)
  unfold wpX_start
  dsimp only
  refine ro_refetch (fun b19 hm => ?_)
  dsimp only
  refine ro_fin_bad (Q := fun r a s => r = 0 ∧ a = 0 ∧ s = 0) hm ⟨rfl, rfl, pk_un (show (0 : Nat) ≠ 1 by decide)⟩ (fun r f0 f1 f2 f3 f4 f5 f6 f7 f8 a1 a2 a3 a4 a5 a6 a7 a8 a9 a10 a11 a12 a13 a14 a15 a16 a17 a18 a19 hQ => ?_)
  obtain ⟨rfl, rfl, hs⟩ := hQ
  unfold wpX_position
  dsimp only
  unfold wpX_register
  dsimp only
  refine br_f (by decide) (br_t (by decide) ⟨pk_in 0 4 (by omega), ?_⟩)
  rw [sb_cl0, hs]
  exact br_c (fun _ => ro_law_bad rfl) (fun h1 => br_c (fun _ => ro_law_bad rfl) (fun h2 => br_c (fun _ => ro_law_bad rfl) (fun h3 => br_c (fun _ => ro_law_bad rfl) (fun h4 => absurd ⟨h1, h2, h3, Int32.not_lt.mp h4⟩ hb))))
theorem ro_lawOf_good {q p : Nat} {p2 p3 p4 : Int32} (hq : q ≤ 8) (hp : p < 64) : wpL_lawOf (fun r _ => r = 1) 20 170 () (nI q) (nI p) p2 p3 p4 := by
  unfold wpL_lawOf
  refine ⟨by decide, by decide, 19, 142, by decide, by decide, ro_init ?_⟩
  refine ro_set (ro_emit_good hq hp ?_)
  unfold wpX_start
  dsimp only
  refine ro_refetch (fun b19 hm => ?_)
  dsimp only
  have ha : p % 4 < 4 := by omega
  have hb : p / 4 % 4 < 4 := by omega
  have hc : p / 16 < 4 := by omega
  refine ro_fin_good (Q := ro_Q (nI q) (nI p &&& 3) (if (nI p >>> ((2 : Int32) &&& 31)) &&& 3 = 1 then p3 else 0) (if (nI p >>> ((4 : Int32) &&& 31)) &&& 3 = 1 then p3 else 0) p2 p3) pk_us hq pk_us hp hm (fun x y hd ht => ?_) (fun x y m hd hmm ht => ?_) (fun r f0 f1 f2 f3 f4 f5 f6 f7 f8 a1 a2 a3 a4 a5 a6 a7 a8 a9 a10 a11 a12 a13 a14 a15 a16 a17 a18 a19 hQ => ?_)
  · rw [ro_shr2 p hp, ro_shr4a p hp]
    exact ro_pure_t (ro_nine hq) (ro_reg _ hb) (ro_reg _ hc) (pk_un (show (0 : Nat) ≠ 1 by decide)) hd ht
  · rw [ro_shr2 p hp, ro_shr4a p hp, ro_and3 p hp]
    exact ro_pure_f (ro_nine hq) (ro_reg _ hb) (ro_reg _ hc) (ro_reg _ ha) (pk_un (show (0 : Nat) ≠ 1 by decide)) hd (fun h => (hmm h).trans pk_us) ht
  · unfold wpX_position
    dsimp only
    unfold wpX_register
    dsimp only
    refine br_f (by decide) (br_t (by decide) ⟨pk_in 0 4 (by omega), ?_⟩)
    rw [sb_cl0]
    exact br_f (nI_pos (by omega)) (pk_lt 8 q (fun h => absurd h (by omega)) (fun _ => br_f (nI_pos (by omega)) (pk_lt 63 p (fun h => absurd h (by omega)) (fun _ => ro_law_good rfl hQ))))
theorem ro_lawOf (p0 p1 p2 p3 p4 : Int32) : wpL_lawOf (fun r _ => r = 1) 20 170 () p0 p1 p2 p3 p4 := by
  by_cases h : (¬ p0 < 0 ∧ ¬ 8 < p0 ∧ ¬ p1 < 0 ∧ p1 ≤ 63)
  · obtain ⟨h1, h2, h3, h4⟩ := h
    obtain ⟨q, hq, rfl⟩ := nI_of2 (M := 8) (n := 8) (by decide) h1 (Int32.not_lt.mp h2)
    obtain ⟨p, hp, rfl⟩ := nI_of2 (M := 63) (n := 63) (by decide) h3 h4
    exact ro_lawOf_good hq (by omega)
  · exact ro_lawOf_bad h
theorem ro_cell {post : Int32 → Prop} {L : Nat} {xs : Nat → Int32} {x : Int32} (k : Nat) (hL : L ≤ 5) (hk : k < 100) (hx : x = nI k) (H : ∀ r, post r) : wpL_cellAt post L xs () x := by
  subst hx
  exact pk_le L k (fun _ => H _) (fun h => ⟨pk_in k L h, H _⟩)
theorem i_vc (xs : Nat → Int32) (L : Nat) (hL : L ≤ 5) : wpL_law (fun r => r = 1) L xs := by
  unfold wpL_law
  exact ro_cell 0 hL (by omega) rfl (fun r1 => ro_cell 1 hL (by omega) rfl (fun r2 => ro_cell 2 hL (by omega) rfl (fun r3 => ro_cell 3 hL (by omega) rfl (fun r4 => ro_cell 4 hL (by omega) rfl (fun r5 => ⟨20, 170, by decide, by decide, ro_lawOf r1 r2 r3 r4 r5⟩)))))
end
