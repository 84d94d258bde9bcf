section
/-- the kind of the last run, 0 if there is none -/
def td_last (R : List (Nat × Nat)) : Nat := (R.getD (R.length - 1) (0, 0)).1
/-- k steps of kind w at the end of the runs -/
def td_app (R : List (Nat × Nat)) (w k : Nat) : List (Nat × Nat) :=
  if td_last R = w then R.set (R.length - 1) (w, (R.getD (R.length - 1) (0, 0)).2 + k) else R ++ [(w, k)]
/-- the runs of the work delta: kp kept, nw new letters (0 or 1), gn dropped -/
def td_R (kp nw gn : Nat) : List (Nat × Nat) :=
  (if kp = 0 then [] else [(1, kp)]) ++ ((if nw = 0 then [] else [(3, 1)]) ++ (if gn = 0 then [] else [(2, gn)]))
/-- the runs of the finished delta -/
def td_Q (kp nw gn rs : Nat) : List (Nat × Nat) := if rs = 0 then td_R kp nw gn else td_app (td_R kp nw gn) 1 rs
/-- the new letters -/
def td_F (nw : Nat) (c : Int32) : List Int32 := if nw = 0 then [] else [c]
/-- delta d of the arrays: lengths m and o, runs R, new letters F -/
def td_D (d m o : Nat) (R : List (Nat × Nat)) (F : List Int32) (a1 a2 a3 a4 a5 a6 a7 : Nat → Int32) : Prop :=
  a1 d = nI m ∧ a2 d = nI o ∧ a3 d = nI R.length ∧ a4 d = nI F.length ∧
  (∀ i, i < R.length → a5 (d * 64 + i) = nI (R.getD i (0, 0)).1) ∧
  (∀ i, i < R.length → a6 (d * 64 + i) = nI (R.getD i (0, 0)).2) ∧
  (∀ i, i < F.length → a7 (d * 40 + i) = F.getD i 0)
/-- the slots are still empty -/
def td_Z (a1 a2 a3 a4 : Nat → Int32) : Prop := ∀ j, j < 4 → a1 j = 0 ∧ a2 j = 0 ∧ a3 j = 0 ∧ a4 j = 0

theorem td_ix64 (d n : Nat) : nI d * 64 + nI n = nI (d * 64 + n) := by
  rw [show (64 : Int32) = nI 64 from rfl, pk_mul, nI_add]
theorem td_ix40 (d n : Nat) : nI d * 40 + nI n = nI (d * 40 + n) := by
  rw [show (40 : Int32) = nI 40 from rfl, pk_mul, nI_add]
theorem td_ixm {d n : Nat} (h : 0 < n) : nI d * 64 + nI n - 1 = nI (d * 64 + (n - 1)) := by
  rw [td_ix64, show (1 : Int32) = nI 1 from rfl, pk_sub (by omega), show d * 64 + n - 1 = d * 64 + (n - 1) by omega]
theorem td_z (x : Int32) : 0 + x = x := by grind

theorem td_get_lt {R : List (Nat × Nat)} {p : Nat × Nat} {i : Nat} (h : i < R.length) : (R ++ [p]).getD i (0, 0) = R.getD i (0, 0) := by
  simp [List.getD_eq_getElem?_getD, List.getElem?_append, h]
theorem td_get_eq {R : List (Nat × Nat)} {p : Nat × Nat} : (R ++ [p]).getD R.length (0, 0) = p := by
  simp [List.getD_eq_getElem?_getD]
theorem td_set_eq {R : List (Nat × Nat)} {p : Nat × Nat} {k : Nat} (h : k < R.length) : (R.set k p).getD k (0, 0) = p := by
  simp [List.getD_eq_getElem?_getD, h]
theorem td_set_ne {R : List (Nat × Nat)} {p : Nat × Nat} {k i : Nat} (h : i ≠ k) : (R.set k p).getD i (0, 0) = R.getD i (0, 0) := by
  simp [List.getD_eq_getElem?_getD, List.getElem?_set, Ne.symm h]
theorem td_fget_lt {F : List Int32} {p : Int32} {i : Nat} (h : i < F.length) : (F ++ [p]).getD i 0 = F.getD i 0 := by
  simp [List.getD_eq_getElem?_getD, List.getElem?_append, h]
theorem td_fget_eq {F : List Int32} {p : Int32} : (F ++ [p]).getD F.length 0 = p := by
  simp [List.getD_eq_getElem?_getD]
theorem td_last_pos {R : List (Nat × Nat)} {w : Nat} (h : td_last R = w) (hw : 0 < w) : 0 < R.length := by
  cases R with
  | nil => simp [td_last] at h; omega
  | cons p R => simp

theorem td_R_len (kp nw gn : Nat) : (td_R kp nw gn).length ≤ 3 := by
  unfold td_R
  split <;> split <;> split <;> simp
theorem td_R_last (kp nw gn : Nat) : td_last (td_R kp nw gn) < 4 := by
  unfold td_R
  split <;> split <;> split <;> simp [td_last]
theorem td_R_l2 (kp nw : Nat) : td_last (td_R kp nw 0) ≠ 2 := by
  unfold td_R
  split <;> split <;> simp [td_last]
theorem td_R_k {k : Nat} (h : 0 < k) : td_app (td_R 0 0 0) 1 k = td_R k 0 0 := by
  have h' : k ≠ 0 := by omega
  simp [td_R, td_app, td_last, h']
theorem td_R_n (kp : Nat) : td_app (td_R kp 0 0) 3 1 = td_R kp 1 0 := by
  by_cases h : kp = 0 <;> simp [td_R, td_app, td_last, h]
theorem td_R_g {g : Nat} (kp nw : Nat) (h : 0 < g) : td_app (td_R kp nw 0) 2 g = td_R kp nw g := by
  have h' : g ≠ 0 := by omega
  by_cases h1 : kp = 0 <;> by_cases h2 : nw = 0 <;> simp [td_R, td_app, td_last, h', h1, h2]
theorem td_app_len (R : List (Nat × Nat)) (w k : Nat) : (td_app R w k).length ≤ R.length + 1 := by
  unfold td_app
  split <;> simp
theorem td_Q_len (kp nw gn rs : Nat) : (td_Q kp nw gn rs).length ≤ 4 := by
  have h := td_R_len kp nw gn
  have h2 := td_app_len (td_R kp nw gn) 1 rs
  unfold td_Q
  split <;> omega
theorem td_F_len (nw : Nat) (c : Int32) : (td_F nw c).length ≤ 1 := by
  unfold td_F
  split <;> simp
/-- how many runs the law expects -/
def td_due (sz kp nw gn rs : Nat) : Nat :=
  if nw = 1 ∨ 0 < gn then (if 0 < kp then 1 else 0) + nw + (if 0 < gn then 1 else 0) + (if 0 < rs then 1 else 0) else (if 0 < sz then 1 else 0)
/-- what the law expects of the first run -/
def td_head (sz kp nw gn : Nat) : Nat :=
  if nw = 1 ∨ 0 < gn then (if 0 < kp then 1 + 4 * kp else if nw = 1 then 7 else 2 + 4 * gn) else 1 + 4 * sz
theorem td_Q_due {sz kp nw gn rs : Nat} (hn : nw ≤ 1) (hs : sz = kp + gn + rs) : (td_Q kp nw gn rs).length = td_due sz kp nw gn rs := by
  have hn' : nw = 0 ∨ nw = 1 := by omega
  subst hs
  rcases hn' with rfl | rfl <;> by_cases h1 : kp = 0 <;> by_cases h2 : gn = 0 <;> by_cases h3 : rs = 0 <;>
    simp [td_Q, td_R, td_app, td_last, td_due, h1, h2, h3, Nat.pos_iff_ne_zero]
theorem td_Q_head {sz kp nw gn rs : Nat} (hn : nw ≤ 1) (hs : sz = kp + gn + rs) (hd : 0 < td_due sz kp nw gn rs) :
    ((td_Q kp nw gn rs).getD 0 (0, 0)).1 + 4 * ((td_Q kp nw gn rs).getD 0 (0, 0)).2 = td_head sz kp nw gn := by
  have hn' : nw = 0 ∨ nw = 1 := by omega
  subst hs
  revert hd
  rcases hn' with rfl | rfl <;> by_cases h1 : kp = 0 <;> by_cases h2 : gn = 0 <;> by_cases h3 : rs = 0 <;>
    simp [td_Q, td_R, td_app, td_last, td_due, td_head, h1, h2, h3, Nat.pos_iff_ne_zero]
end
section
section
variable {post : St2 → Prop} {u0 u1 u2 u3 u4 u5 u6 u7 u8 u9 : Int32} {a1 a2 a3 a4 a5 a6 a7 a8 a9 : Nat → Int32} {d m o : Nat} {R : List (Nat × Nat)} {F : List Int32}

theorem td_lastKind {po : Int32 → Prop} (hd : d < 6) (hR : R.length ≤ 64) (h : td_D d m o R F a1 a2 a3 a4 a5 a6 a7) (hp : po (nI (td_last R))) :
    wpX_lastKind po (u0, u1, u2, u3, u4, u5, u6, u7, u8, u9, a1, a2, a3, a4, a5, a6, a7, a8, a9) (nI d) := by
  obtain ⟨h1, h2, h3, h4, h5, h6, h7⟩ := h
  unfold wpX_lastKind
  dsimp only
  rw [nI_clamp (show d < 2 ^ 31 by omega), h3]
  refine ⟨pk_in d 6 hd, pk_eq R.length 0 (fun z => ?_) (fun z => ?_)⟩
  · have e : td_last R = 0 := by
      rw [List.eq_nil_of_length_eq_zero z]
      rfl
    rw [e] at hp
    exact hp
  · have hz : 0 < R.length := by omega
    rw [td_ixm hz, nI_clamp (show d * 64 + (R.length - 1) < 2 ^ 31 by omega), h5 (R.length - 1) (by omega)]
    exact ⟨pk_in d 6 hd, vp_in_nI (by omega) (by omega), hp⟩

theorem td_g61 {n : Nat} {x : Int32} (hd : d < 6) (hn : 0 < n) (hn2 : n ≤ 64) (h3 : a3 d = nI n)
    (hp : post (u0, u1, u2, u3, u4, u5, u6, u7, u8, u9, a1, a2, a3, a4, a5, upd a6 (d * 64 + (n - 1)) (a6 (d * 64 + (n - 1)) + x), a7, a8, a9)) :
    wX_grow_61 post (nI d) x u0 u1 u2 u3 u4 u5 u6 u7 u8 u9 a1 a2 a3 a4 a5 a6 a7 a8 a9 := by
  unfold wX_grow_61
  rw [nI_clamp (show d < 2 ^ 31 by omega), h3, td_ixm hn]
  refine ⟨pk_in d 6 hd, nm_e ⟨vp_in_nI (by omega) (by omega), vp_in_nI (by omega) (by omega), nm_e ?_⟩⟩
  rw [nI_clamp (show d * 64 + (n - 1) < 2 ^ 31 by omega)]
  exact hp

theorem td_grow {w k : Nat} (hd : d < 6) (hR : R.length < 64) (hl : td_last R < 4) (hw : 0 < w) (hw2 : w < 4) (h : td_D d m o R F a1 a2 a3 a4 a5 a6 a7)
    (hp : ∀ b3 b5 b6 : Nat → Int32, td_D d m o (td_app R w k) F a1 a2 b3 a4 b5 b6 a7 → (∀ j, j ≠ d → b3 j = a3 j) → post (u0, u1, u2, u3, u4, u5, u6, u7, u8, u9, a1, a2, b3, a4, b5, b6, a7, a8, a9)) :
    wpX_grow post (u0, u1, u2, u3, u4, u5, u6, u7, u8, u9, a1, a2, a3, a4, a5, a6, a7, a8, a9) (nI d) (nI w) (nI k) := by
  unfold wpX_grow
  dsimp only
  refine td_lastKind hd (by omega) h (pk_eq (td_last R) w (fun z => ?_) (fun z => ?_))
  · obtain ⟨h1, h2, h3, h4, h5, h6, h7⟩ := h
    have hn : 0 < R.length := td_last_pos z hw
    refine td_g61 hd hn (by omega) h3 (hp _ _ _ ?_ (fun j _ => rfl))
    have e : td_app R w k = R.set (R.length - 1) (w, (R.getD (R.length - 1) (0, 0)).2 + k) := if_pos z
    have el : (td_app R w k).length = R.length := by rw [e, List.length_set]
    refine ⟨h1, h2, ?_, h4, fun i hi => ?_, fun i hi => ?_, h7⟩
    · rw [el]
      exact h3
    · rw [el] at hi
      rw [h5 i hi, e]
      by_cases ei : i = R.length - 1
      · rw [ei, td_set_eq (by omega)]
        rw [← z]
        rfl
      · rw [td_set_ne ei]
    · rw [el] at hi
      rw [e]
      by_cases ei : i = R.length - 1
      · rw [ei, pk_us, td_set_eq (by omega), h6 _ (by omega), nI_add]
      · rw [td_set_ne ei, pk_un (by omega), h6 i hi]
  · obtain ⟨h1, h2, h3, h4, h5, h6, h7⟩ := h
    rw [nI_clamp (show d < 2 ^ 31 by omega), h3, td_ix64, nI_clamp (show d * 64 + R.length < 2 ^ 31 by omega)]
    refine ⟨pk_in d 6 hd, vp_in_nI (by omega) (by omega), nm_e ⟨pk_in d 6 hd, vp_in_nI (by omega) (by omega), nm_e ⟨pk_in d 6 hd, pk_in d 6 hd, nm_e ?_⟩⟩⟩
    have e : td_app R w k = R ++ [(w, k)] := if_neg z
    have el : (td_app R w k).length = R.length + 1 := by rw [e, List.length_append]; rfl
    refine td_g61 hd (Nat.succ_pos R.length) (by omega) (by rw [pk_us, nI_1]) (hp _ _ _ ?_ (fun j hj => pk_un hj))
    rw [show R.length.succ - 1 = R.length from rfl]
    refine ⟨h1, h2, ?_, h4, fun i hi => ?_, fun i hi => ?_, h7⟩
    · rw [el, pk_us, nI_1]
    · rw [el] at hi
      rw [e]
      by_cases ei : i = R.length
      · rw [ei, pk_us, td_get_eq]
      · rw [td_get_lt (by omega), pk_un (by omega), h5 i (by omega)]
    · rw [el] at hi
      rw [e]
      by_cases ei : i = R.length
      · rw [ei, pk_us, pk_us, td_get_eq, td_z]
      · rw [td_get_lt (by omega), pk_un (by omega), pk_un (by omega), h6 i (by omega)]

theorem td_putKeep {k : Nat} (hd : d < 6) (hR : R.length < 64) (hl : td_last R < 4) (hk : 0 < k) (hk2 : k < 2 ^ 31) (h : td_D d m o R F a1 a2 a3 a4 a5 a6 a7)
    (hp : ∀ b2 b3 b5 b6 : Nat → Int32, td_D d m (o + k) (td_app R 1 k) F a1 b2 b3 a4 b5 b6 a7 → (∀ j, j ≠ d → b2 j = a2 j ∧ b3 j = a3 j) → post (u0, u1, u2, u3, u4, u5, u6, u7, u8, u9, a1, b2, b3, a4, b5, b6, a7, a8, a9)) :
    wpX_putKeep post (u0, u1, u2, u3, u4, u5, u6, u7, u8, u9, a1, a2, a3, a4, a5, a6, a7, a8, a9) (nI d) (nI k) := by
  unfold wpX_putKeep
  dsimp only
  refine br_f (nI_nle hk hk2) (td_grow (w := 1) hd hR hl (by omega) (by omega) h (fun b3 b5 b6 g gf => ?_))
  obtain ⟨h1, h2, h3, h4, h5, h6, h7⟩ := g
  dsimp only
  rw [nI_clamp (show d < 2 ^ 31 by omega), h2, nI_add]
  exact ⟨pk_in d 6 hd, pk_in d 6 hd, nm_e (hp _ _ _ _ ⟨h1, pk_us, h3, h4, h5, h6, h7⟩ (fun j hj => ⟨pk_un hj, gf j hj⟩))⟩

theorem td_putDrop {k : Nat} (hd : d < 6) (hR : R.length < 64) (hl : td_last R < 4) (hk : 0 < k) (hk2 : k < 2 ^ 31) (h : td_D d m o R F a1 a2 a3 a4 a5 a6 a7)
    (hp : ∀ b3 b5 b6 : Nat → Int32, td_D d m o (td_app R 2 k) F a1 a2 b3 a4 b5 b6 a7 → (∀ j, j ≠ d → b3 j = a3 j) → post (u0, u1, u2, u3, u4, u5, u6, u7, u8, u9, a1, a2, b3, a4, b5, b6, a7, a8, a9)) :
    wpX_putDrop post (u0, u1, u2, u3, u4, u5, u6, u7, u8, u9, a1, a2, a3, a4, a5, a6, a7, a8, a9) (nI d) (nI k) := by
  unfold wpX_putDrop
  dsimp only
  exact br_f (nI_nle hk hk2) (td_grow (w := 2) hd hR hl (by omega) (by omega) h (fun b3 b5 b6 g gf => hp b3 b5 b6 g gf))

theorem td_putAdd {c : Int32} (hd : d < 6) (hR : R.length < 64) (hF : F.length < 40) (hl : td_last R < 4) (hl2 : td_last R ≠ 2) (h : td_D d m o R F a1 a2 a3 a4 a5 a6 a7)
    (hp : ∀ b2 b3 b4 b5 b6 b7 : Nat → Int32, td_D d m (o + 1) (td_app R 3 1) (F ++ [c]) a1 b2 b3 b4 b5 b6 b7 → (∀ j, j ≠ d → b2 j = a2 j ∧ b3 j = a3 j ∧ b4 j = a4 j) → post (u0, u1, u2, u3, u4, u5, u6, u7, u8, u9, a1, b2, b3, b4, b5, b6, b7, a8, a9)) :
    wpX_putAdd post (u0, u1, u2, u3, u4, u5, u6, u7, u8, u9, a1, a2, a3, a4, a5, a6, a7, a8, a9) (nI d) c := by
  unfold wpX_putAdd
  dsimp only
  refine td_lastKind hd (by omega) h (pk_eq (td_last R) 2 (fun z => absurd z hl2) (fun _ => ?_))
  refine td_grow (w := 3) (k := 1) hd hR hl (by omega) (by omega) h (fun b3 b5 b6 g gf => ?_)
  obtain ⟨h1, h2, h3, h4, h5, h6, h7⟩ := g
  dsimp only
  unfold wX_putAdd_74
  rw [nI_clamp (show d < 2 ^ 31 by omega), h4, h2, td_ix40, nI_clamp (show d * 40 + F.length < 2 ^ 31 by omega), nI_1, nI_1]
  refine ⟨pk_in d 6 hd, vp_in_nI (by omega) (by omega), nm_e ⟨pk_in d 6 hd, pk_in d 6 hd, nm_e ⟨pk_in d 6 hd, pk_in d 6 hd, nm_e (hp _ _ _ _ _ _ ⟨h1, pk_us, h3, ?_, h5, h6, fun i hi => ?_⟩ (fun j hj => ⟨pk_un hj, gf j hj, pk_un hj⟩))⟩⟩⟩
  · rw [pk_us, List.length_append]
    rfl
  · rw [List.length_append] at hi
    have hi' : i < F.length + 1 := hi
    by_cases ei : i = F.length
    · rw [ei, pk_us, td_fget_eq]
    · rw [td_fget_lt (by omega), pk_un (by omega), h7 i (by omega)]
end

section
variable {post : St2 → Prop} {u0 u1 u2 u3 u4 u5 u6 u7 u8 u9 : Int32} {a1 a2 a3 a4 a5 a6 a7 a8 a9 : Nat → Int32} {x y m o : Nat} {R : List (Nat × Nat)} {F : List Int32}

theorem td_c112 (hx : x < 6) (hy : y < 6) (hne : x ≠ y) (hF : F.length ≤ 40) (h4 : a4 x = nI F.length) (h7 : ∀ j, j < F.length → a7 (x * 40 + j) = F.getD j 0)
    (H : ∀ b7 : Nat → Int32, (∀ j, j < F.length → b7 (y * 40 + j) = F.getD j 0) → post (u0, u1, u2, u3, u4, u5, u6, u7, u8, u9, a1, a2, a3, a4, a5, a6, b7, a8, a9)) :
    ∃ n, wX_copy_112 post (nI x) (nI y) u0 u1 u2 u3 u4 u5 u6 u7 u8 u9 n 0 a1 a2 a3 a4 a5 a6 a7 a8 a9 :=
  pk_loop (fun n i s => wX_copy_112 post (nI x) (nI y) u0 u1 u2 u3 u4 u5 u6 u7 u8 u9 n (nI i) a1 a2 a3 a4 a5 a6 s a8 a9)
    (fun i s => (∀ j, j < F.length → s (x * 40 + j) = F.getD j 0) ∧ (∀ j, j < i → s (y * 40 + j) = F.getD j 0)) F.length 0 a7 (Nat.zero_le _) ⟨h7, lt_0⟩
    (fun n s h => ⟨pk_in x 6 hx, pk_le F.length F.length (fun _ => H s h.2) (fun z => absurd z (by omega)) (by rw [nI_clamp (show x < 2 ^ 31 by omega)]; exact h4)⟩)
    (fun n i s hi h hw => ⟨pk_in x 6 hx, pk_le F.length i (fun z => absurd z (by omega))
      (fun _ => ⟨pk_in (x * 40 + i) 240 (by omega) (td_ix40 x i), pk_in (y * 40 + i) 240 (by omega) (td_ix40 y i),
        nm_r (e' := upd s (y * 40 + i) (s (x * 40 + i))) (by rw [td_ix40, td_ix40, nI_clamp (show y * 40 + i < 2 ^ 31 by omega), nI_clamp (show x * 40 + i < 2 ^ 31 by omega)])
          (nm_r (nI_1 i) (hw _ ⟨fun j hj => (pk_un (by omega)).trans (h.1 j hj), lt_s (fun j hj => (pk_un (by omega)).trans (h.2 j hj)) (pk_us.trans (h.1 i hi))⟩))⟩)
      (by rw [nI_clamp (show x < 2 ^ 31 by omega)]; exact h4)⟩)

theorem td_c50 (hx : x < 6) (hy : y < 6) (hne : x ≠ y) (hR : R.length ≤ 64) (hF : F.length ≤ 40) (h3 : a3 x = nI R.length) (h4 : a4 x = nI F.length)
    (h5 : ∀ j, j < R.length → a5 (x * 64 + j) = nI (R.getD j (0, 0)).1) (h6 : ∀ j, j < R.length → a6 (x * 64 + j) = nI (R.getD j (0, 0)).2) (h7 : ∀ j, j < F.length → a7 (x * 40 + j) = F.getD j 0)
    (H : ∀ b5 b6 b7 : Nat → Int32, (∀ j, j < R.length → b5 (y * 64 + j) = nI (R.getD j (0, 0)).1) → (∀ j, j < R.length → b6 (y * 64 + j) = nI (R.getD j (0, 0)).2) → (∀ j, j < F.length → b7 (y * 40 + j) = F.getD j 0) → post (u0, u1, u2, u3, u4, u5, u6, u7, u8, u9, a1, a2, a3, a4, b5, b6, b7, a8, a9)) :
    ∃ n, wX_copy_50 post (nI x) (nI y) u0 u1 u2 u3 u4 u5 u6 u7 u8 u9 n 0 a1 a2 a3 a4 a5 a6 a7 a8 a9 :=
  pk_loop (σ := (Nat → Int32) × (Nat → Int32)) (fun n i s => wX_copy_50 post (nI x) (nI y) u0 u1 u2 u3 u4 u5 u6 u7 u8 u9 n (nI i) a1 a2 a3 a4 s.1 s.2 a7 a8 a9)
    (fun i s => ((∀ j, j < R.length → s.1 (x * 64 + j) = nI (R.getD j (0, 0)).1) ∧ (∀ j, j < R.length → s.2 (x * 64 + j) = nI (R.getD j (0, 0)).2)) ∧
      (∀ j, j < i → s.1 (y * 64 + j) = nI (R.getD j (0, 0)).1) ∧ (∀ j, j < i → s.2 (y * 64 + j) = nI (R.getD j (0, 0)).2)) R.length 0 (a5, a6) (Nat.zero_le _) ⟨⟨h5, h6⟩, lt_0, lt_0⟩
    (fun n s h => ⟨pk_in x 6 hx, pk_le R.length R.length (fun _ => td_c112 hx hy hne hF h4 h7 (fun b7 g => H s.1 s.2 b7 h.2.1 h.2.2 g)) (fun z => absurd z (by omega)) (by rw [nI_clamp (show x < 2 ^ 31 by omega)]; exact h3)⟩)
    (fun n i s hi h hw => ⟨pk_in x 6 hx, pk_le R.length i (fun z => absurd z (by omega))
      (fun _ => ⟨pk_in (x * 64 + i) 448 (by omega) (td_ix64 x i), pk_in (y * 64 + i) 448 (by omega) (td_ix64 y i),
        nm_r (e' := upd s.1 (y * 64 + i) (s.1 (x * 64 + i))) (by rw [td_ix64, td_ix64, nI_clamp (show y * 64 + i < 2 ^ 31 by omega), nI_clamp (show x * 64 + i < 2 ^ 31 by omega)])
          ⟨pk_in (x * 64 + i) 448 (by omega) (td_ix64 x i), pk_in (y * 64 + i) 448 (by omega) (td_ix64 y i),
            nm_r (e' := upd s.2 (y * 64 + i) (s.2 (x * 64 + i))) (by rw [td_ix64, td_ix64, nI_clamp (show y * 64 + i < 2 ^ 31 by omega), nI_clamp (show x * 64 + i < 2 ^ 31 by omega)])
              (nm_r (nI_1 i) (hw (upd s.1 (y * 64 + i) (s.1 (x * 64 + i)), upd s.2 (y * 64 + i) (s.2 (x * 64 + i)))
                ⟨⟨fun j hj => (pk_un (by omega)).trans (h.1.1 j hj), fun j hj => (pk_un (by omega)).trans (h.1.2 j hj)⟩,
                  lt_s (fun j hj => (pk_un (by omega)).trans (h.2.1 j hj)) (pk_us.trans (h.1.1 i hi)), lt_s (fun j hj => (pk_un (by omega)).trans (h.2.2 j hj)) (pk_us.trans (h.1.2 i hi))⟩))⟩⟩)
      (by rw [nI_clamp (show x < 2 ^ 31 by omega)]; exact h3)⟩)

theorem td_copy (hx : x < 6) (hy : y < 6) (hne : x ≠ y) (hR : R.length ≤ 64) (hF : F.length ≤ 40) (h : td_D x m o R F a1 a2 a3 a4 a5 a6 a7)
    (H : ∀ b1 b2 b3 b4 b5 b6 b7 : Nat → Int32, td_D y m o R F b1 b2 b3 b4 b5 b6 b7 → post (u0, u1, u2, u3, u4, u5, u6, u7, u8, u9, b1, b2, b3, b4, b5, b6, b7, a8, a9)) :
    wpX_copy post (u0, u1, u2, u3, u4, u5, u6, u7, u8, u9, a1, a2, a3, a4, a5, a6, a7, a8, a9) (nI x) (nI y) := by
  obtain ⟨h1, h2, h3, h4, h5, h6, h7⟩ := h
  unfold wpX_copy
  dsimp only
  rw [nI_clamp (show x < 2 ^ 31 by omega), nI_clamp (show y < 2 ^ 31 by omega), h1, h2, h3, h4]
  refine ⟨pk_in x 6 hx, pk_in y 6 hy, nm_e ⟨pk_in x 6 hx, pk_in y 6 hy, nm_e ⟨pk_in x 6 hx, pk_in y 6 hy, nm_e ⟨pk_in x 6 hx, pk_in y 6 hy, nm_e ?_⟩⟩⟩⟩
  refine td_c50 hx hy hne hR hF ((pk_un hne).trans h3) ((pk_un hne).trans h4) h5 h6 h7 (fun b5 b6 b7 g5 g6 g7 => ?_)
  exact H _ _ _ _ _ _ _ ⟨pk_us, pk_us, pk_us, pk_us, g5, g6, g7⟩
end
end
section
/-- the size that the law takes for m -/
def td_rm (p : Int32) (sz : Nat) : Prop := (p = nI sz ∧ sz ≤ 40) ∨ ((p < 0 ∨ 40 < p) ∧ sz = 0)
/-- what is kept or dropped where b stand -/
def td_rk (p : Int32) (b v : Nat) : Prop := (p = nI v ∧ 1 ≤ v ∧ v ≤ b) ∨ ((p < 1 ∨ nI b < p) ∧ v = 0)
/-- new letters -/
def td_rc (p : Int32) (kp nw : Nat) : Prop := (nw = 0 ∧ (p < 0 ∨ 9 < p ∨ kp = 40)) ∨ (nw = 1 ∧ ¬ p < 0 ∧ ¬ 9 < p ∧ kp < 40)
/-- what add answers -/
def td_x6 (p : Int32) (kp : Nat) (r : Int32) : Prop :=
  ((p < 0 ∨ 9 < p) ∧ r = -1) ∨ (¬ p < 0 ∧ ¬ 9 < p ∧ kp = 40 ∧ r = -2) ∨ (¬ p < 0 ∧ ¬ 9 < p ∧ kp < 40 ∧ r = nI (kp + 1))
/-- the object before finish -/
def td_P (sz kp nw gn : Nat) (c : Int32) (u0 : Int32) (a1 a2 a3 a4 a5 a6 a7 : Nat → Int32) : Prop :=
  u0 = nI (kp + gn) ∧ td_D 4 sz (kp + nw) (td_R kp nw gn) (td_F nw c) a1 a2 a3 a4 a5 a6 a7 ∧ td_Z a1 a2 a3 a4

theorem td_P0 (c : Int32) : td_P 0 0 0 0 c 0 (fun _ => 0) (fun _ => 0) (fun _ => 0) (fun _ => 0) (fun _ => 0) (fun _ => 0) (fun _ => 0) :=
  ⟨rfl, ⟨rfl, rfl, rfl, rfl, fun i hi => absurd hi (Nat.not_lt_zero i), fun i hi => absurd hi (Nat.not_lt_zero i), fun i hi => absurd hi (Nat.not_lt_zero i)⟩, fun _ _ => ⟨rfl, rfl, rfl, rfl⟩⟩

section
variable {po : Int32 → St2 → Prop} {u0 u1 u2 u3 u4 u5 u6 u7 u8 u9 : Int32} {a1 a2 a3 a4 a5 a6 a7 a8 a9 : Nat → Int32} {sz kp nw gn : Nat} {c : Int32}

theorem td_begin {p0 : Int32} (h : td_P 0 0 0 0 c u0 a1 a2 a3 a4 a5 a6 a7)
    (hp : ∀ (sz : Nat) (r v0 : Int32) (b1 b2 b3 b4 : Nat → Int32), td_rm p0 sz → sz ≤ 40 → td_P sz 0 0 0 c v0 b1 b2 b3 b4 a5 a6 a7 → po r (v0, u1, u2, u3, u4, u5, u6, u7, u8, u9, b1, b2, b3, b4, a5, a6, a7, a8, a9)) :
    wpX_begin po (u0, u1, u2, u3, u4, u5, u6, u7, u8, u9, a1, a2, a3, a4, a5, a6, a7, a8, a9) p0 := by
  unfold wpX_begin
  dsimp only
  refine br_c (fun z => hp 0 _ _ _ _ _ _ (Or.inr ⟨Or.inl z, rfl⟩) (by omega) h) (fun z => br_c (fun z2 => ?_) (fun z2 => hp 0 _ _ _ _ _ _ (Or.inr ⟨Or.inr (Int32.not_le.mp z2), rfl⟩) (by omega) h))
  obtain ⟨sz, hs, rfl⟩ := nI_of2 (n := 40) rfl z z2
  obtain ⟨hu, ⟨h1, h2, h3, h4, h5, h6, h7⟩, hz⟩ := h
  unfold wpX_wipe
  dsimp only
  rw [show (4 : Int32).toNatClampNeg = 4 from rfl]
  refine ⟨pk_in 4 6 (by omega), nm_e ⟨pk_in 4 6 (by omega), nm_e ⟨pk_in 4 6 (by omega), nm_e ⟨pk_in 4 6 (by omega), nm_e ?_⟩⟩⟩⟩
  refine hp sz _ _ _ _ _ _ (Or.inl ⟨rfl, hs⟩) hs ⟨rfl, ⟨pk_us, pk_us, pk_us, pk_us, h5, h6, h7⟩, fun j hj => ?_⟩
  rw [pk_un (show j ≠ 4 by omega), pk_un (show j ≠ 4 by omega), pk_un (show j ≠ 4 by omega), pk_un (show j ≠ 4 by omega)]
  exact hz j hj

theorem td_keep {p1 : Int32} (hsz : sz ≤ 40) (h : td_P sz 0 0 0 c u0 a1 a2 a3 a4 a5 a6 a7)
    (hp : ∀ (kp : Nat) (r v0 : Int32) (b2 b3 b5 b6 : Nat → Int32), td_rk p1 sz kp → kp ≤ sz → td_P sz kp 0 0 c v0 a1 b2 b3 a4 b5 b6 a7 → po r (v0, u1, u2, u3, u4, u5, u6, u7, u8, u9, a1, b2, b3, a4, b5, b6, a7, a8, a9)) :
    wpX_keep po (u0, u1, u2, u3, u4, u5, u6, u7, u8, u9, a1, a2, a3, a4, a5, a6, a7, a8, a9) p1 := by
  have h' := h
  obtain ⟨hu, hD, hz⟩ := h
  have hu' : u0 = nI 0 := hu
  have e1 : a1 4 - u0 = nI sz := by rw [hD.1, hu', pk_sub (Nat.zero_le sz), Nat.sub_zero]
  have e2 : a2 4 = 0 := hD.2.1
  unfold wpX_keep
  dsimp only
  rw [e1, e2, td_z]
  refine br_c (fun z => br_c (fun z2 => ?_) (fun z2 => hp 0 _ _ _ _ _ _ (Or.inr ⟨Or.inr (Int32.not_le.mp z2), rfl⟩) (by omega) h')) (fun z => hp 0 _ _ _ _ _ _ (Or.inr ⟨Or.inl (Int32.not_le.mp z), rfl⟩) (by omega) h')
  obtain ⟨kp, hk, rfl⟩ := nI_of2 (nI_toInt (show sz < 2 ^ 31 by omega)) (fun g => absurd (Int32.lt_of_le_of_lt z g) (by decide)) z2
  have hk1 : 1 ≤ kp := by
    rcases Nat.eq_zero_or_pos kp with e | e
    · rw [e] at z
      exact absurd z (by decide)
    · exact e
  refine br_t (nI_le (b := 40) (by omega) (by omega)) ?_
  refine td_putKeep (d := 4) (by omega) (by decide) (by decide) hk1 (by omega) hD (fun b2 b3 b5 b6 g gf => ?_)
  rw [td_R_k hk1] at g
  dsimp only
  refine nm_e (hp kp _ _ _ _ _ _ (Or.inl ⟨rfl, hk1, hk⟩) hk ⟨?_, ?_, fun j hj => ?_⟩)
  · rw [hu', nI_add, Nat.zero_add, Nat.add_zero]
  · rw [Nat.zero_add] at g
    exact g
  · obtain ⟨z1, z2, z3, z4⟩ := hz j hj
    obtain ⟨g2, g3⟩ := gf j (by omega)
    exact ⟨z1, g2.trans z2, g3.trans z3, z4⟩

theorem td_add {p2 : Int32} (hkp : kp ≤ 40) (h : td_P sz kp 0 0 p2 u0 a1 a2 a3 a4 a5 a6 a7)
    (hp : ∀ (nw : Nat) (r : Int32) (b2 b3 b4 b5 b6 b7 : Nat → Int32), td_rc p2 kp nw → nw ≤ 1 → td_x6 p2 kp r → td_P sz kp nw 0 p2 u0 a1 b2 b3 b4 b5 b6 b7 → po r (u0, u1, u2, u3, u4, u5, u6, u7, u8, u9, a1, b2, b3, b4, b5, b6, b7, a8, a9)) :
    wpX_add po (u0, u1, u2, u3, u4, u5, u6, u7, u8, u9, a1, a2, a3, a4, a5, a6, a7, a8, a9) p2 := by
  have h' := h
  obtain ⟨hu, hD, hz⟩ := h
  unfold wpX_add
  dsimp only
  refine br_c (fun z => hp 0 _ _ _ _ _ _ _ (Or.inl ⟨rfl, Or.inl z⟩) (by omega) (Or.inl ⟨Or.inl z, rfl⟩) h') (fun z => br_c (fun z2 => ?_) (fun z2 => hp 0 _ _ _ _ _ _ _ (Or.inl ⟨rfl, Or.inr (Or.inl (Int32.not_le.mp z2))⟩) (by omega) (Or.inl ⟨Or.inr (Int32.not_le.mp z2), rfl⟩) h'))
  have z3 : ¬ 9 < p2 := Int32.not_lt.mpr z2
  refine pk_eq kp 40 (fun e => hp 0 _ _ _ _ _ _ _ (Or.inl ⟨rfl, Or.inr (Or.inr e)⟩) (by omega) (Or.inr (Or.inl ⟨z, z3, e, rfl⟩)) h') (fun e => ?_) hD.2.1
  refine td_putAdd (d := 4) (by omega) (Nat.lt_of_le_of_lt (td_R_len kp 0 0) (by omega)) (Nat.lt_of_le_of_lt (td_F_len 0 p2) (by omega)) (td_R_last kp 0 0) (td_R_l2 kp 0) hD (fun b2 b3 b4 b5 b6 b7 g gf => ?_)
  rw [td_R_n] at g
  dsimp only
  refine hp 1 _ _ _ _ _ _ _ (Or.inr ⟨rfl, z, z3, by omega⟩) (by omega) (Or.inr (Or.inr ⟨z, z3, by omega, g.2.1⟩)) ⟨hu, g, fun j hj => ?_⟩
  obtain ⟨z1, z2, z3, z4⟩ := hz j hj
  obtain ⟨g2, g3, g4⟩ := gf j (by omega)
  exact ⟨z1, g2.trans z2, g3.trans z3, g4.trans z4⟩

theorem td_drop {p3 : Int32} (hsz : sz ≤ 40) (hkp : kp ≤ sz) (h : td_P sz kp nw 0 c u0 a1 a2 a3 a4 a5 a6 a7)
    (hp : ∀ (gn : Nat) (r v0 : Int32) (b3 b5 b6 : Nat → Int32), td_rk p3 (sz - kp) gn → gn ≤ sz - kp → td_P sz kp nw gn c v0 a1 a2 b3 a4 b5 b6 a7 → po r (v0, u1, u2, u3, u4, u5, u6, u7, u8, u9, a1, a2, b3, a4, b5, b6, a7, a8, a9)) :
    wpX_drop po (u0, u1, u2, u3, u4, u5, u6, u7, u8, u9, a1, a2, a3, a4, a5, a6, a7, a8, a9) p3 := by
  have h' := h
  obtain ⟨hu, hD, hz⟩ := h
  have hu' : u0 = nI kp := hu
  have e1 : a1 4 - u0 = nI (sz - kp) := by rw [hD.1, hu', pk_sub hkp]
  unfold wpX_drop
  dsimp only
  rw [e1]
  refine br_c (fun z => br_c (fun z2 => ?_) (fun z2 => hp 0 _ _ _ _ _ (Or.inr ⟨Or.inr (Int32.not_le.mp z2), rfl⟩) (by omega) h')) (fun z => hp 0 _ _ _ _ _ (Or.inr ⟨Or.inl (Int32.not_le.mp z), rfl⟩) (by omega) h')
  obtain ⟨gn, hk, rfl⟩ := nI_of2 (nI_toInt (show sz - kp < 2 ^ 31 by omega)) (fun g => absurd (Int32.lt_of_le_of_lt z g) (by decide)) z2
  have hk1 : 1 ≤ gn := by
    rcases Nat.eq_zero_or_pos gn with e | e
    · rw [e] at z
      exact absurd z (by decide)
    · exact e
  refine td_putDrop (d := 4) (by omega) (Nat.lt_of_le_of_lt (td_R_len kp nw 0) (by omega)) (td_R_last kp nw 0) hk1 (by omega) hD (fun b3 b5 b6 g gf => ?_)
  rw [td_R_g kp nw hk1] at g
  dsimp only
  refine nm_e (hp gn _ _ _ _ _ (Or.inl ⟨rfl, hk1, hk⟩) hk ⟨?_, g, fun j hj => ?_⟩)
  · rw [hu', nI_add]
  · obtain ⟨z1, z2, z3, z4⟩ := hz j hj
    exact ⟨z1, z2, (gf j (by omega)).trans z3, z4⟩

theorem td_slot_in {q : Int32 → Prop} {j : Nat} (hj : j < 4) (hq : q 1) : wpX_slot q (u0, u1, u2, u3, u4, u5, u6, u7, u8, u9, a1, a2, a3, a4, a5, a6, a7, a8, a9) (nI j) := by
  unfold wpX_slot
  dsimp only
  exact br_f (nI_pos (by omega)) (br_f (nI_nlt (b := j) (a := 3) (by omega) (by omega)) hq)
theorem td_slot_out {q : Int32 → Prop} {p : Int32} (h : p < 0 ∨ 3 < p) (hq : q 0) : wpX_slot q (u0, u1, u2, u3, u4, u5, u6, u7, u8, u9, a1, a2, a3, a4, a5, a6, a7, a8, a9) p := by
  unfold wpX_slot
  dsimp only
  exact br_c (fun _ => hq) (fun z => br_t (h.resolve_left z) hq)

theorem td_finish {p4 : Int32} (hsz : sz ≤ 40) (hkp : kp ≤ sz) (hnw : nw ≤ 1) (hgn : gn ≤ sz - kp) (h : td_P sz kp nw gn c u0 a1 a2 a3 a4 a5 a6 a7)
    (ho : p4 < 0 ∨ 3 < p4 → po (-1) (u0, u1, u2, u3, u4, u5, u6, u7, u8, u9, a1, a2, a3, a4, a5, a6, a7, a8, a9))
    (hf : ∀ j : Nat, j < 4 → p4 = nI j → 40 < kp + nw + (sz - kp - gn) → po (-2) (u0, u1, u2, u3, u4, u5, u6, u7, u8, u9, a1, a2, a3, a4, a5, a6, a7, a8, a9))
    (hs : ∀ (j : Nat) (b1 b2 b3 b4 b5 b6 b7 : Nat → Int32), j < 4 → p4 = nI j → kp + nw + (sz - kp - gn) ≤ 40 → td_D j sz (kp + nw + (sz - kp - gn)) (td_Q kp nw gn (sz - kp - gn)) (td_F nw c) b1 b2 b3 b4 b5 b6 b7 →
      po (nI (kp + nw + (sz - kp - gn))) (u0, u1, u2, u3, u4, u5, u6, u7, u8, u9, b1, b2, b3, b4, b5, b6, b7, a8, a9)) :
    wpX_finish po (u0, u1, u2, u3, u4, u5, u6, u7, u8, u9, a1, a2, a3, a4, a5, a6, a7, a8, a9) p4 := by
  obtain ⟨hu, hD, hz⟩ := h
  unfold wpX_finish
  dsimp only
  by_cases hp4 : p4 < 0 ∨ 3 < p4
  · exact td_slot_out hp4 (br_t rfl (ho hp4))
  · have n1 : ¬ p4 < 0 := fun z => hp4 (Or.inl z)
    have n2 : p4 ≤ 3 := Int32.not_lt.mp (fun z => hp4 (Or.inr z))
    obtain ⟨j, hj, rfl⟩ := nI_of2 (n := 3) rfl n1 n2
    have hRl := td_R_len kp nw gn
    have hRs := td_R_last kp nw gn
    have hFl := td_F_len nw c
    have hQl := td_Q_len kp nw gn (sz - kp - gn)
    refine td_slot_in (by omega) (br_f (by decide) (nm_r (e' := nI (sz - kp - gn)) ?_ ?_))
    · rw [hD.1, hu, pk_sub (by omega), show sz - (kp + gn) = sz - kp - gn by omega]
    · rw [hD.2.1, nI_add]
      refine pk_le (kp + nw + (sz - kp - gn)) 40 (fun z => ?_) (fun z => hf j (by omega) rfl z)
      refine td_copy (x := 4) (y := 5) (by omega) (by omega) (by omega) (by omega) (by omega) hD (fun b1 b2 b3 b4 b5 b6 b7 g => ?_)
      dsimp only
      have last : ∀ b1 b2 b3 b4 b5 b6 b7 : Nat → Int32, td_D 5 sz (kp + nw + (sz - kp - gn)) (td_Q kp nw gn (sz - kp - gn)) (td_F nw c) b1 b2 b3 b4 b5 b6 b7 →
          wpX_copy (fun u => match u with | (v0, v1, v2, v3, v4, v5, v6, v7, v8, v9, c1, c2, c3, c4, c5, c6, c7, c8, c9) => (vp_in (nI j) 6 ∧ (po (c2 (nI j).toNatClampNeg) (v0, v1, v2, v3, v4, v5, v6, v7, v8, v9, c1, c2, c3, c4, c5, c6, c7, c8, c9))))
            (u0, u1, u2, u3, u4, u5, u6, u7, u8, u9, b1, b2, b3, b4, b5, b6, b7, a8, a9) 5 (nI j) := by
        intro b1 b2 b3 b4 b5 b6 b7 g
        refine td_copy (x := 5) (y := j) (by omega) (by omega) (by omega) (by omega) (by omega) g (fun b1 b2 b3 b4 b5 b6 b7 g => ?_)
        dsimp only
        rw [nI_clamp (show j < 2 ^ 31 by omega), g.2.1]
        exact ⟨pk_in j 6 (by omega), hs j _ _ _ _ _ _ _ (by omega) rfl z g⟩
      by_cases hr : sz - kp - gn = 0
      · have eQ : td_Q kp nw gn (sz - kp - gn) = td_R kp nw gn := if_pos hr
        unfold wpX_putKeep
        dsimp only
        refine br_t (by rw [hr]; decide) (last _ _ _ _ _ _ _ ?_)
        rw [eQ, show kp + nw + (sz - kp - gn) = kp + nw by omega]
        exact g
      · have eQ : td_Q kp nw gn (sz - kp - gn) = td_app (td_R kp nw gn) 1 (sz - kp - gn) := if_neg hr
        refine td_putKeep (d := 5) (by omega) (by omega) hRs (by omega) (by omega) g (fun b2 b3 b5 b6 g gf => ?_)
        rw [← eQ] at g
        exact last _ _ _ _ _ _ _ g

theorem td_in_o {q : Int32 → Prop} {p : Int32} (h : p < 0 ∨ 3 < p) (hq : q (-1)) : wpX_inLength q (u0, u1, u2, u3, u4, u5, u6, u7, u8, u9, a1, a2, a3, a4, a5, a6, a7, a8, a9) p := by
  unfold wpX_inLength
  dsimp only
  exact td_slot_out h (br_t rfl hq)
theorem td_out_o {q : Int32 → Prop} {p : Int32} (h : p < 0 ∨ 3 < p) (hq : q (-1)) : wpX_outLength q (u0, u1, u2, u3, u4, u5, u6, u7, u8, u9, a1, a2, a3, a4, a5, a6, a7, a8, a9) p := by
  unfold wpX_outLength
  dsimp only
  exact td_slot_out h (br_t rfl hq)
theorem td_runs_o {q : Int32 → Prop} {p : Int32} (h : p < 0 ∨ 3 < p) (hq : q (-1)) : wpX_runs q (u0, u1, u2, u3, u4, u5, u6, u7, u8, u9, a1, a2, a3, a4, a5, a6, a7, a8, a9) p := by
  unfold wpX_runs
  dsimp only
  exact td_slot_out h (br_t rfl hq)
theorem td_run_o {q : Int32 → Prop} {p : Int32} (h : p < 0 ∨ 3 < p) (hq : q (-1)) : wpX_run q (u0, u1, u2, u3, u4, u5, u6, u7, u8, u9, a1, a2, a3, a4, a5, a6, a7, a8, a9) p 0 := by
  unfold wpX_run
  dsimp only
  exact td_slot_out h (br_t rfl hq)
theorem td_added_o {q : Int32 → Prop} {p : Int32} (h : p < 0 ∨ 3 < p) (hq : q (-1)) : wpX_added q (u0, u1, u2, u3, u4, u5, u6, u7, u8, u9, a1, a2, a3, a4, a5, a6, a7, a8, a9) p 0 := by
  unfold wpX_added
  dsimp only
  exact td_slot_out h (br_t rfl hq)
theorem td_in_i {q : Int32 → Prop} {j : Nat} (h : j < 4) (hq : q (a1 j)) : wpX_inLength q (u0, u1, u2, u3, u4, u5, u6, u7, u8, u9, a1, a2, a3, a4, a5, a6, a7, a8, a9) (nI j) := by
  unfold wpX_inLength
  dsimp only
  rw [nI_clamp (show j < 2 ^ 31 by omega)]
  exact td_slot_in h (br_f (by decide) ⟨pk_in j 6 (by omega), hq⟩)
theorem td_out_i {q : Int32 → Prop} {j : Nat} (h : j < 4) (hq : q (a2 j)) : wpX_outLength q (u0, u1, u2, u3, u4, u5, u6, u7, u8, u9, a1, a2, a3, a4, a5, a6, a7, a8, a9) (nI j) := by
  unfold wpX_outLength
  dsimp only
  rw [nI_clamp (show j < 2 ^ 31 by omega)]
  exact td_slot_in h (br_f (by decide) ⟨pk_in j 6 (by omega), hq⟩)
theorem td_runs_i {q : Int32 → Prop} {j : Nat} (h : j < 4) (hq : q (a3 j)) : wpX_runs q (u0, u1, u2, u3, u4, u5, u6, u7, u8, u9, a1, a2, a3, a4, a5, a6, a7, a8, a9) (nI j) := by
  unfold wpX_runs
  dsimp only
  rw [nI_clamp (show j < 2 ^ 31 by omega)]
  exact td_slot_in h (br_f (by decide) ⟨pk_in j 6 (by omega), hq⟩)
theorem td_run_i {q : Int32 → Prop} {j n : Nat} (h : j < 4) (hn : n ≤ 64) (h3 : a3 j = nI n) (h0 : n = 0 → q (-4)) (h1 : 0 < n → q (a5 (j * 64 + 0) + 4 * a6 (j * 64 + 0))) : wpX_run q (u0, u1, u2, u3, u4, u5, u6, u7, u8, u9, a1, a2, a3, a4, a5, a6, a7, a8, a9) (nI j) 0 := by
  unfold wpX_run
  dsimp only
  rw [nI_clamp (show j < 2 ^ 31 by omega), h3, show nI j * 64 + 0 = nI (j * 64 + 0) from td_ix64 j 0, nI_clamp (show j * 64 + 0 < 2 ^ 31 by omega)]
  exact td_slot_in h (br_f (by decide) (br_f (by decide) ⟨pk_in j 6 (by omega), pk_lt 0 n (fun z => ⟨vp_in_nI (by omega) (by omega), vp_in_nI (by omega) (by omega), h1 z⟩) (fun z => h0 (by omega))⟩))
theorem td_added_i {q : Int32 → Prop} {j n : Nat} (h : j < 4) (hn : n ≤ 40) (h4 : a4 j = nI n) (h0 : n = 0 → q (-4)) (h1 : 0 < n → q (a7 (j * 40 + 0))) : wpX_added q (u0, u1, u2, u3, u4, u5, u6, u7, u8, u9, a1, a2, a3, a4, a5, a6, a7, a8, a9) (nI j) 0 := by
  unfold wpX_added
  dsimp only
  rw [nI_clamp (show j < 2 ^ 31 by omega), h4, show nI j * 40 + 0 = nI (j * 40 + 0) from td_ix40 j 0, nI_clamp (show j * 40 + 0 < 2 ^ 31 by omega)]
  exact td_slot_in h (br_f (by decide) (br_f (by decide) ⟨pk_in j 6 (by omega), pk_lt 0 n (fun z => ⟨vp_in_nI (by omega) (by omega), h1 z⟩) (fun z => h0 (by omega))⟩))
end
end
section
/-- whether the slot is one -/
def td_rs (p : Int32) (sl : Nat) : Prop := ((p < 0 ∨ 3 < p) ∧ sl = 0) ∨ ((¬ p < 0 ∧ ¬ 3 < p) ∧ sl = 1)
/-- what finish and the views answer -/
def td_ans (p2 p4 x7 x8 x9 x10 x11 x12 : Int32) (sz kp nw gn rs : Nat) : Prop :=
  ((p4 < 0 ∨ 3 < p4) ∧ x7 = -1 ∧ x8 = -1 ∧ x9 = -1 ∧ x10 = -1 ∧ x11 = -1 ∧ x12 = -1) ∨
  ((¬ p4 < 0 ∧ ¬ 3 < p4) ∧ 40 < kp + nw + rs ∧ x7 = -2 ∧ x8 = 0 ∧ x9 = 0 ∧ x10 = 0 ∧ x11 = -4 ∧ x12 = -4) ∨
  ((¬ p4 < 0 ∧ ¬ 3 < p4) ∧ kp + nw + rs ≤ 40 ∧ x7 = nI (kp + nw + rs) ∧ x8 = nI sz ∧ x9 = nI (kp + nw + rs) ∧ x10 = nI (td_due sz kp nw gn rs) ∧
    (td_due sz kp nw gn rs = 0 → x11 = -4) ∧ (0 < td_due sz kp nw gn rs → x11 = nI (td_head sz kp nw gn)) ∧ (nw = 0 → x12 = -4) ∧ (nw = 1 → x12 = p2))
theorem td_hd1 (a : Nat) : 1 + 4 * nI a = nI (1 + 4 * a) := by
  rw [show (1 : Int32) = nI 1 from rfl, show (4 : Int32) = nI 4 from rfl, pk_mul, nI_add]
theorem td_hd2 (a : Nat) : 2 + 4 * nI a = nI (2 + 4 * a) := by
  rw [show (2 : Int32) = nI 2 from rfl, show (4 : Int32) = nI 4 from rfl, pk_mul, nI_add]
theorem td_due_le {sz kp nw gn rs : Nat} (hn : nw ≤ 1) : td_due sz kp nw gn rs ≤ 4 := by
  unfold td_due
  split <;> (repeat' split) <;> omega

section
variable {post : Int32 → St0 → Prop} {mc ms kc ks : Nat} {p0 p1 p2 p3 p4 x6 x7 x8 x9 x10 x11 x12 x13 x14 x15 x17 x18 x19 x21 x22 x23 : Int32} {sz kp nw gn rs : Nat}

theorem td_391a (z : Int32) (hq : post 1 ()) : wL_lawOf_391 post mc ms p2 (-1) (-1) (-1) (-1) (-1) (-1) x13 x14 x15 x17 0 x19 x21 x22 x23 z z kc ks :=
  br_t rfl (br_t rfl (br_t rfl (br_t rfl (br_t rfl (br_t rfl (br_t rfl (br_t rfl (br_t rfl (br_t rfl (br_t rfl (br_t rfl (br_t rfl hq))))))))))))
theorem td_391b (z : Int32) (hq : post 1 ()) : wL_lawOf_391 post mc ms p2 (-2) 0 0 0 (-4) (-4) x13 x14 x15 x17 1 0 x21 x22 0 z z kc ks := by
  have h : ¬ (1 : Int32) = 0 := by decide
  exact br_t rfl (br_f h (br_t rfl (br_t rfl (br_f h (br_t rfl (br_t rfl (br_f h (br_t rfl (br_t rfl (br_f h (br_t rfl (br_t rfl (br_f h (br_t rfl (br_t rfl (br_f h (br_t rfl (br_t rfl hq))))))))))))))))))
theorem td_391c (z : Int32) (hq : post 1 ()) (e7 : x7 = (x14 + x15) + x17) (e8 : x8 = x13) (e9 : x9 = (x14 + x15) + x17) (e10 : x10 = x21)
    (e11 : x21 ≤ 0 → x11 = -4) (f11 : ¬ x21 ≤ 0 → x11 = x22) (e12 : x15 = 1 → x12 = p2) (f12 : ¬ x15 = 1 → x12 = -4) :
    wL_lawOf_391 post mc ms p2 x7 x8 x9 x10 x11 x12 x13 x14 x15 x17 1 1 x21 x22 1 z z kc ks := by
  have h : ¬ (1 : Int32) = 0 := by decide
  have last : (x15 = 1 → wL_lawOf_566 post mc ms p2 x12 kc ks) ∧ (¬ x15 = 1 → wL_lawOf_564 post mc ms x12 kc ks) :=
    br_c (fun g => br_t (e12 g) hq) (fun g => br_t (f12 g) hq)
  exact br_t rfl (br_f h (br_f h (br_t e7 (br_f h (br_f h (br_t e8 (br_f h (br_f h (br_t e9 (br_f h (br_f h (br_t e10 (br_f h (br_f h
    (br_c (fun g => br_t (e11 g) (br_f h (br_f h last))) (fun g => br_t (f11 g) (br_f h (br_f h last))))))))))))))))))

theorem td_357 (hk : kp ≤ 40) (h6 : td_x6 p2 kp x6) (H : ∀ z, wL_lawOf_391 post mc ms p2 x7 x8 x9 x10 x11 x12 x13 (nI kp) x15 x17 x18 x19 x21 x22 x23 z z kc ks) :
    wL_lawOf_357 post mc ms p2 x6 x7 x8 x9 x10 x11 x12 x13 (nI kp) x15 x17 x18 x19 x21 x22 x23 kc ks := by
  rcases h6 with ⟨h, rfl⟩ | ⟨n1, n2, e, rfl⟩ | ⟨n1, n2, e, rfl⟩
  · exact br_c (fun _ => H (-1)) (fun z => br_f (fun g => Int32.not_lt.mpr g (h.resolve_left z)) (H (-1)))
  · exact br_f n1 (br_t (Int32.not_lt.mp n2) (br_t (by rw [e]; rfl) (H (-2))))
  · have t := H (nI (kp + 1))
    unfold wL_lawOf_357
    rw [nI_1]
    exact br_f n1 (br_t (Int32.not_lt.mp n2) (pk_eq kp 40 (fun z => absurd z (by omega)) (fun _ => t)))

theorem td_340 {sl ft : Nat} (hsz : sz ≤ 40) (hk : kp ≤ 40) (hnw : nw ≤ 1) (h6 : td_x6 p2 kp x6) (hA : td_ans p2 p4 x7 x8 x9 x10 x11 x12 sz kp nw gn rs) (hsl : td_rs p4 sl)
    (hft : (kp + nw + rs ≤ 40 ∧ ft = 1) ∨ (40 < kp + nw + rs ∧ ft = 0)) (hq : post 1 ()) :
    wL_lawOf_340 post mc ms p2 x6 x7 x8 x9 x10 x11 x12 (nI sz) (nI kp) (nI nw) (nI rs) (nI sl) (nI ft) (nI (td_due sz kp nw gn rs)) (nI (td_head sz kp nw gn)) kc ks := by
  have hdue : td_due sz kp nw gn rs ≤ 4 := td_due_le hnw
  have h10 : ¬ (1 : Int32) = 0 := by decide
  rcases hsl with ⟨g, rfl⟩ | ⟨g, rfl⟩
  · rcases hA with ⟨_, rfl, rfl, rfl, rfl, rfl, rfl⟩ | ⟨g2, _⟩ | ⟨g2, _⟩
    · exact br_t rfl (td_357 hk h6 (fun z => td_391a z hq))
    · exact absurd g (fun t => t.elim g2.1 g2.2)
    · exact absurd g (fun t => t.elim g2.1 g2.2)
  · rcases hA with ⟨g2, _⟩ | ⟨_, hc, rfl, rfl, rfl, rfl, rfl, rfl⟩ | ⟨_, hc, e7, e8, e9, e10, e11, f11, e12, f12⟩
    · exact absurd g2 (fun t => t.elim g.1 g.2)
    · rcases hft with ⟨t, rfl⟩ | ⟨_, rfl⟩
      · exact absurd t (by omega)
      · exact br_f h10 (br_t rfl (td_357 hk h6 (fun z => td_391b z hq)))
    · rcases hft with ⟨_, rfl⟩ | ⟨t, rfl⟩
      · refine br_f h10 (br_f h10 (td_357 hk h6 (fun z => td_391c z hq (by rw [e7, nI_add, nI_add]) e8 (by rw [e9, nI_add, nI_add]) e10 (fun t => e11 ?_) (fun t => f11 ?_) (fun t => f12 ?_) (fun t => e12 ?_))))
        · rcases Nat.eq_zero_or_pos (td_due sz kp nw gn rs) with y | y
          · exact y
          · exact absurd t (nI_nle y (by omega))
        · rcases Nat.eq_zero_or_pos (td_due sz kp nw gn rs) with y | y
          · exact absurd (by rw [y]; decide) t
          · exact y
        · exact (nI_eq (b := 1) (by omega) (by omega)).mp t
        · have t' : ¬ nw = 1 := fun y => t (by rw [y]; rfl)
          omega
      · exact absurd t (by omega)

/-- whether the runs are split -/
def td_rsp (nw gn sp : Nat) : Prop := ((nw = 1 ∨ 0 < gn) ∧ sp = 1) ∨ (¬ (nw = 1 ∨ 0 < gn) ∧ sp = 0)

theorem td_293 {sp : Nat} {z : Int32} (hk : kp ≤ 40) (hnw : nw ≤ 1) (hsp : td_rsp nw gn sp)
    (H : wL_lawOf_340 post mc ms p2 x6 x7 x8 x9 x10 x11 x12 (nI sz) (nI kp) (nI nw) (nI rs) x18 x19 z (nI (td_head sz kp nw gn)) kc ks) :
    wL_lawOf_293 post mc ms p2 x6 x7 x8 x9 x10 x11 x12 (nI sz) (nI kp) (nI nw) (nI gn) (nI rs) x18 x19 (nI sp) z kc ks := by
  unfold wL_lawOf_293
  unfold td_head at H
  rcases hsp with ⟨h, rfl⟩ | ⟨h, rfl⟩
  · rw [if_pos h] at H
    refine br_f (by decide) (pk_le kp 0 (fun y => pk_eq nw 1 (fun y2 => ?_) (fun y2 => ?_)) (fun y => ?_))
    · rw [if_neg (show ¬ 0 < kp by omega), if_pos y2] at H
      exact H
    · rw [if_neg (show ¬ 0 < kp by omega), if_neg y2] at H
      rw [td_hd2]
      exact H
    · rw [if_pos y] at H
      rw [td_hd1]
      exact H
  · rw [if_neg h] at H
    refine br_t rfl ?_
    rw [td_hd1]
    exact H

theorem td_255 {k0 : Nat} {x20 : Int32} (hgn : gn ≤ 40) (hrs : rs ≤ 40)
    (H : wL_lawOf_293 post mc ms p2 x6 x7 x8 x9 x10 x11 x12 (nI sz) (nI kp) (nI nw) (nI gn) (nI rs) x18 x19 x20 (nI (k0 + nw + (if 0 < gn then 1 else 0) + (if 0 < rs then 1 else 0))) kc ks) :
    wL_lawOf_255 post mc ms p2 x6 x7 x8 x9 x10 x11 x12 (nI sz) (nI kp) (nI nw) (nI gn) (nI rs) x18 x19 x20 (nI k0) kc ks := by
  unfold wL_lawOf_255
  refine pk_le gn 0 (fun y => ?_) (fun y => ?_)
  · rw [if_neg (show ¬ 0 < gn by omega)] at H
    unfold wL_lawOf_268
    refine pk_le rs 0 (fun y2 => ?_) (fun y2 => ?_)
    · rw [if_neg (show ¬ 0 < rs by omega), ← nI_add, ← nI_add, ← nI_add] at H
      exact H
    · rw [if_pos y2, ← nI_add, ← nI_add, ← nI_add] at H
      exact H
  · rw [if_pos y] at H
    unfold wL_lawOf_268
    refine pk_le rs 0 (fun y2 => ?_) (fun y2 => ?_)
    · rw [if_neg (show ¬ 0 < rs by omega), ← nI_add, ← nI_add, ← nI_add] at H
      exact H
    · rw [if_pos y2, ← nI_add, ← nI_add, ← nI_add] at H
      exact H

theorem td_238 {sp : Nat} (hsz : sz ≤ 40) (hk : kp ≤ 40) (hnw : nw ≤ 1) (hgn : gn ≤ 40) (hrs : rs ≤ 40) (hsp : td_rsp nw gn sp)
    (H : wL_lawOf_340 post mc ms p2 x6 x7 x8 x9 x10 x11 x12 (nI sz) (nI kp) (nI nw) (nI rs) x18 x19 (nI (td_due sz kp nw gn rs)) (nI (td_head sz kp nw gn)) kc ks) :
    wL_lawOf_238 post mc ms p2 x6 x7 x8 x9 x10 x11 x12 (nI sz) (nI kp) (nI nw) (nI gn) (nI rs) x18 x19 (nI sp) kc ks := by
  have T := td_293 hk hnw hsp H
  unfold wL_lawOf_238
  unfold td_due at T
  rcases hsp with ⟨h, rfl⟩ | ⟨h, rfl⟩
  · rw [if_pos h] at T
    refine br_f (by decide) (pk_le kp 0 (fun y => ?_) (fun y => ?_))
    · rw [if_neg (show ¬ 0 < kp by omega)] at T
      exact td_255 hgn hrs T
    · rw [if_pos y] at T
      exact td_255 hgn hrs T
  · rw [if_neg h] at T
    refine br_t rfl (pk_le sz 0 (fun y => ?_) (fun y => ?_))
    · rw [if_neg (show ¬ 0 < sz by omega)] at T
      exact T
    · rw [if_pos y] at T
      exact T

theorem td_220 (hnw : nw ≤ 1) (hgn : gn ≤ 40) (H : ∀ sp, td_rsp nw gn sp → wL_lawOf_238 post mc ms p2 x6 x7 x8 x9 x10 x11 x12 (nI sz) (nI kp) (nI nw) (nI gn) (nI rs) x18 x19 (nI sp) kc ks) :
    wL_lawOf_220 post mc ms p2 x6 x7 x8 x9 x10 x11 x12 (nI sz) (nI kp) (nI nw) (nI gn) (nI rs) x18 x19 kc ks := by
  unfold wL_lawOf_220
  exact pk_eq nw 1 (fun y => H 1 (Or.inl ⟨Or.inl y, rfl⟩)) (fun y => pk_le gn 0 (fun y2 => H 0 (Or.inr ⟨by omega, rfl⟩)) (fun y2 => H 1 (Or.inl ⟨Or.inr y2, rfl⟩)))

theorem td_200 (hk : kp ≤ 40) (hnw : nw ≤ 1) (hrs : rs ≤ 40) (H : ∀ ft : Nat, (kp + nw + rs ≤ 40 ∧ ft = 1) ∨ (40 < kp + nw + rs ∧ ft = 0) → wL_lawOf_220 post mc ms p2 x6 x7 x8 x9 x10 x11 x12 (nI sz) (nI kp) (nI nw) (nI gn) (nI rs) x18 (nI ft) kc ks) :
    wL_lawOf_200 post mc ms p2 x6 x7 x8 x9 x10 x11 x12 (nI sz) (nI kp) (nI nw) (nI gn) (nI rs) x18 kc ks := by
  unfold wL_lawOf_200
  exact pk_lt 40 (kp + nw + rs) (fun y => H 0 (Or.inr ⟨y, rfl⟩)) (fun y => H 1 (Or.inl ⟨y, rfl⟩)) rfl (by rw [nI_add, nI_add])

theorem td_172 (hk : kp ≤ sz) (hgn : gn ≤ sz - kp) (hrs : rs = sz - kp - gn) (H : ∀ sl, td_rs p4 sl → wL_lawOf_200 post mc ms p2 x6 x7 x8 x9 x10 x11 x12 (nI sz) (nI kp) (nI nw) (nI gn) (nI rs) (nI sl) kc ks) :
    wL_lawOf_172 post mc ms p2 p4 x6 x7 x8 x9 x10 x11 x12 (nI sz) (nI kp) (nI nw) (nI gn) kc ks := by
  unfold wL_lawOf_172
  refine nm_r (e' := nI rs) (by rw [pk_sub hk, pk_sub hgn, hrs]) ?_
  exact br_c (fun y => H 0 (Or.inl ⟨Or.inl y, rfl⟩)) (fun y => br_c (fun y2 => H 0 (Or.inl ⟨Or.inr y2, rfl⟩)) (fun y2 => H 1 (Or.inr ⟨⟨y, y2⟩, rfl⟩)))

theorem td_151 (hsz : sz ≤ 40) (hk : kp ≤ sz) (h : td_rk p3 (sz - kp) gn) (H : wL_lawOf_172 post mc ms p2 p4 x6 x7 x8 x9 x10 x11 x12 (nI sz) (nI kp) (nI nw) (nI gn) kc ks) :
    wL_lawOf_151 post mc ms p2 p3 p4 x6 x7 x8 x9 x10 x11 x12 (nI sz) (nI kp) (nI nw) kc ks := by
  unfold wL_lawOf_151
  rw [pk_sub hk]
  rcases h with ⟨rfl, h1, h2⟩ | ⟨h, rfl⟩
  · exact br_f (nI_nlt (b := 1) h1 (by omega)) (br_f (nI_nlt h2 (by omega)) H)
  · exact br_c (fun _ => H) (fun z => br_t (h.resolve_left z) H)

theorem td_127 (hk : kp ≤ 40) (h : td_rc p2 kp nw) (H : wL_lawOf_151 post mc ms p2 p3 p4 x6 x7 x8 x9 x10 x11 x12 (nI sz) (nI kp) (nI nw) kc ks) :
    wL_lawOf_127 post mc ms p2 p3 p4 x6 x7 x8 x9 x10 x11 x12 (nI sz) (nI kp) kc ks := by
  unfold wL_lawOf_127
  rcases h with ⟨rfl, h⟩ | ⟨rfl, n1, n2, n3⟩
  · exact br_c (fun _ => H) (fun z => br_c (fun _ => H) (fun z2 => br_t (by rw [(h.resolve_left z).resolve_left z2]; decide) H))
  · exact br_f n1 (br_f n2 (br_f (nI_ge (b := 40) n3 (by omega)) H))

theorem td_109 (hsz : sz ≤ 40) (h : td_rk p1 sz kp) (H : wL_lawOf_127 post mc ms p2 p3 p4 x6 x7 x8 x9 x10 x11 x12 (nI sz) (nI kp) kc ks) :
    wL_lawOf_109 post mc ms p1 p2 p3 p4 x6 x7 x8 x9 x10 x11 x12 (nI sz) kc ks := by
  unfold wL_lawOf_109
  rcases h with ⟨rfl, h1, h2⟩ | ⟨h, rfl⟩
  · exact br_f (nI_nlt (b := 1) h1 (by omega)) (br_f (nI_nlt h2 (by omega)) H)
  · exact br_c (fun _ => H) (fun z => br_t (h.resolve_left z) H)

theorem td_top (hsz : sz ≤ 40) (hk : kp ≤ sz) (hnw : nw ≤ 1) (hgn : gn ≤ sz - kp) (rm : td_rm p0 sz) (rk : td_rk p1 sz kp) (rc : td_rc p2 kp nw) (rp : td_rk p3 (sz - kp) gn)
    (h6 : td_x6 p2 kp x6) (hA : td_ans p2 p4 x7 x8 x9 x10 x11 x12 sz kp nw gn (sz - kp - gn)) (hq : post 1 ()) :
    (p0 < 0 → wL_lawOf_108 post mc ms p1 p2 p3 p4 x6 x7 x8 x9 x10 x11 x12 kc ks) ∧ (¬ p0 < 0 → ((40 < p0 → wL_lawOf_108 post mc ms p1 p2 p3 p4 x6 x7 x8 x9 x10 x11 x12 kc ks) ∧ (¬ 40 < p0 → wL_lawOf_109 post mc ms p1 p2 p3 p4 x6 x7 x8 x9 x10 x11 x12 p0 kc ks))) := by
  have T : wL_lawOf_109 post mc ms p1 p2 p3 p4 x6 x7 x8 x9 x10 x11 x12 (nI sz) kc ks :=
    td_109 hsz rk (td_127 (by omega) rc (td_151 hsz hk rp (td_172 hk hgn rfl (fun sl hsl => td_200 (by omega) hnw (by omega) (fun ft hft =>
      td_220 hnw (by omega) (fun sp hsp => td_238 hsz (by omega) hnw (by omega) (by omega) hsp (td_340 hsz (by omega) hnw h6 hA hsl hft hq)))))))
  rcases rm with ⟨rfl, h1⟩ | ⟨h, rfl⟩
  · exact br_f (nI_pos (by omega)) (br_f (nI_nlt (b := sz) (a := 40) h1 (by omega)) T)
  · exact br_c (fun _ => T) (fun z => br_t (h.resolve_left z) T)
end
end
section
theorem td_lawOf {post : Int32 → St0 → Prop} (p0 p1 p2 p3 p4 : Int32) (hq : post 1 ()) : wpL_lawOf post 650 10384 () p0 p1 p2 p3 p4 := by
  unfold wpL_lawOf
  refine ⟨by omega, by omega, 9, 1240, by omega, by omega, ?_⟩
  unfold wpX_init
  dsimp only
  refine ⟨by omega, by omega, by omega, by omega, by omega, by omega, by omega, by omega, by omega, by omega, by omega, by omega, by omega, by omega, by omega, by omega, by omega, by omega, ?_⟩
  refine td_begin (td_P0 p2) (fun sz r v0 b1 b2 b3 b4 rm hsz hP => ?_)
  dsimp only
  refine td_keep hsz hP (fun kp r v0 b2 b3 b5 b6 rk hk hP => ?_)
  dsimp only
  refine td_add (by omega) hP (fun nw x6 b2 b3 b4 b5 b6 b7 rc hnw h6 hP => ?_)
  dsimp only
  refine td_drop hsz hk hP (fun gn r v0 b3 b5 b6 rp hgn hP => ?_)
  dsimp only
  have hP' := hP
  refine td_finish hsz hk hnw hgn hP (fun h4 => ?_) (fun j hj e hc => ?_) (fun j b1 b2 b3 b4 b5 b6 b7 hj e hc g => ?_)
  · dsimp only
    exact td_in_o h4 (td_out_o h4 (td_runs_o h4 (td_run_o h4 (td_added_o h4 (td_top hsz hk hnw hgn rm rk rc rp h6 (Or.inl ⟨h4, rfl, rfl, rfl, rfl, rfl, rfl⟩) hq)))))
  · subst e
    dsimp only
    obtain ⟨z1, z2, z3, z4⟩ := hP'.2.2 j hj
    have n4 : ¬ nI j < 0 ∧ ¬ 3 < nI j := ⟨nI_pos (by omega), nI_nlt (b := j) (a := 3) (by omega) (by omega)⟩
    exact td_in_i hj (td_out_i hj (td_runs_i hj (td_run_i hj (Nat.zero_le _) z3 (fun _ => td_added_i hj (Nat.zero_le _) z4 (fun _ =>
      td_top hsz hk hnw hgn rm rk rc rp h6 (Or.inr (Or.inl ⟨n4, hc, rfl, z1, z2, z3, rfl, rfl⟩)) hq) (fun t => absurd t (by omega))) (fun t => absurd t (by omega)))))
  · subst e
    dsimp only
    obtain ⟨z1, z2, z3, z4, z5, z6, z7⟩ := g
    have n4 : ¬ nI j < 0 ∧ ¬ 3 < nI j := ⟨nI_pos (by omega), nI_nlt (b := j) (a := 3) (by omega) (by omega)⟩
    have hQ : (td_Q kp nw gn (sz - kp - gn)).length = td_due sz kp nw gn (sz - kp - gn) := td_Q_due hnw (by omega)
    have hdue : td_due sz kp nw gn (sz - kp - gn) ≤ 4 := td_due_le hnw
    have hH := td_Q_head (sz := sz) (kp := kp) (nw := nw) (gn := gn) (rs := sz - kp - gn) hnw (by omega)
    rw [hQ] at z3 z5 z6
    have ans : ∀ x11 x12 : Int32, (td_due sz kp nw gn (sz - kp - gn) = 0 → x11 = -4) → (0 < td_due sz kp nw gn (sz - kp - gn) → x11 = nI (td_head sz kp nw gn)) → (nw = 0 → x12 = -4) → (nw = 1 → x12 = p2) →
        td_ans p2 (nI j) (nI (kp + nw + (sz - kp - gn))) (b1 j) (b2 j) (b3 j) x11 x12 sz kp nw gn (sz - kp - gn) :=
      fun x11 x12 q1 q2 q3 q4 => Or.inr (Or.inr ⟨n4, hc, rfl, z1, z2, z3, q1, q2, q3, q4⟩)
    have hx11 : 0 < td_due sz kp nw gn (sz - kp - gn) → b5 (j * 64 + 0) + 4 * b6 (j * 64 + 0) = nI (td_head sz kp nw gn) := by
      intro t
      rw [z5 0 t, z6 0 t, show (4 : Int32) = nI 4 from rfl, pk_mul, nI_add, hH t]
    have hfl : (td_F nw p2).length = nw := by
      have : nw = 0 ∨ nw = 1 := by omega
      rcases this with rfl | rfl <;> rfl
    rw [hfl] at z4 z7
    have hx12 : 0 < nw → b7 (j * 40 + 0) = p2 := by
      intro t
      rw [z7 0 t, show nw = 1 by omega]
      rfl
    refine td_in_i hj (td_out_i hj (td_runs_i hj (td_run_i hj (by omega) z3 (fun y => ?_) (fun y => ?_))))
    · refine td_added_i hj (by omega) z4 (fun w => ?_) (fun w => ?_)
      · exact td_top hsz hk hnw hgn rm rk rc rp h6 (ans _ _ (fun _ => rfl) (fun t => absurd t (by omega)) (fun _ => rfl) (fun t => absurd t (by omega))) hq
      · exact td_top hsz hk hnw hgn rm rk rc rp h6 (ans _ _ (fun _ => rfl) (fun t => absurd t (by omega)) (fun t => absurd t (by omega)) (fun _ => hx12 w)) hq
    · refine td_added_i hj (by omega) z4 (fun w => ?_) (fun w => ?_)
      · exact td_top hsz hk hnw hgn rm rk rc rp h6 (ans _ _ (fun t => absurd t (by omega)) (fun _ => hx11 y) (fun _ => rfl) (fun t => absurd t (by omega))) hq
      · exact td_top hsz hk hnw hgn rm rk rc rp h6 (ans _ _ (fun t => absurd t (by omega)) (fun _ => hx11 y) (fun t => absurd t (by omega)) (fun _ => hx12 w)) hq

theorem td_cell {q : Int32 → Prop} {L : Nat} {xs : Nat → Int32} {k : Nat} (hL : L ≤ 5) (hk : k ≤ 4) (hq : ∀ r, q r) : wpL_cellAt q L xs () (nI k) :=
  pk_le L k (fun _ => hq _) (fun z => ⟨pk_in k L z, hq _⟩)

theorem i_vc (xs : Nat → Int32) (L : Nat) (hL : L ≤ 5) : wpL_law (fun r => r = 1) L xs :=
  td_cell (k := 0) hL (by omega) (fun p0 => td_cell (k := 1) hL (by omega) (fun p1 => td_cell (k := 2) hL (by omega) (fun p2 => td_cell (k := 3) hL (by omega) (fun p3 => td_cell (k := 4) hL (by omega) (fun p4 =>
    ⟨650, 10384, by omega, by omega, td_lawOf p0 p1 p2 p3 p4 rfl⟩)))))
end
