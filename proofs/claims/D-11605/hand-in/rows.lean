section
section
variable {fl fg : Int32} {a1 a2 a3 a4 a5 a6 a7 a8 a9 a10 a11 a12 : Nat → Int32}
/-- the place of item number i of belt k, its head being h -/
def bl_s (k h i : Nat) : Nat := k * 16 + (h + i) % 16
theorem bl_s64 {k h i : Nat} (hk : k < 4) : bl_s k h i < 64 := by
  unfold bl_s
  omega
theorem bl_s01 {k h : Nat} : bl_s k h 0 ≠ bl_s k h 1 := by
  unfold bl_s
  omega
theorem bl_s10 {k h : Nat} : bl_s k h 1 ≠ bl_s k h 0 := by
  unfold bl_s
  omega
theorem bl_sh {k h : Nat} : bl_s k ((h + 1) % 16) 0 = bl_s k h 1 := by
  unfold bl_s
  omega
theorem bl_slot {post : Int32 → Prop} {k h : Nat} (i : Nat) (hk : k < 4) (hh : h < 16) (hi : i < 16) (h1 : a1 k = nI h) (hp : post (nI (bl_s k h i))) : wpX_slot post (fl, fg, a1, a2, a3, a4, a5, a6, a7, a8, a9, a10, a11, a12) (nI k) (nI i) := by
  unfold wpX_slot
  dsimp only
  refine ⟨pk_in k 4 hk, ?_⟩
  rw [nI_clamp (show k < 2 ^ 31 by omega), h1, nI_add, pk_andN (show h + i < 2 ^ 32 by omega) 4 (by decide), show (16 : Int32) = nI 16 from rfl, pk_mul, nI_add]
  exact hp
/-- belt k holds the items xs: for each of them the gap in front of it and its kind -/
def bl_b (a1 a2 a3 a4 a5 : Nat → Int32) (k : Nat) : List (Nat × Int32) → Prop
  | [] => ∃ h, h < 16 ∧ a1 k = nI h ∧ a2 k = nI 0 ∧ a5 k = nI 0
  | [(g, c)] => ∃ h, h < 16 ∧ a1 k = nI h ∧ a2 k = nI 1 ∧ a5 k = nI g ∧ g ≤ 60 ∧ a3 (bl_s k h 0) = nI g ∧ a4 (bl_s k h 0) = c
  | [(g, c), (x, d)] => ∃ h, h < 16 ∧ a1 k = nI h ∧ a2 k = nI 2 ∧ a5 k = nI (g + x) ∧ g + x ≤ 56 ∧ a3 (bl_s k h 0) = nI g ∧ a4 (bl_s k h 0) = c ∧ a3 (bl_s k h 1) = nI x ∧ a4 (bl_s k h 1) = d
  | _ => False
theorem bl_i0 {k : Nat} (h : Nat) (hh : h < 16) (e1 : a1 k = nI h) (e2 : a2 k = nI 0) (e5 : a5 k = nI 0) : bl_b a1 a2 a3 a4 a5 k [] :=
  show ∃ h, h < 16 ∧ a1 k = nI h ∧ a2 k = nI 0 ∧ a5 k = nI 0 from ⟨h, hh, e1, e2, e5⟩
theorem bl_i1 {k g : Nat} {c : Int32} (h : Nat) (hh : h < 16) (e1 : a1 k = nI h) (e2 : a2 k = nI 1) (e5 : a5 k = nI g) (hg : g ≤ 60) (e3 : a3 (bl_s k h 0) = nI g) (e4 : a4 (bl_s k h 0) = c) : bl_b a1 a2 a3 a4 a5 k [(g, c)] :=
  show ∃ h, h < 16 ∧ a1 k = nI h ∧ a2 k = nI 1 ∧ a5 k = nI g ∧ g ≤ 60 ∧ a3 (bl_s k h 0) = nI g ∧ a4 (bl_s k h 0) = c from ⟨h, hh, e1, e2, e5, hg, e3, e4⟩
theorem bl_i2 {k g x : Nat} {c d : Int32} (h : Nat) (hh : h < 16) (e1 : a1 k = nI h) (e2 : a2 k = nI 2) (e5 : a5 k = nI (g + x)) (hg : g + x ≤ 56) (e3 : a3 (bl_s k h 0) = nI g) (e4 : a4 (bl_s k h 0) = c) (f3 : a3 (bl_s k h 1) = nI x) (f4 : a4 (bl_s k h 1) = d) : bl_b a1 a2 a3 a4 a5 k [(g, c), (x, d)] :=
  show ∃ h, h < 16 ∧ a1 k = nI h ∧ a2 k = nI 2 ∧ a5 k = nI (g + x) ∧ g + x ≤ 56 ∧ a3 (bl_s k h 0) = nI g ∧ a4 (bl_s k h 0) = c ∧ a3 (bl_s k h 1) = nI x ∧ a4 (bl_s k h 1) = d from ⟨h, hh, e1, e2, e5, hg, e3, e4, f3, f4⟩
/-- nothing but belt k has changed -/
def bl_F (k : Nat) (a1 a2 a3 a4 a5 b1 b2 b3 b4 b5 : Nat → Int32) : Prop := (∀ j, j ≠ k → b1 j = a1 j ∧ b2 j = a2 j ∧ b5 j = a5 j) ∧ ∀ s, (s < k * 16 ∨ k * 16 + 16 ≤ s) → b3 s = a3 s ∧ b4 s = a4 s
theorem bl_F0 {k : Nat} : bl_F k a1 a2 a3 a4 a5 a1 a2 a3 a4 a5 := ⟨fun _ _ => ⟨rfl, rfl, rfl⟩, fun _ _ => ⟨rfl, rfl⟩⟩
theorem bl_Ft {k : Nat} {b1 b2 b3 b4 b5 c1 c2 c3 c4 c5 : Nat → Int32} (p : bl_F k a1 a2 a3 a4 a5 b1 b2 b3 b4 b5) (q : bl_F k b1 b2 b3 b4 b5 c1 c2 c3 c4 c5) : bl_F k a1 a2 a3 a4 a5 c1 c2 c3 c4 c5 := by
  refine ⟨fun j hj => ?_, fun s hs => ?_⟩
  · obtain ⟨p1, p2, p5⟩ := p.1 j hj
    obtain ⟨q1, q2, q5⟩ := q.1 j hj
    exact ⟨q1.trans p1, q2.trans p2, q5.trans p5⟩
  · obtain ⟨p3, p4⟩ := p.2 s hs
    obtain ⟨q3, q4⟩ := q.2 s hs
    exact ⟨q3.trans p3, q4.trans p4⟩
theorem bl_fr {j k : Nat} {xs : List (Nat × Int32)} {b1 b2 b3 b4 b5 : Nat → Int32} (hj : j ≠ k) (hF : bl_F k a1 a2 a3 a4 a5 b1 b2 b3 b4 b5) (hb : bl_b a1 a2 a3 a4 a5 j xs) : bl_b b1 b2 b3 b4 b5 j xs := by
  obtain ⟨f, s⟩ := hF
  obtain ⟨f1, f2, f5⟩ := f j hj
  have hs : ∀ h i, b3 (bl_s j h i) = a3 (bl_s j h i) ∧ b4 (bl_s j h i) = a4 (bl_s j h i) := fun h i => s _ (by unfold bl_s; omega)
  match xs, hb with
  | [], hb =>
    obtain ⟨h, hh, e1, e2, e5⟩ := hb
    exact bl_i0 h hh (f1.trans e1) (f2.trans e2) (f5.trans e5)
  | [(g, c)], hb =>
    obtain ⟨h, hh, e1, e2, e5, hg, e3, e4⟩ := hb
    exact bl_i1 h hh (f1.trans e1) (f2.trans e2) (f5.trans e5) hg ((hs h 0).1.trans e3) ((hs h 0).2.trans e4)
  | [(g, c), (x, d)], hb =>
    obtain ⟨h, hh, e1, e2, e5, hg, e3, e4, g3, g4⟩ := hb
    exact bl_i2 h hh (f1.trans e1) (f2.trans e2) (f5.trans e5) hg ((hs h 0).1.trans e3) ((hs h 0).2.trans e4) ((hs h 1).1.trans g3) ((hs h 1).2.trans g4)
  | (g, c) :: (x, d) :: y :: r, hb => exact False.elim hb
theorem bl_len {k : Nat} {xs : List (Nat × Int32)} (hb : bl_b a1 a2 a3 a4 a5 k xs) : a2 k = nI xs.length ∧ xs.length ≤ 2 := by
  match xs, hb with
  | [], hb =>
    obtain ⟨h, hh, e1, e2, e5⟩ := hb
    exact ⟨e2, Nat.zero_le 2⟩
  | [(g, c)], hb =>
    obtain ⟨h, hh, e1, e2, e5, hg, e3, e4⟩ := hb
    exact ⟨e2, Nat.le_succ 1⟩
  | [(g, c), (x, d)], hb =>
    obtain ⟨h, hh, e1, e2, e5, hg, e3, e4, g3, g4⟩ := hb
    exact ⟨e2, Nat.le_refl 2⟩
  | (g, c) :: (x, d) :: y :: r, hb => exact False.elim hb
/-- a store into one place of belt k keeps the frame -/
theorem bl_Fs {k h i : Nat} {u1 u2 u5 v3 v4 : Int32} : bl_F k a1 a2 a3 a4 a5 (upd a1 k u1) (upd a2 k u2) (upd a3 (bl_s k h i) v3) (upd a4 (bl_s k h i) v4) (upd a5 k u5) := by
  refine ⟨fun j hj => ⟨pk_un hj, pk_un hj, pk_un hj⟩, fun s hs => ?_⟩
  have e : s ≠ bl_s k h i := by
    unfold bl_s
    omega
  exact ⟨pk_un e, pk_un e⟩
theorem bl_F1 {k : Nat} {u1 : Int32} : bl_F k a1 a2 a3 a4 a5 (upd a1 k u1) a2 a3 a4 a5 := ⟨fun j hj => ⟨pk_un hj, rfl, rfl⟩, fun _ _ => ⟨rfl, rfl⟩⟩
theorem bl_F2 {k : Nat} {u2 : Int32} : bl_F k a1 a2 a3 a4 a5 a1 (upd a2 k u2) a3 a4 a5 := ⟨fun j hj => ⟨rfl, pk_un hj, rfl⟩, fun _ _ => ⟨rfl, rfl⟩⟩
theorem bl_F5 {k : Nat} {u5 : Int32} : bl_F k a1 a2 a3 a4 a5 a1 a2 a3 a4 (upd a5 k u5) := ⟨fun j hj => ⟨rfl, rfl, pk_un hj⟩, fun _ _ => ⟨rfl, rfl⟩⟩
theorem bl_F3 {k h i : Nat} {v3 : Int32} : bl_F k a1 a2 a3 a4 a5 a1 a2 (upd a3 (bl_s k h i) v3) a4 a5 := by
  refine ⟨fun j hj => ⟨rfl, rfl, rfl⟩, fun s hs => ⟨pk_un ?_, rfl⟩⟩
  unfold bl_s
  omega
theorem bl_F4 {k h i : Nat} {v4 : Int32} : bl_F k a1 a2 a3 a4 a5 a1 a2 a3 (upd a4 (bl_s k h i) v4) a5 := by
  refine ⟨fun j hj => ⟨rfl, rfl, rfl⟩, fun s hs => ⟨rfl, pk_un ?_⟩⟩
  unfold bl_s
  omega
end
end
section
section
variable {fl fg : Int32} {a1 a2 a3 a4 a5 a6 a7 a8 a9 a10 a11 a12 : Nat → Int32}
theorem bl_bad {post : Int32 → Prop} {k : Nat} (hk : k < 4) (hp : post 0) : wpX_bad post () (nI k) := by
  unfold wpX_bad
  exact br_f (nI_pos (by omega)) (br_t (nI_lt (b := 4) hk (by decide)) hp)
theorem bl_lp {post : Int32 → Prop} {k c s : Nat} (hk : k < 4) (h2 : a2 k = nI (c + 1)) (h5 : a5 k = nI s) (hp : post (nI (s + 4 * c))) : wpX_lastPlace post (fl, fg, a1, a2, a3, a4, a5, a6, a7, a8, a9, a10, a11, a12) (nI k) := by
  unfold wpX_lastPlace
  dsimp only
  refine ⟨pk_in k 4 hk, pk_in k 4 hk, ?_⟩
  rw [nI_clamp (show k < 2 ^ 31 by omega), h5, h2, nI_pred, show (4 : Int32) = nI 4 from rfl, pk_mul, nI_add]
  exact hp
theorem bl_room0 {post : Int32 → Prop} {k : Nat} (hk : k < 4) (hb : bl_b a1 a2 a3 a4 a5 k []) (hp : post 1) : wpX_hasRoom post (fl, fg, a1, a2, a3, a4, a5, a6, a7, a8, a9, a10, a11, a12) (nI k) := by
  obtain ⟨h, hh, e1, e2, e5⟩ := hb
  unfold wpX_hasRoom
  dsimp only
  refine ⟨pk_in k 4 hk, ?_⟩
  rw [nI_clamp (show k < 2 ^ 31 by omega)]
  exact br_t e2 hp
theorem bl_room {post : Int32 → Prop} {k l c s : Nat} (hf : fl = nI l) (hk : k < 4) (hl : 8 ≤ l) (hl2 : l ≤ 60) (h2 : a2 k = nI (c + 1)) (hc : c ≤ 1) (h5 : a5 k = nI s) (hs : s ≤ 60) (hp : s + 4 * c + 4 ≤ l → post 1) (hq : l < s + 4 * c + 4 → post 0) : wpX_hasRoom post (fl, fg, a1, a2, a3, a4, a5, a6, a7, a8, a9, a10, a11, a12) (nI k) := by
  subst hf
  unfold wpX_hasRoom
  dsimp only
  refine ⟨pk_in k 4 hk, ?_⟩
  rw [nI_clamp (show k < 2 ^ 31 by omega)]
  refine br_f (by rw [h2]; exact nI_ne0 (by omega) (by omega)) ?_
  refine bl_lp hk h2 h5 ?_
  exact pk_lt (l - 4) (s + 4 * c) (fun z => hq (by omega)) (fun z => hp (by omega)) (pk_sub (b := 4) (by omega)) rfl
theorem bl_room1 {post : Int32 → Prop} {k l x : Nat} {c : Int32} (hf : fl = nI l) (hk : k < 4) (hl : 8 ≤ l) (hl2 : l ≤ 60) (hb : bl_b a1 a2 a3 a4 a5 k [(x, c)]) (hx : x + 4 ≤ l) (hp : post 1) : wpX_hasRoom post (fl, fg, a1, a2, a3, a4, a5, a6, a7, a8, a9, a10, a11, a12) (nI k) := by
  obtain ⟨h, hh, e1, e2, e5, hg, e3, e4⟩ := hb
  exact bl_room (c := 0) hf hk hl hl2 e2 (by decide) e5 hg (fun _ => hp) (fun z => absurd z (by omega))
theorem bl_room2 {post : Int32 → Prop} {k l x y : Nat} {c d : Int32} (hf : fl = nI l) (hk : k < 4) (hl : 8 ≤ l) (hl2 : l ≤ 60) (hb : bl_b a1 a2 a3 a4 a5 k [(x, c), (y, d)]) (hx : l < x + y + 8) (hp : post 0) : wpX_hasRoom post (fl, fg, a1, a2, a3, a4, a5, a6, a7, a8, a9, a10, a11, a12) (nI k) := by
  obtain ⟨h, hh, e1, e2, e5, hg, e3, e4, f3, f4⟩ := hb
  exact bl_room (c := 1) hf hk hl hl2 e2 (by decide) e5 (by omega) (fun z => absurd z (by omega)) (fun _ => hp)
theorem bl_Fa {k h i : Nat} {u2 u5 v3 v4 : Int32} : bl_F k a1 a2 a3 a4 a5 a1 (upd a2 k u2) (upd a3 (bl_s k h i) v3) (upd a4 (bl_s k h i) v4) (upd a5 k u5) := by
  refine ⟨fun j hj => ⟨rfl, pk_un hj, pk_un hj⟩, fun s hs => ?_⟩
  have e : s ≠ bl_s k h i := by
    unfold bl_s
    omega
  exact ⟨pk_un e, pk_un e⟩
theorem bl_a28 {post : St2 → Prop} {k h c : Nat} {x2 z0 : Int32} (hk : k < 4) (hh : h < 16) (h1 : a1 k = nI h) (h2 : a2 k = nI c) (hc : c < 16)
    (hp : post (fl, fg, a1, upd a2 k (nI (c + 1)), upd a3 (bl_s k h c) z0, upd a4 (bl_s k h c) x2, upd a5 k (a5 k + z0), a6, a7, a8, a9, a10, a11, a12)) : wX_append_28 post (nI k) x2 z0 fl fg a1 a2 a3 a4 a5 a6 a7 a8 a9 a10 a11 a12 := by
  unfold wX_append_28
  refine ⟨pk_in k 4 hk, ?_⟩
  rw [nI_clamp (show k < 2 ^ 31 by omega), h2]
  refine bl_slot c hk hh hc h1 ?_
  have h64 : bl_s k h c < 64 := bl_s64 hk
  rw [nI_clamp (show bl_s k h c < 2 ^ 31 by omega)]
  exact ⟨pk_in _ 64 h64, nm_e ⟨pk_in _ 64 h64, nm_e ⟨pk_in k 4 hk, pk_in k 4 hk, nm_e ⟨pk_in k 4 hk, pk_in k 4 hk, nm_r (by rw [nI_1]) hp⟩⟩⟩⟩
theorem bl_app0 {post : St2 → Prop} {k l : Nat} {c : Int32} (hf : fl = nI l) (hk : k < 4) (hl2 : l ≤ 60) (hb : bl_b a1 a2 a3 a4 a5 k [])
    (hp : ∀ b1 b2 b3 b4 b5, bl_F k a1 a2 a3 a4 a5 b1 b2 b3 b4 b5 → bl_b b1 b2 b3 b4 b5 k [(l, c)] → post (fl, fg, b1, b2, b3, b4, b5, a6, a7, a8, a9, a10, a11, a12)) : wpX_append post (fl, fg, a1, a2, a3, a4, a5, a6, a7, a8, a9, a10, a11, a12) (nI k) c := by
  obtain ⟨h, hh, e1, e2, e5⟩ := hb
  unfold wpX_append
  dsimp only
  refine ⟨pk_in k 4 hk, ?_⟩
  rw [nI_clamp (show k < 2 ^ 31 by omega)]
  refine br_t e2 ?_
  refine bl_a28 hk hh e1 e2 (by decide) (hp _ _ _ _ _ bl_Fa ?_)
  refine bl_i1 h hh e1 pk_us ?_ hl2 ?_ pk_us
  · rw [pk_us, e5, hf, nI_add, Nat.zero_add]
  · rw [pk_us]
    exact hf
theorem bl_app1 {post : St2 → Prop} {k l x : Nat} {c d : Int32} (hf : fl = nI l) (hk : k < 4) (hl2 : l ≤ 60) (hx : x + 4 ≤ l) (hb : bl_b a1 a2 a3 a4 a5 k [(x, d)])
    (hp : ∀ b1 b2 b3 b4 b5, bl_F k a1 a2 a3 a4 a5 b1 b2 b3 b4 b5 → bl_b b1 b2 b3 b4 b5 k [(x, d), (l - x - 4, c)] → post (fl, fg, b1, b2, b3, b4, b5, a6, a7, a8, a9, a10, a11, a12)) : wpX_append post (fl, fg, a1, a2, a3, a4, a5, a6, a7, a8, a9, a10, a11, a12) (nI k) c := by
  obtain ⟨h, hh, e1, e2, e5, hg, e3, e4⟩ := hb
  unfold wpX_append
  dsimp only
  refine ⟨pk_in k 4 hk, ?_⟩
  rw [nI_clamp (show k < 2 ^ 31 by omega)]
  refine br_f (by rw [e2]; exact nI_ne0 (by decide) (by decide)) ?_
  refine bl_lp (c := 0) hk e2 e5 ?_
  have e : fl - nI (x + 4 * 0) - 4 = nI (l - x - 4) := by
    rw [hf, Nat.mul_zero, Nat.add_zero, pk_sub (by omega)]
    exact pk_sub (b := 4) (by omega)
  rw [e]
  refine bl_a28 hk hh e1 e2 (by decide) (hp _ _ _ _ _ bl_Fa ?_)
  refine bl_i2 h hh e1 pk_us ?_ (by omega) ?_ ?_ pk_us pk_us
  · rw [pk_us, e5, nI_add]
  · rw [pk_un bl_s01]
    exact e3
  · rw [pk_un bl_s01]
    exact e4
end
end
section
section
variable {fl fg : Int32} {a1 a2 a3 a4 a5 a6 a7 a8 a9 a10 a11 a12 : Nat → Int32}
theorem bl_and15 {h : Nat} (hh : h < 16) : (nI h + 1) &&& 15 = nI ((h + 1) % 16) := by
  rw [nI_1, pk_andN (show h + 1 < 2 ^ 32 by omega) 4 (by decide)]
/-- the only item is taken off belt k -/
theorem bl_rm1 {post : Int32 → St2 → Prop} {k g : Nat} {c : Int32} (hk : k < 4) (hb : bl_b a1 a2 a3 a4 a5 k [(g, c)])
    (hp : ∀ b1 b2 b3 b4 b5, bl_F k a1 a2 a3 a4 a5 b1 b2 b3 b4 b5 → bl_b b1 b2 b3 b4 b5 k [] → post c (fl, fg, b1, b2, b3, b4, b5, a6, a7, a8, a9, a10, a11, a12)) : wpX_removeItem_2 post (fl, fg, a1, a2, a3, a4, a5, a6, a7, a8, a9, a10, a11, a12) (nI k) (nI 0) := by
  obtain ⟨h, hh, e1, e2, e5, hg, e3, e4⟩ := hb
  have ck : (nI k).toNatClampNeg = k := nI_clamp (by omega)
  have h64 : bl_s k h 0 < 64 := bl_s64 hk
  have cs : (nI (bl_s k h 0)).toNatClampNeg = bl_s k h 0 := nI_clamp (by omega)
  unfold wpX_removeItem_2
  dsimp only
  refine bl_slot 0 hk hh (by decide) e1 ?_
  rw [cs, ck]
  refine ⟨pk_in _ 64 h64, nm_r e4 ⟨pk_in _ 64 h64, nm_r e3 ⟨pk_in k 4 hk, ?_⟩⟩⟩
  refine pk_le 1 1 (fun _ => ⟨pk_in k 4 hk, pk_in k 4 hk, nm_e ?_⟩) (fun z => absurd z (by omega)) e2 (nI_1 0)
  unfold wX_removeItem_2_79
  refine br_t nI_0 ⟨pk_in k 4 hk, pk_in k 4 hk, nm_e ?_⟩
  unfold wX_removeItem_2_109
  refine ⟨pk_in k 4 hk, pk_in k 4 hk, nm_e ?_⟩
  rw [ck]
  refine hp _ _ _ _ _ (bl_Ft bl_F1 (bl_Ft bl_F2 bl_F5)) (bl_i0 ((h + 1) % 16) (by omega) ?_ ?_ ?_)
  · rw [pk_us, e1, bl_and15 hh]
  · rw [pk_us, e2, nI_pred 0]
  · rw [pk_us, e5, pk_sub (Nat.le_refl g), Nat.sub_self]
/-- the first of two items is taken off belt k -/
theorem bl_rm2 {post : Int32 → St2 → Prop} {k g x : Nat} {c d : Int32} (hk : k < 4) (hb : bl_b a1 a2 a3 a4 a5 k [(g, c), (x, d)])
    (hp : ∀ b1 b2 b3 b4 b5, bl_F k a1 a2 a3 a4 a5 b1 b2 b3 b4 b5 → bl_b b1 b2 b3 b4 b5 k [(x + (g + 4), d)] → post c (fl, fg, b1, b2, b3, b4, b5, a6, a7, a8, a9, a10, a11, a12)) : wpX_removeItem_2 post (fl, fg, a1, a2, a3, a4, a5, a6, a7, a8, a9, a10, a11, a12) (nI k) (nI 0) := by
  obtain ⟨h, hh, e1, e2, e5, hg, e3, e4, f3, f4⟩ := hb
  have ck : (nI k).toNatClampNeg = k := nI_clamp (by omega)
  have h64 : bl_s k h 0 < 64 := bl_s64 hk
  have h65 : bl_s k h 1 < 64 := bl_s64 hk
  have cs : (nI (bl_s k h 0)).toNatClampNeg = bl_s k h 0 := nI_clamp (by omega)
  have ct : (nI (bl_s k h 1)).toNatClampNeg = bl_s k h 1 := nI_clamp (by omega)
  unfold wpX_removeItem_2
  dsimp only
  refine bl_slot 0 hk hh (by decide) e1 ?_
  rw [cs, ck]
  refine ⟨pk_in _ 64 h64, nm_r e4 ⟨pk_in _ 64 h64, nm_r e3 ⟨pk_in k 4 hk, ?_⟩⟩⟩
  refine pk_le 2 1 (fun z => absurd z (by omega)) (fun _ => ?_) e2 (nI_1 0)
  rw [nI_1 0]
  refine bl_slot 1 hk hh (by decide) e1 ?_
  rw [ct]
  refine ⟨pk_in _ 64 h65, pk_in _ 64 h65, nm_e ⟨pk_in k 4 hk, pk_in k 4 hk, nm_e ?_⟩⟩
  unfold wX_removeItem_2_79
  refine br_t nI_0 ⟨pk_in k 4 hk, pk_in k 4 hk, nm_e ?_⟩
  unfold wX_removeItem_2_109
  refine ⟨pk_in k 4 hk, pk_in k 4 hk, nm_e ?_⟩
  rw [ck]
  refine hp _ _ _ _ _ (bl_Ft bl_F1 (bl_Ft bl_F2 (bl_Ft bl_F3 bl_F5))) (bl_i1 ((h + 1) % 16) (by omega) ?_ ?_ ?_ (by omega) ?_ ?_)
  · rw [pk_us, e1, bl_and15 hh]
  · rw [pk_us, e2, nI_pred 1]
  · rw [pk_us, e5, show (4 : Int32) = nI 4 from rfl, nI_add, show g + x + 4 = x + (g + 4) by omega]
  · rw [bl_sh, pk_us, f3, show (4 : Int32) = nI 4 from rfl, nI_add, nI_add]
  · rw [bl_sh]
    exact f4
/-- an arm takes the second of two items off belt k -/
theorem bl_rm3 {post : Int32 → St2 → Prop} {k g x : Nat} {c d : Int32} (hk : k < 4) (hb : bl_b a1 a2 a3 a4 a5 k [(g, c), (x, d)])
    (hp : ∀ b1 b2 b3 b4 b5, bl_F k a1 a2 a3 a4 a5 b1 b2 b3 b4 b5 → bl_b b1 b2 b3 b4 b5 k [(g, c)] → post d (fl, fg, b1, b2, b3, b4, b5, a6, a7, a8, a9, a10, a11, a12)) : wpX_removeItem post (fl, fg, a1, a2, a3, a4, a5, a6, a7, a8, a9, a10, a11, a12) (nI k) (nI 1) := by
  obtain ⟨h, hh, e1, e2, e5, hg, e3, e4, f3, f4⟩ := hb
  have ck : (nI k).toNatClampNeg = k := nI_clamp (by omega)
  have h65 : bl_s k h 1 < 64 := bl_s64 hk
  have ct : (nI (bl_s k h 1)).toNatClampNeg = bl_s k h 1 := nI_clamp (by omega)
  unfold wpX_removeItem
  dsimp only
  refine bl_slot 1 hk hh (by decide) e1 ?_
  rw [ct, ck]
  refine ⟨pk_in _ 64 h65, nm_r f4 ⟨pk_in _ 64 h65, nm_r f3 ⟨pk_in k 4 hk, ?_⟩⟩⟩
  refine pk_le 2 2 (fun _ => ⟨pk_in k 4 hk, pk_in k 4 hk, nm_e ?_⟩) (fun z => absurd z (by omega)) e2 (nI_1 1)
  unfold wX_removeItem_79
  refine br_f (nI_ne0 (by decide) (by decide)) ?_
  unfold wpX_closeUp
  dsimp only
  refine ⟨1, ?_⟩
  refine And.intro (pk_in k 4 hk) ?_
  rw [ck]
  refine pk_le 2 2 (fun _ => ?_) (fun z => absurd z (by omega)) e2 (nI_1 1)
  dsimp only
  unfold wX_removeItem_109
  refine ⟨pk_in k 4 hk, pk_in k 4 hk, nm_e ?_⟩
  rw [ck]
  refine hp _ _ _ _ _ (bl_Ft bl_F2 bl_F5) (bl_i1 h hh e1 ?_ ?_ (by omega) e3 e4)
  · rw [pk_us, e2, nI_pred 1]
  · rw [pk_us, e5, pk_sub (by omega), show g + x - x = g by omega]
end
end
section
section
variable {fl fg : Int32} {a1 a2 a3 a4 a5 a6 a7 a8 a9 a10 a11 a12 : Nat → Int32}
/-- what is known of the first item -/
theorem bl_hd {k g : Nat} {c : Int32} {r : List (Nat × Int32)} (hb : bl_b a1 a2 a3 a4 a5 k ((g, c) :: r)) : ∃ h n, h < 16 ∧ n ≤ 1 ∧ g ≤ 60 ∧ a1 k = nI h ∧ a2 k = nI (n + 1) ∧ n = r.length ∧ a3 (bl_s k h 0) = nI g ∧ a4 (bl_s k h 0) = c := by
  match r, hb with
  | [], hb =>
    obtain ⟨h, hh, e1, e2, e5, hg, e3, e4⟩ := hb
    exact ⟨h, 0, hh, by decide, hg, e1, e2, rfl, e3, e4⟩
  | [(x, d)], hb =>
    obtain ⟨h, hh, e1, e2, e5, hg, e3, e4, f3, f4⟩ := hb
    exact ⟨h, 1, hh, by decide, by omega, e1, e2, rfl, e3, e4⟩
  | (x, d) :: y :: r, hb => exact False.elim hb
theorem bl_ae0 {post : Int32 → Prop} {k : Nat} {xs : List (Nat × Int32)} (hk : k < 4) (hb : bl_b a1 a2 a3 a4 a5 k xs) (he : ∀ c r, xs ≠ (0, c) :: r) (hp : post 0) : wpX_atEnd post (fl, fg, a1, a2, a3, a4, a5, a6, a7, a8, a9, a10, a11, a12) (nI k) := by
  have ck : (nI k).toNatClampNeg = k := nI_clamp (by omega)
  unfold wpX_atEnd
  dsimp only
  refine ⟨pk_in k 4 hk, ?_⟩
  rw [ck]
  match xs, hb, he with
  | [], hb, he =>
    obtain ⟨h, hh, e1, e2, e5⟩ := hb
    exact pk_le 0 0 (fun _ => hp) (fun z => absurd z (by omega)) e2 rfl
  | (g, c) :: r, hb, he =>
    obtain ⟨h, n, hh, hn, hg, e1, e2, _, e3, e4⟩ := bl_hd hb
    have h64 : bl_s k h 0 < 64 := bl_s64 hk
    refine pk_le (n + 1) 0 (fun z => absurd z (by omega)) (fun _ => ?_) e2 rfl
    refine bl_slot 0 hk hh (by decide) e1 ?_
    rw [nI_clamp (show bl_s k h 0 < 2 ^ 31 by omega)]
    refine ⟨pk_in _ 64 h64, pk_eq g 0 (fun z => ?_) (fun _ => hp) e3 rfl⟩
    exact absurd (by rw [z]) (he c r)
theorem bl_ae1 {post : Int32 → Prop} {k : Nat} {c : Int32} {r : List (Nat × Int32)} (hk : k < 4) (hb : bl_b a1 a2 a3 a4 a5 k ((0, c) :: r)) (hp : post 1) : wpX_atEnd post (fl, fg, a1, a2, a3, a4, a5, a6, a7, a8, a9, a10, a11, a12) (nI k) := by
  have ck : (nI k).toNatClampNeg = k := nI_clamp (by omega)
  unfold wpX_atEnd
  dsimp only
  refine ⟨pk_in k 4 hk, ?_⟩
  rw [ck]
  obtain ⟨h, n, hh, hn, hg, e1, e2, _, e3, e4⟩ := bl_hd hb
  have h64 : bl_s k h 0 < 64 := bl_s64 hk
  refine pk_le (n + 1) 0 (fun z => absurd z (by omega)) (fun _ => ?_) e2 rfl
  refine bl_slot 0 hk hh (by decide) e1 ?_
  rw [nI_clamp (show bl_s k h 0 < 2 ^ 31 by omega)]
  exact ⟨pk_in _ 64 h64, br_t e3 hp⟩
/-- how many items at the front stand close -/
def bl_z : List (Nat × Int32) → Nat
  | [] => 0
  | (0, _) :: r => bl_z r + 1
  | (_ + 1, _) :: _ => 0
/-- the first gap that is not closed shrinks by one -/
def bl_dec : List (Nat × Int32) → List (Nat × Int32)
  | [] => []
  | (0, c) :: r => (0, c) :: bl_dec r
  | (g + 1, c) :: r => (g, c) :: r
theorem bl_f_e {post : Int32 → Prop} {n k c : Nat} (hk : k < 4) (e2 : a2 k = nI c) (hc : c ≤ 2) (hp : post (nI c)) : wX_firstOpen_2 post (nI k) fl fg a1 a2 a3 a4 a5 a6 a7 a8 a9 a10 a11 a12 (n + 1) (nI c) := by
  refine And.intro (pk_in k 4 hk) ?_
  rw [nI_clamp (show k < 2 ^ 31 by omega)]
  exact pk_le c c (fun _ => hp) (fun z => absurd z (by omega)) e2 rfl
theorem bl_f_z {post : Int32 → Prop} {n k c h i : Nat} (hk : k < 4) (hh : h < 16) (e1 : a1 k = nI h) (e2 : a2 k = nI c) (hc : c ≤ 2) (hi : i < c) (e3 : a3 (bl_s k h i) = nI 0) (hp : wX_firstOpen_2 post (nI k) fl fg a1 a2 a3 a4 a5 a6 a7 a8 a9 a10 a11 a12 n (nI (i + 1))) : wX_firstOpen_2 post (nI k) fl fg a1 a2 a3 a4 a5 a6 a7 a8 a9 a10 a11 a12 (n + 1) (nI i) := by
  have h64 : bl_s k h i < 64 := bl_s64 hk
  refine And.intro (pk_in k 4 hk) ?_
  rw [nI_clamp (show k < 2 ^ 31 by omega)]
  refine pk_le c i (fun z => absurd z (by omega)) (fun _ => ?_) e2 rfl
  refine bl_slot i hk hh (by omega) e1 ?_
  rw [nI_clamp (show bl_s k h i < 2 ^ 31 by omega)]
  exact ⟨pk_in _ 64 h64, br_t e3 (nm_r (nI_1 i) hp)⟩
theorem bl_f_o {post : Int32 → Prop} {n k c h i g : Nat} (hk : k < 4) (hh : h < 16) (e1 : a1 k = nI h) (e2 : a2 k = nI c) (hc : c ≤ 2) (hi : i < c) (hg : g ≤ 60) (e3 : a3 (bl_s k h i) = nI (g + 1)) (hp : post (nI i)) : wX_firstOpen_2 post (nI k) fl fg a1 a2 a3 a4 a5 a6 a7 a8 a9 a10 a11 a12 (n + 1) (nI i) := by
  have h64 : bl_s k h i < 64 := bl_s64 hk
  refine And.intro (pk_in k 4 hk) ?_
  rw [nI_clamp (show k < 2 ^ 31 by omega)]
  refine pk_le c i (fun z => absurd z (by omega)) (fun _ => ?_) e2 rfl
  refine bl_slot i hk hh (by omega) e1 ?_
  rw [nI_clamp (show bl_s k h i < 2 ^ 31 by omega)]
  exact ⟨pk_in _ 64 h64, br_f (by rw [e3]; exact nI_ne0 (by omega) (by omega)) hp⟩
theorem bl_fo {post : Int32 → Prop} {k : Nat} {xs : List (Nat × Int32)} (hk : k < 4) (hb : bl_b a1 a2 a3 a4 a5 k xs) (hp : post (nI (bl_z xs))) : wpX_firstOpen post (fl, fg, a1, a2, a3, a4, a5, a6, a7, a8, a9, a10, a11, a12) (nI k) := by
  unfold wpX_firstOpen
  dsimp only
  match xs, hb, hp with
  | [], hb, hp =>
    obtain ⟨h, hh, e1, e2, e5⟩ := hb
    exact ⟨0 + 1, bl_f_e (c := 0) hk e2 (by decide) hp⟩
  | [(0, c)], hb, hp =>
    obtain ⟨h, hh, e1, e2, e5, hg, e3, e4⟩ := hb
    exact ⟨0 + 1 + 1, bl_f_z (i := 0) hk hh e1 e2 (by decide) (by decide) e3 (bl_f_e (c := 1) hk e2 (by decide) hp)⟩
  | [(g + 1, c)], hb, hp =>
    obtain ⟨h, hh, e1, e2, e5, hg, e3, e4⟩ := hb
    exact ⟨0 + 1, bl_f_o (i := 0) (g := g) hk hh e1 e2 (by decide) (by decide) (by omega) e3 hp⟩
  | [(0, c), (0, d)], hb, hp =>
    obtain ⟨h, hh, e1, e2, e5, hg, e3, e4, f3, f4⟩ := hb
    exact ⟨0 + 1 + 1 + 1, bl_f_z (i := 0) hk hh e1 e2 (by decide) (by decide) e3 (bl_f_z (i := 1) hk hh e1 e2 (by decide) (by decide) f3 (bl_f_e (c := 2) hk e2 (by decide) hp))⟩
  | [(0, c), (x + 1, d)], hb, hp =>
    obtain ⟨h, hh, e1, e2, e5, hg, e3, e4, f3, f4⟩ := hb
    exact ⟨0 + 1 + 1, bl_f_z (i := 0) hk hh e1 e2 (by decide) (by decide) e3 (bl_f_o (i := 1) (g := x) hk hh e1 e2 (by decide) (by decide) (by omega) f3 hp)⟩
  | [(g + 1, c), (x, d)], hb, hp =>
    obtain ⟨h, hh, e1, e2, e5, hg, e3, e4, f3, f4⟩ := hb
    exact ⟨0 + 1, bl_f_o (i := 0) (g := g) hk hh e1 e2 (by decide) (by decide) (by omega) e3 hp⟩
  | (g, c) :: (x, d) :: y :: r, hb, hp => exact False.elim hb
theorem bl_adv_c {post : St2 → Prop} {k : Nat} {xs : List (Nat × Int32)} (hk : k < 4) (hb : bl_b a1 a2 a3 a4 a5 k xs) (hz : bl_z xs = xs.length) (hp : post (fl, fg, a1, a2, a3, a4, a5, a6, a7, a8, a9, a10, a11, a12)) : wpX_advance post (fl, fg, a1, a2, a3, a4, a5, a6, a7, a8, a9, a10, a11, a12) (nI k) := by
  unfold wpX_advance
  dsimp only
  refine bl_fo hk hb ?_
  refine ⟨pk_in k 4 hk, ?_⟩
  rw [nI_clamp (show k < 2 ^ 31 by omega), hz, (bl_len hb).1]
  exact br_t rfl hp
theorem bl_Fv {k h i : Nat} {u5 v3 : Int32} : bl_F k a1 a2 a3 a4 a5 a1 a2 (upd a3 (bl_s k h i) v3) a4 (upd a5 k u5) := by
  refine ⟨fun j hj => ⟨rfl, rfl, pk_un hj⟩, fun s hs => ⟨pk_un ?_, rfl⟩⟩
  unfold bl_s
  omega
theorem bl_adv_o {post : St2 → Prop} {k h c i g s : Nat} {xs : List (Nat × Int32)} (hk : k < 4) (hb : bl_b a1 a2 a3 a4 a5 k xs) (hz : bl_z xs = i) (hh : h < 16) (e1 : a1 k = nI h) (e2 : a2 k = nI c) (hc : c ≤ 2) (hi : i < c) (e3 : a3 (bl_s k h i) = nI (g + 1)) (e5 : a5 k = nI (s + 1))
    (hp : post (fl, fg, a1, a2, upd a3 (bl_s k h i) (nI g), a4, upd a5 k (nI s), a6, a7, a8, a9, a10, a11, a12)) : wpX_advance post (fl, fg, a1, a2, a3, a4, a5, a6, a7, a8, a9, a10, a11, a12) (nI k) := by
  have h64 : bl_s k h i < 64 := bl_s64 hk
  unfold wpX_advance
  dsimp only
  refine bl_fo hk hb ?_
  refine ⟨pk_in k 4 hk, ?_⟩
  rw [nI_clamp (show k < 2 ^ 31 by omega), hz]
  refine pk_eq i c (fun z => absurd z (by omega)) (fun _ => ?_) rfl e2
  refine bl_slot i hk hh (by omega) e1 ?_
  rw [nI_clamp (show bl_s k h i < 2 ^ 31 by omega)]
  exact ⟨pk_in _ 64 h64, pk_in _ 64 h64, nm_r (by rw [e3, nI_pred]) ⟨pk_in k 4 hk, pk_in k 4 hk, nm_r (by rw [e5, nI_pred]) hp⟩⟩
theorem bl_adv {post : St2 → Prop} {k : Nat} {xs : List (Nat × Int32)} (hk : k < 4) (hb : bl_b a1 a2 a3 a4 a5 k xs)
    (hp : ∀ b1 b2 b3 b4 b5, bl_F k a1 a2 a3 a4 a5 b1 b2 b3 b4 b5 → bl_b b1 b2 b3 b4 b5 k (bl_dec xs) → post (fl, fg, b1, b2, b3, b4, b5, a6, a7, a8, a9, a10, a11, a12)) : wpX_advance post (fl, fg, a1, a2, a3, a4, a5, a6, a7, a8, a9, a10, a11, a12) (nI k) := by
  match xs, hb, hp with
  | [], hb, hp => exact bl_adv_c hk hb rfl (hp _ _ _ _ _ bl_F0 hb)
  | [(0, c)], hb, hp => exact bl_adv_c hk hb rfl (hp _ _ _ _ _ bl_F0 hb)
  | [(g + 1, c)], hb, hp =>
    have hb' := hb
    obtain ⟨h, hh, e1, e2, e5, hg, e3, e4⟩ := hb'
    refine bl_adv_o (i := 0) (g := g) (s := g) hk hb rfl hh e1 e2 (by decide) (by decide) e3 e5 (hp _ _ _ _ _ bl_Fv ?_)
    exact bl_i1 h hh e1 e2 pk_us (by omega) pk_us e4
  | [(0, c), (0, d)], hb, hp => exact bl_adv_c hk hb rfl (hp _ _ _ _ _ bl_F0 hb)
  | [(0, c), (x + 1, d)], hb, hp =>
    have hb' := hb
    obtain ⟨h, hh, e1, e2, e5, hg, e3, e4, f3, f4⟩ := hb'
    refine bl_adv_o (i := 1) (g := x) (s := x) hk hb rfl hh e1 e2 (by decide) (by decide) f3 (e5.trans (by rw [Nat.zero_add])) (hp _ _ _ _ _ bl_Fv ?_)
    refine bl_i2 h hh e1 e2 ?_ (by omega) ((pk_un bl_s01).trans e3) e4 pk_us f4
    rw [pk_us, Nat.zero_add]
  | [(g + 1, c), (x, d)], hb, hp =>
    have hb' := hb
    obtain ⟨h, hh, e1, e2, e5, hg, e3, e4, f3, f4⟩ := hb'
    refine bl_adv_o (i := 0) (g := g) (s := g + x) hk hb rfl hh e1 e2 (by decide) (by decide) e3 (e5.trans (by rw [show g + 1 + x = g + x + 1 by omega])) (hp _ _ _ _ _ bl_Fv ?_)
    exact bl_i2 h hh e1 e2 pk_us (by omega) pk_us e4 ((pk_un bl_s10).trans f3) f4
  | (g, c) :: (x, d) :: y :: r, hb, hp => exact False.elim hb
end
end
section
section
variable {fl fg : Int32} {a1 a2 a3 a4 a5 a6 a7 a8 a9 a10 a11 a12 : Nat → Int32}
theorem bl_items {post : Int32 → Prop} {k : Nat} {xs : List (Nat × Int32)} (hk : k < 4) (hb : bl_b a1 a2 a3 a4 a5 k xs) (hp : post (nI xs.length)) : wpX_items post (fl, fg, a1, a2, a3, a4, a5, a6, a7, a8, a9, a10, a11, a12) (nI k) := by
  unfold wpX_items
  dsimp only
  refine bl_bad hk (br_t rfl ⟨pk_in k 4 hk, ?_⟩)
  rw [nI_clamp (show k < 2 ^ 31 by omega), (bl_len hb).1]
  exact hp
theorem bl_zle : ∀ xs : List (Nat × Int32), bl_z xs ≤ xs.length
  | [] => Nat.le_refl 0
  | (0, _) :: r => Nat.succ_le_succ (bl_zle r)
  | (_ + 1, _) :: _ => Nat.zero_le _
theorem bl_moving {post : Int32 → Prop} {k : Nat} {xs : List (Nat × Int32)} (hk : k < 4) (hb : bl_b a1 a2 a3 a4 a5 k xs) (hp : post (nI (xs.length - bl_z xs))) : wpX_moving post (fl, fg, a1, a2, a3, a4, a5, a6, a7, a8, a9, a10, a11, a12) (nI k) := by
  unfold wpX_moving
  dsimp only
  refine bl_bad hk (br_t rfl ⟨pk_in k 4 hk, ?_⟩)
  rw [nI_clamp (show k < 2 ^ 31 by omega), (bl_len hb).1]
  refine bl_fo hk hb ?_
  rw [pk_sub (bl_zle xs)]
  exact hp
theorem bl_kind0 {post : Int32 → Prop} {k g : Nat} {c : Int32} {r : List (Nat × Int32)} (hk : k < 4) (hb : bl_b a1 a2 a3 a4 a5 k ((g, c) :: r)) (hp : post c) : wpX_kind post (fl, fg, a1, a2, a3, a4, a5, a6, a7, a8, a9, a10, a11, a12) (nI k) (nI 0) := by
  obtain ⟨h, n, hh, hn, hg, e1, e2, _, e3, e4⟩ := bl_hd hb
  have h64 : bl_s k h 0 < 64 := bl_s64 hk
  unfold wpX_kind
  dsimp only
  refine bl_bad hk (br_t rfl (br_f (nI_pos (by decide)) ⟨pk_in k 4 hk, ?_⟩))
  rw [nI_clamp (show k < 2 ^ 31 by omega)]
  refine pk_lt 0 (n + 1) (fun _ => ?_) (fun z => absurd z (by omega)) rfl e2
  refine bl_slot 0 hk hh (by decide) e1 ⟨pk_in _ 64 h64, ?_⟩
  rw [nI_clamp (show bl_s k h 0 < 2 ^ 31 by omega), e4]
  exact hp
theorem bl_kind1 {post : Int32 → Prop} {k g x : Nat} {c d : Int32} (hk : k < 4) (hb : bl_b a1 a2 a3 a4 a5 k [(g, c), (x, d)]) (hp : post d) : wpX_kind post (fl, fg, a1, a2, a3, a4, a5, a6, a7, a8, a9, a10, a11, a12) (nI k) (nI 1) := by
  obtain ⟨h, hh, e1, e2, e5, hg, e3, e4, f3, f4⟩ := hb
  have h64 : bl_s k h 1 < 64 := bl_s64 hk
  unfold wpX_kind
  dsimp only
  refine bl_bad hk (br_t rfl (br_f (nI_pos (by decide)) ⟨pk_in k 4 hk, ?_⟩))
  rw [nI_clamp (show k < 2 ^ 31 by omega)]
  refine pk_lt 1 2 (fun _ => ?_) (fun z => absurd z (by omega)) rfl e2
  refine bl_slot 1 hk hh (by decide) e1 ⟨pk_in _ 64 h64, ?_⟩
  rw [nI_clamp (show bl_s k h 1 < 2 ^ 31 by omega), f4]
  exact hp
theorem bl_p_e {post : Int32 → Prop} {n k i j : Nat} {v : Int32} (hj : j ≤ 2) (hij : i < j) (hp : post v) : wX_placeOf_7 post (nI k) (nI i) fl fg a1 a2 a3 a4 a5 a6 a7 a8 a9 a10 a11 a12 (n + 1) v (nI j) :=
  pk_lt i j (fun _ => hp) (fun z => absurd z (by omega))
theorem bl_p_s {post : Int32 → Prop} {n k i j v g h : Nat} (hk : k < 4) (hh : h < 16) (hi : i ≤ 1) (hij : j ≤ i) (e1 : a1 k = nI h) (e3 : a3 (bl_s k h j) = nI g) (hp : wX_placeOf_7 post (nI k) (nI i) fl fg a1 a2 a3 a4 a5 a6 a7 a8 a9 a10 a11 a12 n (nI (v + g)) (nI (j + 1))) : wX_placeOf_7 post (nI k) (nI i) fl fg a1 a2 a3 a4 a5 a6 a7 a8 a9 a10 a11 a12 (n + 1) (nI v) (nI j) := by
  have h64 : bl_s k h j < 64 := bl_s64 hk
  refine pk_lt i j (fun z => absurd z (by omega)) (fun _ => ?_)
  refine bl_slot j hk hh (by omega) e1 ?_
  rw [nI_clamp (show bl_s k h j < 2 ^ 31 by omega)]
  exact ⟨pk_in _ 64 h64, nm_r (by rw [e3, nI_add]) (nm_r (nI_1 j) hp)⟩
theorem bl_place0 {post : Int32 → Prop} {k g : Nat} {c : Int32} {r : List (Nat × Int32)} (hk : k < 4) (hb : bl_b a1 a2 a3 a4 a5 k ((g, c) :: r)) (hp : post (nI g)) : wpX_place post (fl, fg, a1, a2, a3, a4, a5, a6, a7, a8, a9, a10, a11, a12) (nI k) (nI 0) := by
  obtain ⟨h, n, hh, hn, hg, e1, e2, _, e3, e4⟩ := bl_hd hb
  unfold wpX_place
  dsimp only
  refine bl_bad hk (br_t rfl (br_f (nI_pos (by decide)) ⟨pk_in k 4 hk, ?_⟩))
  rw [nI_clamp (show k < 2 ^ 31 by omega)]
  refine pk_lt 0 (n + 1) (fun _ => ?_) (fun z => absurd z (by omega)) rfl e2
  unfold wpX_placeOf
  dsimp only
  refine nm_r (show (4 : Int32) * nI 0 = nI 0 from rfl) ⟨0 + 1 + 1, ?_⟩
  refine bl_p_s (j := 0) (g := g) hk hh (by decide) (by decide) e1 e3 ?_
  refine bl_p_e (by decide) (by decide) ?_
  rw [Nat.zero_add]
  exact hp
theorem bl_place1 {post : Int32 → Prop} {k g x : Nat} {c d : Int32} (hk : k < 4) (hb : bl_b a1 a2 a3 a4 a5 k [(g, c), (x, d)]) (hp : post (nI (4 + g + x))) : wpX_place post (fl, fg, a1, a2, a3, a4, a5, a6, a7, a8, a9, a10, a11, a12) (nI k) (nI 1) := by
  obtain ⟨h, hh, e1, e2, e5, hg, e3, e4, f3, f4⟩ := hb
  unfold wpX_place
  dsimp only
  refine bl_bad hk (br_t rfl (br_f (nI_pos (by decide)) ⟨pk_in k 4 hk, ?_⟩))
  rw [nI_clamp (show k < 2 ^ 31 by omega)]
  refine pk_lt 1 2 (fun _ => ?_) (fun z => absurd z (by omega)) rfl e2
  unfold wpX_placeOf
  dsimp only
  refine nm_r (show (4 : Int32) * nI 1 = nI 4 from rfl) ⟨0 + 1 + 1 + 1, ?_⟩
  refine bl_p_s (j := 0) (g := g) hk hh (by decide) (by decide) e1 e3 ?_
  refine bl_p_s (j := 1) (g := x) hk hh (by decide) (by decide) e1 f3 ?_
  exact bl_p_e (by decide) (by decide) hp
/-- the place of an item that isn't there -/
theorem bl_placeN {post : Int32 → Prop} {k i : Nat} {xs : List (Nat × Int32)} (hk : k < 4) (hb : bl_b a1 a2 a3 a4 a5 k xs) (hi : xs.length ≤ i) (hi2 : i ≤ 2) (hp : post (-4)) : wpX_place post (fl, fg, a1, a2, a3, a4, a5, a6, a7, a8, a9, a10, a11, a12) (nI k) (nI i) := by
  unfold wpX_place
  dsimp only
  refine bl_bad hk (br_t rfl (br_f (nI_pos (by omega)) ⟨pk_in k 4 hk, ?_⟩))
  rw [nI_clamp (show k < 2 ^ 31 by omega)]
  have h2 := (bl_len hb).2
  exact pk_lt i xs.length (fun z => absurd z (by omega)) (fun _ => hp) rfl (bl_len hb).1
theorem bl_put {post : Int32 → St2 → Prop} {k l : Nat} {c : Int32} {xs ys : List (Nat × Int32)} (hf : fl = nI l) (hk : k < 4) (hl : 8 ≤ l) (hl2 : l ≤ 60) (hc : ¬ c < 0) (hc7 : c ≤ 7) (hb : bl_b a1 a2 a3 a4 a5 k xs)
    (hx : (xs = [] ∧ ys = [(l, c)]) ∨ ∃ x d, xs = [(x, d)] ∧ x + 4 ≤ l ∧ ys = [(x, d), (l - x - 4, c)])
    (hp : ∀ b1 b2 b3 b4 b5, bl_F k a1 a2 a3 a4 a5 b1 b2 b3 b4 b5 → bl_b b1 b2 b3 b4 b5 k ys → post (nI ys.length) (fl, fg, b1, b2, b3, b4, b5, a6, a7, a8, a9, a10, a11, a12)) : wpX_put post (fl, fg, a1, a2, a3, a4, a5, a6, a7, a8, a9, a10, a11, a12) (nI k) c := by
  unfold wpX_put
  dsimp only
  refine bl_bad hk (br_t rfl (br_f hc (br_t hc7 ?_)))
  have fin : ∀ b1 b2 b3 b4 b5, bl_F k a1 a2 a3 a4 a5 b1 b2 b3 b4 b5 → bl_b b1 b2 b3 b4 b5 k ys → (vp_in (nI k) 4 ∧ post (b2 (nI k).toNatClampNeg) (fl, fg, b1, b2, b3, b4, b5, a6, a7, a8, a9, a10, a11, a12)) := by
    intro b1 b2 b3 b4 b5 hF hy
    refine ⟨pk_in k 4 hk, ?_⟩
    rw [nI_clamp (show k < 2 ^ 31 by omega), (bl_len hy).1]
    exact hp _ _ _ _ _ hF hy
  rcases hx with ⟨e, e'⟩ | ⟨x, d, e, hx, e'⟩
  · subst e
    subst e'
    exact bl_room0 hk hb (br_f (by decide) (bl_app0 hf hk hl2 hb fin))
  · subst e
    subst e'
    exact bl_room1 hf hk hl hl2 hb hx (br_f (by decide) (bl_app1 hf hk hl2 hx hb fin))
theorem bl_putN {post : Int32 → St2 → Prop} {k l x y : Nat} {c d e : Int32} (hf : fl = nI l) (hk : k < 4) (hl : 8 ≤ l) (hl2 : l ≤ 60) (hc : ¬ c < 0) (hc7 : c ≤ 7) (hb : bl_b a1 a2 a3 a4 a5 k [(x, d), (y, e)]) (hx : l < x + y + 8)
    (hp : post (-3) (fl, fg, a1, a2, a3, a4, a5, a6, a7, a8, a9, a10, a11, a12)) : wpX_put post (fl, fg, a1, a2, a3, a4, a5, a6, a7, a8, a9, a10, a11, a12) (nI k) c := by
  unfold wpX_put
  dsimp only
  refine bl_bad hk (br_t rfl (br_f hc (br_t hc7 ?_)))
  exact bl_room2 hf hk hl hl2 hb hx (br_t rfl hp)
end
end
section
section
variable {fl fg : Int32} {a1 a2 a3 a4 a5 a6 a7 a8 a9 a10 a11 a12 : Nat → Int32}
/-- an item of kind c comes to the start of a belt that holds xs: then it holds ys -/
def bl_ap (l : Nat) (c : Int32) (xs ys : List (Nat × Int32)) : Prop := (xs = [] ∧ ys = [(l, c)]) ∨ ∃ x d, xs = [(x, d)] ∧ x + 4 ≤ l ∧ ys = [(x, d), (l - x - 4, c)]
theorem bl_rA {post : Int32 → Prop} {k l : Nat} {c : Int32} {xs ys : List (Nat × Int32)} (hf : fl = nI l) (hk : k < 4) (hl : 8 ≤ l) (hl2 : l ≤ 60) (hb : bl_b a1 a2 a3 a4 a5 k xs) (hx : bl_ap l c xs ys) (hp : post 1) : wpX_hasRoom post (fl, fg, a1, a2, a3, a4, a5, a6, a7, a8, a9, a10, a11, a12) (nI k) := by
  rcases hx with ⟨e, e'⟩ | ⟨x, d, e, hx, e'⟩
  · subst e
    exact bl_room0 hk hb hp
  · subst e
    exact bl_room1 hf hk hl hl2 hb hx hp
theorem bl_aA {post : St2 → Prop} {k l : Nat} {c : Int32} {xs ys : List (Nat × Int32)} (hf : fl = nI l) (hk : k < 4) (hl2 : l ≤ 60) (hb : bl_b a1 a2 a3 a4 a5 k xs) (hx : bl_ap l c xs ys)
    (hp : ∀ b1 b2 b3 b4 b5, bl_F k a1 a2 a3 a4 a5 b1 b2 b3 b4 b5 → bl_b b1 b2 b3 b4 b5 k ys → post (fl, fg, b1, b2, b3, b4, b5, a6, a7, a8, a9, a10, a11, a12)) : wpX_append post (fl, fg, a1, a2, a3, a4, a5, a6, a7, a8, a9, a10, a11, a12) (nI k) c := by
  rcases hx with ⟨e, e'⟩ | ⟨x, d, e, hx, e'⟩
  · subst e
    subst e'
    exact bl_app0 hf hk hl2 hb hp
  · subst e
    subst e'
    exact bl_app1 hf hk hl2 hx hb hp
/-- what is left when the first item is taken off -/
def bl_pop : List (Nat × Int32) → List (Nat × Int32)
  | (g, _) :: (x, d) :: r => (x + (g + 4), d) :: r
  | _ => []
theorem bl_rm {post : Int32 → St2 → Prop} {k g : Nat} {c : Int32} {r : List (Nat × Int32)} (hk : k < 4) (hb : bl_b a1 a2 a3 a4 a5 k ((g, c) :: r))
    (hp : ∀ b1 b2 b3 b4 b5, bl_F k a1 a2 a3 a4 a5 b1 b2 b3 b4 b5 → bl_b b1 b2 b3 b4 b5 k (bl_pop ((g, c) :: r)) → post c (fl, fg, b1, b2, b3, b4, b5, a6, a7, a8, a9, a10, a11, a12)) : wpX_removeItem_2 post (fl, fg, a1, a2, a3, a4, a5, a6, a7, a8, a9, a10, a11, a12) (nI k) (nI 0) := by
  match r, hb, hp with
  | [], hb, hp => exact bl_rm1 hk hb hp
  | [(x, d)], hb, hp => exact bl_rm2 hk hb hp
  | (x, d) :: y :: r, hb, hp => exact False.elim hb
theorem bl_po0 {post : St2 → Prop} {k : Nat} {xs : List (Nat × Int32)} (hk : k < 4) (hb : bl_b a1 a2 a3 a4 a5 k xs) (he : ∀ c r, xs ≠ (0, c) :: r) (hp : post (fl, fg, a1, a2, a3, a4, a5, a6, a7, a8, a9, a10, a11, a12)) : wpX_passOn post (fl, fg, a1, a2, a3, a4, a5, a6, a7, a8, a9, a10, a11, a12) (nI k) := by
  unfold wpX_passOn
  dsimp only
  exact bl_ae0 hk hb he (br_t rfl hp)
theorem bl_po1 {post : St2 → Prop} {k : Nat} {xs : List (Nat × Int32)} (hk : k < 4) (hb : bl_b a1 a2 a3 a4 a5 k xs) (h6 : a6 k = -1) (hp : post (fl, fg, a1, a2, a3, a4, a5, a6, a7, a8, a9, a10, a11, a12)) : wpX_passOn post (fl, fg, a1, a2, a3, a4, a5, a6, a7, a8, a9, a10, a11, a12) (nI k) := by
  have ck : (nI k).toNatClampNeg = k := nI_clamp (by omega)
  rcases Classical.em (∃ c r, xs = (0, c) :: r) with ⟨c, r, e⟩ | e
  · subst e
    unfold wpX_passOn
    dsimp only
    exact bl_ae1 hk hb (br_f (by decide) ⟨pk_in k 4 hk, nm_r ((congrArg a6 ck).trans h6) (br_f (by decide) (br_t (by decide) hp))⟩)
  · exact bl_po0 hk hb (fun c r e' => e ⟨c, r, e'⟩) hp
theorem bl_po2 {post : St2 → Prop} {k : Nat} {c : Int32} {r : List (Nat × Int32)} (hk : k < 4) (hb : bl_b a1 a2 a3 a4 a5 k ((0, c) :: r)) (h6 : a6 k = -2)
    (hp : ∀ b1 b2 b3 b4 b5, bl_F k a1 a2 a3 a4 a5 b1 b2 b3 b4 b5 → bl_b b1 b2 b3 b4 b5 k (bl_pop ((0, c) :: r)) → post (fl, fg + 1, b1, b2, b3, b4, b5, a6, a7, a8, a9, a10, a11, a12)) : wpX_passOn post (fl, fg, a1, a2, a3, a4, a5, a6, a7, a8, a9, a10, a11, a12) (nI k) := by
  have ck : (nI k).toNatClampNeg = k := nI_clamp (by omega)
  unfold wpX_passOn
  dsimp only
  refine bl_ae1 hk hb (br_f (by decide) ⟨pk_in k 4 hk, nm_r ((congrArg a6 ck).trans h6) (br_t rfl ?_)⟩)
  refine bl_rm hk hb (fun b1 b2 b3 b4 b5 hF hb' => ?_)
  exact nm_e (hp _ _ _ _ _ hF hb')
theorem bl_4a : ∀ j, j < 4 → ¬ nI j = -2 := by decide +kernel
/-- belt a holds A, belt b holds C, the other two are empty -/
def bl_Q (a b : Nat) (A C : List (Nat × Int32)) (a1 a2 a3 a4 a5 : Nat → Int32) : Prop := bl_b a1 a2 a3 a4 a5 a A ∧ bl_b a1 a2 a3 a4 a5 b C ∧ ∀ j, j < 4 → j ≠ a → j ≠ b → bl_b a1 a2 a3 a4 a5 j []
theorem bl_Qs {a b : Nat} {A C : List (Nat × Int32)} (h : bl_Q a b A C a1 a2 a3 a4 a5) : bl_Q b a C A a1 a2 a3 a4 a5 := ⟨h.2.1, h.1, fun j hj p q => h.2.2 j hj q p⟩
theorem bl_Qa {a b : Nat} {A A' C : List (Nat × Int32)} {b1 b2 b3 b4 b5 : Nat → Int32} (hab : a ≠ b) (h : bl_Q a b A C a1 a2 a3 a4 a5) (hF : bl_F a a1 a2 a3 a4 a5 b1 b2 b3 b4 b5) (hb : bl_b b1 b2 b3 b4 b5 a A') : bl_Q a b A' C b1 b2 b3 b4 b5 :=
  ⟨hb, bl_fr (fun e => hab e.symm) hF h.2.1, fun j hj p q => bl_fr p hF (h.2.2 j hj p q)⟩
theorem bl_Qb {a b : Nat} {A C C' : List (Nat × Int32)} {b1 b2 b3 b4 b5 : Nat → Int32} (hab : a ≠ b) (h : bl_Q a b A C a1 a2 a3 a4 a5) (hF : bl_F b a1 a2 a3 a4 a5 b1 b2 b3 b4 b5) (hb : bl_b b1 b2 b3 b4 b5 b C') : bl_Q a b A C' b1 b2 b3 b4 b5 :=
  ⟨bl_fr hab hF h.1, hb, fun j hj p q => bl_fr q hF (h.2.2 j hj p q)⟩
theorem bl_Qi {a b k : Nat} {A C : List (Nat × Int32)} {b1 b2 b3 b4 b5 : Nat → Int32} (ha : k ≠ a) (hb : k ≠ b) (h : bl_Q a b A C a1 a2 a3 a4 a5) (hF : bl_F k a1 a2 a3 a4 a5 b1 b2 b3 b4 b5) (hk : bl_b b1 b2 b3 b4 b5 k []) : bl_Q a b A C b1 b2 b3 b4 b5 := by
  refine ⟨bl_fr (fun e => ha e.symm) hF h.1, bl_fr (fun e => hb e.symm) hF h.2.1, fun j hj p q => ?_⟩
  rcases Classical.em (j = k) with e | e
  · rw [e]
    exact hk
  · exact bl_fr e hF (h.2.2 j hj p q)
theorem bl_po3 {post : St2 → Prop} {k j l : Nat} {c : Int32} {r ys zs : List (Nat × Int32)} (hf : fl = nI l) (hl : 8 ≤ l) (hl2 : l ≤ 60) (hk : k < 4) (hj : j < 4) (hkj : k ≠ j) (hQ : bl_Q k j ((0, c) :: r) ys a1 a2 a3 a4 a5) (h6 : a6 k = nI j) (hx : bl_ap l c ys zs)
    (hp : ∀ b1 b2 b3 b4 b5, bl_Q k j (bl_pop ((0, c) :: r)) zs b1 b2 b3 b4 b5 → post (fl, fg, b1, b2, b3, b4, b5, a6, a7, a8, a9, a10, a11, a12)) : wpX_passOn post (fl, fg, a1, a2, a3, a4, a5, a6, a7, a8, a9, a10, a11, a12) (nI k) := by
  have ck : (nI k).toNatClampNeg = k := nI_clamp (by omega)
  unfold wpX_passOn
  dsimp only
  refine bl_ae1 hk hQ.1 (br_f (by decide) ⟨pk_in k 4 hk, nm_r ((congrArg a6 ck).trans h6) (br_f (bl_4a j hj) (br_f (nI_pos (by omega)) ?_))⟩)
  refine bl_rA hf hj hl hl2 hQ.2.1 hx (br_f (by decide) ?_)
  refine bl_rm hk hQ.1 (fun b1 b2 b3 b4 b5 hF hb' => ?_)
  have hQ' := bl_Qa hkj hQ hF hb'
  refine bl_aA hf hj hl2 hQ'.2.1 hx (fun c1 c2 c3 c4 c5 hF' hb2 => ?_)
  exact hp _ _ _ _ _ (bl_Qb hkj hQ' hF' hb2)
end
end
section
/-- one turn of the belts' loop: belt k -/
def bl_st (l a b : Nat) (a6 : Nat → Int32) (k g : Nat) (A C : List (Nat × Int32)) (g' : Nat) (A' C' : List (Nat × Int32)) : Prop :=
  ∀ (post : St2 → Prop) (n : Nat) (a1 a2 a3 a4 a5 a7 a8 a9 a10 a11 a12 : Nat → Int32), bl_Q a b A C a1 a2 a3 a4 a5 → (∀ b1 b2 b3 b4 b5, bl_Q a b A' C' b1 b2 b3 b4 b5 → wX_tickOnce_2 post n (nI (k + 1)) (nI l) (nI g') b1 b2 b3 b4 b5 a6 a7 a8 a9 a10 a11 a12) → wX_tickOnce_2 post (n + 1) (nI k) (nI l) (nI g) a1 a2 a3 a4 a5 a6 a7 a8 a9 a10 a11 a12
theorem bl_st_s {l a b : Nat} {a6 : Nat → Int32} {k g : Nat} {A C : List (Nat × Int32)} {g' : Nat} {A' C' : List (Nat × Int32)} (h : bl_st l b a a6 k g C A g' C' A') : bl_st l a b a6 k g A C g' A' C' :=
  fun post n a1 a2 a3 a4 a5 a7 a8 a9 a10 a11 a12 hQ hp => h post n a1 a2 a3 a4 a5 a7 a8 a9 a10 a11 a12 (bl_Qs hQ) (fun b1 b2 b3 b4 b5 hQ' => hp b1 b2 b3 b4 b5 (bl_Qs hQ'))
theorem bl_st_i {l a b : Nat} {a6 : Nat → Int32} {k g : Nat} {A C : List (Nat × Int32)} (hk : k < 4) (ha : k ≠ a) (hb : k ≠ b) : bl_st l a b a6 k g A C g A C := by
  intro post n a1 a2 a3 a4 a5 a7 a8 a9 a10 a11 a12 hQ hp
  have hb0 := hQ.2.2 k hk ha hb
  refine pk_le 4 k (fun z => absurd z (by omega)) (fun _ => ?_)
  refine bl_po0 hk hb0 (fun c r e => by cases e) ?_
  refine bl_adv hk hb0 (fun b1 b2 b3 b4 b5 hF hb' => ?_)
  exact nm_r (nI_1 k) (hp _ _ _ _ _ (bl_Qi ha hb hQ hF hb'))
/-- nothing leaves belt a -/
theorem bl_st_p {l a b : Nat} {a6 : Nat → Int32} {g : Nat} {A C : List (Nat × Int32)} (ha : a < 4) (hab : a ≠ b) (h : (∀ c r, A ≠ (0, c) :: r) ∨ a6 a = -1) : bl_st l a b a6 a g A C g (bl_dec A) C := by
  intro post n a1 a2 a3 a4 a5 a7 a8 a9 a10 a11 a12 hQ hp
  refine pk_le 4 a (fun z => absurd z (by omega)) (fun _ => ?_)
  rcases h with h | h
  · refine bl_po0 ha hQ.1 h ?_
    refine bl_adv ha hQ.1 (fun b1 b2 b3 b4 b5 hF hb' => ?_)
    exact nm_r (nI_1 a) (hp _ _ _ _ _ (bl_Qa hab hQ hF hb'))
  · refine bl_po1 ha hQ.1 h ?_
    refine bl_adv ha hQ.1 (fun b1 b2 b3 b4 b5 hF hb' => ?_)
    exact nm_r (nI_1 a) (hp _ _ _ _ _ (bl_Qa hab hQ hF hb'))
/-- the first item of belt a leaves -/
theorem bl_st_o {l a b : Nat} {a6 : Nat → Int32} {g : Nat} {c : Int32} {r C : List (Nat × Int32)} (ha : a < 4) (hab : a ≠ b) (h : a6 a = -2) : bl_st l a b a6 a g ((0, c) :: r) C (g + 1) (bl_dec (bl_pop ((0, c) :: r))) C := by
  intro post n a1 a2 a3 a4 a5 a7 a8 a9 a10 a11 a12 hQ hp
  refine pk_le 4 a (fun z => absurd z (by omega)) (fun _ => ?_)
  refine bl_po2 ha hQ.1 h (fun b1 b2 b3 b4 b5 hF hb => ?_)
  have hQ' := bl_Qa hab hQ hF hb
  refine bl_adv ha hb (fun c1 c2 c3 c4 c5 hF' hb' => ?_)
  rw [nI_1 g]
  exact nm_r (nI_1 a) (hp _ _ _ _ _ (bl_Qa hab hQ' hF' hb'))
/-- the first item of belt a goes to belt b -/
theorem bl_st_q {l a b : Nat} {a6 : Nat → Int32} {g : Nat} {c : Int32} {r C C' : List (Nat × Int32)} (hl : 8 ≤ l) (hl2 : l ≤ 60) (ha : a < 4) (hb : b < 4) (hab : a ≠ b) (h : a6 a = nI b) (hx : bl_ap l c C C') : bl_st l a b a6 a g ((0, c) :: r) C g (bl_dec (bl_pop ((0, c) :: r))) C' := by
  intro post n a1 a2 a3 a4 a5 a7 a8 a9 a10 a11 a12 hQ hp
  refine pk_le 4 a (fun z => absurd z (by omega)) (fun _ => ?_)
  refine bl_po3 rfl hl hl2 ha hb hab hQ h hx (fun b1 b2 b3 b4 b5 hQ' => ?_)
  refine bl_adv ha hQ'.1 (fun c1 c2 c3 c4 c5 hF' hb' => ?_)
  exact nm_r (nI_1 a) (hp _ _ _ _ _ (bl_Qa hab hQ' hF' hb'))
/-- the belts' part of a tick -/
def bl_tk (l a b : Nat) (a6 : Nat → Int32) (g : Nat) (A C : List (Nat × Int32)) (g' : Nat) (A' C' : List (Nat × Int32)) : Prop :=
  ∀ (post : St2 → Prop) (a1 a2 a3 a4 a5 a7 a8 a9 a10 a11 a12 : Nat → Int32), bl_Q a b A C a1 a2 a3 a4 a5 → (∀ b1 b2 b3 b4 b5, bl_Q a b A' C' b1 b2 b3 b4 b5 → ∃ fu, wX_tickOnce_25 post fu 0 (nI l) (nI g') b1 b2 b3 b4 b5 a6 a7 a8 a9 a10 a11 a12) → wpX_tickOnce post (nI l, nI g, a1, a2, a3, a4, a5, a6, a7, a8, a9, a10, a11, a12)
theorem bl_tk_s {l a b : Nat} {a6 : Nat → Int32} {g : Nat} {A C : List (Nat × Int32)} {g' : Nat} {A' C' : List (Nat × Int32)} (h : bl_tk l b a a6 g C A g' C' A') : bl_tk l a b a6 g A C g' A' C' :=
  fun post a1 a2 a3 a4 a5 a7 a8 a9 a10 a11 a12 hQ hp => h post a1 a2 a3 a4 a5 a7 a8 a9 a10 a11 a12 (bl_Qs hQ) (fun b1 b2 b3 b4 b5 hQ' => hp b1 b2 b3 b4 b5 (bl_Qs hQ'))
theorem bl_ch {l a b : Nat} {a6 : Nat → Int32} {g0 g1 g2 g3 g4 : Nat} {A0 A1 A2 A3 A4 C0 C1 C2 C3 C4 : List (Nat × Int32)} (s0 : bl_st l a b a6 0 g0 A0 C0 g1 A1 C1) (s1 : bl_st l a b a6 1 g1 A1 C1 g2 A2 C2) (s2 : bl_st l a b a6 2 g2 A2 C2 g3 A3 C3) (s3 : bl_st l a b a6 3 g3 A3 C3 g4 A4 C4) : bl_tk l a b a6 g0 A0 C0 g4 A4 C4 := by
  intro post a1 a2 a3 a4 a5 a7 a8 a9 a10 a11 a12 hQ hp
  unfold wpX_tickOnce
  dsimp only
  refine ⟨0 + 1 + 1 + 1 + 1 + 1, ?_⟩
  refine s0 post _ _ _ _ _ _ _ _ _ _ _ _ hQ (fun b1 b2 b3 b4 b5 hQ => ?_)
  refine s1 post _ _ _ _ _ _ _ _ _ _ _ _ hQ (fun b1 b2 b3 b4 b5 hQ => ?_)
  refine s2 post _ _ _ _ _ _ _ _ _ _ _ _ hQ (fun b1 b2 b3 b4 b5 hQ => ?_)
  refine s3 post _ _ _ _ _ _ _ _ _ _ _ _ hQ (fun b1 b2 b3 b4 b5 hQ => ?_)
  exact pk_le 4 4 (fun _ => hp _ _ _ _ _ hQ) (fun z => absurd z (by omega))
theorem bl_tk_ab {l a b : Nat} {a6 : Nat → Int32} {g0 g1 g2 : Nat} {A0 A1 A2 C0 C1 C2 : List (Nat × Int32)} (hab : a < b) (hb : b < 4) (sa : bl_st l a b a6 a g0 A0 C0 g1 A1 C1) (sb : bl_st l a b a6 b g1 A1 C1 g2 A2 C2) : bl_tk l a b a6 g0 A0 C0 g2 A2 C2 := by
  have hc : (a = 0 ∧ b = 1) ∨ (a = 0 ∧ b = 2) ∨ (a = 0 ∧ b = 3) ∨ (a = 1 ∧ b = 2) ∨ (a = 1 ∧ b = 3) ∨ (a = 2 ∧ b = 3) := by omega
  rcases hc with ⟨rfl, rfl⟩ | ⟨rfl, rfl⟩ | ⟨rfl, rfl⟩ | ⟨rfl, rfl⟩ | ⟨rfl, rfl⟩ | ⟨rfl, rfl⟩
  · exact bl_ch sa sb (bl_st_i (by decide) (by decide) (by decide)) (bl_st_i (by decide) (by decide) (by decide))
  · exact bl_ch sa (bl_st_i (by decide) (by decide) (by decide)) sb (bl_st_i (by decide) (by decide) (by decide))
  · exact bl_ch sa (bl_st_i (by decide) (by decide) (by decide)) (bl_st_i (by decide) (by decide) (by decide)) sb
  · exact bl_ch (bl_st_i (by decide) (by decide) (by decide)) sa sb (bl_st_i (by decide) (by decide) (by decide))
  · exact bl_ch (bl_st_i (by decide) (by decide) (by decide)) sa (bl_st_i (by decide) (by decide) (by decide)) sb
  · exact bl_ch (bl_st_i (by decide) (by decide) (by decide)) (bl_st_i (by decide) (by decide) (by decide)) sa sb
theorem bl_tk_ba {l a b : Nat} {a6 : Nat → Int32} {g0 g1 g2 : Nat} {A0 A1 A2 C0 C1 C2 : List (Nat × Int32)} (hba : b < a) (ha : a < 4) (sb : bl_st l a b a6 b g0 A0 C0 g1 A1 C1) (sa : bl_st l a b a6 a g1 A1 C1 g2 A2 C2) : bl_tk l a b a6 g0 A0 C0 g2 A2 C2 :=
  bl_tk_s (bl_tk_ab hba ha (bl_st_s sb) (bl_st_s sa))
/-- nothing leaves either belt -/
theorem bl_tk_p {l a b : Nat} {a6 : Nat → Int32} {g : Nat} {A C : List (Nat × Int32)} (ha : a < 4) (hb : b < 4) (hab : a ≠ b) (hA : (∀ c r, A ≠ (0, c) :: r) ∨ a6 a = -1) (hC : (∀ c r, C ≠ (0, c) :: r) ∨ a6 b = -1) : bl_tk l a b a6 g A C g (bl_dec A) (bl_dec C) := by
  have hba : b ≠ a := fun e => hab e.symm
  rcases Nat.lt_or_ge a b with h | h
  · exact bl_tk_ab h hb (bl_st_p ha hab hA) (bl_st_s (bl_st_p hb hba hC))
  · exact bl_tk_ba (by omega) ha (bl_st_s (bl_st_p hb hba hC)) (bl_st_p ha hab hA)
/-- belt b lets its first item go -/
theorem bl_tk_o {l a b : Nat} {a6 : Nat → Int32} {g : Nat} {c : Int32} {A r : List (Nat × Int32)} (ha : a < 4) (hb : b < 4) (hab : a ≠ b) (hA : (∀ c r, A ≠ (0, c) :: r) ∨ a6 a = -1) (hC : a6 b = -2) : bl_tk l a b a6 g A ((0, c) :: r) (g + 1) (bl_dec A) (bl_dec (bl_pop ((0, c) :: r))) := by
  have hba : b ≠ a := fun e => hab e.symm
  rcases Nat.lt_or_ge a b with h | h
  · exact bl_tk_ab h hb (bl_st_p ha hab hA) (bl_st_s (bl_st_o hb hba hC))
  · exact bl_tk_ba (by omega) ha (bl_st_s (bl_st_o hb hba hC)) (bl_st_p ha hab hA)
/-- belt a hands its first item to belt b, a before b -/
theorem bl_tk_qa {l a b : Nat} {a6 : Nat → Int32} {g : Nat} {c : Int32} {r C C' : List (Nat × Int32)} (hl : 8 ≤ l) (hl2 : l ≤ 60) (h : a < b) (hb : b < 4) (hA : a6 a = nI b) (hx : bl_ap l c C C') (hC : a6 b = -1) : bl_tk l a b a6 g ((0, c) :: r) C g (bl_dec (bl_pop ((0, c) :: r))) (bl_dec C') :=
  bl_tk_ab h hb (bl_st_q hl hl2 (by omega) hb (by omega) hA hx) (bl_st_s (bl_st_p hb (by omega) (Or.inr hC)))
theorem bl_tk_qb {l a b : Nat} {a6 : Nat → Int32} {g : Nat} {c : Int32} {r C C' : List (Nat × Int32)} (hl : 8 ≤ l) (hl2 : l ≤ 60) (h : b < a) (ha : a < 4) (hA : a6 a = nI b) (hx : bl_ap l c (bl_dec C) C') (hC : a6 b = -1) : bl_tk l a b a6 g ((0, c) :: r) C g (bl_dec (bl_pop ((0, c) :: r))) C' :=
  bl_tk_ba h ha (bl_st_s (bl_st_p (by omega) (by omega) (Or.inr hC))) (bl_st_q hl hl2 ha (by omega) (by omega) hA hx)
end
section
section
variable {fl fg : Int32} {a1 a2 a3 a4 a5 a6 a7 a8 a9 a10 a11 a12 : Nat → Int32}
theorem bl_c1 : (nI 1).toNatClampNeg = 1 := nI_clamp (by decide)
theorem bl_w_e {post : Int32 → Prop} {n k i : Nat} {x3 : Int32} (hk : k < 4) (e2 : a2 k = nI i) (hi : i ≤ 2) (hp : post (-1)) : wX_withinReach_13 post (nI 1) (nI k) fl fg a1 a2 a3 a4 a5 a6 a7 a8 a9 a10 a11 a12 (n + 1) x3 (nI i) := by
  refine And.intro (pk_in k 4 hk) ?_
  rw [nI_clamp (show k < 2 ^ 31 by omega)]
  exact pk_le i i (fun _ => hp) (fun z => absurd z (by omega)) e2 rfl
/-- an item of a kind that the arm doesn't take -/
theorem bl_w_n {post : Int32 → Prop} {n k i h m g : Nat} {x3 c km : Int32} (hk : k < 4) (hh : h < 16) (e1 : a1 k = nI h) (e2 : a2 k = nI m) (hm : m ≤ 2) (hi : i < m) (e3 : a3 (bl_s k h i) = nI g) (e4 : a4 (bl_s k h i) = c) (e11 : a11 1 = km) (hw : ¬ ((km >>> (c &&& 31)) &&& 1) = 1)
    (hp : wX_withinReach_13 post (nI 1) (nI k) fl fg a1 a2 a3 a4 a5 a6 a7 a8 a9 a10 a11 a12 n (x3 + (nI g + 4)) (nI (i + 1))) : wX_withinReach_13 post (nI 1) (nI k) fl fg a1 a2 a3 a4 a5 a6 a7 a8 a9 a10 a11 a12 (n + 1) x3 (nI i) := by
  have h64 : bl_s k h i < 64 := bl_s64 hk
  refine And.intro (pk_in k 4 hk) ?_
  rw [nI_clamp (show k < 2 ^ 31 by omega)]
  refine pk_le m i (fun z => absurd z (by omega)) (fun _ => ?_) e2 rfl
  refine bl_slot i hk hh (by omega) e1 ?_
  rw [nI_clamp (show bl_s k h i < 2 ^ 31 by omega), bl_c1, e3, e4, e11]
  refine ⟨pk_in _ 64 h64, nm_e ⟨pk_in 1 2 (by decide), pk_in _ 64 h64, br_f hw ?_⟩⟩
  unfold wX_withinReach_70
  exact br_t rfl (nm_r (nI_1 i) hp)
/-- an item of a kind that the arm takes, at place w -/
theorem bl_w_y {post : Int32 → Prop} {n k i h m g w r : Nat} {x3 c km : Int32} (hk : k < 4) (hh : h < 16) (e1 : a1 k = nI h) (e2 : a2 k = nI m) (hm : m ≤ 2) (hi : i < m) (e3 : a3 (bl_s k h i) = nI g) (e4 : a4 (bl_s k h i) = c) (e11 : a11 1 = km) (hw : ((km >>> (c &&& 31)) &&& 1) = 1)
    (ew : x3 + (nI g + 4) = nI w) (hw2 : w ≤ 1000) (e10 : a10 1 = nI r) (hr : r ≤ 1000)
    (hy : r ≤ w → w ≤ r + 3 → post (nI i)) (hn : (w < r ∨ r + 3 < w) → wX_withinReach_13 post (nI 1) (nI k) fl fg a1 a2 a3 a4 a5 a6 a7 a8 a9 a10 a11 a12 n (nI w) (nI (i + 1))) : wX_withinReach_13 post (nI 1) (nI k) fl fg a1 a2 a3 a4 a5 a6 a7 a8 a9 a10 a11 a12 (n + 1) x3 (nI i) := by
  have h64 : bl_s k h i < 64 := bl_s64 hk
  refine And.intro (pk_in k 4 hk) ?_
  rw [nI_clamp (show k < 2 ^ 31 by omega)]
  refine pk_le m i (fun z => absurd z (by omega)) (fun _ => ?_) e2 rfl
  refine bl_slot i hk hh (by omega) e1 ?_
  rw [nI_clamp (show bl_s k h i < 2 ^ 31 by omega), bl_c1, e3, e4, e11]
  refine ⟨pk_in _ 64 h64, nm_r ew ⟨pk_in 1 2 (by decide), pk_in _ 64 h64, br_t hw ?_⟩⟩
  unfold wX_withinReach_70
  refine br_f (by decide) ⟨pk_in 1 2 (by decide), ?_⟩
  rw [bl_c1, e10]
  refine pk_lt w r (fun z => nm_r (nI_1 i) (hn (Or.inl z))) (fun z => ⟨pk_in 1 2 (by decide), ?_⟩)
  exact pk_lt (r + 3) w (fun z2 => nm_r (nI_1 i) (hn (Or.inr z2))) (fun z2 => hy z z2) (nI_add r 3) rfl
theorem bl_wr0 {post : Int32 → Prop} {k : Nat} (hk : k < 4) (hb : bl_b a1 a2 a3 a4 a5 k []) (e8 : a8 1 = nI k) (hp : post (-1)) : wpX_withinReach post (fl, fg, a1, a2, a3, a4, a5, a6, a7, a8, a9, a10, a11, a12) (nI 1) := by
  obtain ⟨h, hh, e1, e2, e5⟩ := hb
  unfold wpX_withinReach
  dsimp only
  exact ⟨pk_in 1 2 (by decide), nm_r ((congrArg a8 bl_c1).trans e8) ⟨0 + 1, bl_w_e (i := 0) hk e2 (by decide) hp⟩⟩
theorem bl_wr1 {post : Int32 → Prop} {k g : Nat} {c km : Int32} (hk : k < 4) (hb : bl_b a1 a2 a3 a4 a5 k [(g, c)]) (e8 : a8 1 = nI k) (e11 : a11 1 = km) (hw : ¬ ((km >>> (c &&& 31)) &&& 1) = 1) (hp : post (-1)) : wpX_withinReach post (fl, fg, a1, a2, a3, a4, a5, a6, a7, a8, a9, a10, a11, a12) (nI 1) := by
  obtain ⟨h, hh, e1, e2, e5, hg, e3, e4⟩ := hb
  unfold wpX_withinReach
  dsimp only
  exact ⟨pk_in 1 2 (by decide), nm_r ((congrArg a8 bl_c1).trans e8) ⟨0 + 1 + 1, bl_w_n (i := 0) hk hh e1 e2 (by decide) (by decide) e3 e4 e11 hw (bl_w_e (i := 1) hk e2 (by decide) hp)⟩⟩
/-- two items, the arm takes the kind of the second alone -/
theorem bl_wr2 {post : Int32 → Prop} {k g x r : Nat} {c d km : Int32} (hk : k < 4) (hb : bl_b a1 a2 a3 a4 a5 k [(g, c), (x, d)]) (e8 : a8 1 = nI k) (e11 : a11 1 = km) (hw : ¬ ((km >>> (c &&& 31)) &&& 1) = 1) (hd : ((km >>> (d &&& 31)) &&& 1) = 1) (e10 : a10 1 = nI r) (hr : r ≤ 1000)
    (hy : r ≤ g + x + 4 → g + x + 4 ≤ r + 3 → post (nI 1)) (hn : (g + x + 4 < r ∨ r + 3 < g + x + 4) → post (-1)) : wpX_withinReach post (fl, fg, a1, a2, a3, a4, a5, a6, a7, a8, a9, a10, a11, a12) (nI 1) := by
  obtain ⟨h, hh, e1, e2, e5, hg, e3, e4, f3, f4⟩ := hb
  unfold wpX_withinReach
  dsimp only
  refine ⟨pk_in 1 2 (by decide), nm_r ((congrArg a8 bl_c1).trans e8) ⟨0 + 1 + 1 + 1, ?_⟩⟩
  refine bl_w_n (i := 0) hk hh e1 e2 (by decide) (by decide) e3 e4 e11 hw ?_
  have e : (-4 : Int32) + (nI g + 4) = nI g := by
    generalize nI g = y
    grind
  rw [e]
  refine bl_w_y (i := 1) (w := g + x + 4) hk hh e1 e2 (by decide) (by decide) f3 f4 e11 hd ?_ (by omega) e10 hr hy (fun z => bl_w_e (i := 2) hk e2 (by decide) (hn z))
  rw [show (4 : Int32) = nI 4 from rfl, nI_add, nI_add, Nat.add_assoc]
/-- the arm finds nothing -/
theorem bl_mv0 {post : St2 → Prop} (e12 : a12 1 = -4) (hw : ∀ q : Int32 → Prop, q (-1) → wpX_withinReach q (fl, fg, a1, a2, a3, a4, a5, a6, a7, a8, a9, a10, a11, a12) (nI 1)) (hp : post (fl, fg, a1, a2, a3, a4, a5, a6, a7, a8, a9, a10, a11, a12)) : wpX_moveArm post (fl, fg, a1, a2, a3, a4, a5, a6, a7, a8, a9, a10, a11, a12) (nI 1) := by
  unfold wpX_moveArm
  dsimp only
  refine ⟨pk_in 1 2 (by decide), ?_⟩
  rw [bl_c1]
  exact br_t (by rw [e12]; decide) (hw _ (br_t (by decide) hp))
/-- the arm takes the second item -/
theorem bl_mv1 {post : St2 → Prop} {k g x : Nat} {c d : Int32} (hk : k < 4) (hb : bl_b a1 a2 a3 a4 a5 k [(g, c), (x, d)]) (e8 : a8 1 = nI k) (e12 : a12 1 = -4) (hw : ∀ q : Int32 → Prop, q (nI 1) → wpX_withinReach q (fl, fg, a1, a2, a3, a4, a5, a6, a7, a8, a9, a10, a11, a12) (nI 1))
    (hp : ∀ b1 b2 b3 b4 b5, bl_F k a1 a2 a3 a4 a5 b1 b2 b3 b4 b5 → bl_b b1 b2 b3 b4 b5 k [(g, c)] → post (fl, fg, b1, b2, b3, b4, b5, a6, a7, a8, a9, a10, a11, upd a12 1 d)) : wpX_moveArm post (fl, fg, a1, a2, a3, a4, a5, a6, a7, a8, a9, a10, a11, a12) (nI 1) := by
  unfold wpX_moveArm
  dsimp only
  refine ⟨pk_in 1 2 (by decide), ?_⟩
  rw [bl_c1, e8]
  refine br_t (by rw [e12]; decide) (hw _ (br_f (nI_pos (by decide)) ⟨pk_in 1 2 (by decide), ?_⟩))
  refine bl_rm3 hk hb (fun b1 b2 b3 b4 b5 hF hb' => ?_)
  exact ⟨pk_in 1 2 (by decide), nm_e (hp _ _ _ _ _ hF hb')⟩
/-- the arm puts what it holds on an empty belt -/
theorem bl_mv2 {post : St2 → Prop} {k l : Nat} {d : Int32} (hf : fl = nI l) (hl2 : l ≤ 60) (hk : k < 4) (hb : bl_b a1 a2 a3 a4 a5 k []) (e9 : a9 1 = nI k) (e12 : a12 1 = d) (hd : ¬ d < 0)
    (hp : ∀ b1 b2 b3 b4 b5, bl_F k a1 a2 a3 a4 a5 b1 b2 b3 b4 b5 → bl_b b1 b2 b3 b4 b5 k [(l, d)] → post (fl, fg, b1, b2, b3, b4, b5, a6, a7, a8, a9, a10, a11, upd a12 1 (-4))) : wpX_moveArm post (fl, fg, a1, a2, a3, a4, a5, a6, a7, a8, a9, a10, a11, a12) (nI 1) := by
  unfold wpX_moveArm
  dsimp only
  refine ⟨pk_in 1 2 (by decide), ?_⟩
  rw [bl_c1, e9, e12]
  refine br_f hd ⟨pk_in 1 2 (by decide), ?_⟩
  refine bl_room0 hk hb (br_f (by decide) ⟨pk_in 1 2 (by decide), pk_in 1 2 (by decide), ?_⟩)
  refine bl_app0 hf hk hl2 hb (fun b1 b2 b3 b4 b5 hF hb' => ?_)
  exact ⟨pk_in 1 2 (by decide), nm_e (hp _ _ _ _ _ hF hb')⟩
/-- the arms' loop, no arm set -/
theorem bl_off {post : St2 → Prop} (e0 : a7 0 = 0) (e1 : a7 1 = 0) (hp : post (fl, fg, a1, a2, a3, a4, a5, a6, a7, a8, a9, a10, a11, a12)) : ∃ fu, wX_tickOnce_25 post fu 0 fl fg a1 a2 a3 a4 a5 a6 a7 a8 a9 a10 a11 a12 := by
  refine ⟨0 + 1 + 1 + 1, ?_⟩
  refine pk_le 2 0 (fun z => absurd z (by omega)) (fun _ => ⟨pk_in 0 2 (by decide), br_t e0 (nm_r (nI_1 0) ?_)⟩)
  refine pk_le 2 1 (fun z => absurd z (by omega)) (fun _ => ⟨pk_in 1 2 (by decide), br_t ((congrArg a7 bl_c1).trans e1) (nm_r (nI_1 1) ?_)⟩)
  exact pk_le 2 2 (fun _ => hp) (fun z => absurd z (by omega))
/-- the arms' loop, arm 1 set -/
theorem bl_on {post : St2 → Prop} {R : (Nat → Int32) → (Nat → Int32) → (Nat → Int32) → (Nat → Int32) → (Nat → Int32) → (Nat → Int32) → Prop} (e0 : a7 0 = 0) (e1 : ¬ a7 1 = 0)
    (hm : ∀ p : St2 → Prop, (∀ b1 b2 b3 b4 b5 b12, R b1 b2 b3 b4 b5 b12 → p (fl, fg, b1, b2, b3, b4, b5, a6, a7, a8, a9, a10, a11, b12)) → wpX_moveArm p (fl, fg, a1, a2, a3, a4, a5, a6, a7, a8, a9, a10, a11, a12) (nI 1))
    (hp : ∀ b1 b2 b3 b4 b5 b12, R b1 b2 b3 b4 b5 b12 → post (fl, fg, b1, b2, b3, b4, b5, a6, a7, a8, a9, a10, a11, b12)) : ∃ fu, wX_tickOnce_25 post fu 0 fl fg a1 a2 a3 a4 a5 a6 a7 a8 a9 a10 a11 a12 := by
  refine ⟨0 + 1 + 1 + 1, ?_⟩
  refine pk_le 2 0 (fun z => absurd z (by omega)) (fun _ => ⟨pk_in 0 2 (by decide), br_t e0 (nm_r (nI_1 0) ?_)⟩)
  refine pk_le 2 1 (fun z => absurd z (by omega)) (fun _ => ⟨pk_in 1 2 (by decide), br_f (fun z => e1 ((congrArg a7 bl_c1).symm.trans z)) ?_⟩)
  refine hm _ (fun b1 b2 b3 b4 b5 b12 hR => nm_r (nI_1 1) ?_)
  exact pk_le 2 2 (fun _ => hp _ _ _ _ _ _ hR) (fun z => absurd z (by omega))
end
end
section
/-- the whole state against the picture: belt a holds A and leads to la, belt b holds C and leads to lb, the other belts are empty; arm 1 -/
def bl_R (l g a b : Nat) (A C : List (Nat × Int32)) (la lb s tf pt rc km hd : Int32) (u : St2) : Prop := match u with
  | (fl, fg, a1, a2, a3, a4, a5, a6, a7, a8, a9, a10, a11, a12) => fl = nI l ∧ fg = nI g ∧ bl_Q a b A C a1 a2 a3 a4 a5 ∧ a6 a = la ∧ a6 b = lb ∧ a7 0 = 0 ∧ a7 1 = s ∧ a8 1 = tf ∧ a9 1 = pt ∧ a10 1 = rc ∧ a11 1 = km ∧ a12 0 = -4 ∧ a12 1 = hd
section
variable {fl fg : Int32} {a1 a2 a3 a4 a5 a6 a7 a8 a9 a10 a11 a12 : Nat → Int32} {la lb s tf pt rc km hd : Int32} {l g g' a b : Nat} {A C A' C' : List (Nat × Int32)}
theorem bl_RQ (h : bl_R l g a b A C la lb s tf pt rc km hd (fl, fg, a1, a2, a3, a4, a5, a6, a7, a8, a9, a10, a11, a12)) : bl_Q a b A C a1 a2 a3 a4 a5 := by
  obtain ⟨_, _, hQ, _⟩ := h
  exact hQ
/-- a tick, no arm set -/
theorem bl_to0 {P : St2 → Prop} (ht : ∀ a6 : Nat → Int32, a6 a = la → a6 b = lb → bl_tk l a b a6 g A C g' A' C') (hs : s = 0) (hR : bl_R l g a b A C la lb s tf pt rc km hd (fl, fg, a1, a2, a3, a4, a5, a6, a7, a8, a9, a10, a11, a12)) (hp : ∀ u, bl_R l g' a b A' C' la lb s tf pt rc km hd u → P u) : wpX_tickOnce P (fl, fg, a1, a2, a3, a4, a5, a6, a7, a8, a9, a10, a11, a12) := by
  obtain ⟨e1, e2, hQ, h6a, h6b, h70, h71, h8, h9, h10, h11, h120, h121⟩ := hR
  subst e1
  subst e2
  exact ht a6 h6a h6b P _ _ _ _ _ _ _ _ _ _ _ hQ (fun b1 b2 b3 b4 b5 hQ' => bl_off h70 (h71.trans hs) (hp _ ⟨rfl, rfl, hQ', h6a, h6b, h70, h71, h8, h9, h10, h11, h120, h121⟩))
/-- a tick, arm 1 finds nothing -/
theorem bl_to1 {P : St2 → Prop} (ht : ∀ a6 : Nat → Int32, a6 a = la → a6 b = lb → bl_tk l a b a6 g A C g' A' C') (hs : ¬ s = 0) (hd4 : hd = -4) (hR : bl_R l g a b A C la lb s tf pt rc km hd (fl, fg, a1, a2, a3, a4, a5, a6, a7, a8, a9, a10, a11, a12))
    (hw : ∀ cl cg c1 c2 c3 c4 c5 c6 c7 c8 c9 c10 c11 c12 (q : Int32 → Prop), bl_R l g' a b A' C' la lb s tf pt rc km hd (cl, cg, c1, c2, c3, c4, c5, c6, c7, c8, c9, c10, c11, c12) → q (-1) → wpX_withinReach q (cl, cg, c1, c2, c3, c4, c5, c6, c7, c8, c9, c10, c11, c12) (nI 1))
    (hp : ∀ u, bl_R l g' a b A' C' la lb s tf pt rc km hd u → P u) : wpX_tickOnce P (fl, fg, a1, a2, a3, a4, a5, a6, a7, a8, a9, a10, a11, a12) := by
  obtain ⟨e1, e2, hQ, h6a, h6b, h70, h71, h8, h9, h10, h11, h120, h121⟩ := hR
  subst e1
  subst e2
  refine ht a6 h6a h6b P _ _ _ _ _ _ _ _ _ _ _ hQ (fun b1 b2 b3 b4 b5 hQ' => ?_)
  have hR' : bl_R l g' a b A' C' la lb s tf pt rc km hd (nI l, nI g', b1, b2, b3, b4, b5, a6, a7, a8, a9, a10, a11, a12) := ⟨rfl, rfl, hQ', h6a, h6b, h70, h71, h8, h9, h10, h11, h120, h121⟩
  refine bl_on (R := fun c1 c2 c3 c4 c5 c12 => bl_R l g' a b A' C' la lb s tf pt rc km hd (nI l, nI g', c1, c2, c3, c4, c5, a6, a7, a8, a9, a10, a11, c12)) h70 (fun z => hs (h71.symm.trans z)) (fun p hq => ?_) (fun c1 c2 c3 c4 c5 c12 h => hp _ h)
  exact bl_mv0 (h121.trans hd4) (fun q hq => hw _ _ _ _ _ _ _ _ _ _ _ _ _ _ q hR' hq) (hq _ _ _ _ _ _ hR')
/-- a tick, arm 1 takes the second item of belt b -/
theorem bl_to2 {P : St2 → Prop} {x y : Nat} {c d : Int32} (ht : ∀ a6 : Nat → Int32, a6 a = la → a6 b = lb → bl_tk l a b a6 g A C g' A' [(x, c), (y, d)]) (hb : b < 4) (hab : a ≠ b) (hs : ¬ s = 0) (hd4 : hd = -4) (htf : tf = nI b) (hR : bl_R l g a b A C la lb s tf pt rc km hd (fl, fg, a1, a2, a3, a4, a5, a6, a7, a8, a9, a10, a11, a12))
    (hw : ∀ cl cg c1 c2 c3 c4 c5 c6 c7 c8 c9 c10 c11 c12 (q : Int32 → Prop), bl_R l g' a b A' [(x, c), (y, d)] la lb s tf pt rc km hd (cl, cg, c1, c2, c3, c4, c5, c6, c7, c8, c9, c10, c11, c12) → q (nI 1) → wpX_withinReach q (cl, cg, c1, c2, c3, c4, c5, c6, c7, c8, c9, c10, c11, c12) (nI 1))
    (hp : ∀ u, bl_R l g' a b A' [(x, c)] la lb s tf pt rc km d u → P u) : wpX_tickOnce P (fl, fg, a1, a2, a3, a4, a5, a6, a7, a8, a9, a10, a11, a12) := by
  obtain ⟨e1, e2, hQ, h6a, h6b, h70, h71, h8, h9, h10, h11, h120, h121⟩ := hR
  subst e1
  subst e2
  refine ht a6 h6a h6b P _ _ _ _ _ _ _ _ _ _ _ hQ (fun b1 b2 b3 b4 b5 hQ' => ?_)
  have hR' : bl_R l g' a b A' [(x, c), (y, d)] la lb s tf pt rc km hd (nI l, nI g', b1, b2, b3, b4, b5, a6, a7, a8, a9, a10, a11, a12) := ⟨rfl, rfl, hQ', h6a, h6b, h70, h71, h8, h9, h10, h11, h120, h121⟩
  refine bl_on (R := fun c1 c2 c3 c4 c5 c12 => bl_R l g' a b A' [(x, c)] la lb s tf pt rc km d (nI l, nI g', c1, c2, c3, c4, c5, a6, a7, a8, a9, a10, a11, c12)) h70 (fun z => hs (h71.symm.trans z)) (fun p hq => ?_) (fun c1 c2 c3 c4 c5 c12 h => hp _ h)
  refine bl_mv1 hb hQ'.2.1 (h8.trans htf) (h121.trans hd4) (fun q hq => hw _ _ _ _ _ _ _ _ _ _ _ _ _ _ q hR' hq) (fun c1 c2 c3 c4 c5 hF hb' => hq _ _ _ _ _ _ ?_)
  exact ⟨rfl, rfl, bl_Qb hab hQ' hF hb', h6a, h6b, h70, h71, h8, h9, h10, h11, (pk_un (by decide)).trans h120, pk_us⟩
/-- a tick, arm 1 puts what it holds on belt a -/
theorem bl_to3 {P : St2 → Prop} (ht : ∀ a6 : Nat → Int32, a6 a = la → a6 b = lb → bl_tk l a b a6 g A C g' [] C') (hl2 : l ≤ 60) (ha : a < 4) (hab : a ≠ b) (hs : ¬ s = 0) (hd0 : ¬ hd < 0) (hpt : pt = nI a) (hR : bl_R l g a b A C la lb s tf pt rc km hd (fl, fg, a1, a2, a3, a4, a5, a6, a7, a8, a9, a10, a11, a12))
    (hp : ∀ u, bl_R l g' a b [(l, hd)] C' la lb s tf pt rc km (-4) u → P u) : wpX_tickOnce P (fl, fg, a1, a2, a3, a4, a5, a6, a7, a8, a9, a10, a11, a12) := by
  obtain ⟨e1, e2, hQ, h6a, h6b, h70, h71, h8, h9, h10, h11, h120, h121⟩ := hR
  subst e1
  subst e2
  refine ht a6 h6a h6b P _ _ _ _ _ _ _ _ _ _ _ hQ (fun b1 b2 b3 b4 b5 hQ' => ?_)
  refine bl_on (R := fun c1 c2 c3 c4 c5 c12 => bl_R l g' a b [(l, hd)] C' la lb s tf pt rc km (-4) (nI l, nI g', c1, c2, c3, c4, c5, a6, a7, a8, a9, a10, a11, c12)) h70 (fun z => hs (h71.symm.trans z)) (fun p hq => ?_) (fun c1 c2 c3 c4 c5 c12 h => hp _ h)
  refine bl_mv2 rfl hl2 ha hQ'.1 (h9.trans hpt) h121 hd0 (fun c1 c2 c3 c4 c5 hF hb' => hq _ _ _ _ _ _ ?_)
  exact ⟨rfl, rfl, bl_Qa hab hQ' hF hb', h6a, h6b, h70, h71, h8, h9, h10, h11, (pk_un (by decide)).trans h120, pk_us⟩
/-- tick(m) -/
theorem bl_tick {post : Int32 → St2 → Prop} {m : Nat} (hm : m ≤ 200) (I : Nat → St2 → Prop) (h0 : I 0 (fl, fg, a1, a2, a3, a4, a5, a6, a7, a8, a9, a10, a11, a12))
    (hs : ∀ i, i < m → ∀ (P : St2 → Prop) cl cg c1 c2 c3 c4 c5 c6 c7 c8 c9 c10 c11 c12, I i (cl, cg, c1, c2, c3, c4, c5, c6, c7, c8, c9, c10, c11, c12) → (∀ u, I (i + 1) u → P u) → wpX_tickOnce P (cl, cg, c1, c2, c3, c4, c5, c6, c7, c8, c9, c10, c11, c12))
    (he : ∀ cl cg c1 c2 c3 c4 c5 c6 c7 c8 c9 c10 c11 c12, I m (cl, cg, c1, c2, c3, c4, c5, c6, c7, c8, c9, c10, c11, c12) → post (cg - fg) (cl, cg, c1, c2, c3, c4, c5, c6, c7, c8, c9, c10, c11, c12)) : wpX_tick post (fl, fg, a1, a2, a3, a4, a5, a6, a7, a8, a9, a10, a11, a12) (nI m) := by
  have H : ∀ d i cl cg c1 c2 c3 c4 c5 c6 c7 c8 c9 c10 c11 c12, i + d = m → I i (cl, cg, c1, c2, c3, c4, c5, c6, c7, c8, c9, c10, c11, c12) → wX_tick_23 post (nI m) fg (d + 1) (nI i) cl cg c1 c2 c3 c4 c5 c6 c7 c8 c9 c10 c11 c12 := by
    intro d
    induction d with
    | zero =>
      intro i cl cg c1 c2 c3 c4 c5 c6 c7 c8 c9 c10 c11 c12 hi hI
      have e : i = m := by omega
      subst e
      exact pk_le i i (fun _ => he _ _ _ _ _ _ _ _ _ _ _ _ _ _ hI) (fun z => absurd z (by omega))
    | succ d ih =>
      intro i cl cg c1 c2 c3 c4 c5 c6 c7 c8 c9 c10 c11 c12 hi hI
      refine pk_le m i (fun z => absurd z (by omega)) (fun _ => ?_)
      refine hs i (by omega) _ _ _ _ _ _ _ _ _ _ _ _ _ _ _ hI (fun u hu => ?_)
      obtain ⟨f1, f2, d1, d2, d3, d4, d5, d6, d7, d8, d9, d10, d11, d12⟩ := u
      exact nm_r (nI_1 i) (ih (i + 1) _ _ _ _ _ _ _ _ _ _ _ _ _ _ (by omega) hu)
  unfold wpX_tick
  dsimp only
  exact pk_le m 200 (fun _ => ⟨m + 1, H m 0 _ _ _ _ _ _ _ _ _ _ _ _ _ _ (by omega) h0⟩) (fun z => absurd z (by omega))
/-- tick(m), no arm set, nothing goes -/
theorem bl_tick0 {post : Int32 → St2 → Prop} {m : Nat} (A C : Nat → List (Nat × Int32)) (hm : m ≤ 200) (hs : s = 0) (ht : ∀ i, i < m → ∀ a6 : Nat → Int32, a6 a = la → a6 b = lb → bl_tk l a b a6 g (A i) (C i) g (A (i + 1)) (C (i + 1)))
    (hR : bl_R l g a b (A 0) (C 0) la lb s tf pt rc km hd (fl, fg, a1, a2, a3, a4, a5, a6, a7, a8, a9, a10, a11, a12)) (hp : ∀ cl cg c1 c2 c3 c4 c5 c6 c7 c8 c9 c10 c11 c12, bl_R l g a b (A m) (C m) la lb s tf pt rc km hd (cl, cg, c1, c2, c3, c4, c5, c6, c7, c8, c9, c10, c11, c12) → post 0 (cl, cg, c1, c2, c3, c4, c5, c6, c7, c8, c9, c10, c11, c12)) : wpX_tick post (fl, fg, a1, a2, a3, a4, a5, a6, a7, a8, a9, a10, a11, a12) (nI m) := by
  refine bl_tick hm (fun i u => bl_R l g a b (A i) (C i) la lb s tf pt rc km hd u) hR (fun i hi P cl cg c1 c2 c3 c4 c5 c6 c7 c8 c9 c10 c11 c12 hI hu => bl_to0 (ht i hi) hs hI hu) (fun cl cg c1 c2 c3 c4 c5 c6 c7 c8 c9 c10 c11 c12 hI => ?_)
  have e1 : fg = nI g := hR.2.1
  have e2 : cg = nI g := hI.2.1
  have e : cg - fg = 0 := by
    rw [e1, e2, pk_sub (Nat.le_refl g), Nat.sub_self]
    rfl
  rw [e]
  exact hp _ _ _ _ _ _ _ _ _ _ _ _ _ _ hI
/-- tick(1) -/
theorem bl_tick1 {post : Int32 → St2 → Prop} {I : St2 → Prop} (hs : ∀ P : St2 → Prop, (∀ u, I u → P u) → wpX_tickOnce P (fl, fg, a1, a2, a3, a4, a5, a6, a7, a8, a9, a10, a11, a12))
    (hp : ∀ cl cg c1 c2 c3 c4 c5 c6 c7 c8 c9 c10 c11 c12, I (cl, cg, c1, c2, c3, c4, c5, c6, c7, c8, c9, c10, c11, c12) → post (cg - fg) (cl, cg, c1, c2, c3, c4, c5, c6, c7, c8, c9, c10, c11, c12)) : wpX_tick post (fl, fg, a1, a2, a3, a4, a5, a6, a7, a8, a9, a10, a11, a12) (nI 1) := by
  unfold wpX_tick
  dsimp only
  refine pk_le 1 200 (fun _ => ⟨0 + 1 + 1, ?_⟩) (fun z => absurd z (by omega))
  refine pk_le 1 0 (fun z => absurd z (by omega)) (fun _ => hs _ (fun u hu => ?_))
  obtain ⟨f1, f2, d1, d2, d3, d4, d5, d6, d7, d8, d9, d10, d11, d12⟩ := u
  refine nm_r (nI_1 0) ?_
  exact pk_le 1 1 (fun _ => hp _ _ _ _ _ _ _ _ _ _ _ _ _ _ hu) (fun z => absurd z (by omega))
theorem bl_tick1R {post : Int32 → St2 → Prop} {la' lb' s' tf' pt' rc' km' hd' : Int32} {n : Nat} (hn : g' - g = n) (hgg : g ≤ g') (hR : bl_R l g a b A C la lb s tf pt rc km hd (fl, fg, a1, a2, a3, a4, a5, a6, a7, a8, a9, a10, a11, a12)) (hs : ∀ P : St2 → Prop, (∀ u, bl_R l g' a b A' C' la' lb' s' tf' pt' rc' km' hd' u → P u) → wpX_tickOnce P (fl, fg, a1, a2, a3, a4, a5, a6, a7, a8, a9, a10, a11, a12))
    (hp : ∀ cl cg c1 c2 c3 c4 c5 c6 c7 c8 c9 c10 c11 c12, bl_R l g' a b A' C' la' lb' s' tf' pt' rc' km' hd' (cl, cg, c1, c2, c3, c4, c5, c6, c7, c8, c9, c10, c11, c12) → post (nI n) (cl, cg, c1, c2, c3, c4, c5, c6, c7, c8, c9, c10, c11, c12)) : wpX_tick post (fl, fg, a1, a2, a3, a4, a5, a6, a7, a8, a9, a10, a11, a12) (nI 1) := by
  refine bl_tick1 (I := bl_R l g' a b A' C' la' lb' s' tf' pt' rc' km' hd') hs (fun cl cg c1 c2 c3 c4 c5 c6 c7 c8 c9 c10 c11 c12 hI => ?_)
  have e1 : fg = nI g := hR.2.1
  have e2 : cg = nI g' := hI.2.1
  have e : cg - fg = nI n := by
    rw [e1, e2, pk_sub hgg, hn]
  rw [e]
  exact hp _ _ _ _ _ _ _ _ _ _ _ _ _ _ hI
theorem bl_held {post : Int32 → Prop} {i : Nat} {v : Int32} (hi : i < 2) (e : a12 i = v) (hp : post v) : wpX_held post (fl, fg, a1, a2, a3, a4, a5, a6, a7, a8, a9, a10, a11, a12) (nI i) := by
  unfold wpX_held
  refine br_f (nI_pos (by omega)) (br_t (nI_le (b := 1) (by omega) (by decide)) ⟨pk_in i 2 hi, ?_⟩)
  rw [nI_clamp (show i < 2 ^ 31 by omega), e]
  exact hp
theorem bl_4b : ∀ j, j < 4 → ¬ nI j < -2 := by decide +kernel
/-- lead(a, v) -/
theorem bl_lead {post : Int32 → St2 → Prop} {v : Int32} (ha : a < 4) (hab : a ≠ b) (h1 : ¬ v < -2) (h2 : ¬ 4 ≤ v) (h3 : ¬ v = nI a) (hR : bl_R l g a b A C la lb s tf pt rc km hd (fl, fg, a1, a2, a3, a4, a5, a6, a7, a8, a9, a10, a11, a12))
    (hp : ∀ r cl cg c1 c2 c3 c4 c5 c6 c7 c8 c9 c10 c11 c12, bl_R l g a b A C v lb s tf pt rc km hd (cl, cg, c1, c2, c3, c4, c5, c6, c7, c8, c9, c10, c11, c12) → post r (cl, cg, c1, c2, c3, c4, c5, c6, c7, c8, c9, c10, c11, c12)) : wpX_lead post (fl, fg, a1, a2, a3, a4, a5, a6, a7, a8, a9, a10, a11, a12) (nI a) v := by
  obtain ⟨e1, e2, hQ, h6a, h6b, h70, h71, h8, h9, h10, h11, h120, h121⟩ := hR
  unfold wpX_lead
  dsimp only
  refine bl_bad ha (br_t rfl (br_f h1 (br_f h2 (br_f h3 ⟨pk_in a 4 ha, nm_e ⟨pk_in a 4 ha, nm_e ?_⟩⟩))))
  rw [nI_clamp (show a < 2 ^ 31 by omega)]
  exact hp _ _ _ _ _ _ _ _ _ _ _ _ _ _ _ ⟨e1, e2, hQ, pk_us, (pk_un (fun e => hab e.symm)).trans h6b, h70, h71, h8, h9, h10, h11, h120, h121⟩
theorem bl_Rs (hR : bl_R l g a b A C la lb s tf pt rc km hd (fl, fg, a1, a2, a3, a4, a5, a6, a7, a8, a9, a10, a11, a12)) : bl_R l g b a C A lb la s tf pt rc km hd (fl, fg, a1, a2, a3, a4, a5, a6, a7, a8, a9, a10, a11, a12) := by
  obtain ⟨e1, e2, hQ, h6a, h6b, h⟩ := hR
  exact ⟨e1, e2, bl_Qs hQ, h6b, h6a, h⟩
/-- arm(1, b + 4 a, r, v) -/
theorem bl_arm {post : Int32 → St2 → Prop} {r : Nat} {v w : Int32} (hv : v &&& 255 = w) (ha : a < 4) (hb : b < 4) (hr : r ≤ 60) (hR : bl_R l g a b A C la lb s tf pt rc km hd (fl, fg, a1, a2, a3, a4, a5, a6, a7, a8, a9, a10, a11, a12))
    (hp : ∀ cl cg c1 c2 c3 c4 c5 c6 c7 c8 c9 c10 c11 c12, bl_R l g a b A C la lb 1 (nI b) (nI a) (nI r) w hd (cl, cg, c1, c2, c3, c4, c5, c6, c7, c8, c9, c10, c11, c12) → post 0 (cl, cg, c1, c2, c3, c4, c5, c6, c7, c8, c9, c10, c11, c12)) : wpX_arm post (fl, fg, a1, a2, a3, a4, a5, a6, a7, a8, a9, a10, a11, a12) (nI 1) (nI b + 4 * nI a) (nI r) v := by
  obtain ⟨e1, e2, hQ, h6a, h6b, h70, h71, h8, h9, h10, h11, h120, h121⟩ := hR
  have e : nI b + 4 * nI a = nI (b + 4 * a) := by
    rw [show (4 : Int32) = nI 4 from rfl, pk_mul, nI_add]
  have e3 : nI (b + 4 * a) &&& 3 = nI b := by
    rw [pk_andN (show b + 4 * a < 2 ^ 32 by omega) 2 (by decide), show (b + 4 * a) % 2 ^ 2 = b by omega]
  have e4 : (nI (b + 4 * a) >>> ((2 : Int32) &&& 31)) &&& 3 = nI a := by
    rw [pk_shrN (show b + 4 * a < 2 ^ 31 by omega) _ 2 (by decide), pk_andN (show (b + 4 * a) / 2 ^ 2 < 2 ^ 32 by omega) 2 (by decide), show (b + 4 * a) / 2 ^ 2 % 2 ^ 2 = a by omega]
  rw [e]
  unfold wpX_arm
  refine br_f (nI_pos (by decide)) (br_f (nI_nlt (b := 1) (Nat.le_refl 1) (by decide)) (br_f (nI_pos (by omega)) (br_t (nI_le (b := 60) hr (by decide)) ?_)))
  have i1 : vp_in (nI 1) 2 := pk_in 1 2 (by decide)
  refine ⟨i1, nm_e ⟨i1, nm_r (congrArg (upd a8 _) e3) ⟨i1, nm_r (congrArg (upd a9 _) e4) ⟨i1, nm_e ⟨i1, nm_e ?_⟩⟩⟩⟩⟩
  rw [bl_c1]
  exact hp _ _ _ _ _ _ _ _ _ _ _ _ _ _ ⟨e1, e2, hQ, h6a, h6b, (pk_un (by decide)).trans h70, pk_us, pk_us, pk_us, pk_us, pk_us.trans hv, h120, h121⟩
theorem bl_Rg (h : bl_R l g a b A C la lb s tf pt rc km hd (fl, fg, a1, a2, a3, a4, a5, a6, a7, a8, a9, a10, a11, a12)) : fg = nI g := by
  obtain ⟨_, e, _⟩ := h
  exact e
theorem bl_R12 (h : bl_R l g a b A C la lb s tf pt rc km hd (fl, fg, a1, a2, a3, a4, a5, a6, a7, a8, a9, a10, a11, a12)) : a12 0 = -4 ∧ a12 1 = hd := by
  obtain ⟨e1, e2, hQ, h6a, h6b, h70, h71, h8, h9, h10, h11, h120, h121⟩ := h
  exact ⟨h120, h121⟩
theorem bl_out {post : Int32 → Prop} {v : Int32} (e : fg = v) (hp : post v) : wpX_out post (fl, fg, a1, a2, a3, a4, a5, a6, a7, a8, a9, a10, a11, a12) := by
  subst e
  exact hp
theorem bl_putR {post : Int32 → St2 → Prop} {c : Int32} (ha : a < 4) (hab : a ≠ b) (hl : 8 ≤ l) (hl2 : l ≤ 60) (hc : ¬ c < 0) (hc7 : c ≤ 7) (hx : bl_ap l c A A') (hR : bl_R l g a b A C la lb s tf pt rc km hd (fl, fg, a1, a2, a3, a4, a5, a6, a7, a8, a9, a10, a11, a12))
    (hp : ∀ cl cg c1 c2 c3 c4 c5 c6 c7 c8 c9 c10 c11 c12, bl_R l g a b A' C la lb s tf pt rc km hd (cl, cg, c1, c2, c3, c4, c5, c6, c7, c8, c9, c10, c11, c12) → post (nI A'.length) (cl, cg, c1, c2, c3, c4, c5, c6, c7, c8, c9, c10, c11, c12)) : wpX_put post (fl, fg, a1, a2, a3, a4, a5, a6, a7, a8, a9, a10, a11, a12) (nI a) c := by
  obtain ⟨e1, e2, hQ, h⟩ := hR
  exact bl_put e1 ha hl hl2 hc hc7 hQ.1 hx (fun b1 b2 b3 b4 b5 hF hb => hp _ _ _ _ _ _ _ _ _ _ _ _ _ _ ⟨e1, e2, bl_Qa hab hQ hF hb, h⟩)
theorem bl_putRN {post : Int32 → St2 → Prop} {c d e : Int32} {x y : Nat} (ha : a < 4) (hl : 8 ≤ l) (hl2 : l ≤ 60) (hc : ¬ c < 0) (hc7 : c ≤ 7) (hx : l < x + y + 8) (hR : bl_R l g a b [(x, d), (y, e)] C la lb s tf pt rc km hd (fl, fg, a1, a2, a3, a4, a5, a6, a7, a8, a9, a10, a11, a12))
    (hp : post (-3) (fl, fg, a1, a2, a3, a4, a5, a6, a7, a8, a9, a10, a11, a12)) : wpX_put post (fl, fg, a1, a2, a3, a4, a5, a6, a7, a8, a9, a10, a11, a12) (nI a) c := by
  obtain ⟨e1, e2, hQ, h⟩ := hR
  exact bl_putN e1 ha hl hl2 hc hc7 hQ.1 hx hp
end
end
section
section
variable {fl fg : Int32} {a1 a2 a3 a4 a5 a6 a7 a8 a9 a10 a11 a12 : Nat → Int32}
theorem bl_fill {s : Nat → Int32} {i k : Nat} {v : Int32} (hk : k = i) (h : ∀ j, j < i → s j = v) : ∀ j, j < i + 1 → upd s k v j = v := by
  intro j hj
  rw [hk]
  by_cases e : j = i
  · rw [e, pk_us]
  · rw [pk_un e]
    exact h j (by omega)
theorem bl_i137 {post : St2 → Prop} {mc ms kc ks : Nat} (H : ∀ c : Nat → Int32, (∀ j, j < 2 → c j = -4) → post (fl, fg, a1, a2, a3, a4, a5, a6, a7, a8, a9, a10, a11, c)) : ∃ n, wX_init_137 post mc ms kc ks fl fg n 0 a1 a2 a3 a4 a5 a6 a7 a8 a9 a10 a11 a12 :=
  pk_loop (fun n i s => wX_init_137 post mc ms kc ks fl fg n (nI i) a1 a2 a3 a4 a5 a6 a7 a8 a9 a10 a11 s) (fun i s => ∀ j, j < i → s j = -4) 2 0 a12 (by omega) (fun j hj => absurd hj (by omega))
    (fun n s h => pk_le 2 2 (fun _ => H s h) (fun z => absurd z (by omega)))
    (fun n i s hi h hw => pk_le 2 i (fun z => absurd z (by omega)) (fun _ => ⟨pk_in i 2 hi, nm_e (nm_r (nI_1 i) (hw _ (bl_fill (nI_clamp (by omega)) h)))⟩))
theorem bl_i117 {post : St2 → Prop} {mc ms kc ks : Nat} (H : ∀ c : Nat → Int32, (∀ j, j < 4 → c j = -1) → ∃ n, wX_init_137 post mc ms kc ks fl fg n 0 a1 a2 a3 a4 a5 c a7 a8 a9 a10 a11 a12) : ∃ n, wX_init_117 post mc ms kc ks fl fg n 0 a1 a2 a3 a4 a5 a6 a7 a8 a9 a10 a11 a12 :=
  pk_loop (fun n i s => wX_init_117 post mc ms kc ks fl fg n (nI i) a1 a2 a3 a4 a5 s a7 a8 a9 a10 a11 a12) (fun i s => ∀ j, j < i → s j = -1) 4 0 a6 (by omega) (fun j hj => absurd hj (by omega))
    (fun n s h => pk_le 4 4 (fun _ => H s h) (fun z => absurd z (by omega)))
    (fun n i s hi h hw => pk_le 4 i (fun z => absurd z (by omega)) (fun _ => ⟨pk_in i 4 hi, nm_e (nm_r (nI_1 i) (hw _ (bl_fill (nI_clamp (by omega)) h)))⟩))
theorem bl_init {post : St2 → Prop} {mc ms l : Nat} (hmc : 12 ≤ mc) (hms : 156 ≤ ms) (hl : 8 ≤ l) (hl2 : l ≤ 60)
    (hp : ∀ cl cg c1 c2 c3 c4 c5 c6 c7 c8 c9 c10 c11 c12, (∀ a b, a < 4 → b < 4 → bl_R l 0 a b [] [] (-1) (-1) 0 0 0 0 0 (-4) (cl, cg, c1, c2, c3, c4, c5, c6, c7, c8, c9, c10, c11, c12)) → post (cl, cg, c1, c2, c3, c4, c5, c6, c7, c8, c9, c10, c11, c12)) : wpX_init post mc ms (0, 0) (nI l) := by
  unfold wpX_init
  refine ⟨by omega, by omega, by omega, by omega, by omega, by omega, by omega, by omega, by omega, by omega, by omega, by omega, by omega, by omega, by omega, by omega, by omega, by omega, by omega, by omega, by omega, by omega, by omega, by omega, ?_⟩
  refine br_t (nI_le (a := 8) hl (by omega)) ?_
  unfold wX_init_101
  refine br_t (nI_le (b := 60) hl2 (by decide)) ?_
  refine bl_i117 (fun c6 h6 => bl_i137 (fun c12 h12 => hp _ _ _ _ _ _ _ _ _ _ _ _ _ _ (fun a b ha hb => ?_)))
  have z : ∀ j, bl_b (fun _ => 0) (fun _ => 0) (fun _ => 0) (fun _ => 0) (fun _ => 0) j [] := fun j => bl_i0 0 (by decide) rfl rfl rfl
  exact ⟨rfl, rfl, ⟨z a, z b, fun j _ _ _ => z j⟩, h6 a ha, h6 b hb, rfl, rfl, rfl, rfl, rfl, rfl, h12 0 (by decide), h12 1 (by decide)⟩
end
theorem bl_ne0 : ∀ (c : Int32) (r : List (Nat × Int32)), ([] : List (Nat × Int32)) ≠ (0, c) :: r := by
  intro c r e
  cases e
theorem bl_ne1 {g : Nat} {d : Int32} {q : List (Nat × Int32)} (h : 0 < g) : ∀ (c : Int32) (r : List (Nat × Int32)), (g, d) :: q ≠ (0, c) :: r := by
  intro c r e
  have e1 := (Prod.mk.inj (List.cons.inj e).1).1
  omega
theorem bl_ds {g : Nat} {c : Int32} {r : List (Nat × Int32)} (h : 0 < g) : bl_dec ((g, c) :: r) = (g - 1, c) :: r := by
  cases g with
  | zero => omega
  | succ g => rfl
section
variable {fl fg : Int32} {a1 a2 a3 a4 a5 a6 a7 a8 a9 a10 a11 a12 : Nat → Int32} {l a b n f r : Nat} {post : Int32 → St2 → Prop}
/-- the first n ticks -/
theorem bl_ta (ha : a < 4) (hb : b < 4) (hab : a ≠ b) (hl : 8 ≤ l) (hn : n ≤ 7) (hR : bl_R l 0 a b [(l, 5)] [] (nI b) (-1) 0 0 0 0 0 (-4) (fl, fg, a1, a2, a3, a4, a5, a6, a7, a8, a9, a10, a11, a12))
    (hp : ∀ cl cg c1 c2 c3 c4 c5 c6 c7 c8 c9 c10 c11 c12, bl_R l 0 a b [(l - n, 5)] [] (nI b) (-1) 0 0 0 0 0 (-4) (cl, cg, c1, c2, c3, c4, c5, c6, c7, c8, c9, c10, c11, c12) → post 0 (cl, cg, c1, c2, c3, c4, c5, c6, c7, c8, c9, c10, c11, c12)) : wpX_tick post (fl, fg, a1, a2, a3, a4, a5, a6, a7, a8, a9, a10, a11, a12) (nI n) := by
  refine bl_tick0 (fun i => [(l - i, 5)]) (fun _ => []) (by omega) rfl (fun i hi a6 h6a h6b => ?_) hR hp
  have t := bl_tk_p (a6 := a6) (l := l) (g := 0) (A := [(l - i, 5)]) (C := []) ha hb hab (Or.inl (bl_ne1 (by omega))) (Or.inl bl_ne0)
  rw [bl_ds (show 0 < l - i by omega), Nat.sub_sub] at t
  exact t
/-- the next l - n ticks: the first item comes to the end -/
theorem bl_tb (ha : a < 4) (hb : b < 4) (hab : a ≠ b) (hl2 : l ≤ 60) (hR : bl_R l 0 a b [(l - n, 5), (n - 4, 2)] [] (nI b) (-1) 0 0 0 0 0 (-4) (fl, fg, a1, a2, a3, a4, a5, a6, a7, a8, a9, a10, a11, a12))
    (hp : ∀ cl cg c1 c2 c3 c4 c5 c6 c7 c8 c9 c10 c11 c12, bl_R l 0 a b [(0, 5), (n - 4, 2)] [] (nI b) (-1) 0 0 0 0 0 (-4) (cl, cg, c1, c2, c3, c4, c5, c6, c7, c8, c9, c10, c11, c12) → post 0 (cl, cg, c1, c2, c3, c4, c5, c6, c7, c8, c9, c10, c11, c12)) : wpX_tick post (fl, fg, a1, a2, a3, a4, a5, a6, a7, a8, a9, a10, a11, a12) (nI (l - n)) := by
  refine bl_tick0 (fun i => [(l - n - i, 5), (n - 4, 2)]) (fun _ => []) (by omega) rfl (fun i hi a6 h6a h6b => ?_) hR (fun cl cg c1 c2 c3 c4 c5 c6 c7 c8 c9 c10 c11 c12 hR' => ?_)
  · have t := bl_tk_p (a6 := a6) (l := l) (g := 0) (A := [(l - n - i, 5), (n - 4, 2)]) (C := []) ha hb hab (Or.inl (bl_ne1 (by omega))) (Or.inl bl_ne0)
    rw [bl_ds (show 0 < l - n - i by omega), Nat.sub_sub (l - n) i 1] at t
    exact t
  · rw [Nat.sub_self] at hR'
    exact hp _ _ _ _ _ _ _ _ _ _ _ _ _ _ hR'
/-- the first item goes over -/
theorem bl_tc (ha : a < 4) (hb : b < 4) (hl : 8 ≤ l) (hl2 : l ≤ 60) (hn4 : 4 ≤ n) (hf : (a < b ∧ f = l - 1) ∨ (b < a ∧ f = l)) (hR : bl_R l 0 a b [(0, 5), (n - 4, 2)] [] (nI b) (-1) 0 0 0 0 0 (-4) (fl, fg, a1, a2, a3, a4, a5, a6, a7, a8, a9, a10, a11, a12))
    (hp : ∀ cl cg c1 c2 c3 c4 c5 c6 c7 c8 c9 c10 c11 c12, bl_R l 0 a b [(n - 1, 2)] [(f, 5)] (nI b) (-1) 0 0 0 0 0 (-4) (cl, cg, c1, c2, c3, c4, c5, c6, c7, c8, c9, c10, c11, c12) → post 0 (cl, cg, c1, c2, c3, c4, c5, c6, c7, c8, c9, c10, c11, c12)) : wpX_tick post (fl, fg, a1, a2, a3, a4, a5, a6, a7, a8, a9, a10, a11, a12) (nI 1) := by
  refine bl_tick1R (g := 0) (g' := 0) (n := 0) rfl (Nat.le_refl 0) hR (fun P hu => bl_to0 (fun a6 h6a h6b => ?_) rfl hR hu) hp
  have e : bl_dec (bl_pop [(0, 5), (n - 4, 2)]) = [(n - 1, 2)] := by
    show bl_dec [(n - 4 + (0 + 4), 2)] = _
    rw [bl_ds (by omega), show n - 4 + (0 + 4) - 1 = n - 1 by omega]
  rcases hf with ⟨h, hf⟩ | ⟨h, hf⟩
  · have t := bl_tk_qa (g := 0) (c := 5) (r := [(n - 4, 2)]) (C := []) hl hl2 h hb h6a (Or.inl ⟨rfl, rfl⟩) h6b
    rw [e, bl_ds (by omega), ← hf] at t
    exact t
  · subst hf
    have t := bl_tk_qb (g := 0) (c := 5) (r := [(n - 4, 2)]) (C := []) hl hl2 h ha h6a (Or.inl ⟨rfl, rfl⟩) h6b
    rw [e] at t
    exact t
/-- n more: the second item goes over -/
theorem bl_td (ha : a < 4) (hb : b < 4) (hab : a ≠ b) (hl : 8 ≤ l) (hl2 : l ≤ 60) (hn4 : 4 ≤ n) (hn : n ≤ 7) (hf : (a < b ∧ f = l - 1) ∨ (b < a ∧ f = l)) (hR : bl_R l 0 a b [(n - 1, 2)] [(f, 5)] (nI b) (-1) 0 0 0 0 0 (-4) (fl, fg, a1, a2, a3, a4, a5, a6, a7, a8, a9, a10, a11, a12))
    (hp : ∀ cl cg c1 c2 c3 c4 c5 c6 c7 c8 c9 c10 c11 c12, bl_R l 0 a b [] [(f - n, 5), (n - 4, 2)] (nI b) (-1) 0 0 0 0 0 (-4) (cl, cg, c1, c2, c3, c4, c5, c6, c7, c8, c9, c10, c11, c12) → post 0 (cl, cg, c1, c2, c3, c4, c5, c6, c7, c8, c9, c10, c11, c12)) : wpX_tick post (fl, fg, a1, a2, a3, a4, a5, a6, a7, a8, a9, a10, a11, a12) (nI n) := by
  have hfl : l - 1 ≤ f ∧ f ≤ l := by omega
  have h0 : bl_R l 0 a b (if 0 < n then [(n - 1 - 0, 2)] else []) (if 0 < n then [(f - 0, 5)] else [(f - n, 5), (n - 4, 2)]) (nI b) (-1) 0 0 0 0 0 (-4) (fl, fg, a1, a2, a3, a4, a5, a6, a7, a8, a9, a10, a11, a12) := by
    rw [if_pos (by omega), if_pos (by omega)]
    exact hR
  refine bl_tick0 (fun i => if i < n then [(n - 1 - i, 2)] else []) (fun i => if i < n then [(f - i, 5)] else [(f - n, 5), (n - 4, 2)]) (by omega) rfl (fun i hi a6 h6a h6b => ?_) h0 (fun cl cg c1 c2 c3 c4 c5 c6 c7 c8 c9 c10 c11 c12 hR' => ?_)
  · rw [if_pos hi, if_pos hi]
    rcases Nat.lt_or_ge (i + 1) n with h1 | h1
    · rw [if_pos h1, if_pos h1]
      have t := bl_tk_p (a6 := a6) (l := l) (g := 0) (A := [(n - 1 - i, 2)]) (C := [(f - i, 5)]) ha hb hab (Or.inl (bl_ne1 (by omega))) (Or.inr h6b)
      rw [bl_ds (show 0 < n - 1 - i by omega), bl_ds (show 0 < f - i by omega), Nat.sub_sub (n - 1) i 1, Nat.sub_sub f i 1] at t
      exact t
    · rw [if_neg (by omega), if_neg (by omega)]
      have e0 : n - 1 - i = 0 := by omega
      rw [e0]
      rcases hf with ⟨h, hf⟩ | ⟨h, hf⟩
      · have t := bl_tk_qa (g := 0) (c := 2) (r := []) (C := [(f - i, 5)]) hl hl2 h hb h6a (Or.inr ⟨f - i, 5, rfl, by omega, rfl⟩) h6b
        rw [bl_ds (show 0 < f - i by omega), show f - i - 1 = f - n by omega, show l - (f - i) - 4 = n - 4 by omega] at t
        exact t
      · have t := bl_tk_qb (g := 0) (c := 2) (r := []) (C := [(f - i, 5)]) (C' := [(f - i - 1, 5), (l - (f - i - 1) - 4, 2)]) hl hl2 h ha h6a (Or.inr ⟨f - i - 1, 5, bl_ds (by omega), by omega, rfl⟩) h6b
        rw [show l - (f - i - 1) - 4 = n - 4 by omega, show f - i - 1 = f - n by omega] at t
        exact t
  · rw [if_neg (by omega), if_neg (by omega)] at hR'
    exact hp _ _ _ _ _ _ _ _ _ _ _ _ _ _ hR'
/-- 200 more: both stand at the end of belt b -/
theorem bl_te {x y : Nat} (ha : a < 4) (hb : b < 4) (hab : a ≠ b) (hxy : x + y ≤ 200) (hR : bl_R l 0 a b [] [(x, 5), (y, 2)] (nI b) (-1) 0 0 0 0 0 (-4) (fl, fg, a1, a2, a3, a4, a5, a6, a7, a8, a9, a10, a11, a12))
    (hp : ∀ cl cg c1 c2 c3 c4 c5 c6 c7 c8 c9 c10 c11 c12, bl_R l 0 a b [] [(0, 5), (0, 2)] (nI b) (-1) 0 0 0 0 0 (-4) (cl, cg, c1, c2, c3, c4, c5, c6, c7, c8, c9, c10, c11, c12) → post 0 (cl, cg, c1, c2, c3, c4, c5, c6, c7, c8, c9, c10, c11, c12)) : wpX_tick post (fl, fg, a1, a2, a3, a4, a5, a6, a7, a8, a9, a10, a11, a12) (nI 200) := by
  have h0 : bl_R l 0 a b [] [(x - 0, 5), (y - (0 - x), 2)] (nI b) (-1) 0 0 0 0 0 (-4) (fl, fg, a1, a2, a3, a4, a5, a6, a7, a8, a9, a10, a11, a12) := by
    rw [Nat.zero_sub, Nat.sub_zero, Nat.sub_zero]
    exact hR
  refine bl_tick0 (fun _ => []) (fun i => [(x - i, 5), (y - (i - x), 2)]) (by omega) rfl (fun i hi a6 h6a h6b => ?_) h0 (fun cl cg c1 c2 c3 c4 c5 c6 c7 c8 c9 c10 c11 c12 hR' => ?_)
  · have t := bl_tk_p (a6 := a6) (l := l) (g := 0) (A := []) (C := [(x - i, 5), (y - (i - x), 2)]) ha hb hab (Or.inl bl_ne0) (Or.inr h6b)
    have e : bl_dec [(x - i, (5 : Int32)), (y - (i - x), 2)] = [(x - (i + 1), 5), (y - (i + 1 - x), 2)] := by
      rcases Nat.eq_zero_or_pos (x - i) with h | h
      · rw [h, show x - (i + 1) = 0 by omega]
        show (0, (5 : Int32)) :: bl_dec [(y - (i - x), 2)] = _
        rcases Nat.eq_zero_or_pos (y - (i - x)) with h' | h'
        · rw [h', show y - (i + 1 - x) = 0 by omega]
          rfl
        · rw [bl_ds h', show y - (i - x) - 1 = y - (i + 1 - x) by omega]
      · rw [bl_ds h, show x - i - 1 = x - (i + 1) by omega, show i - x = i + 1 - x by omega]
    rw [e] at t
    exact t
  · rw [show x - 200 = 0 by omega, show y - (200 - x) = 0 by omega] at hR'
    exact hp _ _ _ _ _ _ _ _ _ _ _ _ _ _ hR'
theorem bl_tkf {a6 : Nat → Int32} (ha : a < 4) (hb : b < 4) (hab : a ≠ b) (h6b : a6 b = -1) : bl_tk l a b a6 0 [] [(0, 5), (0, 2)] 0 [] [(0, 5), (0, 2)] :=
  bl_tk_p (a6 := a6) (l := l) (g := 0) (A := []) (C := [(0, 5), (0, 2)]) ha hb hab (Or.inl bl_ne0) (Or.inr h6b)
/-- the arm takes the second item -/
theorem bl_tfy (ha : a < 4) (hb : b < 4) (hab : a ≠ b) (hr1 : 1 ≤ r) (hr4 : r ≤ 4) (hR : bl_R l 0 a b [] [(0, 5), (0, 2)] (nI b) (-1) 1 (nI b) (nI a) (nI r) 4 (-4) (fl, fg, a1, a2, a3, a4, a5, a6, a7, a8, a9, a10, a11, a12))
    (hp : ∀ cl cg c1 c2 c3 c4 c5 c6 c7 c8 c9 c10 c11 c12, bl_R l 0 a b [] [(0, 5)] (nI b) (-1) 1 (nI b) (nI a) (nI r) 4 2 (cl, cg, c1, c2, c3, c4, c5, c6, c7, c8, c9, c10, c11, c12) → post 0 (cl, cg, c1, c2, c3, c4, c5, c6, c7, c8, c9, c10, c11, c12)) : wpX_tick post (fl, fg, a1, a2, a3, a4, a5, a6, a7, a8, a9, a10, a11, a12) (nI 1) := by
  refine bl_tick1R (g := 0) (g' := 0) (n := 0) rfl (Nat.le_refl 0) hR (fun P hu => bl_to2 (fun a6 h6a h6b => bl_tkf ha hb hab h6b) hb hab (by decide) rfl rfl hR ?_ hu) hp
  intro cl cg c1 c2 c3 c4 c5 c6 c7 c8 c9 c10 c11 c12 q hR' hq
  obtain ⟨e1, e2, hQ, h6a, h6b, h70, h71, h8, h9, h10, h11, h120, h121⟩ := hR'
  exact bl_wr2 hb hQ.2.1 h8 h11 (by decide) (by decide) h10 (by omega) (fun _ _ => hq) (fun z => absurd z (by omega))
/-- the arm finds nothing in reach -/
theorem bl_tfn (ha : a < 4) (hb : b < 4) (hab : a ≠ b) (hr : r = 0 ∨ 4 < r) (hr8 : r ≤ 8) (hR : bl_R l 0 a b [] [(0, 5), (0, 2)] (nI b) (-1) 1 (nI b) (nI a) (nI r) 4 (-4) (fl, fg, a1, a2, a3, a4, a5, a6, a7, a8, a9, a10, a11, a12))
    (hp : ∀ cl cg c1 c2 c3 c4 c5 c6 c7 c8 c9 c10 c11 c12, bl_R l 0 a b [] [(0, 5), (0, 2)] (nI b) (-1) 1 (nI b) (nI a) (nI r) 4 (-4) (cl, cg, c1, c2, c3, c4, c5, c6, c7, c8, c9, c10, c11, c12) → post 0 (cl, cg, c1, c2, c3, c4, c5, c6, c7, c8, c9, c10, c11, c12)) : wpX_tick post (fl, fg, a1, a2, a3, a4, a5, a6, a7, a8, a9, a10, a11, a12) (nI 1) := by
  refine bl_tick1R (g := 0) (g' := 0) (n := 0) rfl (Nat.le_refl 0) hR (fun P hu => bl_to1 (fun a6 h6a h6b => bl_tkf ha hb hab h6b) (by decide) rfl hR ?_ hu) hp
  intro cl cg c1 c2 c3 c4 c5 c6 c7 c8 c9 c10 c11 c12 q hR' hq
  obtain ⟨e1, e2, hQ, h6a, h6b, h70, h71, h8, h9, h10, h11, h120, h121⟩ := hR'
  exact bl_wr2 hb hQ.2.1 h8 h11 (by decide) (by decide) h10 (by omega) (fun z1 z2 => absurd z1 (by omega)) (fun _ => hq)
/-- the arm puts the item on belt a -/
theorem bl_tg (ha : a < 4) (hb : b < 4) (hab : a ≠ b) (hl2 : l ≤ 60) (hR : bl_R l 0 a b [] [(0, 5)] (nI b) (-1) 1 (nI b) (nI a) (nI r) 4 2 (fl, fg, a1, a2, a3, a4, a5, a6, a7, a8, a9, a10, a11, a12))
    (hp : ∀ cl cg c1 c2 c3 c4 c5 c6 c7 c8 c9 c10 c11 c12, bl_R l 0 a b [(l, 2)] [(0, 5)] (nI b) (-1) 1 (nI b) (nI a) (nI r) 4 (-4) (cl, cg, c1, c2, c3, c4, c5, c6, c7, c8, c9, c10, c11, c12) → post 0 (cl, cg, c1, c2, c3, c4, c5, c6, c7, c8, c9, c10, c11, c12)) : wpX_tick post (fl, fg, a1, a2, a3, a4, a5, a6, a7, a8, a9, a10, a11, a12) (nI 1) :=
  bl_tick1R (g := 0) (g' := 0) (n := 0) rfl (Nat.le_refl 0) hR (fun P hu => bl_to3 (fun a6 h6a h6b => bl_tk_p (a6 := a6) (l := l) (g := 0) (A := []) (C := [(0, 5)]) ha hb hab (Or.inl bl_ne0) (Or.inr h6b)) hl2 ha hab (by decide) (by decide) rfl hR hu) hp
/-- the last tick: one item leaves -/
theorem bl_thy (ha : a < 4) (hb : b < 4) (hab : a ≠ b) (hl : 8 ≤ l) (hR : bl_R l 0 a b [(l, 2)] [(0, 5)] (nI b) (-2) 1 (nI b) (nI a) (nI 60) 0 (-4) (fl, fg, a1, a2, a3, a4, a5, a6, a7, a8, a9, a10, a11, a12))
    (hp : ∀ cl cg c1 c2 c3 c4 c5 c6 c7 c8 c9 c10 c11 c12, bl_R l 1 a b [(l - 1, 2)] [] (nI b) (-2) 1 (nI b) (nI a) (nI 60) 0 (-4) (cl, cg, c1, c2, c3, c4, c5, c6, c7, c8, c9, c10, c11, c12) → post (nI 1) (cl, cg, c1, c2, c3, c4, c5, c6, c7, c8, c9, c10, c11, c12)) : wpX_tick post (fl, fg, a1, a2, a3, a4, a5, a6, a7, a8, a9, a10, a11, a12) (nI 1) := by
  refine bl_tick1R (g := 0) (g' := 1) (n := 1) rfl (by decide) hR (fun P hu => bl_to1 (fun a6 h6a h6b => ?_) (by decide) rfl hR ?_ hu) hp
  · have t := bl_tk_o (a6 := a6) (l := l) (g := 0) (A := [(l, 2)]) (c := 5) (r := []) ha hb hab (Or.inl (bl_ne1 (by omega))) h6b
    rw [bl_ds (show 0 < l by omega)] at t
    exact t
  · intro cl cg c1 c2 c3 c4 c5 c6 c7 c8 c9 c10 c11 c12 q hR' hq
    obtain ⟨e1, e2, hQ, h6a, h6b, h70, h71, h8, h9, h10, h11, h120, h121⟩ := hR'
    exact bl_wr0 hb hQ.2.1 h8 hq
theorem bl_thn (ha : a < 4) (hb : b < 4) (hab : a ≠ b) (hR : bl_R l 0 a b [] [(0, 5), (0, 2)] (nI b) (-2) 1 (nI b) (nI a) (nI 60) 0 (-4) (fl, fg, a1, a2, a3, a4, a5, a6, a7, a8, a9, a10, a11, a12))
    (hp : ∀ cl cg c1 c2 c3 c4 c5 c6 c7 c8 c9 c10 c11 c12, bl_R l 1 a b [] [(3, 2)] (nI b) (-2) 1 (nI b) (nI a) (nI 60) 0 (-4) (cl, cg, c1, c2, c3, c4, c5, c6, c7, c8, c9, c10, c11, c12) → post (nI 1) (cl, cg, c1, c2, c3, c4, c5, c6, c7, c8, c9, c10, c11, c12)) : wpX_tick post (fl, fg, a1, a2, a3, a4, a5, a6, a7, a8, a9, a10, a11, a12) (nI 1) := by
  refine bl_tick1R (g := 0) (g' := 1) (n := 1) rfl (by decide) hR (fun P hu => bl_to1 (fun a6 h6a h6b => ?_) (by decide) rfl hR ?_ hu) hp
  · exact bl_tk_o (a6 := a6) (l := l) (g := 0) (A := []) (c := 5) (r := [(0, 2)]) ha hb hab (Or.inl bl_ne0) h6b
  · intro cl cg c1 c2 c3 c4 c5 c6 c7 c8 c9 c10 c11 c12 q hR' hq
    obtain ⟨e1, e2, hQ, h6a, h6b, h70, h71, h8, h9, h10, h11, h120, h121⟩ := hR'
    exact bl_wr1 hb hQ.2.1 h8 h11 (by decide) hq
end
end
section
section
variable {fl fg : Int32} {a1 a2 a3 a4 a5 a6 a7 a8 a9 a10 a11 a12 : Nat → Int32} {l a b n f r mc ms kc ks : Nat} {post : Int32 → St0 → Prop} {z x3 : Int32}
theorem bl_L708 (hp : post 1 ()) : wL_lawOf_708 post mc ms z z kc ks := by
  unfold wL_lawOf_708
  exact br_t rfl hp
theorem bl_L686y (hb : b < 4) (hp : post 1 ()) (hR : bl_R l 1 a b [(l - 1, 2)] [] (nI b) (-2) 1 (nI b) (nI a) (nI 60) 0 (-4) (fl, fg, a1, a2, a3, a4, a5, a6, a7, a8, a9, a10, a11, a12)) : wL_lawOf_686 post mc ms (nI b) 1 z z kc ks fl fg a1 a2 a3 a4 a5 a6 a7 a8 a9 a10 a11 a12 := by
  unfold wL_lawOf_686
  refine br_t rfl ?_
  refine bl_placeN (i := 0) hb (bl_RQ hR).2.1 (by decide) (by decide) ?_
  exact br_f (by decide) (bl_L708 hp)
theorem bl_L686n (hb : b < 4) (hp : post 1 ()) (hR : bl_R l 1 a b [] [(3, 2)] (nI b) (-2) 1 (nI b) (nI a) (nI 60) 0 (-4) (fl, fg, a1, a2, a3, a4, a5, a6, a7, a8, a9, a10, a11, a12)) : wL_lawOf_686 post mc ms (nI b) 0 z z kc ks fl fg a1 a2 a3 a4 a5 a6 a7 a8 a9 a10 a11 a12 := by
  unfold wL_lawOf_686
  refine br_t rfl ?_
  refine bl_place0 hb (bl_RQ hR).2.1 ?_
  exact br_t rfl (bl_L708 hp)
theorem bl_L603y (ha : a < 4) (hb : b < 4) (hab : a ≠ b) (hl : 8 ≤ l) (hp : post 1 ()) (hR : bl_R l 0 a b [(l, 2)] [(0, 5)] (nI b) (-1) 1 (nI b) (nI a) (nI r) 4 (-4) (fl, fg, a1, a2, a3, a4, a5, a6, a7, a8, a9, a10, a11, a12)) : wL_lawOf_603 post mc ms (nI a) (nI b) 1 z z kc ks fl fg a1 a2 a3 a4 a5 a6 a7 a8 a9 a10 a11 a12 := by
  unfold wL_lawOf_603
  refine br_t rfl ?_
  refine bl_held (i := 1) (by decide) (bl_R12 hR).2 ?_
  refine br_t rfl ?_
  refine bl_lead (a := b) (b := a) hb (fun e => hab e.symm) (by decide) (by decide) (fun e => bl_4a b hb e.symm) (bl_Rs hR) (fun _ cl cg c1 c2 c3 c4 c5 c6 c7 c8 c9 c10 c11 c12 hR1 => ?_)
  refine bl_arm (r := 60) (v := 0) (w := 0) (by decide) ha hb (by decide) (bl_Rs hR1) (fun cl cg c1 c2 c3 c4 c5 c6 c7 c8 c9 c10 c11 c12 hR2 => ?_)
  refine bl_thy ha hb hab hl hR2 (fun cl cg c1 c2 c3 c4 c5 c6 c7 c8 c9 c10 c11 c12 hR3 => ?_)
  refine br_t rfl ?_
  refine bl_out (bl_Rg hR3) ?_
  refine br_t rfl ?_
  refine bl_items hb (bl_RQ hR3).2.1 ?_
  exact br_f (by decide) (bl_L686y hb hp hR3)
theorem bl_L603n (ha : a < 4) (hb : b < 4) (hab : a ≠ b) (hp : post 1 ()) (hR : bl_R l 0 a b [] [(0, 5), (0, 2)] (nI b) (-1) 1 (nI b) (nI a) (nI r) 4 (-4) (fl, fg, a1, a2, a3, a4, a5, a6, a7, a8, a9, a10, a11, a12)) : wL_lawOf_603 post mc ms (nI a) (nI b) 0 z z kc ks fl fg a1 a2 a3 a4 a5 a6 a7 a8 a9 a10 a11 a12 := by
  unfold wL_lawOf_603
  refine br_t rfl ?_
  refine bl_held (i := 1) (by decide) (bl_R12 hR).2 ?_
  refine br_t rfl ?_
  refine bl_lead (a := b) (b := a) hb (fun e => hab e.symm) (by decide) (by decide) (fun e => bl_4a b hb e.symm) (bl_Rs hR) (fun _ cl cg c1 c2 c3 c4 c5 c6 c7 c8 c9 c10 c11 c12 hR1 => ?_)
  refine bl_arm (r := 60) (v := 0) (w := 0) (by decide) ha hb (by decide) (bl_Rs hR1) (fun cl cg c1 c2 c3 c4 c5 c6 c7 c8 c9 c10 c11 c12 hR2 => ?_)
  refine bl_thn ha hb hab hR2 (fun cl cg c1 c2 c3 c4 c5 c6 c7 c8 c9 c10 c11 c12 hR3 => ?_)
  refine br_t rfl ?_
  refine bl_out (bl_Rg hR3) ?_
  refine br_t rfl ?_
  refine bl_items hb (bl_RQ hR3).2.1 ?_
  exact br_t rfl (bl_L686n hb hp hR3)
theorem bl_L501y (ha : a < 4) (hb : b < 4) (hab : a ≠ b) (hl : 8 ≤ l) (hl2 : l ≤ 60) (hp : post 1 ()) (hR : bl_R l 0 a b [] [(0, 5)] (nI b) (-1) 1 (nI b) (nI a) (nI r) 4 2 (fl, fg, a1, a2, a3, a4, a5, a6, a7, a8, a9, a10, a11, a12)) : wL_lawOf_501 post mc ms (nI l) (nI a) (nI b) 1 kc ks fl fg a1 a2 a3 a4 a5 a6 a7 a8 a9 a10 a11 a12 := by
  unfold wL_lawOf_501
  refine bl_held (i := 1) (by decide) (bl_R12 hR).2 ?_
  refine br_f (by decide) ?_
  unfold wL_lawOf_520
  refine br_t rfl ?_
  refine bl_items hb (bl_RQ hR).2.1 ?_
  refine br_f (by decide) ?_
  unfold wL_lawOf_540
  refine br_t rfl ?_
  refine bl_held (i := 0) (by decide) (bl_R12 hR).1 ?_
  refine br_t rfl ?_
  refine bl_tg ha hb hab hl2 hR (fun cl cg c1 c2 c3 c4 c5 c6 c7 c8 c9 c10 c11 c12 hR1 => ?_)
  refine bl_items ha (bl_RQ hR1).1 ?_
  refine br_f (by decide) ?_
  unfold wL_lawOf_580
  refine br_t rfl ?_
  refine bl_place0 ha (bl_RQ hR1).1 ?_
  refine br_f (by decide) ?_
  exact bl_L603y ha hb hab hl hp hR1
theorem bl_L501n (ha : a < 4) (hb : b < 4) (hab : a ≠ b) (hr : r = 0 ∨ 4 < r) (hr8 : r ≤ 8) (hp : post 1 ()) (hR : bl_R l 0 a b [] [(0, 5), (0, 2)] (nI b) (-1) 1 (nI b) (nI a) (nI r) 4 (-4) (fl, fg, a1, a2, a3, a4, a5, a6, a7, a8, a9, a10, a11, a12)) : wL_lawOf_501 post mc ms (nI l) (nI a) (nI b) 0 kc ks fl fg a1 a2 a3 a4 a5 a6 a7 a8 a9 a10 a11 a12 := by
  unfold wL_lawOf_501
  refine bl_held (i := 1) (by decide) (bl_R12 hR).2 ?_
  refine br_t rfl ?_
  unfold wL_lawOf_520
  refine br_t rfl ?_
  refine bl_items hb (bl_RQ hR).2.1 ?_
  refine br_t rfl ?_
  unfold wL_lawOf_540
  refine br_t rfl ?_
  refine bl_held (i := 0) (by decide) (bl_R12 hR).1 ?_
  refine br_t rfl ?_
  refine bl_tfn ha hb hab hr hr8 hR (fun cl cg c1 c2 c3 c4 c5 c6 c7 c8 c9 c10 c11 c12 hR1 => ?_)
  refine bl_items ha (bl_RQ hR1).1 ?_
  refine br_t rfl ?_
  unfold wL_lawOf_580
  refine br_t rfl ?_
  refine bl_placeN (i := 0) ha (bl_RQ hR1).1 (by decide) (by decide) ?_
  refine br_t rfl ?_
  exact bl_L603n ha hb hab hp hR1
theorem bl_rem9 (x : Int32) : ∃ r, r ≤ 8 ∧ (x &&& 2147483647) - (x &&& 2147483647) / 9 * 9 = nI r := by
  obtain ⟨j, hj, e⟩ := pk_andE x (m := 2147483647) 31 (by decide)
  refine ⟨j % 9, by omega, ?_⟩
  rw [e]
  exact pk_rem (d := 9) hj (by decide) (by decide)
theorem bl_L252 (ha : a < 4) (hb : b < 4) (hab : a ≠ b) (hl : 8 ≤ l) (hl2 : l ≤ 60) (hn4 : 4 ≤ n) (hn : n ≤ 7) (hf : (a < b ∧ f = l - 1) ∨ (b < a ∧ f = l)) (hz : z = nI f) (hp : post 1 ()) (hR : bl_R l 0 a b [(n - 1, 2)] [(f, 5)] (nI b) (-1) 0 0 0 0 0 (-4) (fl, fg, a1, a2, a3, a4, a5, a6, a7, a8, a9, a10, a11, a12)) : wL_lawOf_252 post mc ms x3 (nI l) (nI a) (nI b) (nI n) z kc ks fl fg a1 a2 a3 a4 a5 a6 a7 a8 a9 a10 a11 a12 := by
  subst hz
  have hfl : l - 1 ≤ f ∧ f ≤ l := by omega
  unfold wL_lawOf_252
  refine bl_items ha (bl_RQ hR).1 ?_
  refine br_t rfl ?_
  refine bl_kind0 ha (bl_RQ hR).1 ?_
  refine br_t rfl ?_
  refine bl_place0 ha (bl_RQ hR).1 ?_
  refine br_t (pk_sub (b := 1) (by omega)).symm ?_
  refine bl_place0 hb (bl_RQ hR).2.1 ?_
  refine br_t rfl ?_
  refine bl_kind0 hb (bl_RQ hR).2.1 ?_
  refine br_t rfl ?_
  refine bl_td ha hb hab hl hl2 hn4 hn hf hR (fun cl cg c1 c2 c3 c4 c5 c6 c7 c8 c9 c10 c11 c12 hR1 => ?_)
  refine bl_items ha (bl_RQ hR1).1 ?_
  refine br_t rfl ?_
  refine bl_items hb (bl_RQ hR1).2.1 ?_
  refine br_t rfl ?_
  refine bl_place0 hb (bl_RQ hR1).2.1 ?_
  refine br_t (pk_sub (by omega)).symm ?_
  refine bl_place1 hb (bl_RQ hR1).2.1 ?_
  refine br_t (by rw [show 4 + (f - n) + (n - 4) = f by omega]) ?_
  refine bl_kind1 hb (bl_RQ hR1).2.1 ?_
  refine br_t rfl ?_
  refine bl_te ha hb hab (by omega) hR1 (fun cl cg c1 c2 c3 c4 c5 c6 c7 c8 c9 c10 c11 c12 hR2 => ?_)
  refine bl_place0 hb (bl_RQ hR2).2.1 ?_
  refine br_t rfl ?_
  refine bl_place1 hb (bl_RQ hR2).2.1 ?_
  refine br_t rfl ?_
  refine bl_moving hb (bl_RQ hR2).2.1 ?_
  refine br_t rfl ?_
  refine bl_out (bl_Rg hR2) ?_
  refine br_t rfl ?_
  obtain ⟨r, hr8, er⟩ := bl_rem9 x3
  refine ⟨by decide, nm_r er ?_⟩
  refine bl_arm (r := r) (v := 4) (w := 4) (by decide) ha hb (by omega) hR2 (fun cl cg c1 c2 c3 c4 c5 c6 c7 c8 c9 c10 c11 c12 hR3 => ?_)
  refine br_t rfl ?_
  rcases (show (r = 0 ∨ 4 < r) ∨ (1 ≤ r ∧ r ≤ 4) by omega) with hr | ⟨h1, h4⟩
  · refine bl_tfn ha hb hab hr hr8 hR3 (fun cl cg c1 c2 c3 c4 c5 c6 c7 c8 c9 c10 c11 c12 hR4 => ?_)
    refine br_t rfl ?_
    refine pk_lt 4 r (fun q => ?_) (fun q => ?_)
    · unfold wL_lawOf_500
      exact bl_L501n ha hb hab hr hr8 hp hR4
    · refine pk_lt (r + 3) 4 (fun q2 => ?_) (fun q2 => absurd q2 (by omega)) (nI_add r 3) rfl
      unfold wL_lawOf_500
      exact bl_L501n ha hb hab hr hr8 hp hR4
  · refine bl_tfy ha hb hab h1 h4 hR3 (fun cl cg c1 c2 c3 c4 c5 c6 c7 c8 c9 c10 c11 c12 hR4 => ?_)
    refine br_t rfl ?_
    refine pk_lt 4 r (fun q => absurd q (by omega)) (fun q => ?_)
    refine pk_lt (r + 3) 4 (fun q2 => absurd q2 (by omega)) (fun q2 => ?_) (nI_add r 3) rfl
    exact bl_L501y ha hb hab hl hl2 hp hR4
theorem bl_L177 (ha : a < 4) (hb : b < 4) (hab : a ≠ b) (hl : 8 ≤ l) (hl2 : l ≤ 60) (hn4 : 4 ≤ n) (hn : n ≤ 7) (hp : post 1 ()) (hR : bl_R l 0 a b [(l - n, 5), (n - 4, 2)] [] (nI b) (-1) 0 0 0 0 0 (-4) (fl, fg, a1, a2, a3, a4, a5, a6, a7, a8, a9, a10, a11, a12)) : wL_lawOf_177 post mc ms x3 (nI l) (nI a) (nI b) (nI n) z z kc ks fl fg a1 a2 a3 a4 a5 a6 a7 a8 a9 a10 a11 a12 := by
  unfold wL_lawOf_177
  refine br_t rfl ?_
  rw [pk_sub (show n ≤ l by omega)]
  refine bl_tb ha hb hab hl2 hR (fun cl cg c1 c2 c3 c4 c5 c6 c7 c8 c9 c10 c11 c12 hR1 => ?_)
  refine bl_place0 ha (bl_RQ hR1).1 ?_
  refine br_t rfl ?_
  refine bl_place1 ha (bl_RQ hR1).1 ?_
  refine br_t (by rw [show 4 + 0 + (n - 4) = n by omega]) ?_
  refine bl_items hb (bl_RQ hR1).2.1 ?_
  refine br_t rfl ?_
  rcases Nat.lt_or_ge a b with h | h
  · have hf : (a < b ∧ l - 1 = l - 1) ∨ (b < a ∧ l - 1 = l) := Or.inl ⟨h, rfl⟩
    refine bl_tc ha hb hl hl2 hn4 hf hR1 (fun cl cg c1 c2 c3 c4 c5 c6 c7 c8 c9 c10 c11 c12 hR2 => ?_)
    exact pk_le b a (fun q => absurd q (by omega)) (fun _ => bl_L252 ha hb hab hl hl2 hn4 hn hf (pk_sub (b := 1) (by omega)) hp hR2)
  · have hf : (a < b ∧ l = l - 1) ∨ (b < a ∧ l = l) := Or.inr ⟨by omega, rfl⟩
    refine bl_tc ha hb hl hl2 hn4 hf hR1 (fun cl cg c1 c2 c3 c4 c5 c6 c7 c8 c9 c10 c11 c12 hR2 => ?_)
    exact pk_le b a (fun _ => bl_L252 ha hb hab hl hl2 hn4 hn hf rfl hp hR2) (fun q => absurd q (by omega))
theorem bl_len53 (x : Int32) : ∃ l, 8 ≤ l ∧ l ≤ 60 ∧ 8 + ((x &&& 2147483647) - (x &&& 2147483647) / 53 * 53) = nI l := by
  obtain ⟨j, hj, e⟩ := pk_andE x (m := 2147483647) 31 (by decide)
  refine ⟨8 + j % 53, by omega, by omega, ?_⟩
  rw [e, show nI j - nI j / 53 * 53 = nI (j % 53) from pk_rem (d := 53) hj (by decide) (by decide)]
  exact nI_add 8 _
theorem bl_which (x : Int32) : ∃ a b, a < 4 ∧ b < 4 ∧ a ≠ b ∧ x &&& 3 = nI a ∧ ((nI a + 1) + (((x >>> ((2 : Int32) &&& 31)) &&& 255) - ((x >>> ((2 : Int32) &&& 31)) &&& 255) / 3 * 3)) &&& 3 = nI b := by
  obtain ⟨a, ha, ea⟩ := pk_andE x (m := 3) 2 (by decide)
  obtain ⟨t, ht, et⟩ := pk_andE (x >>> ((2 : Int32) &&& 31)) (m := 255) 8 (by decide)
  refine ⟨a, (a + 1 + t % 3) % 4, by omega, by omega, by omega, ea, ?_⟩
  rw [et, show nI t - nI t / 3 * 3 = nI (t % 3) from pk_rem (d := 3) (by omega) (by decide) (by decide), nI_1, nI_add, pk_andN (show a + 1 + t % 3 < 2 ^ 32 by omega) 2 (by decide)]
theorem bl_gap (x : Int32) : ∃ n, 4 ≤ n ∧ n ≤ 7 ∧ 4 + (x &&& 3) = nI n := by
  obtain ⟨q, hq, e⟩ := pk_andE x (m := 3) 2 (by decide)
  refine ⟨4 + q, by omega, by omega, ?_⟩
  rw [e]
  exact nI_add 4 _
theorem bl_L (p0 p1 p2 p3 : Int32) (hp : post 1 ()) : wpL_lawOf post 112 1776 () p0 p1 p2 p3 := by
  obtain ⟨l, hl, hl2, el⟩ := bl_len53 p0
  obtain ⟨a, b, ha, hb, hab, ea, eb⟩ := bl_which p1
  obtain ⟨n, hn4, hn, en⟩ := bl_gap p2
  unfold wpL_lawOf
  refine ⟨by decide, nm_r el ⟨by decide, by decide, 12, 156, by decide, by decide, ?_⟩⟩
  refine bl_init (Nat.le_refl 12) (Nat.le_refl 156) hl hl2 (fun cl cg c1 c2 c3 c4 c5 c6 c7 c8 c9 c10 c11 c12 hRab => ?_)
  refine nm_r ea ⟨by decide, nm_r eb (nm_r en ?_)⟩
  refine bl_lead ha hab (bl_4b b hb) (nI_ge (b := 4) hb (by decide)) (fun e => hab ((nI_eq (by omega) (by omega)).mp e).symm) (hRab a b ha hb) (fun _ cl cg c1 c2 c3 c4 c5 c6 c7 c8 c9 c10 c11 c12 hR0 => ?_)
  refine bl_putR ha hab hl hl2 (by decide) (by decide) (Or.inl ⟨rfl, rfl⟩) hR0 (fun cl cg c1 c2 c3 c4 c5 c6 c7 c8 c9 c10 c11 c12 hR1 => ?_)
  refine br_t rfl ?_
  refine bl_ta ha hb hab hl hn hR1 (fun cl cg c1 c2 c3 c4 c5 c6 c7 c8 c9 c10 c11 c12 hR2 => ?_)
  refine br_t rfl ?_
  refine bl_putR (A' := [(l - n, 5), (n - 4, 2)]) ha hab hl hl2 (by decide) (by decide) (Or.inr ⟨l - n, 5, rfl, by omega, by rw [show l - (l - n) - 4 = n - 4 by omega]⟩) hR2 (fun cl cg c1 c2 c3 c4 c5 c6 c7 c8 c9 c10 c11 c12 hR3 => ?_)
  refine br_t rfl ?_
  refine bl_putRN ha hl hl2 (by decide) (by decide) (by omega) hR3 ?_
  refine br_t rfl ?_
  refine bl_place0 ha (bl_RQ hR3).1 ?_
  refine br_t (pk_sub (by omega)).symm ?_
  refine bl_place1 ha (bl_RQ hR3).1 ?_
  refine br_t (by rw [show 4 + (l - n) + (n - 4) = l by omega]) ?_
  refine bl_moving ha (bl_RQ hR3).1 ?_
  have hz : bl_z [(l - n, (5 : Int32)), (n - 4, 2)] = 0 := by
    rw [show l - n = l - n - 1 + 1 by omega]
    rfl
  rw [hz]
  refine br_t (nI_lt (by omega) (by omega)) ?_
  unfold wL_lawOf_161
  refine br_f (nI_ge (by omega) (by omega)) ?_
  exact bl_L177 ha hb hab hl hl2 hn4 hn hp hR3
end
theorem bl_cell {post : Int32 → Prop} {L i : Nat} {xs : Nat → Int32} (hL : L ≤ 4) (hi : i ≤ 3) (h : ∀ v, post v) : wpL_cellAt post L xs () (nI i) := by
  unfold wpL_cellAt
  exact pk_le L i (fun _ => h _) (fun z => ⟨pk_in i L z, h _⟩)
end
section
theorem i_vc (xs : Nat → Int32) (L : Nat) (hL : L ≤ 4) : wpL_law (fun r => r = 1) L xs := by
  unfold wpL_law
  refine bl_cell (i := 0) hL (by decide) (fun r1 => ?_)
  refine bl_cell (i := 1) hL (by decide) (fun r2 => ?_)
  refine bl_cell (i := 2) hL (by decide) (fun r3 => ?_)
  refine bl_cell (i := 3) hL (by decide) (fun r4 => ?_)
  exact ⟨112, 1776, by decide, by decide, bl_L r1 r2 r3 r4 rfl⟩
end
