section
/-! the program is built: append, set, move, out, flow -/
theorem ac_append {post : Int32 → St2 → Prop} {m : Nat} {f1 f2 f3 f4 f5 f6 f7 : Int32} {a1 a2 a3 a4 a5 a6 a7 a8 a9 a10 : Nat → Int32} {p0 p1 p2 p3 : Int32} (hm : m < 14)
    (H : post (nI m) (nI (m + 1), 0, f2, 0, f4, f5, f6, 0, upd a1 m p0.toInt8.toInt32, upd a2 m p1.toInt8.toInt32, upd a3 m p2.toInt16.toInt32, upd a4 m p3, a5, a6, a7, a8, a9, a10)) :
    wpX_append post (nI m, f1, f2, f3, f4, f5, f6, f7, a1, a2, a3, a4, a5, a6, a7, a8, a9, a10) p0 p1 p2 p3 := by
  unfold wpX_append wpX_changed
  dsimp only
  rw [nI_clamp (show m < 2 ^ 31 by omega)]
  refine br_t (nI_lt hm (by decide)) ⟨pk_in m 14 hm, nm_e ⟨pk_in m 14 hm, nm_e ⟨pk_in m 14 hm, nm_e ⟨pk_in m 14 hm, nm_e (nm_r (nI_1 m) ?_)⟩⟩⟩⟩
  rw [nI_pred]
  exact H
theorem ac_place_t {post : Int32 → Prop} {p : Nat} (hp : p < 5) (H : post 1) : wpX_isPlace post () (nI p) :=
  br_f (nI_pos (by omega)) (br_f (nI_ge (b := 5) hp (by decide)) H)
theorem ac_place_f {post : Int32 → Prop} {x : Int32} (h : x < 0 ∨ nI 5 ≤ x) (H : post 0) : wpX_isPlace post () x :=
  br_c (fun _ => H) (fun g => br_t (h.resolve_left g) H)
theorem ac_value_t {post : Int32 → Prop} {p : Nat} (hp : p < 4) (H : post 1) : wpX_isValue post () (nI p) :=
  br_f (nI_pos (by omega)) (br_f (nI_ge (b := 4) hp (by decide)) H)
theorem ac_value_f {post : Int32 → Prop} {x : Int32} (h : x < 0 ∨ nI 4 ≤ x) (H : post 0) : wpX_isValue post () x :=
  br_c (fun _ => H) (fun g => br_t (h.resolve_left g) H)
theorem ac_ne10 : ¬ (1 : Int32) = 0 := by decide
theorem ac_set {post : Int32 → St2 → Prop} {m : Nat} {f1 f2 f3 f4 f5 f6 f7 : Int32} {a1 a2 a3 a4 a5 a6 a7 a8 a9 a10 : Nat → Int32} {n : Int32} (hm : m < 14)
    (H : post (nI m) (nI (m + 1), 0, f2, 0, f4, f5, f6, 0, upd a1 m (0 : Int32).toInt8.toInt32, upd a2 m (1 : Int32).toInt8.toInt32, upd a3 m (2 : Int32).toInt16.toInt32, upd a4 m n, a5, a6, a7, a8, a9, a10)) :
    wpX_set post (nI m, f1, f2, f3, f4, f5, f6, f7, a1, a2, a3, a4, a5, a6, a7, a8, a9, a10) 1 2 n := by
  unfold wpX_set
  dsimp only
  exact ac_value_t (p := 1) (by decide) (br_f ac_ne10 (ac_place_t (p := 2) (by decide) (br_f ac_ne10 (ac_append hm H))))
theorem ac_move_t {post : Int32 → St2 → Prop} {m p : Nat} {f1 f2 f3 f4 f5 f6 f7 : Int32} {a1 a2 a3 a4 a5 a6 a7 a8 a9 a10 : Nat → Int32} (hm : m < 14) (hp : p < 5)
    (H : post (nI m) (nI (m + 1), 0, f2, 0, f4, f5, f6, 0, upd a1 m (2 : Int32).toInt8.toInt32, upd a2 m (0 : Int32).toInt8.toInt32, upd a3 m (nI p + 8 * 2).toInt16.toInt32, upd a4 m 0, a5, a6, a7, a8, a9, a10)) :
    wpX_move post (nI m, f1, f2, f3, f4, f5, f6, f7, a1, a2, a3, a4, a5, a6, a7, a8, a9, a10) (nI p) 2 := by
  unfold wpX_move
  dsimp only
  exact ac_place_t hp (br_f ac_ne10 (ac_place_t (p := 2) (by decide) (br_f ac_ne10 (ac_append hm H))))
theorem ac_move_f {post : Int32 → St2 → Prop} {f0 f1 f2 f3 f4 f5 f6 f7 : Int32} {a1 a2 a3 a4 a5 a6 a7 a8 a9 a10 : Nat → Int32} {x : Int32} (hx : x < 0 ∨ nI 5 ≤ x)
    (H : post (-1) (f0, f1, f2, f3, f4, f5, f6, f7, a1, a2, a3, a4, a5, a6, a7, a8, a9, a10)) : wpX_move post (f0, f1, f2, f3, f4, f5, f6, f7, a1, a2, a3, a4, a5, a6, a7, a8, a9, a10) x 2 := by
  unfold wpX_move
  dsimp only
  exact ac_place_f hx (br_t rfl H)
theorem ac_out_t {post : Int32 → St2 → Prop} {m a q : Nat} {f1 f2 f3 f4 f5 f6 f7 : Int32} {a1 a2 a3 a4 a5 a6 a7 a8 a9 a10 : Nat → Int32} (hm : m < 14) (ha : a < 4) (hq : q < 5)
    (H : post (nI m) (nI (m + 1), 0, f2, 0, f4, f5, f6, 0, upd a1 m (3 : Int32).toInt8.toInt32, upd a2 m (4 * nI a).toInt8.toInt32, upd a3 m (8 * nI q).toInt16.toInt32, upd a4 m 0, a5, a6, a7, a8, a9, a10)) :
    wpX_out post (nI m, f1, f2, f3, f4, f5, f6, f7, a1, a2, a3, a4, a5, a6, a7, a8, a9, a10) (nI a) (nI q) := by
  unfold wpX_out
  dsimp only
  exact ac_value_t ha (br_f ac_ne10 (ac_place_t hq (br_f ac_ne10 (ac_append hm H))))
/-- an out that is refused -/
def ac_bad (x y : Int32) : Prop := (x < 0 ∨ nI 4 ≤ x) ∨ ((∃ a, a < 4 ∧ x = nI a) ∧ (y < 0 ∨ nI 5 ≤ y))
theorem ac_out_f {post : Int32 → St2 → Prop} {f0 f1 f2 f3 f4 f5 f6 f7 : Int32} {a1 a2 a3 a4 a5 a6 a7 a8 a9 a10 : Nat → Int32} {x y : Int32} (h : ac_bad x y)
    (H : post (-1) (f0, f1, f2, f3, f4, f5, f6, f7, a1, a2, a3, a4, a5, a6, a7, a8, a9, a10)) : wpX_out post (f0, f1, f2, f3, f4, f5, f6, f7, a1, a2, a3, a4, a5, a6, a7, a8, a9, a10) x y := by
  unfold wpX_out
  dsimp only
  rcases h with h | ⟨⟨a, ha, rfl⟩, h⟩
  · exact ac_value_f h (br_t rfl H)
  · exact ac_value_t ha (br_f ac_ne10 (ac_place_f h (br_t rfl H)))
theorem ac_flow {post : Int32 → St2 → Prop} {m : Nat} {f1 f2 f3 f4 f5 f6 f7 : Int32} {a1 a2 a3 a4 a5 a6 a7 a8 a9 a10 : Nat → Int32} (hm : m < 14)
    (H : post (nI m) (nI (m + 1), 0, f2, 0, f4, f5, f6, 0, upd a1 m (7 : Int32).toInt8.toInt32, upd a2 m (0 : Int32).toInt8.toInt32, upd a3 m (0 : Int32).toInt16.toInt32, upd a4 m 0, a5, a6, a7, a8, a9, a10)) :
    wpX_flow post (nI m, f1, f2, f3, f4, f5, f6, f7, a1, a2, a3, a4, a5, a6, a7, a8, a9, a10) 2 0 := by
  unfold wpX_flow
  dsimp only
  exact br_f (by decide) (br_f (by decide) (ac_append hm H))
end
section
/-! the check: a straight program (SET, MOVE, OUT .. STOP) is walked once, position by position -/
def ac_w (k : Nat) : Int32 := (1 : Int32) <<< (nI k &&& 31)
theorem ac_w0 : ∀ k, k < 14 → ¬ ac_w k = 0 := by decide +kernel
theorem ac_wl : ∀ k, k < 14 → ∀ j, j < k → ((ac_w k >>> (nI j &&& 31)) &&& 1) = 0 := by decide +kernel
theorem ac_wk : ∀ k, k < 14 → ¬ ((ac_w k >>> (nI k &&& 31)) &&& 1) = 0 := by decide +kernel
theorem ac_wx : ∀ k, k < 14 → ac_w k &&& (((1 : Int32) <<< (nI k &&& 31)) ^^^ (-1)) = 0 := by decide +kernel
theorem ac_or0 (x : Int32) : 0 ||| x = x := Int32.zero_or
/-- the pairs behind an instruction -/
def ac_aft (op v pl x : Int32) : Int32 :=
  if op = 0 then ((x &&& (((69905 : Int32) <<< ((v &&& 3) &&& 31)) ^^^ (-1))) &&& (((15 : Int32) <<< ((4 * (pl &&& 7)) &&& 31)) ^^^ (-1))) ||| ((1 : Int32) <<< (((4 * (pl &&& 7)) + (v &&& 3)) &&& 31))
  else if op = 2 then (x &&& (((15 : Int32) <<< ((4 * (pl &&& 7)) &&& 31)) ^^^ (-1))) ||| (((x >>> ((4 * ((pl >>> ((3 : Int32) &&& 31)) &&& 7)) &&& 31)) &&& 15) <<< ((4 * (pl &&& 7)) &&& 31))
  else x
/-- the pairs ahead of position k of a straight program -/
def ac_pi (a1 a2 a3 : Nat → Int32) : Nat → Int32
  | 0 => 0
  | k + 1 => ac_aft (a1 k) (a2 k) (a3 k) (ac_pi a1 a2 a3 k)
/-- the faults noted at a position of a straight program -/
def ac_flt (op v pl x : Int32) : Int32 :=
  if op = 3 ∧ ((x >>> (((4 * ((pl >>> ((3 : Int32) &&& 31)) &&& 7)) + ((v >>> ((2 : Int32) &&& 31)) &&& 3)) &&& 31)) &&& 1) = 0 then 1 else 0
theorem ac_flt8 (op v pl x : Int32) : (ac_flt op v pl x).toInt8.toInt32 = ac_flt op v pl x := by
  unfold ac_flt
  split <;> rfl
theorem ac_least {post : Int32 → Prop} {k : Nat} {f0 f1 f3 f4 f5 f6 f7 : Int32} {a1 a2 a3 a4 a5 a6 a7 a8 a9 a10 : Nat → Int32} (hk : k < 14) (H : post (nI k)) : wpX_leastWaiting post (f0, f1, ac_w k, f3, f4, f5, f6, f7, a1, a2, a3, a4, a5, a6, a7, a8, a9, a10) := by
  unfold wpX_leastWaiting
  dsimp only
  exact pk_loop (σ := Unit) (fun n i _ => wX_leastWaiting_2 post f0 f1 (ac_w k) f3 f4 f5 f6 f7 a1 a2 a3 a4 a5 a6 a7 a8 a9 a10 n (nI i)) (fun _ _ => True) k 0 () (by omega) trivial
    (fun n _ _ => pk_le 14 k (fun z => absurd z (by omega)) (fun _ => br_f (ac_wk k hk) H))
    (fun n i _ hi _ hw => pk_le 14 i (fun z => absurd z (by omega)) (fun _ => br_t (ac_wl k hk i hi) (nm_r (nI_1 i) (hw () trivial))))
theorem ac_come {post : St2 → Prop} {m k : Nat} {f1 f2 f3 f4 f5 f6 f7 : Int32} {a1 a2 a3 a4 a5 a6 a7 a8 a9 a10 : Nat → Int32} {y1 y2 : Int32} (hk : k < m) (hm : m ≤ 14) (h5 : a5 k = 0)
    (H : post (nI m, f1, f2 ||| ac_w k, f3, f4, f5, f6, f7, a1, a2, a3, a4, upd a5 k 1, upd a6 k (a6 k &&& y1), upd a7 k (a7 k ||| y2), a8, a9, a10)) :
    wpX_come post (nI m, f1, f2, f3, f4, f5, f6, f7, a1, a2, a3, a4, a5, a6, a7, a8, a9, a10) (nI k) y1 y2 := by
  have hk14 : k < 14 := by omega
  unfold wpX_come wX_come_60
  dsimp only
  rw [nI_clamp (show k < 2 ^ 31 by omega)]
  exact br_f (nI_pos (by omega)) (br_f (nI_ge hk (by omega)) (br_f ac_ne10 ⟨pk_in k 14 hk14, nm_e ⟨pk_in k 14 hk14, nm_e ⟨pk_in k 14 hk14, br_t h5 ⟨pk_in k 14 hk14, nm_e ⟨pk_in k 14 hk14, nm_e ⟨pk_in k 14 hk14, nm_e (nm_e H)⟩⟩⟩⟩⟩⟩))
theorem ac_after {post : Int32 → Prop} {k : Nat} {f0 f1 f2 f3 f4 f5 f6 f7 : Int32} {a1 a2 a3 a4 a5 a6 a7 a8 a9 a10 : Nat → Int32} {x : Int32} (hk : k < 14) (ho : a1 k = 0 ∨ a1 k = 2 ∨ a1 k = 3 ∨ a1 k = 7)
    (H : post (ac_aft (a1 k) (a2 k) (a3 k) x)) : wpX_after post (f0, f1, f2, f3, f4, f5, f6, f7, a1, a2, a3, a4, a5, a6, a7, a8, a9, a10) (nI k) x := by
  unfold wpX_after wX_after_37 wpX_define
  dsimp only
  rw [nI_clamp (show k < 2 ^ 31 by omega)]
  refine ⟨pk_in k 14 hk, nm_e ⟨pk_in k 14 hk, nm_e ⟨pk_in k 14 hk, nm_e ?_⟩⟩⟩
  unfold ac_aft at H
  rcases ho with h | h | h | h
  · rw [if_pos h] at H
    exact br_t h (nm_e (nm_e H))
  · rw [if_neg (by rw [h]; decide), if_pos h] at H
    rw [h]
    exact br_f (by decide) (br_f (by decide) (br_t rfl ⟨pk_in k 14 hk, nm_e H⟩))
  · rw [if_neg (by rw [h]; decide), if_neg (by rw [h]; decide)] at H
    rw [h]
    exact br_f (by decide) (br_f (by decide) (br_f (by decide) (br_f (by decide) H)))
  · rw [if_neg (by rw [h]; decide), if_neg (by rw [h]; decide)] at H
    rw [h]
    exact br_f (by decide) (br_f (by decide) (br_f (by decide) (br_f (by decide) H)))
theorem ac_spread {post : St2 → Prop} {m k : Nat} {f1 f2 f3 f4 f5 f6 f7 : Int32} {a1 a2 a3 a4 a5 a6 a7 a8 a9 a10 : Nat → Int32} (hk : k + 1 < m) (hm : m ≤ 14) (ho : a1 k = 0 ∨ a1 k = 2 ∨ a1 k = 3) (h5 : a5 (k + 1) = 0)
    (H : post (nI m, f1, f2 ||| ac_w (k + 1), f3, f4, f5, f6, f7, a1, a2, a3, a4, upd a5 (k + 1) 1, upd a6 (k + 1) (a6 (k + 1) &&& ac_aft (a1 k) (a2 k) (a3 k) (a6 k)), upd a7 (k + 1) (a7 (k + 1) ||| ac_aft (a1 k) (a2 k) (a3 k) (a7 k)), a8, a9, a10)) :
    wpX_spread post (nI m, f1, f2, f3, f4, f5, f6, f7, a1, a2, a3, a4, a5, a6, a7, a8, a9, a10) (nI k) := by
  have hk14 : k < 14 := by omega
  have ho' : a1 k = 0 ∨ a1 k = 2 ∨ a1 k = 3 ∨ a1 k = 7 := by rcases ho with h | h | h <;> simp [h]
  have n5 : ¬ a1 k = 5 := by rcases ho with h | h | h <;> rw [h] <;> decide
  have n6 : ¬ a1 k = 6 := by rcases ho with h | h | h <;> rw [h] <;> decide
  have n7 : ¬ a1 k = 7 := by rcases ho with h | h | h <;> rw [h] <;> decide
  unfold wpX_spread wX_spread_57
  dsimp only
  rw [nI_clamp (show k < 2 ^ 31 by omega), nI_1 k]
  exact ⟨pk_in k 14 hk14, ac_after hk14 ho' ⟨pk_in k 14 hk14, ac_after hk14 ho' ⟨pk_in k 14 hk14, nm_e (br_f n5 (br_f n6 (br_f n6 (br_f n7 (ac_come hk hm h5 H)))))⟩⟩⟩
theorem ac_spread7 {post : St2 → Prop} {k : Nat} {f0 f1 f2 f3 f4 f5 f6 f7 : Int32} {a1 a2 a3 a4 a5 a6 a7 a8 a9 a10 : Nat → Int32} (hk14 : k < 14) (h : a1 k = 7) (H : post (f0, f1, f2, f3, f4, f5, f6, f7, a1, a2, a3, a4, a5, a6, a7, a8, a9, a10)) : wpX_spread post (f0, f1, f2, f3, f4, f5, f6, f7, a1, a2, a3, a4, a5, a6, a7, a8, a9, a10) (nI k) := by
  have ho' : a1 k = 0 ∨ a1 k = 2 ∨ a1 k = 3 ∨ a1 k = 7 := by simp [h]
  have n5 : ¬ a1 k = 5 := by rw [h]; decide
  have n6 : ¬ a1 k = 6 := by rw [h]; decide
  unfold wpX_spread wX_spread_57
  dsimp only
  rw [nI_clamp (show k < 2 ^ 31 by omega)]
  exact ⟨pk_in k 14 hk14, ac_after hk14 ho' ⟨pk_in k 14 hk14, ac_after hk14 ho' ⟨pk_in k 14 hk14, nm_e (br_f n5 (br_f n6 (br_f n6 (br_t h H))))⟩⟩⟩
/-- a straight program of m instructions -/
def ac_prog (m : Nat) (a1 a2 a3 : Nat → Int32) : Prop :=
  0 < m ∧ m ≤ 14 ∧ (∀ k, k + 1 < m → a1 k = 0 ∨ a1 k = 2 ∨ a1 k = 3) ∧ (∀ k, k + 1 = m → a1 k = 7) ∧ (∀ k, k < m → 1048575 &&& ac_pi a1 a2 a3 k = ac_pi a1 a2 a3 k)
/-- the places behind round i -/
def ac_inv (m : Nat) (a1 a2 a3 : Nat → Int32) (i : Nat) (s : Int32 × (Nat → Int32) × (Nat → Int32) × (Nat → Int32)) : Prop :=
  s.1 = (if i < m then ac_w i else 0) ∧ (∀ j, j < m → j ≤ i → s.2.1 j = 1 ∧ s.2.2.1 j = ac_pi a1 a2 a3 j ∧ s.2.2.2 j = ac_pi a1 a2 a3 j) ∧ (∀ j, j < 14 → i < j → s.2.1 j = 0 ∧ s.2.2.1 j = 1048575 ∧ s.2.2.2 j = 0)
theorem ac_c70 {post : St2 → Prop} {m : Nat} {f1 f2 f3 f4 f5 f6 f7 : Int32} {a1 a2 a3 a4 a5 a6 a7 a8 a9 a10 : Nat → Int32} (hp : ac_prog m a1 a2 a3) (hI : ac_inv m a1 a2 a3 0 (f2, a5, a6, a7))
    (H : ∀ b5 b6 b7 : Nat → Int32, (∀ j, j < m → b5 j = 1 ∧ b6 j = ac_pi a1 a2 a3 j) → ∃ n, wX_check_116 post (nI m) f1 0 f3 f4 f5 f6 f7 n 0 a1 a2 a3 a4 b5 b6 b7 a8 a9 a10) :
    ∃ n, wX_check_70 post n 0 (nI m) f1 f2 f3 f4 f5 f6 f7 a1 a2 a3 a4 a5 a6 a7 a8 a9 a10 := by
  obtain ⟨h0, hm, hop, h7, hpi⟩ := hp
  refine pk_loop (fun n i s => wX_check_70 post n (nI i) (nI m) f1 s.1 f3 f4 f5 f6 f7 a1 a2 a3 a4 s.2.1 s.2.2.1 s.2.2.2 a8 a9 a10) (ac_inv m a1 a2 a3) m 0 (f2, a5, a6, a7) (by omega) hI ?_ ?_
  · intro n s h
    obtain ⟨hs, h1, _⟩ := h
    rw [if_neg (by omega)] at hs
    rw [hs]
    exact br_f (nI_ge (b := 600) (by omega) (by decide)) (br_t rfl (H _ _ _ (fun j hj => ⟨(h1 j hj (by omega)).1, (h1 j hj (by omega)).2.1⟩)))
  · intro n i s hi h hw
    obtain ⟨hs, h1, h2⟩ := h
    rw [if_pos hi] at hs
    obtain ⟨w, b5, b6, b7⟩ := s
    dsimp only at hs h1 h2 ⊢
    subst hs
    have hi14 : i < 14 := by omega
    refine br_f (nI_ge (b := 600) (by omega) (by decide)) (br_f (ac_w0 i hi14) (ac_least hi14 (nm_r (ac_wx i hi14) ?_)))
    by_cases e : i + 1 < m
    · obtain ⟨g5, g6, g7⟩ := h2 (i + 1) (by omega) (by omega)
      obtain ⟨k5, k6, k7⟩ := h1 i hi (by omega)
      refine ac_spread e hm (hop i e) g5 (nm_r (nI_1 i) ?_)
      refine hw (0 ||| ac_w (i + 1), upd b5 (i + 1) 1, upd b6 (i + 1) (b6 (i + 1) &&& ac_aft (a1 i) (a2 i) (a3 i) (b6 i)), upd b7 (i + 1) (b7 (i + 1) ||| ac_aft (a1 i) (a2 i) (a3 i) (b7 i))) ⟨?_, ?_, ?_⟩
      · dsimp only
        rw [if_pos e, ac_or0]
      · intro j hj hji
        dsimp only
        by_cases ej : j = i + 1
        · subst ej
          rw [pk_us, pk_us, pk_us, g6, g7, k6, k7, ac_or0]
          exact ⟨rfl, hpi (i + 1) e, rfl⟩
        · rw [pk_un ej, pk_un ej, pk_un ej]
          exact h1 j hj (by omega)
      · intro j hj hji
        dsimp only
        have ej : j ≠ i + 1 := by omega
        rw [pk_un ej, pk_un ej, pk_un ej]
        exact h2 j hj (by omega)
    · refine ac_spread7 hi14 (h7 i (by omega)) (nm_r (nI_1 i) ?_)
      refine hw (0, b5, b6, b7) ⟨?_, ?_, ?_⟩
      · dsimp only
        rw [if_neg e]
      · intro j hj hji
        exact h1 j hj (by omega)
      · intro j hj hji
        exact h2 j hj (by omega)
theorem ac_f64 {post : Int32 → Prop} {m k : Nat} {f1 f2 f3 f4 f5 f6 f7 : Int32} {a1 a2 a3 a4 a5 a6 a7 a8 a9 a10 : Nat → Int32} {x2 x3 : Int32} (hm : m ≤ 14) (ho : (k + 1 < m ∧ (x2 = 0 ∨ x2 = 2 ∨ x2 = 3)) ∨ x2 = 7) (H : post x3) :
    wX_faultsAt_64 post (nI k) x2 x3 (nI m) f1 f2 f3 f4 f5 f6 f7 a1 a2 a3 a4 a5 a6 a7 a8 a9 a10 := by
  unfold wX_faultsAt_64 wX_faultsAt_103 wX_faultsAt_131 wX_faultsAt_132 wX_faultsAt_159
  rw [nI_1 k]
  have tl : (((0 : Int32) = 0 → post x3) ∧ (¬ (0 : Int32) = 0 → post (x3 ||| 4))) := br_t rfl H
  rcases ho with ⟨hk, ho⟩ | h
  · have n1 : ¬ x2 = 1 := by rcases ho with h | h | h <;> rw [h] <;> decide
    have n5 : ¬ x2 = 5 := by rcases ho with h | h | h <;> rw [h] <;> decide
    have n6 : ¬ x2 = 6 := by rcases ho with h | h | h <;> rw [h] <;> decide
    have n7 : ¬ x2 = 7 := by rcases ho with h | h | h <;> rw [h] <;> decide
    exact br_f n1 (br_f n5 (br_f n6 (br_f n6 (br_f n7 (br_f (nI_pos (by omega)) (br_f (nI_ge hk (by omega)) (br_f ac_ne10 tl)))))))
  · have n1 : ¬ x2 = 1 := by rw [h]; decide
    have n5 : ¬ x2 = 5 := by rw [h]; decide
    have n6 : ¬ x2 = 6 := by rw [h]; decide
    exact br_f n1 (br_f n5 (br_f n6 (br_f n6 (br_t h tl))))
theorem ac_faults {post : Int32 → Prop} {m k : Nat} {f1 f2 f3 f4 f5 f6 f7 : Int32} {a1 a2 a3 a4 a5 a6 a7 a8 a9 a10 : Nat → Int32} (hk : k < m) (hm : m ≤ 14) (ho : (k + 1 < m ∧ (a1 k = 0 ∨ a1 k = 2 ∨ a1 k = 3)) ∨ a1 k = 7)
    (H : post (ac_flt (a1 k) (a2 k) (a3 k) (a6 k))) : wpX_faultsAt post (nI m, f1, f2, f3, f4, f5, f6, f7, a1, a2, a3, a4, a5, a6, a7, a8, a9, a10) (nI k) := by
  have hk14 : k < 14 := by omega
  have n1 : ¬ a1 k = 1 := by rcases ho with ⟨_, h | h | h⟩ | h <;> rw [h] <;> decide
  unfold wpX_faultsAt wX_faultsAt_19 wX_faultsAt_24 wpX_carried
  dsimp only
  rw [nI_clamp (show k < 2 ^ 31 by omega)]
  unfold ac_flt at H
  refine ⟨pk_in k 14 hk14, nm_e (br_f n1 (br_c (fun h3 => br_f ac_ne10 ⟨pk_in k 14 hk14, pk_in k 14 hk14, pk_in k 14 hk14, br_c (fun hb => ?_) (fun hb => ?_)⟩) (fun h3 => br_t rfl ?_)))⟩
  · rw [if_pos ⟨h3, hb⟩] at H
    exact br_t rfl (nm_r (e' := 1) (by decide) (ac_f64 hm ho H))
  · rw [if_neg (fun t => hb t.2)] at H
    exact br_f ac_ne10 (ac_f64 hm ho H)
  · rw [if_neg (fun t => h3 t.1)] at H
    exact ac_f64 hm ho H
theorem ac_c116 {post : St2 → Prop} {m : Nat} {f1 f2 f3 f4 f5 f6 f7 : Int32} {a1 a2 a3 a4 a5 a6 a7 a8 a9 a10 : Nat → Int32} (hp : ac_prog m a1 a2 a3) (h56 : ∀ j, j < m → a5 j = 1 ∧ a6 j = ac_pi a1 a2 a3 j)
    (H : ∀ b8 : Nat → Int32, (∀ j, j < m → b8 j = ac_flt (a1 j) (a2 j) (a3 j) (ac_pi a1 a2 a3 j)) → post (nI m, f1, f2, f3, f4, f5, f6, f7, a1, a2, a3, a4, a5, a6, a7, b8, a9, a10)) :
    ∃ n, wX_check_116 post (nI m) f1 f2 f3 f4 f5 f6 f7 n 0 a1 a2 a3 a4 a5 a6 a7 a8 a9 a10 := by
  obtain ⟨h0, hm, hop, h7, hpi⟩ := hp
  refine pk_loop (fun n i s => wX_check_116 post (nI m) f1 f2 f3 f4 f5 f6 f7 n (nI i) a1 a2 a3 a4 a5 a6 a7 s a9 a10) (fun i s => ∀ j, j < i → s j = ac_flt (a1 j) (a2 j) (a3 j) (ac_pi a1 a2 a3 j)) m 0 a8 (by omega) (fun j hj => absurd hj (by omega)) ?_ ?_
  · intro n s h
    exact pk_le m m (fun _ => H s h) (fun z => absurd z (by omega))
  · intro n i s hi h hw
    have hi14 : i < 14 := by omega
    have ho : (i + 1 < m ∧ (a1 i = 0 ∨ a1 i = 2 ∨ a1 i = 3)) ∨ a1 i = 7 := by
      by_cases e : i + 1 < m
      · exact Or.inl ⟨e, hop i e⟩
      · exact Or.inr (h7 i (by omega))
    have h5 : ¬ a5 (nI i).toNatClampNeg = 0 := by
      rw [nI_clamp (show i < 2 ^ 31 by omega), (h56 i hi).1]
      decide
    refine pk_le m i (fun z => absurd z (by omega)) (fun _ => ⟨pk_in i 14 hi14, br_f h5 (ac_faults hi hm ho ⟨pk_in i 14 hi14, nm_e (nm_r (nI_1 i) (hw _ ?_))⟩)⟩)
    intro j hj
    rw [nI_clamp (show i < 2 ^ 31 by omega), ac_flt8, (h56 i hi).2]
    by_cases e : j = i
    · rw [e, pk_us]
    · rw [pk_un e]
      exact h j (by omega)
theorem ac_c15 {post : St2 → Prop} {m : Nat} {f1 f2 f3 f4 f5 f6 f7 : Int32} {a1 a2 a3 a4 a5 a6 a7 a8 a9 a10 : Nat → Int32} (hp : ac_prog m a1 a2 a3)
    (H : ∀ b5 b6 b7 b8 : Nat → Int32, (∀ j, j < m → b8 j = ac_flt (a1 j) (a2 j) (a3 j) (ac_pi a1 a2 a3 j)) → post (nI m, f1, 0, f3, f4, f5, f6, f7, a1, a2, a3, a4, b5, b6, b7, b8, a9, a10)) :
    ∃ n, wX_check_15 post (nI m) f1 f2 f3 f4 f5 f6 f7 n 0 a1 a2 a3 a4 a5 a6 a7 a8 a9 a10 := by
  refine pk_loop (fun n i s => wX_check_15 post (nI m) f1 f2 f3 f4 f5 f6 f7 n (nI i) a1 a2 a3 a4 s.1 s.2.1 s.2.2.1 s.2.2.2 a9 a10) (fun i s => ∀ j, j < i → s.1 j = 0 ∧ s.2.1 j = 1048575 ∧ s.2.2.1 j = 0) 14 0 (a5, a6, a7, a8) (by omega) (fun j hj => absurd hj (by omega)) ?_ ?_
  · intro n s h
    obtain ⟨b5, b6, b7, b8⟩ := s
    dsimp only at h ⊢
    refine pk_le 14 14 (fun _ => ?_) (fun z => absurd z (by omega))
    refine ac_come (k := 0) hp.1 hp.2.1 (h 0 (by omega)).1 ?_
    refine ac_c70 hp ⟨?_, ?_, ?_⟩ (fun c5 c6 c7 hc => ac_c116 hp hc (fun c8 hc8 => H c5 c6 c7 c8 hc8))
    · dsimp only
      rw [if_pos hp.1, ac_or0]
    · intro j hj hj0
      have e : j = 0 := by omega
      subst e
      dsimp only
      rw [pk_us, pk_us, pk_us, (h 0 (by omega)).2.1, (h 0 (by omega)).2.2]
      exact ⟨rfl, rfl, rfl⟩
    · intro j hj hj0
      have e : j ≠ 0 := by omega
      dsimp only
      rw [pk_un e, pk_un e, pk_un e]
      exact h j hj
  · intro n i s hi h hw
    refine pk_le 14 i (fun z => absurd z (by omega)) (fun _ => ⟨pk_in i 14 hi, nm_e ⟨pk_in i 14 hi, nm_e ⟨pk_in i 14 hi, nm_e ⟨pk_in i 14 hi, nm_e (nm_r (nI_1 i) (hw (upd s.1 (nI i).toNatClampNeg 0, upd s.2.1 (nI i).toNatClampNeg 1048575, upd s.2.2.1 (nI i).toNatClampNeg 0, upd s.2.2.2 (nI i).toNatClampNeg 0) ?_))⟩⟩⟩⟩)
    intro j hj
    dsimp only
    rw [nI_clamp (show i < 2 ^ 31 by omega)]
    by_cases e : j = i
    · rw [e, pk_us, pk_us, pk_us]
      exact ⟨rfl, rfl, rfl⟩
    · rw [pk_un e, pk_un e, pk_un e]
      exact h j (by omega)
end
section
/-! sound, start, and the run of a straight program -/
theorem ac_s15 {post : Int32 → St2 → Prop} {m d : Nat} {f1 f2 f3 f4 f5 f6 f7 : Int32} {a1 a2 a3 a4 a5 a6 a7 a8 a9 a10 : Nat → Int32} (hm : m ≤ 14) (hd : d ≤ m) (hz : ∀ j, j < d → a8 j = 0) (hn : d < m → ¬ a8 d = 0)
    (H1 : d = m → post 1 (nI m, f1, f2, f3, f4, f5, f6, f7, a1, a2, a3, a4, a5, a6, a7, a8, a9, a10)) (H0 : d < m → post 0 (nI m, f1, f2, f3, f4, f5, f6, f7, a1, a2, a3, a4, a5, a6, a7, a8, a9, a10)) :
    ∃ n, wX_sound_15 post (nI m) f1 f2 f3 f4 f5 f6 f7 a1 a2 a3 a4 a5 a6 a7 a8 a9 a10 n 0 :=
  pk_loop (σ := Unit) (fun n i _ => wX_sound_15 post (nI m) f1 f2 f3 f4 f5 f6 f7 a1 a2 a3 a4 a5 a6 a7 a8 a9 a10 n (nI i)) (fun _ _ => True) d 0 () (by omega) trivial
    (fun n _ _ => pk_le m d (fun z => H1 (by omega)) (fun z => ⟨pk_in d 14 (by omega), br_f (by rw [nI_clamp (by omega)]; exact hn z) (H0 z)⟩))
    (fun n i _ hi _ hw => pk_le m i (fun z => absurd z (by omega)) (fun _ => ⟨pk_in i 14 (by omega), br_t (by rw [nI_clamp (by omega)]; exact hz i hi) (nm_r (nI_1 i) (hw () trivial))⟩))
theorem ac_sound1 {post : Int32 → St2 → Prop} {m d : Nat} {f2 f3 f4 f5 f6 f7 : Int32} {a1 a2 a3 a4 a5 a6 a7 a8 a9 a10 : Nat → Int32} (h0 : 0 < m) (hm : m ≤ 14) (hd : d ≤ m) (hz : ∀ j, j < d → a8 j = 0) (hn : d < m → ¬ a8 d = 0)
    (H1 : d = m → post 1 (nI m, 1, f2, f3, f4, f5, f6, f7, a1, a2, a3, a4, a5, a6, a7, a8, a9, a10)) (H0 : d < m → post 0 (nI m, 1, f2, f3, f4, f5, f6, f7, a1, a2, a3, a4, a5, a6, a7, a8, a9, a10)) :
    wpX_sound post (nI m, 1, f2, f3, f4, f5, f6, f7, a1, a2, a3, a4, a5, a6, a7, a8, a9, a10) := by
  unfold wpX_sound wpX_check
  dsimp only
  exact br_f (nI_ne0 h0 (by omega)) (br_f ac_ne10 (ac_s15 hm hd hz hn H1 H0))
/-- the first position with a fault is d (m: none) -/
def ac_first (m d : Nat) (a1 a2 a3 : Nat → Int32) : Prop :=
  d ≤ m ∧ (∀ j, j < d → ac_flt (a1 j) (a2 j) (a3 j) (ac_pi a1 a2 a3 j) = 0) ∧ (d < m → ¬ ac_flt (a1 d) (a2 d) (a3 d) (ac_pi a1 a2 a3 d) = 0)
theorem ac_sound0 {post : Int32 → St2 → Prop} {m d : Nat} {f2 f3 f4 f5 f6 f7 : Int32} {a1 a2 a3 a4 a5 a6 a7 a8 a9 a10 : Nat → Int32} (hp : ac_prog m a1 a2 a3) (hd : ac_first m d a1 a2 a3)
    (H : ∀ b5 b6 b7 b8 : Nat → Int32, (∀ j, j < d → b8 j = 0) → (d < m → ¬ b8 d = 0) → (d = m → post 1 (nI m, 1, 0, f3, f4, f5, f6, f7, a1, a2, a3, a4, b5, b6, b7, b8, a9, a10)) ∧ (d < m → post 0 (nI m, 1, 0, f3, f4, f5, f6, f7, a1, a2, a3, a4, b5, b6, b7, b8, a9, a10))) :
    wpX_sound post (nI m, 0, f2, f3, f4, f5, f6, f7, a1, a2, a3, a4, a5, a6, a7, a8, a9, a10) := by
  obtain ⟨hdm, hz, hn⟩ := hd
  unfold wpX_sound wpX_check
  dsimp only
  refine br_f (nI_ne0 hp.1 (by have := hp.2.1; omega)) (br_t rfl (ac_c15 hp (fun b5 b6 b7 b8 h8 => ?_)))
  have hz' : ∀ j, j < d → b8 j = 0 := fun j hj => by rw [h8 j (by omega)]; exact hz j hj
  have hn' : d < m → ¬ b8 d = 0 := fun z => by rw [h8 d z]; exact hn z
  exact ac_s15 hp.2.1 hdm hz' hn' (H b5 b6 b7 b8 hz' hn').1 (H b5 b6 b7 b8 hz' hn').2
theorem ac_start_t {post : Int32 → St2 → Prop} {m : Nat} {c : Int32} {f2 f3 f4 f5 f6 f7 : Int32} {a1 a2 a3 a4 a5 a6 a7 a8 a9 a10 : Nat → Int32} (h0 : 0 < m) (hm : m ≤ 14) (hz : ∀ j, j < m → a8 j = 0)
    (H : ∀ b9 : Nat → Int32, post 1 (nI m, 1, f2, 1, 0, c, 0, 0, a1, a2, a3, a4, a5, a6, a7, a8, b9, a10)) :
    wpX_start post (nI m, 1, f2, f3, f4, f5, f6, f7, a1, a2, a3, a4, a5, a6, a7, a8, a9, a10) c := by
  unfold wpX_start
  dsimp only
  refine ac_sound1 (d := m) h0 hm (by omega) hz (fun z => absurd z (by omega)) (fun _ => ?_) (fun z => absurd z (by omega))
  refine br_f ac_ne10 ?_
  exact pk_loop (fun n i s => wX_start_36 post (nI m) 1 f2 1 0 c 0 0 n (nI i) a1 a2 a3 a4 a5 a6 a7 a8 s a10) (fun _ _ => True) 5 0 a9 (by omega) trivial
    (fun n s _ => pk_le 5 5 (fun _ => H s) (fun z => absurd z (by omega)))
    (fun n i s hi _ hw => pk_le 5 i (fun z => absurd z (by omega)) (fun _ => ⟨pk_in i 5 hi, nm_e (nm_r (nI_1 i) (hw _ trivial))⟩))
theorem ac_start_f {post : Int32 → St2 → Prop} {m d : Nat} {c : Int32} {f2 f3 f4 f5 f6 f7 : Int32} {a1 a2 a3 a4 a5 a6 a7 a8 a9 a10 : Nat → Int32} (hm : m ≤ 14) (hd : d < m) (hz : ∀ j, j < d → a8 j = 0) (hn : ¬ a8 d = 0)
    (H : post 0 (nI m, 1, f2, f3, f4, f5, f6, f7, a1, a2, a3, a4, a5, a6, a7, a8, a9, a10)) : wpX_start post (nI m, 1, f2, f3, f4, f5, f6, f7, a1, a2, a3, a4, a5, a6, a7, a8, a9, a10) c := by
  unfold wpX_start
  dsimp only
  exact ac_sound1 (d := d) (by omega) hm (by omega) hz (fun _ => hn) (fun z => absurd z (by omega)) (fun _ => br_t rfl H)
theorem ac_step_f {post : Int32 → St2 → Prop} {f0 f1 f2 f4 f5 f6 f7 : Int32} {a1 a2 a3 a4 a5 a6 a7 a8 a9 a10 : Nat → Int32} (H : post 0 (f0, f1, f2, 0, f4, f5, f6, f7, a1, a2, a3, a4, a5, a6, a7, a8, a9, a10)) : wpX_step post (f0, f1, f2, 0, f4, f5, f6, f7, a1, a2, a3, a4, a5, a6, a7, a8, a9, a10) 9 := by
  unfold wpX_step
  dsimp only
  exact ⟨1, br_f (by decide) (br_f (by decide) (br_f (by decide) H))⟩
theorem ac_st_set {post : Int32 → St2 → Prop} {n k d : Nat} {f0 f1 f2 f5 f6 f7 : Int32} {a1 a2 a3 a4 a5 a6 a7 a8 a9 a10 : Nat → Int32} (hk : k < 9) (ho : a1 k = 0) (hd : d < 5) (h3 : a3 k &&& 7 = nI d)
    (H : wX_step_4 post 9 n (nI (k + 1)) (nI (k + 1)) f0 f1 f2 1 (nI (k + 1)) f5 f6 f7 a1 a2 a3 a4 a5 a6 a7 a8 (upd a9 d (a4 k)) a10) :
    wX_step_4 post 9 (n + 1) (nI k) (nI k) f0 f1 f2 1 (nI k) f5 f6 f7 a1 a2 a3 a4 a5 a6 a7 a8 a9 a10 := by
  have hc : (nI k).toNatClampNeg = k := nI_clamp (by omega)
  refine br_f (nI_ge (b := 64) (by omega) (by decide)) (br_f (nI_ge (b := 9) hk (by decide)) (br_t rfl ?_))
  unfold wpX_carry wpX_put
  dsimp only
  rw [hc, h3, nI_clamp (show d < 2 ^ 31 by omega), ho, nI_1 k]
  exact ⟨pk_in k 14 (by omega), nm_e ⟨pk_in k 14 (by omega), nm_e (nm_e (br_f (by decide) (br_t rfl ⟨pk_in k 14 (by omega), pk_in k 14 (by omega), pk_in d 5 hd, nm_e (nm_e (nm_e H))⟩)))⟩⟩
theorem ac_st_move {post : Int32 → St2 → Prop} {n k d e : Nat} {f0 f1 f2 f5 f6 f7 : Int32} {a1 a2 a3 a4 a5 a6 a7 a8 a9 a10 : Nat → Int32} (hk : k < 9) (ho : a1 k = 2) (hd : d < 5) (h3 : a3 k &&& 7 = nI d) (he : e < 5) (h4 : (a3 k >>> ((3 : Int32) &&& 31)) &&& 7 = nI e)
    (H : wX_step_4 post 9 n (nI (k + 1)) (nI (k + 1)) f0 f1 f2 1 (nI (k + 1)) f5 f6 f7 a1 a2 a3 a4 a5 a6 a7 a8 (upd a9 d (a9 e)) a10) :
    wX_step_4 post 9 (n + 1) (nI k) (nI k) f0 f1 f2 1 (nI k) f5 f6 f7 a1 a2 a3 a4 a5 a6 a7 a8 a9 a10 := by
  have hc : (nI k).toNatClampNeg = k := nI_clamp (by omega)
  refine br_f (nI_ge (b := 64) (by omega) (by decide)) (br_f (nI_ge (b := 9) hk (by decide)) (br_t rfl ?_))
  unfold wpX_carry wpX_put
  dsimp only
  rw [hc, h4, h3, nI_clamp (show d < 2 ^ 31 by omega), ho, nI_1 k]
  refine ⟨pk_in k 14 (by omega), nm_e ⟨pk_in k 14 (by omega), nm_e (nm_e (br_f (by decide) (br_f (by decide) (br_f (by decide) (br_t rfl ⟨pk_in e 5 he, pk_in k 14 (by omega), pk_in d 5 hd, nm_e (nm_e (nm_e ?_))⟩)))))⟩⟩
  rw [nI_clamp (show e < 2 ^ 31 by omega)]
  exact H
theorem ac_putOut {post : St2 → Prop} {x : Int32} {f0 f1 f2 f3 f4 f5 f6 f7 : Int32} {a1 a2 a3 a4 a5 a6 a7 a8 a9 a10 : Nat → Int32}
    (H : ∀ b : Nat → Int32, b 0 = x → post (f0, f1, f2, f3, f4, f5, f6, f7 + 1, a1, a2, a3, a4, a5, a6, a7, a8, a9, b)) : wpX_putOut post (f0, f1, f2, f3, f4, f5, f6, f7, a1, a2, a3, a4, a5, a6, a7, a8, a9, a10) x := by
  unfold wpX_putOut
  dsimp only
  refine ⟨8, ?_⟩
  exact pk_loopD (fun n i s => wX_putOut_3 post x f0 f1 f2 f3 f4 f5 f6 f7 n (nI i) a1 a2 a3 a4 a5 a6 a7 a8 a9 s) (fun i _ => i ≤ 7)
    (fun n s _ => br_t (by decide) (nm_e (nm_e (H _ pk_us))))
    (fun n i s hi hw => br_f (nI_nle (by omega) (by omega)) ⟨pk_in i 8 (by omega) (nI_pred i), pk_in (i + 1) 8 (by omega), nm_e (nm_r (pk_m1 i) (hw _ (by omega)))⟩)
    7 a10 (by omega)
theorem ac_st_out {post : Int32 → St2 → Prop} {n k e : Nat} {f0 f1 f2 f5 f6 f7 : Int32} {a1 a2 a3 a4 a5 a6 a7 a8 a9 a10 : Nat → Int32} (hk : k < 9) (ho : a1 k = 3) (he : e < 5) (h4 : (a3 k >>> ((3 : Int32) &&& 31)) &&& 7 = nI e)
    (H : ∀ b : Nat → Int32, b 0 = a9 e → wX_step_4 post 9 n (nI (k + 1)) (nI (k + 1)) f0 f1 f2 1 (nI (k + 1)) f5 f6 (f7 + 1) a1 a2 a3 a4 a5 a6 a7 a8 a9 b) :
    wX_step_4 post 9 (n + 1) (nI k) (nI k) f0 f1 f2 1 (nI k) f5 f6 f7 a1 a2 a3 a4 a5 a6 a7 a8 a9 a10 := by
  have hc : (nI k).toNatClampNeg = k := nI_clamp (by omega)
  refine br_f (nI_ge (b := 64) (by omega) (by decide)) (br_f (nI_ge (b := 9) hk (by decide)) (br_t rfl ?_))
  unfold wpX_carry
  dsimp only
  rw [hc, h4, ho, nI_1 k]
  refine ⟨pk_in k 14 (by omega), nm_e ⟨pk_in k 14 (by omega), nm_e (nm_e (br_f (by decide) (br_f (by decide) (br_f (by decide) (br_f (by decide) (br_t rfl ⟨pk_in e 5 he, ac_putOut (fun b hb => nm_e (nm_e (H b ?_)))⟩))))))⟩⟩
  rw [hb, nI_clamp (show e < 2 ^ 31 by omega)]
theorem ac_st_stop {post : Int32 → St2 → Prop} {n k : Nat} {f0 f1 f2 f5 f6 f7 : Int32} {a1 a2 a3 a4 a5 a6 a7 a8 a9 a10 : Nat → Int32} (hk : k < 9) (ho : a1 k = 7)
    (H : post (nI (k + 1)) (f0, f1, f2, 2, nI k, f5, f6, f7, a1, a2, a3, a4, a5, a6, a7, a8, a9, a10)) :
    wX_step_4 post 9 (n + 2) (nI k) (nI k) f0 f1 f2 1 (nI k) f5 f6 f7 a1 a2 a3 a4 a5 a6 a7 a8 a9 a10 := by
  have hc : (nI k).toNatClampNeg = k := nI_clamp (by omega)
  refine br_f (nI_ge (b := 64) (by omega) (by decide)) (br_f (nI_ge (b := 9) hk (by decide)) (br_t rfl ?_))
  unfold wpX_carry
  dsimp only
  rw [hc, ho, nI_1 k]
  refine ⟨pk_in k 14 (by omega), nm_e ⟨pk_in k 14 (by omega), nm_e (nm_e (br_t rfl (nm_e (nm_e ?_))))⟩⟩
  exact br_f (nI_ge (b := 64) (by omega) (by decide)) (pk_le 9 (k + 1) (fun _ => H) (fun _ => br_f (by decide) H))
theorem ac_last0 {post : Int32 → Prop} {f0 f1 f2 f3 f4 f5 f6 : Int32} {a1 a2 a3 a4 a5 a6 a7 a8 a9 a10 : Nat → Int32} (H : post 0) : wpX_lastOut post (f0, f1, f2, f3, f4, f5, f6, 0, a1, a2, a3, a4, a5, a6, a7, a8, a9, a10) 0 := by
  unfold wpX_lastOut
  dsimp only
  exact br_f (by decide) (br_f (by decide) (br_f (by decide) H))
theorem ac_last1 {post : Int32 → Prop} {x : Int32} {f0 f1 f2 f3 f4 f5 f6 : Int32} {a1 a2 a3 a4 a5 a6 a7 a8 a9 a10 : Nat → Int32} (hx : a10 0 = x) (H : post x) : wpX_lastOut post (f0, f1, f2, f3, f4, f5, f6, 1, a1, a2, a3, a4, a5, a6, a7, a8, a9, a10) 0 := by
  unfold wpX_lastOut
  dsimp only
  refine br_f (by decide) (br_f (by decide) (br_t (by decide) ⟨pk_in 0 8 (by decide), ?_⟩))
  have e : a10 (0 : Int32).toNatClampNeg = x := hx
  rw [e]
  exact H
end
section
/-! the law's own check, behind the calls; and the four programs -/
theorem ac_54 : (3 : Int32) < nI 4 := by decide
theorem ac_45 : (4 : Int32) < nI 5 := by decide
theorem ac_P_f {A B : Prop} {x : Int32} (h : x < 0 ∨ nI 5 ≤ x) (H : A) : (x < 0 → A) ∧ (¬ x < 0 → ((4 < x → A) ∧ (¬ 4 < x → B))) :=
  br_c (fun _ => H) (fun g => br_t (Int32.lt_of_lt_of_le ac_45 (h.resolve_left g)) H)
theorem ac_P_t {A B : Prop} {p : Nat} (hp : p < 5) (H : B) : (nI p < 0 → A) ∧ (¬ nI p < 0 → ((4 < nI p → A) ∧ (¬ 4 < nI p → B))) :=
  br_f (nI_pos (by omega)) (br_f (nI_nlt (a := 4) (by omega) (by omega)) H)
theorem ac_97_f {post : Int32 → St0 → Prop} {mc ms : Nat} {x0 x1 x2 x3 x5 x6 x7 x8 x9 x10 x11 z0 : Int32} {kc ks : Nat} (h : ac_bad x1 x3)
    (H : wL_lawOf_154 post mc ms x0 x5 x6 x7 x8 x9 x10 x11 z0 0 1 kc ks) : wL_lawOf_97 post mc ms x0 x1 x2 x3 x5 x6 x7 x8 x9 x10 x11 z0 kc ks := by
  have T : wL_lawOf_121 post mc ms x0 x1 x2 x3 x5 x6 x7 x8 x9 x10 x11 z0 kc ks := br_t rfl H
  rcases h with h | ⟨⟨a, ha, rfl⟩, h⟩
  · exact br_c (fun _ => T) (fun g => br_t (Int32.lt_of_lt_of_le ac_54 (h.resolve_left g)) T)
  · exact br_f (nI_pos (by omega)) (br_f (nI_nlt (a := 3) (by omega) (by omega)) (br_c (fun _ => T) (fun g => br_t (Int32.lt_of_lt_of_le ac_45 (h.resolve_left g)) T)))
theorem ac_97_t {post : Int32 → St0 → Prop} {mc ms a q : Nat} {x0 x2 x5 x6 x7 x8 x9 x10 x11 z0 : Int32} {kc ks : Nat} (ha : a < 4) (hq : q < 5)
    (H : wL_lawOf_122 post mc ms x0 (nI a) x2 (nI q) x5 x6 x7 x8 x9 x10 x11 z0 1 kc ks) : wL_lawOf_97 post mc ms x0 (nI a) x2 (nI q) x5 x6 x7 x8 x9 x10 x11 z0 kc ks :=
  br_f (nI_pos (by omega)) (br_f (nI_nlt (a := 3) (by omega) (by omega)) (br_f (nI_pos (by omega)) (br_f (nI_nlt (a := 4) (by omega) (by omega)) H)))
/-- no move: an out is fine when it is of value 1 at place 2 -/
theorem ac_122_C {post : Int32 → St0 → Prop} {mc ms a q : Nat} {x0 x2 x5 x6 x7 x8 x9 x10 x11 : Int32} {kc ks : Nat} (ha : a < 4) (hq : q < 5)
    (Ht : (a = 1 ∧ q = 2) → wL_lawOf_154 post mc ms x0 x5 x6 x7 x8 x9 x10 x11 0 1 1 kc ks)
    (Hf : ¬ (a = 1 ∧ q = 2) → wL_lawOf_154 post mc ms x0 x5 x6 x7 x8 x9 x10 x11 0 1 0 kc ks) :
    wL_lawOf_122 post mc ms x0 (nI a) x2 (nI q) x5 x6 x7 x8 x9 x10 x11 0 1 kc ks :=
  br_f ac_ne10 (pk_eq a 1 (fun ea => pk_eq q 2 (fun eq => Ht ⟨ea, eq⟩) (fun nq => br_t rfl (Hf (fun t => nq t.2)))) (fun na => Hf (fun t => na t.1)))
/-- with a move to p: of value 1 at place 2 or p -/
theorem ac_122_D {post : Int32 → St0 → Prop} {mc ms a q p : Nat} {x0 x5 x6 x7 x8 x9 x10 x11 : Int32} {kc ks : Nat} (ha : a < 4) (hq : q < 5) (hp : p < 5)
    (Ht : (a = 1 ∧ (q = 2 ∨ q = p)) → wL_lawOf_154 post mc ms x0 x5 x6 x7 x8 x9 x10 x11 1 1 1 kc ks)
    (Hf : ¬ (a = 1 ∧ (q = 2 ∨ q = p)) → wL_lawOf_154 post mc ms x0 x5 x6 x7 x8 x9 x10 x11 1 1 0 kc ks) :
    wL_lawOf_122 post mc ms x0 (nI a) (nI p) (nI q) x5 x6 x7 x8 x9 x10 x11 1 1 kc ks :=
  br_f ac_ne10 (pk_eq a 1 (fun ea => pk_eq q 2 (fun eq => Ht ⟨ea, Or.inl eq⟩) (fun nq => br_f ac_ne10 (pk_eq q p (fun eq => Ht ⟨ea, Or.inr eq⟩) (fun np => Hf (fun t => t.2.elim nq np))))) (fun na => Hf (fun t => na t.1)))
section
variable {post : Int32 → St0 → Prop} {mc ms kc ks : Nat} {n : Int32}
theorem ac_eA (H : post 1 ()) : wL_lawOf_154 post mc ms n (-1) (-1) 1 1 2 0 0 0 0 1 kc ks := by
  repeat (first | exact H | refine br_t rfl ?_ | refine br_f (by decide) ?_ | refine nm_e ?_)
theorem ac_eB (H : post 1 ()) : wL_lawOf_154 post mc ms n 1 (-1) 1 1 3 0 0 1 0 1 kc ks := by
  repeat (first | exact H | refine br_t rfl ?_ | refine br_f (by decide) ?_ | refine nm_e ?_)
theorem ac_eC (H : post 1 ()) : wL_lawOf_154 post mc ms n (-1) 1 1 1 3 1 n 0 1 1 kc ks := by
  repeat (first | exact H | refine br_t rfl ?_ | refine br_f (by decide) ?_ | refine nm_e ?_)
theorem ac_eCn (H : post 1 ()) : wL_lawOf_154 post mc ms n (-1) 1 0 0 0 0 0 0 1 0 kc ks := by
  repeat (first | exact H | refine br_t rfl ?_ | refine br_f (by decide) ?_ | refine nm_e ?_)
theorem ac_eD (H : post 1 ()) : wL_lawOf_154 post mc ms n 1 2 1 1 4 1 n 1 1 1 kc ks := by
  repeat (first | exact H | refine br_t rfl ?_ | refine br_f (by decide) ?_ | refine nm_e ?_)
theorem ac_eDn (H : post 1 ()) : wL_lawOf_154 post mc ms n 1 2 0 0 0 0 0 1 1 0 kc ks := by
  repeat (first | exact H | refine br_t rfl ?_ | refine br_f (by decide) ?_ | refine nm_e ?_)
end
/-! the four programs: A (SET, STOP), B (SET, MOVE, STOP), C (SET, OUT, STOP), D (SET, MOVE, OUT, STOP) -/
def ac_z : Nat → Int32 := fun _ => 0
def ac_A1 : Nat → Int32 := upd (upd ac_z 0 (0 : Int32).toInt8.toInt32) 1 (7 : Int32).toInt8.toInt32
def ac_A2 : Nat → Int32 := upd (upd ac_z 0 (1 : Int32).toInt8.toInt32) 1 (0 : Int32).toInt8.toInt32
def ac_A3 : Nat → Int32 := upd (upd ac_z 0 (2 : Int32).toInt16.toInt32) 1 (0 : Int32).toInt16.toInt32
def ac_B1 : Nat → Int32 := upd (upd (upd ac_z 0 (0 : Int32).toInt8.toInt32) 1 (2 : Int32).toInt8.toInt32) 2 (7 : Int32).toInt8.toInt32
def ac_B2 : Nat → Int32 := upd (upd (upd ac_z 0 (1 : Int32).toInt8.toInt32) 1 (0 : Int32).toInt8.toInt32) 2 (0 : Int32).toInt8.toInt32
def ac_B3 (p : Nat) : Nat → Int32 := upd (upd (upd ac_z 0 (2 : Int32).toInt16.toInt32) 1 (nI p + 8 * 2).toInt16.toInt32) 2 (0 : Int32).toInt16.toInt32
def ac_C1 : Nat → Int32 := upd (upd (upd ac_z 0 (0 : Int32).toInt8.toInt32) 1 (3 : Int32).toInt8.toInt32) 2 (7 : Int32).toInt8.toInt32
def ac_C2 (a : Nat) : Nat → Int32 := upd (upd (upd ac_z 0 (1 : Int32).toInt8.toInt32) 1 (4 * nI a).toInt8.toInt32) 2 (0 : Int32).toInt8.toInt32
def ac_C3 (q : Nat) : Nat → Int32 := upd (upd (upd ac_z 0 (2 : Int32).toInt16.toInt32) 1 (8 * nI q).toInt16.toInt32) 2 (0 : Int32).toInt16.toInt32
def ac_D1 : Nat → Int32 := upd (upd (upd (upd ac_z 0 (0 : Int32).toInt8.toInt32) 1 (2 : Int32).toInt8.toInt32) 2 (3 : Int32).toInt8.toInt32) 3 (7 : Int32).toInt8.toInt32
def ac_D2 (a : Nat) : Nat → Int32 := upd (upd (upd (upd ac_z 0 (1 : Int32).toInt8.toInt32) 1 (0 : Int32).toInt8.toInt32) 2 (4 * nI a).toInt8.toInt32) 3 (0 : Int32).toInt8.toInt32
def ac_D3 (p q : Nat) : Nat → Int32 := upd (upd (upd (upd ac_z 0 (2 : Int32).toInt16.toInt32) 1 (nI p + 8 * 2).toInt16.toInt32) 2 (8 * nI q).toInt16.toInt32) 3 (0 : Int32).toInt16.toInt32
theorem ac_mk {m : Nat} {a1 a2 a3 : Nat → Int32} (h0 : 0 < m) (hm : m ≤ 14) (h : ∀ k, k < m - 1 → a1 k = 0 ∨ a1 k = 2 ∨ a1 k = 3) (h7 : a1 (m - 1) = 7) (hpi : ∀ k, k < m → 1048575 &&& ac_pi a1 a2 a3 k = ac_pi a1 a2 a3 k) : ac_prog m a1 a2 a3 :=
  ⟨h0, hm, fun k hk => h k (by omega), fun k hk => by rw [show k = m - 1 by omega]; exact h7, hpi⟩
theorem ac_progA : ac_prog 2 ac_A1 ac_A2 ac_A3 := ac_mk (by decide) (by decide) (by decide +kernel) (by decide +kernel) (by decide +kernel)
theorem ac_pB : ∀ p, p < 5 → ∀ k, k < 3 → 1048575 &&& ac_pi ac_B1 ac_B2 (ac_B3 p) k = ac_pi ac_B1 ac_B2 (ac_B3 p) k := by decide +kernel
theorem ac_progB {p : Nat} (hp : p < 5) : ac_prog 3 ac_B1 ac_B2 (ac_B3 p) := ac_mk (by decide) (by decide) (by decide +kernel) (by decide +kernel) (ac_pB p hp)
theorem ac_pC : ∀ a, a < 4 → ∀ q, q < 5 → ∀ k, k < 3 → 1048575 &&& ac_pi ac_C1 (ac_C2 a) (ac_C3 q) k = ac_pi ac_C1 (ac_C2 a) (ac_C3 q) k := by decide +kernel
theorem ac_progC {a q : Nat} (ha : a < 4) (hq : q < 5) : ac_prog 3 ac_C1 (ac_C2 a) (ac_C3 q) := ac_mk (by decide) (by decide) (by decide +kernel) (by decide +kernel) (ac_pC a ha q hq)
theorem ac_pD : ∀ p, p < 5 → ∀ a, a < 4 → ∀ q, q < 5 → ∀ k, k < 4 → 1048575 &&& ac_pi ac_D1 (ac_D2 a) (ac_D3 p q) k = ac_pi ac_D1 (ac_D2 a) (ac_D3 p q) k := by decide +kernel
theorem ac_progD {p a q : Nat} (hp : p < 5) (ha : a < 4) (hq : q < 5) : ac_prog 4 ac_D1 (ac_D2 a) (ac_D3 p q) := ac_mk (by decide) (by decide) (by decide +kernel) (by decide +kernel) (ac_pD p hp a ha q hq)
theorem ac_firA : ac_first 2 2 ac_A1 ac_A2 ac_A3 := ⟨by decide, by decide +kernel, fun z => absurd z (by decide)⟩
theorem ac_fB : ∀ p, p < 5 → ∀ j, j < 3 → ac_flt (ac_B1 j) (ac_B2 j) (ac_B3 p j) (ac_pi ac_B1 ac_B2 (ac_B3 p) j) = 0 := by decide +kernel
theorem ac_firB {p : Nat} (hp : p < 5) : ac_first 3 3 ac_B1 ac_B2 (ac_B3 p) := ⟨by decide, ac_fB p hp, fun z => absurd z (by decide)⟩
theorem ac_fC : ∀ j, j < 3 → ac_flt (ac_C1 j) (ac_C2 1 j) (ac_C3 2 j) (ac_pi ac_C1 (ac_C2 1) (ac_C3 2) j) = 0 := by decide +kernel
theorem ac_firC : ac_first 3 3 ac_C1 (ac_C2 1) (ac_C3 2) := ⟨by decide, ac_fC, fun z => absurd z (by decide)⟩
theorem ac_fC0 : ∀ a, a < 4 → ∀ q, q < 5 → ∀ j, j < 1 → ac_flt (ac_C1 j) (ac_C2 a j) (ac_C3 q j) (ac_pi ac_C1 (ac_C2 a) (ac_C3 q) j) = 0 := by decide +kernel
theorem ac_fC1 : ∀ a, a < 4 → ∀ q, q < 5 → ¬ (a = 1 ∧ q = 2) → ¬ ac_flt (ac_C1 1) (ac_C2 a 1) (ac_C3 q 1) (ac_pi ac_C1 (ac_C2 a) (ac_C3 q) 1) = 0 := by decide +kernel
theorem ac_firCn {a q : Nat} (ha : a < 4) (hq : q < 5) (h : ¬ (a = 1 ∧ q = 2)) : ac_first 3 1 ac_C1 (ac_C2 a) (ac_C3 q) := ⟨by decide, ac_fC0 a ha q hq, fun _ => ac_fC1 a ha q hq h⟩
theorem ac_fD : ∀ p, p < 5 → ∀ q, q < 5 → (q = 2 ∨ q = p) → ∀ j, j < 4 → ac_flt (ac_D1 j) (ac_D2 1 j) (ac_D3 p q j) (ac_pi ac_D1 (ac_D2 1) (ac_D3 p q) j) = 0 := by decide +kernel
theorem ac_firD {p q : Nat} (hp : p < 5) (hq : q < 5) (h : q = 2 ∨ q = p) : ac_first 4 4 ac_D1 (ac_D2 1) (ac_D3 p q) := ⟨by decide, ac_fD p hp q hq h, fun z => absurd z (by decide)⟩
theorem ac_fD0 : ∀ p, p < 5 → ∀ a, a < 4 → ∀ q, q < 5 → ∀ j, j < 2 → ac_flt (ac_D1 j) (ac_D2 a j) (ac_D3 p q j) (ac_pi ac_D1 (ac_D2 a) (ac_D3 p q) j) = 0 := by decide +kernel
theorem ac_fD1 : ∀ p, p < 5 → ∀ a, a < 4 → ∀ q, q < 5 → (a = 1 ∧ (q = 2 ∨ q = p)) ∨ ac_flt (ac_D1 2) (ac_D2 a 2) (ac_D3 p q 2) (ac_pi ac_D1 (ac_D2 a) (ac_D3 p q) 2) = 1 := by decide +kernel
theorem ac_firDn {p a q : Nat} (hp : p < 5) (ha : a < 4) (hq : q < 5) (h : ¬ (a = 1 ∧ (q = 2 ∨ q = p))) : ac_first 4 2 ac_D1 (ac_D2 a) (ac_D3 p q) := ⟨by decide, ac_fD0 p hp a ha q hq, fun _ => by rw [(ac_fD1 p hp a ha q hq).resolve_left h]; decide⟩
theorem ac_mvd : ∀ p, p < 5 → (nI p + 8 * 2).toInt16.toInt32 &&& 7 = nI p := by decide +kernel
theorem ac_mvs : ∀ p, p < 5 → ((nI p + 8 * 2).toInt16.toInt32 >>> ((3 : Int32) &&& 31)) &&& 7 = nI 2 := by decide +kernel
theorem ac_ots : ∀ q, q < 5 → ((8 * nI q).toInt16.toInt32 >>> ((3 : Int32) &&& 31)) &&& 7 = nI q := by decide +kernel
theorem ac_std : (2 : Int32).toInt16.toInt32 &&& 7 = nI 2 := by decide
end
section
/-! the law -/
theorem ac_lawOf {post : Int32 → St0 → Prop} (n xa xp xq : Int32) (H : post 1 ()) : wpL_lawOf post 11 143 () n xa xp xq := by
  unfold wpL_lawOf wpX_init
  dsimp only
  refine ⟨by decide, by decide, 10, 125, by decide, by decide, by decide, by decide, by decide, by decide, by decide, by decide, by decide, by decide, by decide, by decide, by decide, by decide, by decide, by decide, by decide, by decide, by decide, by decide, by decide, by decide, ?_⟩
  refine ac_set (m := 0) (by decide) ?_
  dsimp only
  have hq3 : ac_bad xa xq ∨ ∃ a q, a < 4 ∧ q < 5 ∧ xa = nI a ∧ xq = nI q := by
    rcases pk_ix xa (n := 4) (by decide) with h | h | ⟨a, ha, ea⟩
    · exact Or.inl (Or.inl (Or.inl h))
    · exact Or.inl (Or.inl (Or.inr h))
    · rcases pk_ix xq (n := 5) (by decide) with h | h | ⟨q, hq, eq⟩
      · exact Or.inl (Or.inr ⟨⟨a, ha, ea⟩, Or.inl h⟩)
      · exact Or.inl (Or.inr ⟨⟨a, ha, ea⟩, Or.inr h⟩)
      · exact Or.inr ⟨a, q, ha, hq, ea, eq⟩
  have hp3 : (xp < 0 ∨ nI 5 ≤ xp) ∨ ∃ p, p < 5 ∧ xp = nI p := by
    rcases pk_ix xp (n := 5) (by decide) with h | h | h
    · exact Or.inl (Or.inl h)
    · exact Or.inl (Or.inr h)
    · exact Or.inr h
  rcases hp3 with hp | ⟨p, hp, rfl⟩
  · refine ac_move_f hp ?_
    dsimp only
    rcases hq3 with hb | ⟨a, q, ha, hq, rfl, rfl⟩
    · -- A
      refine ac_out_f hb ?_
      dsimp only
      refine ac_flow (m := 1) (by decide) ?_
      dsimp only
      refine ac_sound0 (m := 2) (d := 2) ac_progA ac_firA (fun b5 b6 b7 b8 hz _ => ⟨fun _ => ?_, fun z => absurd z (by decide)⟩)
      dsimp only
      refine ac_start_t (m := 2) (by decide) (by decide) hz (fun b9 => ?_)
      refine ⟨4, ac_st_set (k := 0) (d := 2) (by decide) rfl (by decide) ac_std (ac_st_stop (k := 1) (by decide) rfl ?_)⟩
      unfold wpX_outs
      dsimp only
      refine ac_last0 ?_
      refine ac_P_f hp ?_
      exact ac_97_f hb (ac_eA H)
    · refine ac_out_t (m := 1) (by decide) ha hq ?_
      dsimp only
      refine ac_flow (m := 2) (by decide) ?_
      dsimp only
      by_cases hf : a = 1 ∧ q = 2
      · -- C, fine
        obtain ⟨rfl, rfl⟩ := hf
        refine ac_sound0 (m := 3) (d := 3) (ac_progC ha hq) ac_firC (fun b5 b6 b7 b8 hz _ => ⟨fun _ => ?_, fun z => absurd z (by decide)⟩)
        dsimp only
        refine ac_start_t (m := 3) (by decide) (by decide) hz (fun b9 => ?_)
        refine ⟨5, ac_st_set (k := 0) (d := 2) (by decide) rfl (by decide) ac_std (ac_st_out (k := 1) (e := 2) (by decide) rfl (by decide) (ac_ots 2 hq) (fun b hb => ac_st_stop (k := 2) (by decide) rfl ?_))⟩
        have hb' : b 0 = n := hb.trans rfl
        unfold wpX_outs
        dsimp only
        refine ac_last1 hb' ?_
        refine ac_P_f hp ?_
        exact ac_97_t ha hq (ac_122_C ha hq (fun _ => ac_eC H) (fun z => absurd ⟨rfl, rfl⟩ z))
      · -- C, not fine
        refine ac_sound0 (m := 3) (d := 1) (ac_progC ha hq) (ac_firCn ha hq hf) (fun b5 b6 b7 b8 hz hn => ⟨fun z => absurd z (by decide), fun _ => ?_⟩)
        dsimp only
        refine ac_start_f (m := 3) (d := 1) (by decide) (by decide) hz (hn (by decide)) ?_
        refine ac_step_f ?_
        unfold wpX_outs
        dsimp only
        refine ac_last0 ?_
        refine ac_P_f hp ?_
        exact ac_97_t ha hq (ac_122_C ha hq (fun z => absurd z hf) (fun _ => ac_eCn H))
  · refine ac_move_t (m := 1) (by decide) hp ?_
    dsimp only
    rcases hq3 with hb | ⟨a, q, ha, hq, rfl, rfl⟩
    · -- B
      refine ac_out_f hb ?_
      dsimp only
      refine ac_flow (m := 2) (by decide) ?_
      dsimp only
      refine ac_sound0 (m := 3) (d := 3) (ac_progB hp) (ac_firB hp) (fun b5 b6 b7 b8 hz _ => ⟨fun _ => ?_, fun z => absurd z (by decide)⟩)
      dsimp only
      refine ac_start_t (m := 3) (by decide) (by decide) hz (fun b9 => ?_)
      refine ⟨5, ac_st_set (k := 0) (d := 2) (by decide) rfl (by decide) ac_std (ac_st_move (k := 1) (d := p) (e := 2) (by decide) rfl hp (ac_mvd p hp) (by decide) (ac_mvs p hp) (ac_st_stop (k := 2) (by decide) rfl ?_))⟩
      unfold wpX_outs
      dsimp only
      refine ac_last0 ?_
      refine ac_P_t hp ?_
      exact ac_97_f hb (ac_eB H)
    · refine ac_out_t (m := 2) (by decide) ha hq ?_
      dsimp only
      refine ac_flow (m := 3) (by decide) ?_
      dsimp only
      by_cases hf : a = 1 ∧ (q = 2 ∨ q = p)
      · -- D, fine
        obtain ⟨rfl, hf⟩ := hf
        refine ac_sound0 (m := 4) (d := 4) (ac_progD hp ha hq) (ac_firD hp hq hf) (fun b5 b6 b7 b8 hz _ => ⟨fun _ => ?_, fun z => absurd z (by decide)⟩)
        dsimp only
        refine ac_start_t (m := 4) (by decide) (by decide) hz (fun b9 => ?_)
        refine ⟨6, ac_st_set (k := 0) (d := 2) (by decide) rfl (by decide) ac_std (ac_st_move (k := 1) (d := p) (e := 2) (by decide) rfl hp (ac_mvd p hp) (by decide) (ac_mvs p hp) (ac_st_out (k := 2) (e := q) (by decide) rfl hq (ac_ots q hq) (fun b hb => ac_st_stop (k := 3) (by decide) rfl ?_)))⟩
        have hb' : b 0 = n := by
          rw [hb]
          by_cases e : q = p
          · rw [e, pk_us]
            rfl
          · rw [pk_un e, hf.resolve_right e]
            rfl
        unfold wpX_outs
        dsimp only
        refine ac_last1 hb' ?_
        refine ac_P_t hp ?_
        exact ac_97_t ha hq (ac_122_D ha hq hp (fun _ => ac_eD H) (fun z => absurd ⟨rfl, hf⟩ z))
      · -- D, not fine
        refine ac_sound0 (m := 4) (d := 2) (ac_progD hp ha hq) (ac_firDn hp ha hq hf) (fun b5 b6 b7 b8 hz hn => ⟨fun z => absurd z (by decide), fun _ => ?_⟩)
        dsimp only
        refine ac_start_f (m := 4) (d := 2) (by decide) (by decide) hz (hn (by decide)) ?_
        refine ac_step_f ?_
        unfold wpX_outs
        dsimp only
        refine ac_last0 ?_
        refine ac_P_t hp ?_
        exact ac_97_t ha hq (ac_122_D ha hq hp (fun z => absurd z hf) (fun _ => ac_eDn H))
end
section
theorem ac_cell {post : Int32 → Prop} {L : Nat} {xs : Nat → Int32} (hL : L ≤ 4) (i : Nat) (hi : i < 4) (H : ∀ x, post x) : wpL_cellAt post L xs () (nI i) :=
  pk_le L i (fun _ => H 0) (fun z => ⟨pk_in i L z, H _⟩)
theorem i_vc (xs : Nat → Int32) (L : Nat) (hL : L ≤ 4) : wpL_law (fun r => r = 1) L xs :=
  ac_cell hL 0 (by decide) (fun n => ac_cell hL 1 (by decide) (fun a => ac_cell hL 2 (by decide) (fun p => ac_cell hL 3 (by decide) (fun q => ⟨11, 143, by decide, by decide, ac_lawOf n a p q rfl⟩))))
end
