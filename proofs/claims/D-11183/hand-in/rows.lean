section
/-! the methods that append, one lemma a method; the state's tuple: length, writeAt, stacked, pc, done, end, then the ten arrays -/
variable {f1 f2 f3 f4 f5 f6 : Int32} {a1 a2 a3 a4 a5 a6 a7 a8 a9 a10 : Nat → Int32}
theorem dh_and3 : ∀ i, i < 4 → nI i &&& 3 = nI i := by decide +kernel
theorem dh_m1 {k : Nat} (hk : k < 2 ^ 31) : ¬ (-1 : Int32) = nI k := by
  intro e
  have t := nI_pos hk
  rw [← e] at t
  exact t (by decide)
theorem dh_neg {x : Int32} (e : x = -1) : x < 0 := by
  rw [e]
  decide
theorem dh_3lt {x : Int32} (h : nI 4 ≤ x) : 3 < x := by
  rw [Int32.lt_iff_toInt_lt]
  rw [Int32.le_iff_toInt_le] at h
  have e1 : (nI 4).toInt = 4 := by decide
  have e2 : (3 : Int32).toInt = 3 := by decide
  omega
theorem dh_63lt {x : Int32} (h : nI 64 ≤ x) : 63 < x := by
  rw [Int32.lt_iff_toInt_lt]
  rw [Int32.le_iff_toInt_le] at h
  have e1 : (nI 64).toInt = 64 := by decide
  have e2 : (63 : Int32).toInt = 63 := by decide
  omega
theorem dh_63n {x : Int32} (h : 63 < x) : ¬ x < 64 := by
  rw [Int32.lt_iff_toInt_lt] at h
  rw [Int32.lt_iff_toInt_lt]
  have e1 : (64 : Int32).toInt = 64 := by decide
  have e2 : (63 : Int32).toInt = 63 := by decide
  omega
theorem dh_in63 {x : Int32} (h : x < 0 ∨ 63 < x) : x < 0 ∨ ¬ x < 64 := h.imp id dh_63n
/-- a register's number that is out of range -/
def dh_out (r : Int32) : Prop := r < 0 ∨ 3 < r
theorem dh_io (r : Int32) : (∃ i : Nat, i < 4 ∧ r = nI i) ∨ dh_out r := by
  rcases pk_ix r (n := 4) (by decide) with h | h | h
  · exact Or.inr (Or.inl h)
  · exact Or.inr (Or.inr (dh_3lt h))
  · exact Or.inl h
theorem dh_badIn {post : Int32 → Prop} {u : St2} {i : Nat} (hi : i < 4) (h : post 0) : wpX_badReg post u (nI i) := by
  obtain ⟨f1, f2, f3, f4, f5, f6, a1, a2, a3, a4, a5, a6, a7, a8, a9, a10⟩ := u
  exact br_f (nI_pos (by omega)) (br_t (nI_le (b := 3) (by omega) (by decide)) h)
theorem dh_badOut {post : Int32 → Prop} {u : St2} {p : Int32} (hp : dh_out p) (h : post 1) : wpX_badReg post u p := by
  obtain ⟨f1, f2, f3, f4, f5, f6, a1, a2, a3, a4, a5, a6, a7, a8, a9, a10⟩ := u
  exact br_c (fun _ => h) (fun z => br_f (Int32.not_le.mpr (hp.resolve_left z)) h)
theorem dh_setIn {post : Int32 → St2 → Prop} {i : Nat} {v : Int32} (hi : i < 4) (h : post 0 (f1, f2, f3, f4, f5, f6, a1, a2, a3, a4, a5, a6, a7, a8, upd a9 i v, a10)) : wpX_setRegister post (f1, f2, f3, f4, f5, f6, a1, a2, a3, a4, a5, a6, a7, a8, a9, a10) (nI i) v := by
  unfold wpX_setRegister
  try dsimp only
  refine dh_badIn hi (br_t rfl ⟨pk_in i 4 hi, nm_r (e' := upd a9 i v) ?_ h⟩)
  rw [nI_clamp (show i < 2 ^ 31 by omega)]
theorem dh_setOut {post : Int32 → St2 → Prop} {p v : Int32} (hp : dh_out p) (h : post (-1) (f1, f2, f3, f4, f5, f6, a1, a2, a3, a4, a5, a6, a7, a8, a9, a10)) : wpX_setRegister post (f1, f2, f3, f4, f5, f6, a1, a2, a3, a4, a5, a6, a7, a8, a9, a10) p v := by
  unfold wpX_setRegister
  try dsimp only
  exact dh_badOut hp (br_f (by decide) h)
/-! hooks() -/
theorem dh_hk_no {post : Int32 → Prop} {n k : Nat} {x : Int32} (hk : k < 4) (h : a6 k < 0) (H : wX_hooks_4 post f1 f2 f3 f4 f5 f6 a1 a2 a3 a4 a5 a6 a7 a8 a9 a10 n x (nI (k + 1))) : wX_hooks_4 post f1 f2 f3 f4 f5 f6 a1 a2 a3 a4 a5 a6 a7 a8 a9 a10 (n + 1) x (nI k) := by
  refine br_f (nI_ge (b := 4) hk (by decide)) ⟨pk_in k 4 hk, br_t ?_ (nm_r (nI_1 k) H)⟩
  rw [nI_clamp (show k < 2 ^ 31 by omega)]
  exact h
theorem dh_hk_yes {post : Int32 → Prop} {n k : Nat} {x x' : Int32} (hk : k < 4) (h : ¬ a6 k < 0) (hx : x + 1 = x') (H : wX_hooks_4 post f1 f2 f3 f4 f5 f6 a1 a2 a3 a4 a5 a6 a7 a8 a9 a10 n x' (nI (k + 1))) : wX_hooks_4 post f1 f2 f3 f4 f5 f6 a1 a2 a3 a4 a5 a6 a7 a8 a9 a10 (n + 1) x (nI k) := by
  refine br_f (nI_ge (b := 4) hk (by decide)) ⟨pk_in k 4 hk, br_f ?_ (nm_r hx (nm_r (nI_1 k) H))⟩
  rw [nI_clamp (show k < 2 ^ 31 by omega)]
  exact h
theorem dh_hk_end {post : Int32 → Prop} {n : Nat} {x : Int32} (h : post x) : wX_hooks_4 post f1 f2 f3 f4 f5 f6 a1 a2 a3 a4 a5 a6 a7 a8 a9 a10 (n + 1) x (nI 4) := br_t (by decide) h
theorem dh_hooks0 {post : Int32 → Prop} (h0 : a6 0 < 0) (h1 : a6 1 < 0) (h2 : a6 2 < 0) (h3 : a6 3 < 0) (h : post 0) : wpX_hooks post (f1, f2, f3, f4, f5, f6, a1, a2, a3, a4, a5, a6, a7, a8, a9, a10) :=
  ⟨5, dh_hk_no (n := 4) (k := 0) (by decide) h0 (dh_hk_no (n := 3) (k := 1) (by decide) h1 (dh_hk_no (n := 2) (k := 2) (by decide) h2 (dh_hk_no (n := 1) (k := 3) (by decide) h3 (dh_hk_end (n := 0) h))))⟩
theorem dh_hooks1 {post : Int32 → Prop} (h0 : a6 0 < 0) (h1 : a6 1 < 0) (h2 : a6 2 < 0) (h3 : ¬ a6 3 < 0) (h : post 1) : wpX_hooks post (f1, f2, f3, f4, f5, f6, a1, a2, a3, a4, a5, a6, a7, a8, a9, a10) :=
  ⟨5, dh_hk_no (n := 4) (k := 0) (by decide) h0 (dh_hk_no (n := 3) (k := 1) (by decide) h1 (dh_hk_no (n := 2) (k := 2) (by decide) h2 (dh_hk_yes (n := 1) (k := 3) (x' := 1) (by decide) h3 (by decide) (dh_hk_end (n := 0) h))))⟩
/-! append, inc, where, halt -/
theorem dh_len2 {post : Int32 → Prop} {u : St2} {k : Int32} (hk : k = 1 ∨ k = 8) (h : post 2) : wpX_lengthOf post u k := by
  obtain ⟨f1, f2, f3, f4, f5, f6, a1, a2, a3, a4, a5, a6, a7, a8, a9, a10⟩ := u
  rcases hk with rfl | rfl
  · exact br_f (by decide) (br_f (by decide) (br_f (by decide) h))
  · exact br_f (by decide) (br_f (by decide) (br_f (by decide) h))
theorem dh_len1 {post : Int32 → Prop} {u : St2} (h : post 1) : wpX_lengthOf post u 0 := by
  obtain ⟨f1, f2, f3, f4, f5, f6, a1, a2, a3, a4, a5, a6, a7, a8, a9, a10⟩ := u
  exact br_t rfl h
theorem dh_emit {post : St2 → Prop} {n : Nat} {b : Int32} (hn : n < 64) (h : post (nI (n + 1), f2, f3, f4, f5, f6, upd a1 n b, upd a2 n b, upd a3 n 0, a4, a5, a6, a7, a8, a9, a10)) : wpX_emit post (nI n, f2, f3, f4, f5, f6, a1, a2, a3, a4, a5, a6, a7, a8, a9, a10) b := by
  unfold wpX_emit
  try dsimp only
  rw [nI_clamp (show n < 2 ^ 31 by omega)]
  exact ⟨pk_in n 64 hn, nm_e ⟨pk_in n 64 hn, nm_e ⟨pk_in n 64 hn, nm_e (nm_r (nI_1 n) h)⟩⟩⟩
theorem dh_app2 {post : Int32 → St2 → Prop} {n : Nat} {k b c : Int32} (hn : n + 2 ≤ 64) (hk : k = 1 ∨ k = 8) (h0 : a6 0 < 0) (h1 : a6 1 < 0) (h2 : a6 2 < 0) (h3 : a6 3 < 0)
    (h : post (nI n) (nI (n + 1 + 1), f2, f3, f4, f5, f6, upd (upd a1 n k) (n + 1) b, upd (upd a2 n k) (n + 1) b, upd (upd (upd a3 n 0) n 1) (n + 1) 0, a4, a5, a6, a7, a8, a9, a10)) : wpX_append post (nI n, f2, f3, f4, f5, f6, a1, a2, a3, a4, a5, a6, a7, a8, a9, a10) k b c := by
  unfold wpX_append
  try dsimp only
  rw [nI_clamp (show n < 2 ^ 31 by omega)]
  refine dh_hooks0 h0 h1 h2 h3 (br_t (by decide) (dh_len2 hk (br_t ?_ (dh_emit (n := n) (by omega) ⟨pk_in n 64 (by omega), nm_e (br_f (by decide) (dh_emit (n := n + 1) (by omega) ?_))⟩))))
  · have e : nI n + 2 = nI (n + 2) := nI_add n 2
    rw [e]
    exact nI_le (b := 64) hn (by decide)
  · exact br_t (by decide) h
theorem dh_app1 {post : Int32 → St2 → Prop} {n : Nat} (hn : n + 1 ≤ 64) (h0 : a6 0 < 0) (h1 : a6 1 < 0) (h2 : a6 2 < 0) (h3 : a6 3 < 0)
    (h : ∀ u, post (nI n) u) : wpX_append post (nI n, f2, f3, f4, f5, f6, a1, a2, a3, a4, a5, a6, a7, a8, a9, a10) 0 0 0 := by
  unfold wpX_append
  try dsimp only
  refine dh_hooks0 h0 h1 h2 h3 (br_t (by decide) (dh_len1 (br_t ?_ (dh_emit (n := n) (by omega) ⟨pk_in n 64 (by omega), nm_e (br_t (by decide) ?_)⟩))))
  · rw [nI_1]
    exact nI_le (b := 64) hn (by decide)
  · exact br_t (by decide) (h _)
theorem dh_inc {post : Int32 → St2 → Prop} {n i : Nat} (hi : i < 4) (hn : n + 2 ≤ 64) (h0 : a6 0 < 0) (h1 : a6 1 < 0) (h2 : a6 2 < 0) (h3 : a6 3 < 0)
    (h : post (nI n) (nI (n + 1 + 1), f2, f3, f4, f5, f6, upd (upd a1 n 1) (n + 1) (nI i), upd (upd a2 n 1) (n + 1) (nI i), upd (upd (upd a3 n 0) n 1) (n + 1) 0, a4, a5, a6, a7, a8, a9, a10)) : wpX_inc post (nI n, f2, f3, f4, f5, f6, a1, a2, a3, a4, a5, a6, a7, a8, a9, a10) (nI i) := by
  unfold wpX_inc
  try dsimp only
  exact dh_badIn hi (br_t rfl (dh_app2 hn (Or.inl rfl) h0 h1 h2 h3 h))
theorem dh_incOut {post : Int32 → St2 → Prop} {p : Int32} (hp : dh_out p) (h : post (-1) (f1, f2, f3, f4, f5, f6, a1, a2, a3, a4, a5, a6, a7, a8, a9, a10)) : wpX_inc post (f1, f2, f3, f4, f5, f6, a1, a2, a3, a4, a5, a6, a7, a8, a9, a10) p := by
  unfold wpX_inc
  try dsimp only
  exact dh_badOut hp (br_f (by decide) h)
theorem dh_where {post : Int32 → St2 → Prop} {n i : Nat} (hi : i < 4) (hn : n + 2 ≤ 64) (h0 : a6 0 < 0) (h1 : a6 1 < 0) (h2 : a6 2 < 0) (h3 : a6 3 < 0)
    (h : post (nI n) (nI (n + 1 + 1), f2, f3, f4, f5, f6, upd (upd a1 n 8) (n + 1) (nI i), upd (upd a2 n 8) (n + 1) (nI i), upd (upd (upd a3 n 0) n 1) (n + 1) 0, a4, a5, a6, a7, a8, a9, a10)) : wpX_where post (nI n, f2, f3, f4, f5, f6, a1, a2, a3, a4, a5, a6, a7, a8, a9, a10) (nI i) := by
  unfold wpX_where
  try dsimp only
  exact dh_badIn hi (br_t rfl (dh_app2 hn (Or.inr rfl) h0 h1 h2 h3 h))
theorem dh_whereOut {post : Int32 → St2 → Prop} {p : Int32} (hp : dh_out p) (h : post (-1) (f1, f2, f3, f4, f5, f6, a1, a2, a3, a4, a5, a6, a7, a8, a9, a10)) : wpX_where post (f1, f2, f3, f4, f5, f6, a1, a2, a3, a4, a5, a6, a7, a8, a9, a10) p := by
  unfold wpX_where
  try dsimp only
  exact dh_badOut hp (br_f (by decide) h)
theorem dh_halt {post : Int32 → St2 → Prop} {n : Nat} (hn : n + 1 ≤ 64) (h0 : a6 0 < 0) (h1 : a6 1 < 0) (h2 : a6 2 < 0) (h3 : a6 3 < 0) (h : ∀ u, post (nI n) u) : wpX_halt post (nI n, f2, f3, f4, f5, f6, a1, a2, a3, a4, a5, a6, a7, a8, a9, a10) := by
  unfold wpX_halt
  try dsimp only
  refine dh_app1 hn h0 h1 h2 h3 (fun u => ?_)
  obtain ⟨g1, g2, g3, g4, g5, g6, b1, b2, b3, b4, b5, b6, b7, b8, b9, b10⟩ := u
  exact h _
theorem dh_halt1 {post : Int32 → St2 → Prop} (h0 : a6 0 < 0) (h1 : a6 1 < 0) (h2 : a6 2 < 0) (h3 : ¬ a6 3 < 0) (h : ∀ u, post (-3) u) : wpX_halt post (f1, f2, f3, f4, f5, f6, a1, a2, a3, a4, a5, a6, a7, a8, a9, a10) := by
  unfold wpX_halt wpX_append
  try dsimp only
  exact dh_hooks1 h0 h1 h2 h3 (br_f (by decide) (h _))
/-! the constructor -/
theorem dh_in_step {post : St2 → Prop} {mc ms kc ks n k : Nat} (hk : k < 4) (H : wX_init_82 post mc ms kc ks f1 f2 f3 f4 f5 f6 n (nI (k + 1)) a1 a2 a3 a4 a5 (upd a6 k (-1)) a7 a8 a9 a10) : wX_init_82 post mc ms kc ks f1 f2 f3 f4 f5 f6 (n + 1) (nI k) a1 a2 a3 a4 a5 a6 a7 a8 a9 a10 := by
  refine br_f (nI_ge (b := 4) hk (by decide)) ⟨pk_in k 4 hk, nm_r (e' := upd a6 k (-1)) ?_ (nm_r (nI_1 k) H)⟩
  rw [nI_clamp (show k < 2 ^ 31 by omega)]
theorem dh_in_end {post : St2 → Prop} {mc ms kc ks n : Nat} (h : post (f1, f2, f3, f4, f5, f6, a1, a2, a3, a4, a5, a6, a7, a8, a9, a10)) : wX_init_82 post mc ms kc ks f1 f2 f3 f4 f5 f6 (n + 1) (nI 4) a1 a2 a3 a4 a5 a6 a7 a8 a9 a10 := br_t (by decide) h
/-- hookAt behind the constructor -/
def dh_H : Nat → Int32 := upd (upd (upd (upd (fun _ => 0) 0 (-1)) 1 (-1)) 2 (-1)) 3 (-1)
theorem dh_init {post : St2 → Prop} (h : post (f1, f2, f3, f4, f5, f6, (fun _ => 0), (fun _ => 0), (fun _ => 0), (fun _ => 0), (fun _ => 0), dh_H, (fun _ => 0), (fun _ => 0), (fun _ => 0), (fun _ => 0))) : wpX_init post 10 344 (f1, f2, f3, f4, f5, f6) := by
  unfold wpX_init
  try dsimp only
  refine ⟨by decide, by decide, by decide, by decide, by decide, by decide, by decide, by decide, by decide, by decide, by decide, by decide, by decide, by decide, by decide, by decide, by decide, by decide, by decide, by decide, 5, ?_⟩
  exact dh_in_step (n := 4) (k := 0) (by decide) (dh_in_step (n := 3) (k := 1) (by decide) (dh_in_step (n := 2) (k := 2) (by decide) (dh_in_step (n := 1) (k := 3) (by decide) (dh_in_end (n := 0) h))))
end
section
/-! slotOf, isStart, and what hook(a) does: it is refused, or it is set at 0 over the two instructions -/
variable {f1 f2 f3 f4 f5 f6 : Int32} {a1 a2 a3 a4 a5 a6 a7 a8 a9 a10 : Nat → Int32}
theorem dh_so_no {post : Int32 → Prop} {n k : Nat} {p x : Int32} (hk : k < 4) (h : ¬ a6 k = p) (H : wX_slotOf_4 post p f1 f2 f3 f4 f5 f6 a1 a2 a3 a4 a5 a6 a7 a8 a9 a10 n x (nI (k + 1))) : wX_slotOf_4 post p f1 f2 f3 f4 f5 f6 a1 a2 a3 a4 a5 a6 a7 a8 a9 a10 (n + 1) x (nI k) := by
  refine br_f (nI_ge (b := 4) hk (by decide)) ⟨pk_in k 4 hk, br_f ?_ (nm_r (nI_1 k) H)⟩
  rw [nI_clamp (show k < 2 ^ 31 by omega)]
  exact h
theorem dh_so_any {post : Int32 → Prop} {n k : Nat} {p x : Int32} (hk : k < 4) (H : ∀ x', wX_slotOf_4 post p f1 f2 f3 f4 f5 f6 a1 a2 a3 a4 a5 a6 a7 a8 a9 a10 n x' (nI (k + 1))) : wX_slotOf_4 post p f1 f2 f3 f4 f5 f6 a1 a2 a3 a4 a5 a6 a7 a8 a9 a10 (n + 1) x (nI k) :=
  br_f (nI_ge (b := 4) hk (by decide)) ⟨pk_in k 4 hk, br_c (fun _ => nm_r (nI_1 k) (H _)) (fun _ => nm_r (nI_1 k) (H _))⟩
theorem dh_so_yes {post : Int32 → Prop} {n k : Nat} {p x : Int32} (hk : k < 4) (h : a6 k = p) (H : wX_slotOf_4 post p f1 f2 f3 f4 f5 f6 a1 a2 a3 a4 a5 a6 a7 a8 a9 a10 n (nI k) (nI (k + 1))) : wX_slotOf_4 post p f1 f2 f3 f4 f5 f6 a1 a2 a3 a4 a5 a6 a7 a8 a9 a10 (n + 1) x (nI k) := by
  refine br_f (nI_ge (b := 4) hk (by decide)) ⟨pk_in k 4 hk, br_t ?_ (nm_r (nI_1 k) H)⟩
  rw [nI_clamp (show k < 2 ^ 31 by omega)]
  exact h
theorem dh_so_end {post : Int32 → Prop} {n : Nat} {p x : Int32} (h : post x) : wX_slotOf_4 post p f1 f2 f3 f4 f5 f6 a1 a2 a3 a4 a5 a6 a7 a8 a9 a10 (n + 1) x (nI 4) := br_t (by decide) h
theorem dh_slotNo {post : Int32 → Prop} {p : Int32} (h0 : ¬ a6 0 = p) (h1 : ¬ a6 1 = p) (h2 : ¬ a6 2 = p) (h3 : ¬ a6 3 = p) (h : post (-1)) : wpX_slotOf post (f1, f2, f3, f4, f5, f6, a1, a2, a3, a4, a5, a6, a7, a8, a9, a10) p :=
  ⟨5, dh_so_no (n := 4) (k := 0) (by decide) h0 (dh_so_no (n := 3) (k := 1) (by decide) h1 (dh_so_no (n := 2) (k := 2) (by decide) h2 (dh_so_no (n := 1) (k := 3) (by decide) h3 (dh_so_end (n := 0) h))))⟩
theorem dh_slot3 {post : Int32 → Prop} {p : Int32} (h3 : a6 3 = p) (h : post (nI 3)) : wpX_slotOf post (f1, f2, f3, f4, f5, f6, a1, a2, a3, a4, a5, a6, a7, a8, a9, a10) p :=
  ⟨5, dh_so_any (n := 4) (k := 0) (by decide) (fun _ => dh_so_any (n := 3) (k := 1) (by decide) (fun _ => dh_so_any (n := 2) (k := 2) (by decide) (fun _ => dh_so_yes (n := 1) (k := 3) (by decide) h3 (dh_so_end (n := 0) h))))⟩
theorem dh_isYes {post : Int32 → Prop} {k m : Nat} (hk : k < m) (hm : m ≤ 64) (h3 : ¬ a3 k = 0) (h : post 1) : wpX_isStart post (nI m, f2, f3, f4, f5, f6, a1, a2, a3, a4, a5, a6, a7, a8, a9, a10) (nI k) := by
  refine br_f (nI_pos (by omega)) (br_f (nI_ge hk (by omega)) ⟨pk_in k 64 (by omega), br_f ?_ h⟩)
  rw [nI_clamp (show k < 2 ^ 31 by omega)]
  exact h3
theorem dh_isNo {post : Int32 → Prop} {k m : Nat} (hm : m ≤ 64) (hk : k < 1024) (h3 : k < m → a3 k = 0) (h : post 0) : wpX_isStart post (nI m, f2, f3, f4, f5, f6, a1, a2, a3, a4, a5, a6, a7, a8, a9, a10) (nI k) := by
  refine br_f (nI_pos (by omega)) (pk_le m k (fun _ => h) (fun z => ⟨pk_in k 64 (by omega), br_t ?_ h⟩))
  rw [nI_clamp (show k < 2 ^ 31 by omega)]
  exact h3 z
/-- a hook at a isn't set: hook answers x, calls y -/
def dh_no (a x y : Int32) : Prop := (a < 0 ∧ x = -1 ∧ y = -1) ∨ (63 < a ∧ x = -1 ∧ y = -1) ∨ (∃ k : Nat, k < 64 ∧ a = nI k ∧ x = -4 ∧ y = -3)
theorem dh_ne {k j : Nat} (hk : k < 64) (h : a6 j = -1) : ¬ a6 j = nI k := by
  rw [h]
  exact dh_m1 (by omega)
theorem dh_hookNo {post : Int32 → St2 → Prop} {m : Nat} {a : Int32} (hm : m ≤ 64) (h0 : a6 0 = -1) (h1 : a6 1 = -1) (h2 : a6 2 = -1) (h3 : a6 3 = -1)
    (H : ∀ k : Nat, a = nI k → k < m → ¬ a3 k = 0 → ¬ k + 3 ≤ m) (h : ∀ x y, dh_no a x y → post x (nI m, f2, f3, f4, f5, f6, a1, a2, a3, a4, a5, a6, a7, a8, a9, a10)) : wpX_hook post (nI m, f2, f3, f4, f5, f6, a1, a2, a3, a4, a5, a6, a7, a8, a9, a10) a := by
  rcases pk_ix a (n := 64) (by decide) with z | z | ⟨k, hk, rfl⟩
  · exact br_t z (h _ _ (Or.inl ⟨z, rfl, rfl⟩))
  · exact br_c (fun y => h _ _ (Or.inl ⟨y, rfl, rfl⟩)) (fun _ => br_f (dh_63n (dh_63lt z)) (h _ _ (Or.inr (Or.inl ⟨dh_63lt z, rfl, rfl⟩))))
  · have hp := h _ _ (Or.inr (Or.inr ⟨k, hk, rfl, rfl, rfl⟩))
    refine br_f (nI_pos (by omega)) (br_t (nI_lt (b := 64) hk (by decide)) (dh_slotNo (dh_ne hk h0) (dh_ne hk h1) (dh_ne hk h2) (dh_ne hk h3) (br_t (by decide) (dh_slot3 h3 (br_t (by decide) ?_)))))
    by_cases hs : k < m ∧ ¬ a3 k = 0
    · refine dh_isYes hs.1 hm hs.2 (br_f (by decide) (br_f ?_ hp))
      have e : nI k + 3 = nI (k + 3) := nI_add k 3
      rw [e]
      have t := H k rfl hs.1 hs.2
      exact nI_ge (by omega) (by omega)
    · exact dh_isNo hm (by omega) (fun y => Classical.byContradiction (fun g => hs ⟨y, g⟩)) (br_t rfl hp)
/-! calls -/
theorem dh_callsNo {post : Int32 → Prop} {a x y : Int32} (hA : dh_no a x y) (h0 : a6 0 = -1) (h1 : a6 1 = -1) (h2 : a6 2 = -1) (h3 : a6 3 = -1) (h : post y) : wpX_calls post (f1, f2, f3, f4, f5, f6, a1, a2, a3, a4, a5, a6, a7, a8, a9, a10) a := by
  rcases hA with ⟨z, _, rfl⟩ | ⟨z, _, rfl⟩ | ⟨k, hk, rfl, _, rfl⟩
  · exact br_t z h
  · exact br_c (fun _ => h) (fun _ => br_f (dh_63n z) h)
  · exact br_f (nI_pos (by omega)) (br_t (nI_lt (b := 64) hk (by decide)) (dh_slotNo (dh_ne hk h0) (dh_ne hk h1) (dh_ne hk h2) (dh_ne hk h3) (br_f (by decide) h)))
theorem dh_calls1 {post : Int32 → Prop} (h3 : a6 3 = 0) (h : post (a8 3)) : wpX_calls post (f1, f2, f3, f4, f5, f6, a1, a2, a3, a4, a5, a6, a7, a8, a9, a10) 0 :=
  br_f (by decide) (br_t (by decide) (dh_slot3 h3 (br_t (by decide) ⟨pk_in 3 4 (by decide), h⟩)))
theorem dh_exec {post : Int32 → Prop} (h : post f5) : wpX_executed post (f1, f2, f3, f4, f5, f6, a1, a2, a3, a4, a5, a6, a7, a8, a9, a10) := h
theorem dh_regIn {post : Int32 → Prop} {i : Nat} (hi : i < 4) (h : post (a9 i)) : wpX_register post (f1, f2, f3, f4, f5, f6, a1, a2, a3, a4, a5, a6, a7, a8, a9, a10) (nI i) := by
  unfold wpX_register
  try dsimp only
  rw [nI_clamp (show i < 2 ^ 31 by omega)]
  exact dh_badIn hi (br_t rfl ⟨pk_in i 4 hi, h⟩)
theorem dh_regOut {post : Int32 → Prop} {p : Int32} (hp : dh_out p) (h : post 0) : wpX_register post (f1, f2, f3, f4, f5, f6, a1, a2, a3, a4, a5, a6, a7, a8, a9, a10) p := by
  unfold wpX_register
  try dsimp only
  exact dh_badOut hp (br_f (by decide) h)
/-! headOf, meetsHead, targetOf, aimedInside at 0 over the two instructions -/
theorem dh_head {post : Int32 → Prop} (e0 : a1 0 = 1) (e2 : a1 2 = 8) (h : post 4) : wpX_headOf post (f1, f2, f3, f4, f5, f6, a1, a2, a3, a4, a5, a6, a7, a8, a9, a10) 0 := by
  refine ⟨4, br_f (by decide) (br_f (by decide) ⟨pk_in 0 64 (by decide), dh_len2 (Or.inl e0) (nm_r (e' := 2) (by decide) (nm_r (e' := 1) (by decide) ?_))⟩)⟩
  refine br_f (by decide) (br_f (by decide) ⟨pk_in 2 64 (by decide), dh_len2 (Or.inr e2) (nm_r (e' := 4) (by decide) (nm_r (e' := 2) (by decide) ?_))⟩)
  exact br_f (by decide) (br_t (by decide) h)
theorem dh_mh_step {post : Int32 → Prop} {n k : Nat} {p q x : Int32} (hk : k < 4) (h : a6 k < 0) (H : wX_meetsHead_5 post p q f1 f2 f3 f4 f5 f6 a1 a2 a3 a4 a5 a6 a7 a8 a9 a10 n x (nI (k + 1))) : wX_meetsHead_5 post p q f1 f2 f3 f4 f5 f6 a1 a2 a3 a4 a5 a6 a7 a8 a9 a10 (n + 1) x (nI k) := by
  refine br_f (nI_ge (b := 4) hk (by decide)) ⟨pk_in k 4 hk, br_t ?_ (nm_r (nI_1 k) H)⟩
  rw [nI_clamp (show k < 2 ^ 31 by omega)]
  exact h
theorem dh_meets {post : Int32 → Prop} {p q : Int32} (h0 : a6 0 < 0) (h1 : a6 1 < 0) (h2 : a6 2 < 0) (h3 : a6 3 < 0) (h : post 0) : wpX_meetsHead post (f1, f2, f3, f4, f5, f6, a1, a2, a3, a4, a5, a6, a7, a8, a9, a10) p q :=
  ⟨5, dh_mh_step (n := 4) (k := 0) (by decide) h0 (dh_mh_step (n := 3) (k := 1) (by decide) h1 (dh_mh_step (n := 2) (k := 2) (by decide) h2 (dh_mh_step (n := 1) (k := 3) (by decide) h3 (br_t (by decide) ⟨rfl, h⟩))))⟩
theorem dh_tgt {post : Int32 → Prop} {k : Nat} (hk : k < 64) (e : a1 k = 1 ∨ a1 k = 8) (h : post (-1000)) : wpX_targetOf post (f1, f2, f3, f4, f5, f6, a1, a2, a3, a4, a5, a6, a7, a8, a9, a10) (nI k) := by
  have c : (nI k).toNatClampNeg = k := nI_clamp (by omega)
  rcases e with e | e
  · exact ⟨pk_in k 64 hk, nm_r (e' := 1) (by rw [c]; exact e) (br_t (by decide) h)⟩
  · exact ⟨pk_in k 64 hk, nm_r (e' := 8) (by rw [c]; exact e) (br_f (by decide) (br_f (by decide) h))⟩
theorem dh_ai_no {post : Int32 → Prop} {n k m : Nat} {p q x : Int32} (hk : k < m) (hm : m ≤ 64) (h : a3 k = 0) (H : wX_aimedInside_5 post p q (nI m) f2 f3 f4 f5 f6 a1 a2 a3 a4 a5 a6 a7 a8 a9 a10 n x (nI (k + 1))) : wX_aimedInside_5 post p q (nI m) f2 f3 f4 f5 f6 a1 a2 a3 a4 a5 a6 a7 a8 a9 a10 (n + 1) x (nI k) := by
  refine br_f (nI_ge hk (by omega)) ⟨pk_in k 64 (by omega), br_t ?_ (nm_r (nI_1 k) H)⟩
  rw [nI_clamp (show k < 2 ^ 31 by omega)]
  exact h
theorem dh_ai_yes {post : Int32 → Prop} {n k m : Nat} {q : Int32} (hk : k < m) (hm : m ≤ 64) (h : ¬ a3 k = 0) (e : a1 k = 1 ∨ a1 k = 8) (H : wX_aimedInside_5 post 0 q (nI m) f2 f3 f4 f5 f6 a1 a2 a3 a4 a5 a6 a7 a8 a9 a10 n 0 (nI (k + 1))) : wX_aimedInside_5 post 0 q (nI m) f2 f3 f4 f5 f6 a1 a2 a3 a4 a5 a6 a7 a8 a9 a10 (n + 1) 0 (nI k) := by
  refine br_f (nI_ge hk (by omega)) ⟨pk_in k 64 (by omega), br_f ?_ (dh_tgt (by omega) e (br_t rfl (br_t (by decide) (nm_r (nI_1 k) H))))⟩
  rw [nI_clamp (show k < 2 ^ 31 by omega)]
  exact h
theorem dh_aimed {post : Int32 → Prop} {q : Int32} (e0 : a1 0 = 1) (e2 : a1 2 = 8) (s0 : ¬ a3 0 = 0) (s1 : a3 1 = 0) (s2 : ¬ a3 2 = 0) (s3 : a3 3 = 0) (h : post 0) : wpX_aimedInside post (nI 4, f2, f3, f4, f5, f6, a1, a2, a3, a4, a5, a6, a7, a8, a9, a10) 0 q :=
  ⟨5, dh_ai_yes (n := 4) (k := 0) (by decide) (by decide) s0 (Or.inl e0) (dh_ai_no (n := 3) (k := 1) (by decide) (by decide) s1 (dh_ai_yes (n := 2) (k := 2) (by decide) (by decide) s2 (Or.inr e2) (dh_ai_no (n := 1) (k := 3) (by decide) (by decide) s3 (br_t (by decide) ⟨rfl, h⟩))))⟩
end
section
/-! put, putAddress, relocate, displace, overwrite, and hook(0) that is set -/
variable {f1 f2 f3 f4 f5 f6 : Int32} {a1 a2 a3 a4 a5 a6 a7 a8 a9 a10 : Nat → Int32}
theorem dh_put {post : St2 → Prop} {n : Nat} {b : Int32} (hn : n < 64) (h : post (f1, nI (n + 1), f3, f4, f5, f6, a1, a2, a3, a4, upd a5 n b, a6, a7, a8, a9, a10)) : wpX_put post (f1, nI n, f3, f4, f5, f6, a1, a2, a3, a4, a5, a6, a7, a8, a9, a10) b := by
  unfold wpX_put
  try dsimp only
  rw [nI_clamp (show n < 2 ^ 31 by omega)]
  exact ⟨pk_in n 64 hn, nm_e (nm_r (nI_1 n) h)⟩
theorem dh_putA {post : St2 → Prop} {n : Nat} {x hi lo : Int32} (hn : n + 1 < 64) (c1 : (x + 256) >>> ((8 : Int32) &&& 31) = hi) (c2 : (x + 256) &&& 255 = lo) (h : post (f1, nI (n + 1 + 1), f3, f4, f5, f6, a1, a2, a3, a4, upd (upd a5 n hi) (n + 1) lo, a6, a7, a8, a9, a10)) : wpX_putAddress post (f1, nI n, f3, f4, f5, f6, a1, a2, a3, a4, a5, a6, a7, a8, a9, a10) x := by
  subst c1 c2
  unfold wpX_putAddress
  try dsimp only
  exact dh_put (n := n) (by omega) (dh_put (n := n + 1) hn h)
theorem dh_rel1 {post : St2 → Prop} {w k : Nat} {x : Int32} (hk : k + 1 < 64) (hw : w + 1 < 64) (e0 : a1 k = 1) (e1 : a1 (k + 1) = x) (h : post (f1, nI (w + 1 + 1), f3, f4, f5, f6, a1, a2, a3, a4, upd (upd a5 w 1) (w + 1) x, a6, a7, a8, a9, a10)) : wpX_relocate post (f1, nI w, f3, f4, f5, f6, a1, a2, a3, a4, a5, a6, a7, a8, a9, a10) (nI k) := by
  have c1 : (nI k + 1).toNatClampNeg = k + 1 := pk_cl (k + 1) (nI_1 k)
  subst e1
  unfold wpX_relocate
  try dsimp only
  refine ⟨pk_in k 64 (by omega), nm_r (e' := 1) ?_ ?_⟩
  · rw [nI_clamp (show k < 2 ^ 31 by omega)]
    exact e0
  · rw [c1]
    exact dh_tgt (by omega) (Or.inl e0) (br_f (by decide) (br_f (by decide) (br_f (by decide) (br_f (by decide) (dh_put (n := w) (by omega) (br_f (by decide) (br_f (by decide) ⟨pk_in (k + 1) 64 hk (nI_1 k), dh_put (n := w + 1) hw h⟩)))))))
theorem dh_rel8 {post : St2 → Prop} {w k : Nat} {x hi lo : Int32} (hk : k + 1 < 64) (hw : w + 3 < 64) (e0 : a1 k = 8) (e1 : a1 (k + 1) = x) (c1 : (nI k + 2 + 256) >>> ((8 : Int32) &&& 31) = hi) (c2 : (nI k + 2 + 256) &&& 255 = lo)
    (h : post (f1, nI (w + 1 + 1 + 1 + 1), f3, f4, f5, f6, a1, a2, a3, a4, upd (upd (upd (upd a5 w 13) (w + 1) x) (w + 1 + 1) hi) (w + 1 + 1 + 1) lo, a6, a7, a8, a9, a10)) : wpX_relocate post (f1, nI w, f3, f4, f5, f6, a1, a2, a3, a4, a5, a6, a7, a8, a9, a10) (nI k) := by
  have c3 : (nI k + 1).toNatClampNeg = k + 1 := pk_cl (k + 1) (nI_1 k)
  subst e1
  unfold wpX_relocate
  try dsimp only
  refine ⟨pk_in k 64 (by omega), nm_r (e' := 8) ?_ ?_⟩
  · rw [nI_clamp (show k < 2 ^ 31 by omega)]
    exact e0
  · rw [c3]
    exact dh_tgt (by omega) (Or.inr e0) (br_f (by decide) (br_f (by decide) (br_f (by decide) (br_t rfl (dh_put (n := w) (by omega) ⟨pk_in (k + 1) 64 hk (nI_1 k), dh_put (n := w + 1) (by omega) (dh_putA (n := w + 1 + 1) (by omega) c1 c2 h)⟩)))))
/-- what hook(0) writes into the second area: the counting, inc x, where y for 4, the way back -/
def dh_A5 (b : Nat → Int32) (x y : Int32) : Prop := b 48 = 10 ∧ b 49 = 3 ∧ b 50 = 1 ∧ b 51 = x ∧ b 52 = 13 ∧ b 53 = y ∧ b 54 = 1 ∧ b 55 = 4 ∧ b 56 = 9 ∧ b 57 = 1 ∧ b 58 = 4
theorem dh_A5ok (x y : Int32) : dh_A5 (upd (upd (upd (upd (upd (upd (upd (upd (upd (upd (upd a5 48 10) 49 (nI 3)) 50 1) 51 x) 52 13) 53 y) 54 1) 55 4) 56 9) 57 1) 58 4) x y :=
  ⟨rfl, rfl, rfl, rfl, rfl, rfl, rfl, rfl, rfl, rfl, rfl⟩
theorem dh_disp {post : St2 → Prop} {x y : Int32} (e0 : a1 0 = 1) (e1 : a1 1 = x) (e2 : a1 2 = 8) (e3 : a1 3 = y)
    (h : ∀ w b4 b5, dh_A5 b5 x y → post (f1, w, f3, f4, f5, f6, a1, a2, a3, b4, b5, a6, a7, a8, a9, a10)) : wpX_displace post (f1, f2, f3, f4, f5, f6, a1, a2, a3, a4, a5, a6, a7, a8, a9, a10) (nI 3) 0 4 := by
  unfold wpX_displace
  try dsimp only
  refine nm_r (e' := nI 48) (by decide) (dh_put (n := 48) (by decide) (dh_put (n := 49) (by decide) ⟨4, ?_⟩))
  refine br_f (by decide) (br_f (by decide) ⟨pk_in 0 64 (by decide), nm_e (dh_rel1 (w := 50) (k := 0) (by decide) (by decide) e0 e1 ⟨pk_in 0 64 (by decide), dh_len2 (Or.inl e0) (nm_r (e' := 2) (by decide) (nm_r (e' := 1) (by decide) ?_))⟩)⟩)
  refine br_f (by decide) (br_f (by decide) ⟨pk_in 2 64 (by decide), nm_e (dh_rel8 (w := 52) (k := 2) (hi := 1) (lo := 4) (by decide) (by decide) e2 e3 (by decide) (by decide) ⟨pk_in 2 64 (by decide), dh_len2 (Or.inr e2) (nm_r (e' := 4) (by decide) (nm_r (e' := 2) (by decide) ?_))⟩)⟩)
  refine br_f (by decide) (br_t (by decide) ?_)
  unfold wX_displace_82
  exact dh_put (n := 56) (by decide) (dh_putA (n := 57) (hi := 1) (lo := 4) (by decide) (by decide) (by decide) (h _ _ _ (dh_A5ok x y)))
theorem dh_over {post : St2 → Prop} (h : post (f1, f2, f3, f4, f5, f6, a1, upd (upd (upd (upd a2 0 9) 1 3) 2 48) 3 255, a3, a4, a5, a6, a7, a8, a9, a10)) : wpX_overwrite post (f1, f2, f3, f4, f5, f6, a1, a2, a3, a4, a5, a6, a7, a8, a9, a10) (nI 3) 0 4 := by
  unfold wpX_overwrite
  try dsimp only
  refine nm_r (e' := 816) (by decide) ⟨pk_in 0 64 (by decide), nm_r (e' := upd a2 0 9) rfl ⟨pk_in 1 64 (by decide), nm_r (e' := upd (upd a2 0 9) 1 3) ?_ ⟨pk_in 2 64 (by decide), nm_r (e' := upd (upd (upd a2 0 9) 1 3) 2 48) ?_ ⟨2, ?_⟩⟩⟩⟩
  · rw [show ((0 : Int32) + 1).toNatClampNeg = 1 by decide, show (816 : Int32) >>> ((8 : Int32) &&& 31) = 3 by decide]
  · rw [show ((0 : Int32) + 2).toNatClampNeg = 2 by decide, show (816 : Int32) &&& 255 = 48 by decide]
  · refine br_f (by decide) ⟨pk_in 3 64 (by decide), nm_r (e' := upd (upd (upd (upd a2 0 9) 1 3) 2 48) 3 255) ?_ (nm_r (e' := 4) (by decide) (br_t (by decide) h))⟩
    rw [show ((0 : Int32) + 3).toNatClampNeg = 3 by decide]
theorem dh_hookSet {post : Int32 → St2 → Prop} {x y : Int32} (e0 : a1 0 = 1) (e1 : a1 1 = x) (e2 : a1 2 = 8) (e3 : a1 3 = y) (s0 : ¬ a3 0 = 0) (s1 : a3 1 = 0) (s2 : ¬ a3 2 = 0) (s3 : a3 3 = 0)
    (h0 : a6 0 = -1) (h1 : a6 1 = -1) (h2 : a6 2 = -1) (h3 : a6 3 = -1)
    (h : ∀ w b4 b5, dh_A5 b5 x y → post 4 (nI 4, w, f3, f4, f5, f6, a1, upd (upd (upd (upd a2 0 9) 1 3) 2 48) 3 255, a3, b4, b5, upd a6 3 0, upd a7 3 4, upd a8 3 0, a9, a10)) : wpX_hook post (nI 4, f2, f3, f4, f5, f6, a1, a2, a3, a4, a5, a6, a7, a8, a9, a10) 0 := by
  have c : (nI 3).toNatClampNeg = 3 := by decide
  refine br_f (by decide) (br_t (by decide) (dh_slotNo (dh_ne (k := 0) (by decide) h0) (dh_ne (k := 0) (by decide) h1) (dh_ne (k := 0) (by decide) h2) (dh_ne (k := 0) (by decide) h3) (br_t (by decide) (dh_slot3 h3 (br_t (by decide) ?_)))))
  refine dh_isYes (k := 0) (m := 4) (by decide) (by decide) s0 (br_f (by decide) (br_t (by decide) (dh_head e0 e2 (dh_meets (dh_neg h0) (dh_neg h1) (dh_neg h2) (dh_neg h3) (dh_aimed e0 e2 s0 s1 s2 s3 (br_t rfl (br_t rfl ?_)))))))
  rw [c]
  exact ⟨pk_in 3 4 (by decide), nm_e ⟨pk_in 3 4 (by decide), nm_e ⟨pk_in 3 4 (by decide), nm_e (dh_disp e0 e1 e2 e3 (fun w b4 b5 hb => dh_over (h w b4 b5 hb)))⟩⟩⟩
end
section
/-! fetch, one step of each kind, and run(0) -/
variable {f1 f2 f3 f4 f5 f6 : Int32} {a1 a2 a3 a4 a5 a6 a7 a8 a9 a10 : Nat → Int32}
theorem dh_fC {q : Int32 → Prop} {x v : Int32} (k : Nat) (hx : x = nI k) (hk : k < 64) (e : a2 k = v) (h : q v) : wpX_fetch q (f1, f2, f3, f4, f5, f6, a1, a2, a3, a4, a5, a6, a7, a8, a9, a10) x := by
  subst hx e
  refine br_t (nI_lt (b := 512) (by omega) (by decide)) (br_f (nI_pos (by omega)) (br_f (nI_ge (b := 64) hk (by decide)) ⟨pk_in k 64 hk, ?_⟩))
  rw [nI_clamp (show k < 2 ^ 31 by omega)]
  exact h
theorem dh_fA {q : Int32 → Prop} {x v : Int32} (k : Nat) (hx : x = nI (512 + k)) (hk : k < 64) (e : a5 k = v) (h : q v) : wpX_fetch q (f1, f2, f3, f4, f5, f6, a1, a2, a3, a4, a5, a6, a7, a8, a9, a10) x := by
  subst hx e
  have t : nI (512 + k) - 512 = nI k := by
    have t1 : nI (512 + k) - nI 512 = nI (512 + k - 512) := pk_sub (by omega)
    rw [Nat.add_sub_cancel_left] at t1
    exact t1
  refine br_f (nI_nlt (b := 512) (by omega) (by omega)) (nm_r t (br_f (nI_ge (b := 64) hk (by decide)) ⟨pk_in k 64 hk, ?_⟩))
  rw [nI_clamp (show k < 2 ^ 31 by omega)]
  exact h
/-- inc: the kind 1 at x, the register's number behind it -/
theorem dh_exInc {post : St2 → Prop} {x x' : Int32} {i : Nat} (hi : i < 4)
    (F0 : ∀ (d : Int32) (q : Int32 → Prop), q 1 → wpX_fetch q (f1, f2, f3, x, d, f6, a1, a2, a3, a4, a5, a6, a7, a8, a9, a10) x) (F1 : ∀ (d : Int32) (q : Int32 → Prop), q (nI i) → wpX_fetch q (f1, f2, f3, x, d, f6, a1, a2, a3, a4, a5, a6, a7, a8, a9, a10) (x + 1))
    (hx : x + 2 = x') (h : post (f1, f2, f3, x', f5 + 1, f6, a1, a2, a3, a4, a5, a6, a7, a8, upd a9 i (a9 i + 1), a10)) : wpX_execute post (f1, f2, f3, x, f5, f6, a1, a2, a3, a4, a5, a6, a7, a8, a9, a10) := by
  unfold wpX_execute
  try dsimp only
  refine F0 _ _ (br_f (by decide) (br_f (by decide) (nm_e (br_t (by decide) ?_))))
  unfold wpX_executePlain
  try dsimp only
  refine dh_len2 (Or.inl rfl) (nm_r hx (F1 _ _ (nm_r (dh_and3 i hi) (br_f (by decide) (br_f (by decide) (br_f (by decide) (br_f (by decide) (br_f (by decide) ?_))))))))
  refine br_t rfl ⟨pk_in i 4 hi, pk_in i 4 hi, nm_r (e' := upd a9 i (a9 i + 1)) ?_ h⟩
  rw [nI_clamp (show i < 2 ^ 31 by omega)]
/-- where: the kind 8 at x, the register's number behind it -/
theorem dh_exWhere {post : St2 → Prop} {x x' : Int32} {i : Nat} (hi : i < 4)
    (F0 : ∀ (d : Int32) (q : Int32 → Prop), q 8 → wpX_fetch q (f1, f2, f3, x, d, f6, a1, a2, a3, a4, a5, a6, a7, a8, a9, a10) x) (F1 : ∀ (d : Int32) (q : Int32 → Prop), q (nI i) → wpX_fetch q (f1, f2, f3, x, d, f6, a1, a2, a3, a4, a5, a6, a7, a8, a9, a10) (x + 1))
    (hx : x + 2 = x') (h : post (f1, f2, f3, x', f5 + 1, f6, a1, a2, a3, a4, a5, a6, a7, a8, upd a9 i x', a10)) : wpX_execute post (f1, f2, f3, x, f5, f6, a1, a2, a3, a4, a5, a6, a7, a8, a9, a10) := by
  unfold wpX_execute
  try dsimp only
  refine F0 _ _ (br_f (by decide) (br_f (by decide) (nm_e (br_t (by decide) ?_))))
  unfold wpX_executePlain
  try dsimp only
  refine dh_len2 (Or.inr rfl) (nm_r hx (F1 _ _ (nm_r (dh_and3 i hi) (br_f (by decide) (br_f (by decide) (br_f (by decide) (br_f (by decide) (br_f (by decide) ?_))))))))
  refine br_f (by decide) (br_f (by decide) (br_f (by decide) ⟨pk_in i 4 hi, nm_r (e' := upd a9 i x') ?_ h⟩))
  rw [nI_clamp (show i < 2 ^ 31 by omega)]
/-- the far jump: the kind 9 at x, the address behind it -/
theorem dh_exFar {post : St2 → Prop} {x hi lo y : Int32}
    (F0 : ∀ (q : Int32 → Prop), q 9 → wpX_fetch q (f1, f2, f3, x, f5, f6, a1, a2, a3, a4, a5, a6, a7, a8, a9, a10) x) (F1 : ∀ (q : Int32 → Prop), q hi → wpX_fetch q (f1, f2, f3, x, f5, f6, a1, a2, a3, a4, a5, a6, a7, a8, a9, a10) (x + 1)) (F2 : ∀ (q : Int32 → Prop), q lo → wpX_fetch q (f1, f2, f3, x, f5, f6, a1, a2, a3, a4, a5, a6, a7, a8, a9, a10) (x + 1 + 1))
    (hy : hi * 256 + lo - 256 = y) (h : post (f1, f2, f3, y, f5, f6, a1, a2, a3, a4, a5, a6, a7, a8, a9, a10)) : wpX_execute post (f1, f2, f3, x, f5, f6, a1, a2, a3, a4, a5, a6, a7, a8, a9, a10) := by
  subst hy
  unfold wpX_execute
  try dsimp only
  refine F0 _ (br_t rfl ?_)
  unfold wpX_fetchAddress
  try dsimp only
  exact F1 _ (F2 _ h)
/-- the counting: the kind 10 at x, the hook's slot 3 behind it -/
theorem dh_exCount {post : St2 → Prop} {x x' : Int32}
    (F0 : ∀ (q : Int32 → Prop), q 10 → wpX_fetch q (f1, f2, f3, x, f5, f6, a1, a2, a3, a4, a5, a6, a7, a8, a9, a10) x) (F1 : ∀ (q : Int32 → Prop), q 3 → wpX_fetch q (f1, f2, f3, x, f5, f6, a1, a2, a3, a4, a5, a6, a7, a8, a9, a10) (x + 1))
    (hx : x + 2 = x') (h : post (f1, f2, f3, x', f5, f6, a1, a2, a3, a4, a5, a6, a7, upd a8 3 (a8 3 + 1), a9, a10)) : wpX_execute post (f1, f2, f3, x, f5, f6, a1, a2, a3, a4, a5, a6, a7, a8, a9, a10) := by
  unfold wpX_execute
  try dsimp only
  refine F0 _ (br_f (by decide) (br_t rfl (F1 _ (nm_r (e' := 3) (by decide) ⟨pk_in 3 4 (by decide), pk_in 3 4 (by decide), nm_r (e' := upd a8 3 (a8 3 + 1)) ?_ (nm_r hx h)⟩))))
  rw [show (3 : Int32).toNatClampNeg = 3 by decide]
/-- where, moved: the kind 13 at x, the register's number and the address behind it -/
theorem dh_exFixed {post : St2 → Prop} {x x' hi lo y : Int32} {i : Nat} (hi4 : i < 4)
    (F0 : ∀ (d : Int32) (q : Int32 → Prop), q 13 → wpX_fetch q (f1, f2, f3, x, d, f6, a1, a2, a3, a4, a5, a6, a7, a8, a9, a10) x) (F1 : ∀ (d : Int32) (q : Int32 → Prop), q (nI i) → wpX_fetch q (f1, f2, f3, x, d, f6, a1, a2, a3, a4, a5, a6, a7, a8, a9, a10) (x + 1))
    (F2 : ∀ (d : Int32) (q : Int32 → Prop), q hi → wpX_fetch q (f1, f2, f3, x, d, f6, a1, a2, a3, a4, a5, a6, a7, a8, a9, a10) (x + 2)) (F3 : ∀ (d : Int32) (q : Int32 → Prop), q lo → wpX_fetch q (f1, f2, f3, x, d, f6, a1, a2, a3, a4, a5, a6, a7, a8, a9, a10) (x + 2 + 1))
    (hy : hi * 256 + lo - 256 = y) (hx : x + 4 = x') (h : post (f1, f2, f3, x', f5 + 1, f6, a1, a2, a3, a4, a5, a6, a7, a8, upd a9 i y, a10)) : wpX_execute post (f1, f2, f3, x, f5, f6, a1, a2, a3, a4, a5, a6, a7, a8, a9, a10) := by
  subst hy
  unfold wpX_execute
  try dsimp only
  refine F0 _ _ (br_f (by decide) (br_f (by decide) (nm_e (br_f (by decide) ?_))))
  unfold wpX_executeFar
  try dsimp only
  refine br_f (by decide) (br_f (by decide) (F1 _ _ (nm_r (dh_and3 i hi4) ?_)))
  unfold wpX_fetchAddress
  try dsimp only
  refine F2 _ _ (F3 _ _ (nm_r hx (br_t rfl ⟨pk_in i 4 hi4, nm_r (e' := upd a9 i (hi * 256 + lo - 256)) ?_ h⟩)))
  rw [nI_clamp (show i < 2 ^ 31 by omega)]
/-! the run's loop, a turn -/
theorem dh_runC {post : Int32 → St2 → Prop} {n c k m : Nat} {g1 g2 g3 g4 g5 g6 : Int32} {b1 b2 b3 b4 b5 b6 b7 b8 b9 b10 : Nat → Int32} (hc : c < 1000) (hd : ¬ f5 = 200) (hk : k < m) (hm : m ≤ 64) (h3 : ¬ a3 k = 0)
    (E : ∀ q : St2 → Prop, q (g1, g2, g3, g4, g5, g6, b1, b2, b3, b4, b5, b6, b7, b8, b9, b10) → wpX_execute q (nI m, f2, f3, nI k, f5, 0, a1, a2, a3, a4, a5, a6, a7, a8, a9, a10))
    (h : wX_run_38 post n (nI (c + 1)) g1 g2 g3 g4 g5 g6 b1 b2 b3 b4 b5 b6 b7 b8 b9 b10) : wX_run_38 post (n + 1) (nI c) (nI m) f2 f3 (nI k) f5 0 a1 a2 a3 a4 a5 a6 a7 a8 a9 a10 := by
  refine br_f (nI_ge (b := 1000) hc (by decide)) (br_t rfl (br_f hd (br_f (nI_ge (b := 512) (by omega) (by decide)) (dh_isYes hk hm h3 (br_f (by decide) ?_)))))
  unfold wX_run_99
  exact E _ (nm_r (nI_1 c) h)
theorem dh_runA {post : Int32 → St2 → Prop} {n c k : Nat} {g1 g2 g3 g4 g5 g6 : Int32} {b1 b2 b3 b4 b5 b6 b7 b8 b9 b10 : Nat → Int32} (hc : c < 1000) (hd : ¬ f5 = 200) (hk : k < 64)
    (E : ∀ q : St2 → Prop, q (g1, g2, g3, g4, g5, g6, b1, b2, b3, b4, b5, b6, b7, b8, b9, b10) → wpX_execute q (f1, f2, f3, nI (512 + k), f5, 0, a1, a2, a3, a4, a5, a6, a7, a8, a9, a10))
    (h : wX_run_38 post n (nI (c + 1)) g1 g2 g3 g4 g5 g6 b1 b2 b3 b4 b5 b6 b7 b8 b9 b10) : wX_run_38 post (n + 1) (nI c) f1 f2 f3 (nI (512 + k)) f5 0 a1 a2 a3 a4 a5 a6 a7 a8 a9 a10 := by
  refine br_f (nI_ge (b := 1000) hc (by decide)) (br_t rfl (br_f hd (br_t (nI_le (a := 512) (by omega) (by omega)) ?_)))
  unfold wX_run_99
  exact E _ (nm_r (nI_1 c) h)
theorem dh_runBad {post : Int32 → St2 → Prop} {n c m : Nat} (hc : c + 1 < 1000) (hd : ¬ f5 = 200) (hm : m ≤ 64) (h : post 2 (nI m, f2, f3, nI m, f5, 2, a1, a2, a3, a4, a5, a6, a7, a8, a9, a10)) : wX_run_38 post (n + 1 + 1) (nI c) (nI m) f2 f3 (nI m) f5 0 a1 a2 a3 a4 a5 a6 a7 a8 a9 a10 :=
  br_f (nI_ge (b := 1000) (by omega) (by decide)) (br_t rfl (br_f hd (br_f (nI_ge (b := 512) (by omega) (by decide)) (dh_isNo hm (by omega) (fun z => absurd z (by omega)) (br_t rfl (nm_r (nI_1 c) (br_f (nI_ge (b := 1000) hc (by decide)) (br_f (by decide) h))))))))
/-! entry(0) is 0, and run(0) goes to its loop -/
theorem dh_en_step {post : Int32 → Prop} {n k : Nat} {x : Int32} (hk : k < 4) (H : wX_entry_4 post 0 f1 f2 f3 f4 f5 f6 a1 a2 a3 a4 a5 a6 a7 a8 a9 a10 n x (nI (k + 1))) : wX_entry_4 post 0 f1 f2 f3 f4 f5 f6 a1 a2 a3 a4 a5 a6 a7 a8 a9 a10 (n + 1) x (nI k) := by
  have t : wX_entry_49 post (wX_entry_4 post 0 f1 f2 f3 f4 f5 f6 a1 a2 a3 a4 a5 a6 a7 a8 a9 a10 n) 0 x (nI k) f1 f2 f3 f4 f5 f6 a1 a2 a3 a4 a5 a6 a7 a8 a9 a10 := br_t rfl (nm_r (nI_1 k) H)
  exact br_f (nI_ge (b := 4) hk (by decide)) ⟨pk_in k 4 hk, br_c (fun _ => t) (fun z => ⟨pk_in k 4 hk, br_t (Int32.not_lt.mp z) t⟩)⟩
theorem dh_run0 {post : Int32 → St2 → Prop} (h : ∃ n, wX_run_38 post n 0 f1 f2 0 0 0 0 a1 a2 a3 a4 a5 a6 a7 a8 a9 a10) : wpX_run post (f1, f2, f3, f4, f5, f6, a1, a2, a3, a4, a5, a6, a7, a8, a9, a10) 0 := by
  refine br_f (by decide) (br_t (by decide) ⟨5, ?_⟩)
  exact dh_en_step (n := 4) (k := 0) (by decide) (dh_en_step (n := 3) (k := 1) (by decide) (dh_en_step (n := 2) (k := 2) (by decide) (dh_en_step (n := 1) (k := 3) (by decide) (br_t (by decide) h))))
/-! the runs -/
theorem dh_run4 {post : Int32 → St2 → Prop} {i j : Nat} (hi : i < 4) (hj : j < 4) (e0 : a2 0 = 1) (e1 : a2 1 = nI i) (e2 : a2 2 = 8) (e3 : a2 3 = nI j) (s0 : ¬ a3 0 = 0) (s2 : ¬ a3 2 = 0)
    (h : post 2 (nI 4, f2, 0, nI 4, 0 + 1 + 1, 2, a1, a2, a3, a4, a5, a6, a7, a8, upd (upd a9 i (a9 i + 1)) j (nI 4), a10)) : wpX_run post (nI 4, f2, f3, f4, f5, f6, a1, a2, a3, a4, a5, a6, a7, a8, a9, a10) 0 :=
  dh_run0 ⟨4, dh_runC (n := 3) (c := 0) (k := 0) (m := 4) (by decide) (by decide) (by decide) (by decide) s0
    (fun q hq => dh_exInc (x' := nI 2) hi (fun d q h => dh_fC 0 rfl (by decide) e0 h) (fun d q h => dh_fC 1 (by decide) (by decide) e1 h) (by decide) hq)
    (dh_runC (n := 2) (c := 1) (k := 2) (m := 4) (by decide) (by decide) (by decide) (by decide) s2
      (fun q hq => dh_exWhere (x' := nI 4) hj (fun d q h => dh_fC 2 rfl (by decide) e2 h) (fun d q h => dh_fC 3 (by decide) (by decide) e3 h) (by decide) hq)
      (dh_runBad (n := 0) (c := 2) (m := 4) (by decide) (by decide) (by decide) h))⟩
theorem dh_run2i {post : Int32 → St2 → Prop} {i : Nat} (hi : i < 4) (e0 : a2 0 = 1) (e1 : a2 1 = nI i) (s0 : ¬ a3 0 = 0)
    (h : post 2 (nI 2, f2, 0, nI 2, 0 + 1, 2, a1, a2, a3, a4, a5, a6, a7, a8, upd a9 i (a9 i + 1), a10)) : wpX_run post (nI 2, f2, f3, f4, f5, f6, a1, a2, a3, a4, a5, a6, a7, a8, a9, a10) 0 :=
  dh_run0 ⟨3, dh_runC (n := 2) (c := 0) (k := 0) (m := 2) (by decide) (by decide) (by decide) (by decide) s0
    (fun q hq => dh_exInc (x' := nI 2) hi (fun d q h => dh_fC 0 rfl (by decide) e0 h) (fun d q h => dh_fC 1 (by decide) (by decide) e1 h) (by decide) hq)
    (dh_runBad (n := 0) (c := 1) (m := 2) (by decide) (by decide) (by decide) h)⟩
theorem dh_run2w {post : Int32 → St2 → Prop} {j : Nat} (hj : j < 4) (e0 : a2 0 = 8) (e1 : a2 1 = nI j) (s0 : ¬ a3 0 = 0)
    (h : post 2 (nI 2, f2, 0, nI 2, 0 + 1, 2, a1, a2, a3, a4, a5, a6, a7, a8, upd a9 j (nI 2), a10)) : wpX_run post (nI 2, f2, f3, f4, f5, f6, a1, a2, a3, a4, a5, a6, a7, a8, a9, a10) 0 :=
  dh_run0 ⟨3, dh_runC (n := 2) (c := 0) (k := 0) (m := 2) (by decide) (by decide) (by decide) (by decide) s0
    (fun q hq => dh_exWhere (x' := nI 2) hj (fun d q h => dh_fC 0 rfl (by decide) e0 h) (fun d q h => dh_fC 1 (by decide) (by decide) e1 h) (by decide) hq)
    (dh_runBad (n := 0) (c := 1) (m := 2) (by decide) (by decide) (by decide) h)⟩
theorem dh_runE {post : Int32 → St2 → Prop} (h : post 2 (nI 0, f2, 0, nI 0, 0, 2, a1, a2, a3, a4, a5, a6, a7, a8, a9, a10)) : wpX_run post (nI 0, f2, f3, f4, f5, f6, a1, a2, a3, a4, a5, a6, a7, a8, a9, a10) 0 :=
  dh_run0 ⟨2, dh_runBad (n := 0) (c := 0) (m := 0) (by decide) (by decide) (by decide) h⟩
theorem dh_runH {post : Int32 → St2 → Prop} {i j : Nat} (hi : i < 4) (hj : j < 4) (e0 : a2 0 = 9) (e1 : a2 1 = 3) (e2 : a2 2 = 48) (s0 : ¬ a3 0 = 0) (hb : dh_A5 a5 (nI i) (nI j))
    (h : post 2 (nI 4, f2, 0, nI 4, 0 + 1 + 1, 2, a1, a2, a3, a4, a5, a6, a7, upd a8 3 (a8 3 + 1), upd (upd a9 i (a9 i + 1)) j 4, a10)) : wpX_run post (nI 4, f2, f3, f4, f5, f6, a1, a2, a3, a4, a5, a6, a7, a8, a9, a10) 0 := by
  obtain ⟨b48, b49, b50, b51, b52, b53, b54, b55, b56, b57, b58⟩ := hb
  refine dh_run0 ⟨7, dh_runC (n := 6) (c := 0) (k := 0) (m := 4) (by decide) (by decide) (by decide) (by decide) s0
    (fun q hq => dh_exFar (y := nI (512 + 48)) (fun q h => dh_fC 0 rfl (by decide) e0 h) (fun q h => dh_fC 1 (by decide) (by decide) e1 h) (fun q h => dh_fC 2 (by decide) (by decide) e2 h) (by decide) hq) ?_⟩
  refine dh_runA (n := 5) (c := 1) (k := 48) (by decide) (by decide) (by decide)
    (fun q hq => dh_exCount (x' := nI (512 + 50)) (fun q h => dh_fA 48 rfl (by decide) b48 h) (fun q h => dh_fA 49 (by decide) (by decide) b49 h) (by decide) hq) ?_
  refine dh_runA (n := 4) (c := 2) (k := 50) (by decide) (by decide) (by decide)
    (fun q hq => dh_exInc (x' := nI (512 + 52)) hi (fun d q h => dh_fA 50 rfl (by decide) b50 h) (fun d q h => dh_fA 51 (by decide) (by decide) b51 h) (by decide) hq) ?_
  refine dh_runA (n := 3) (c := 3) (k := 52) (by decide) (by decide) (by decide)
    (fun q hq => dh_exFixed (x' := nI (512 + 56)) (y := 4) hj (fun d q h => dh_fA 52 rfl (by decide) b52 h) (fun d q h => dh_fA 53 (by decide) (by decide) b53 h) (fun d q h => dh_fA 54 (by decide) (by decide) b54 h) (fun d q h => dh_fA 55 (by decide) (by decide) b55 h) (by decide) (by decide) hq) ?_
  refine dh_runA (n := 2) (c := 4) (k := 56) (by decide) (by decide) (by decide)
    (fun q hq => dh_exFar (y := nI 4) (fun q h => dh_fA 56 rfl (by decide) b56 h) (fun q h => dh_fA 57 (by decide) (by decide) b57 h) (fun q h => dh_fA 58 (by decide) (by decide) b58 h) (by decide) hq) ?_
  exact dh_runBad (n := 0) (c := 5) (m := 4) (by decide) (by decide) (by decide) h
end
section
/-! the law's last row: what it compares, from its end upwards -/
variable {post : Int32 → St0 → Prop} {mc ms kc ks : Nat} {x0 x1 x2 x3 x5 x6 x7 x8 x9 x10 x11 x12 x13 x14 x15 x16 z0 z1 y1 y2 : Int32}
theorem dh_t196 (e5 : z1 = z0) (e6 : x6 = 2) (e7 : x7 = if x15 = 0 then -1 else if x16 = 0 then -3 else 1) (e8 : x8 = x14 / 2)
    (e9 : x9 = if x12 = 0 then 0 else if x13 = 0 then x3 + 1 else if x0 = x1 then x14 else x3 + 1) (e10 : x10 = if x13 = 0 then 0 else x14) (e11 : x11 = if x16 = 0 then x14 else -3) (h : post 1 ()) :
    wL_lawOf_196 post mc ms x0 x1 x3 x6 x7 x8 x9 x10 x11 x12 x13 x14 x15 x16 z0 z1 kc ks := by
  have t284 : wL_lawOf_284 post mc ms x11 x14 x16 (if x13 = 0 then 0 else x14) x10 kc ks :=
    br_t e10 (br_c (fun z => br_t (by rw [e11, if_pos z]) h) (fun z => br_t (by rw [e11, if_neg z]) h))
  have t268 : wL_lawOf_268 post mc ms x10 x11 x13 x14 x16 (if x12 = 0 then 0 else if x13 = 0 then x3 + 1 else if x0 = x1 then x14 else x3 + 1) x9 kc ks :=
    br_t e9 (br_c (fun z => by rw [if_pos z] at t284; exact t284) (fun z => by rw [if_neg z] at t284; exact t284))
  have t227 : wL_lawOf_227 post mc ms x0 x1 x3 x8 x9 x10 x11 x12 x13 x14 x16 (if x15 = 0 then -1 else if x16 = 0 then -3 else 1) x7 kc ks := by
    refine br_t e7 ⟨by decide, br_t e8 (br_c (fun z => ?_) (fun z => br_c (fun y => ?_) (fun y => br_c (fun w => ?_) (fun w => ?_))))⟩
    · rw [if_pos z] at t268
      exact t268
    · rw [if_neg z, if_pos y] at t268
      exact t268
    · rw [if_neg z, if_neg y, if_pos w] at t268
      exact t268
    · rw [if_neg z, if_neg y, if_neg w] at t268
      exact t268
  refine br_t e5 (br_t e6 (br_c (fun z => ?_) (fun z => br_c (fun y => ?_) (fun y => ?_))))
  · rw [if_pos z] at t227
    exact t227
  · rw [if_neg z, if_pos y] at t227
    exact t227
  · rw [if_neg z, if_neg y] at t227
    exact t227
/-- a register's flag and its two bytes -/
def dh_fl (r x y : Int32) : Prop := ((∃ i : Nat, i < 4 ∧ r = nI i) ∧ x = 1 ∧ y = 2) ∨ (dh_out r ∧ x = 0 ∧ y = 0)
theorem dh_t115 {r s : Int32} (hr : dh_fl r x12 y1) (hs : dh_fl s x13 y2) (H : wL_lawOf_137 post mc ms x0 x1 x2 x3 x5 x6 x7 x8 x9 x10 x11 x12 x13 y2 y1 kc ks) :
    wL_lawOf_115 post mc ms x0 x1 x2 x3 x5 x6 x7 x8 x9 x10 x11 x12 x13 kc ks := by
  rcases hr with ⟨_, rfl, rfl⟩ | ⟨_, rfl, rfl⟩ <;> rcases hs with ⟨_, rfl, rfl⟩ | ⟨_, rfl, rfl⟩
  · exact br_f (by decide) (br_f (by decide) H)
  · exact br_f (by decide) (br_t rfl H)
  · exact br_t rfl (br_f (by decide) H)
  · exact br_t rfl (br_t rfl H)
theorem dh_t99 {r : Int32} (hr : dh_fl r x12 y1) (hs : dh_fl x1 x13 y2) (H : wL_lawOf_137 post mc ms x0 x1 x2 x3 x5 x6 x7 x8 x9 x10 x11 x12 x13 y2 y1 kc ks) :
    wL_lawOf_99 post mc ms x0 x1 x2 x3 x5 x6 x7 x8 x9 x10 x11 x12 kc ks := by
  have t := dh_t115 hr hs H
  rcases hs with ⟨⟨i, hi, rfl⟩, rfl, rfl⟩ | ⟨ho, rfl, rfl⟩
  · exact br_f (nI_pos (by omega)) (br_f (nI_nlt (a := 3) (b := i) (by omega) (by decide)) t)
  · exact br_c (fun _ => t) (fun z => br_t (ho.resolve_left z) t)
theorem dh_t0 (hr : dh_fl x0 x12 y1) (hs : dh_fl x1 x13 y2) (H : wL_lawOf_137 post mc ms x0 x1 x2 x3 x5 x6 x7 x8 x9 x10 x11 x12 x13 y2 y1 kc ks) :
    (x0 < 0 → wL_lawOf_98 post mc ms x0 x1 x2 x3 x5 x6 x7 x8 x9 x10 x11 kc ks) ∧ (¬ x0 < 0 → ((3 < x0 → wL_lawOf_98 post mc ms x0 x1 x2 x3 x5 x6 x7 x8 x9 x10 x11 kc ks) ∧ (¬ 3 < x0 → wL_lawOf_99 post mc ms x0 x1 x2 x3 x5 x6 x7 x8 x9 x10 x11 1 kc ks))) := by
  have t := dh_t99 hr hs H
  rcases hr with ⟨⟨i, hi, rfl⟩, rfl, rfl⟩ | ⟨ho, rfl, rfl⟩
  · exact br_f (nI_pos (by omega)) (br_f (nI_nlt (a := 3) (b := i) (by omega) (by decide)) t)
  · exact br_c (fun _ => t) (fun z => br_t (ho.resolve_left z) t)
/-- no hook: the size isn't 4, or a isn't 0 -/
theorem dh_tNo {a : Int32} (hA : dh_no a x5 x7) (hset : a = 0 → ¬ y1 + y2 = 4) (e6 : x6 = 2) (e8 : x8 = (y1 + y2) / 2)
    (e9 : x9 = if x12 = 0 then 0 else if x13 = 0 then x3 + 1 else if x0 = x1 then y1 + y2 else x3 + 1) (e10 : x10 = if x13 = 0 then 0 else y1 + y2) (e11 : x11 = y1 + y2) (h : post 1 ()) :
    wL_lawOf_137 post mc ms x0 x1 a x3 x5 x6 x7 x8 x9 x10 x11 x12 x13 y2 y1 kc ks := by
  refine nm_e ?_
  have t155 : ∀ x15, wL_lawOf_172 post mc ms x0 x1 x3 x5 x6 x7 x8 x9 x10 x11 x12 x13 (y1 + y2) x15 0 kc ks → wL_lawOf_155 post mc ms x0 x1 a x3 x5 x6 x7 x8 x9 x10 x11 x12 x13 (y1 + y2) x15 kc ks :=
    fun x15 t => br_c (fun z => br_f (hset z) t) (fun _ => t)
  rcases hA with ⟨z, rfl, rfl⟩ | ⟨z, rfl, rfl⟩ | ⟨k, hk, rfl, rfl, rfl⟩
  · exact br_t z (t155 0 (br_t rfl (dh_t196 rfl e6 rfl e8 e9 e10 e11 h)))
  · exact br_c (fun _ => t155 0 (br_t rfl (dh_t196 rfl e6 rfl e8 e9 e10 e11 h))) (fun _ => br_t z (t155 0 (br_t rfl (dh_t196 rfl e6 rfl e8 e9 e10 e11 h))))
  · exact br_f (nI_pos (by omega)) (br_f (nI_nlt (a := 63) (b := k) (by omega) (by decide)) (t155 1 (br_f (by decide) (br_t rfl (dh_t196 rfl e6 rfl e8 e9 e10 e11 h)))))
/-- the hook is set: the size is 4 and a is 0 -/
theorem dh_tSet (e5 : x5 = 4) (e6 : x6 = 2) (e7 : x7 = 1) (e8 : x8 = (y1 + y2) / 2) (e4 : y1 + y2 = 4)
    (e9 : x9 = if x12 = 0 then 0 else if x13 = 0 then x3 + 1 else if x0 = x1 then y1 + y2 else x3 + 1) (e10 : x10 = if x13 = 0 then 0 else y1 + y2) (e11 : x11 = -3) (h : post 1 ()) :
    wL_lawOf_137 post mc ms x0 x1 0 x3 x5 x6 x7 x8 x9 x10 x11 x12 x13 y2 y1 kc ks := by
  subst e5 e7 e11
  exact nm_e (br_f (by decide) (br_f (by decide) (br_t rfl (br_t e4 (br_f (by decide) (br_f (by decide) (dh_t196 rfl e6 rfl e8 e9 e10 rfl h)))))))
/-- what register(r) answers at the end, both in range -/
theorem dh_mine {i j : Nat} {v w : Int32} {a9 : Nat → Int32} (hi : i < 4) (hj : j < 4) (hw : w = 2 + 2) : upd (upd (upd a9 i v) i (upd a9 i v i + 1)) j w i = if (1 : Int32) = 0 then 0 else if (1 : Int32) = 0 then v + 1 else if nI i = nI j then 2 + 2 else v + 1 := by
  rw [if_neg (by decide), if_neg (by decide)]
  by_cases e : i = j
  · subst e
    rw [if_pos rfl, pk_us, hw]
  · rw [if_neg (fun z => e ((nI_eq (by omega) (by omega)).mp z)), pk_un e, pk_us, pk_us]
end
section
/-! the law: two registers in range or not, the hook set or not -/
theorem dh_law {post : Int32 → St0 → Prop} (r s a v : Int32) (h : post 1 ()) : wpL_lawOf post 178 2848 () r s a v := by
  have H : dh_H 0 = -1 ∧ dh_H 1 = -1 ∧ dh_H 2 = -1 ∧ dh_H 3 = -1 := ⟨rfl, rfl, rfl, rfl⟩
  obtain ⟨H0, H1, H2, H3⟩ := H
  have N0 := dh_neg H0
  have N1 := dh_neg H1
  have N2 := dh_neg H2
  have N3 := dh_neg H3
  refine ⟨by decide, by decide, 10, 344, by decide, by decide, dh_init ?_⟩
  rcases dh_io r with ⟨i, hi, rfl⟩ | hr <;> rcases dh_io s with ⟨j, hj, rfl⟩ | hs
  · have fr : dh_fl (nI i) 1 2 := Or.inl ⟨⟨i, hi, rfl⟩, rfl, rfl⟩
    have fs : dh_fl (nI j) 1 2 := Or.inl ⟨⟨j, hj, rfl⟩, rfl, rfl⟩
    refine dh_setIn hi (dh_inc (n := 0) hi (by decide) N0 N1 N2 N3 (dh_where (n := 2) hj (by decide) N0 N1 N2 N3 ?_))
    by_cases ha : a = 0
    · subst ha
      refine dh_hookSet (x := nI i) (y := nI j) rfl rfl rfl rfl (by decide) rfl (by decide) rfl H0 H1 H2 H3 (fun w b4 b5 hb => ?_)
      refine dh_runH hi hj rfl rfl rfl (by decide) hb ?_
      refine dh_calls1 rfl ?_
      refine dh_exec (dh_regIn hi (dh_regIn hj (dh_halt1 N0 N1 N2 (by decide) (fun u => ?_))))
      obtain ⟨g1, g2, g3, g4, g5, g6, b1, b2, b3, b4, b5, b6, b7, b8, b9, b10⟩ := u
      exact dh_t0 fr fs (dh_tSet rfl rfl rfl (by decide) (by decide) (dh_mine hi hj (by decide)) (Eq.trans pk_us (by decide)) rfl h)
    · refine dh_hookNo (m := 4) (by decide) H0 H1 H2 H3 (fun k e hk hs => ?_) (fun x y hA => ?_)
      · have hk0 : k ≠ 0 := fun z => ha (by rw [e, z]; rfl)
        intro hk4
        have hk1 : k = 1 := by omega
        subst hk1
        exact hs rfl
      · refine dh_run4 hi hj rfl rfl rfl rfl (by decide) (by decide) ?_
        refine dh_callsNo hA H0 H1 H2 H3 ?_
        refine dh_exec (dh_regIn hi (dh_regIn hj (dh_halt (n := 4) (by decide) N0 N1 N2 N3 (fun u => ?_))))
        obtain ⟨g1, g2, g3, g4, g5, g6, b1, b2, b3, b4, b5, b6, b7, b8, b9, b10⟩ := u
        exact dh_t0 fr fs (dh_tNo hA (fun z => absurd z ha) rfl (by decide) (dh_mine hi hj (by decide)) (Eq.trans pk_us (by decide)) (by decide) h)
  · have fr : dh_fl (nI i) 1 2 := Or.inl ⟨⟨i, hi, rfl⟩, rfl, rfl⟩
    have fs : dh_fl s 0 0 := Or.inr ⟨hs, rfl, rfl⟩
    refine dh_setIn hi (dh_inc (n := 0) hi (by decide) N0 N1 N2 N3 (dh_whereOut hs ?_))
    refine dh_hookNo (m := 2) (by decide) H0 H1 H2 H3 (fun k e hk hs => by omega) (fun x y hA => ?_)
    refine dh_run2i hi rfl rfl (by decide) ?_
    refine dh_callsNo hA H0 H1 H2 H3 ?_
    refine dh_exec (dh_regIn hi (dh_regOut hs (dh_halt (n := 2) (by decide) N0 N1 N2 N3 (fun u => ?_))))
    obtain ⟨g1, g2, g3, g4, g5, g6, b1, b2, b3, b4, b5, b6, b7, b8, b9, b10⟩ := u
    exact dh_t0 fr fs (dh_tNo hA (fun _ => by decide) rfl (by decide) (by rw [if_neg (by decide), if_pos rfl, pk_us, pk_us]) (by decide) (by decide) h)
  · have fr : dh_fl r 0 0 := Or.inr ⟨hr, rfl, rfl⟩
    have fs : dh_fl (nI j) 1 2 := Or.inl ⟨⟨j, hj, rfl⟩, rfl, rfl⟩
    refine dh_setOut hr (dh_incOut hr (dh_where (n := 0) hj (by decide) N0 N1 N2 N3 ?_))
    refine dh_hookNo (m := 2) (by decide) H0 H1 H2 H3 (fun k e hk hs => by omega) (fun x y hA => ?_)
    refine dh_run2w hj rfl rfl (by decide) ?_
    refine dh_callsNo hA H0 H1 H2 H3 ?_
    refine dh_exec (dh_regOut hr (dh_regIn hj (dh_halt (n := 2) (by decide) N0 N1 N2 N3 (fun u => ?_))))
    obtain ⟨g1, g2, g3, g4, g5, g6, b1, b2, b3, b4, b5, b6, b7, b8, b9, b10⟩ := u
    exact dh_t0 fr fs (dh_tNo hA (fun _ => by decide) rfl (by decide) (if_pos rfl).symm (Eq.trans pk_us (by decide)) (by decide) h)
  · have fr : dh_fl r 0 0 := Or.inr ⟨hr, rfl, rfl⟩
    have fs : dh_fl s 0 0 := Or.inr ⟨hs, rfl, rfl⟩
    refine dh_setOut hr (dh_incOut hr (dh_whereOut hs ?_))
    refine dh_hookNo (m := 0) (by decide) H0 H1 H2 H3 (fun k e hk hs => by omega) (fun x y hA => ?_)
    refine dh_runE ?_
    refine dh_callsNo hA H0 H1 H2 H3 ?_
    refine dh_exec (dh_regOut hr (dh_regOut hs (dh_halt (n := 0) (by decide) N0 N1 N2 N3 (fun u => ?_))))
    obtain ⟨g1, g2, g3, g4, g5, g6, b1, b2, b3, b4, b5, b6, b7, b8, b9, b10⟩ := u
    exact dh_t0 fr fs (dh_tNo hA (fun _ => by decide) rfl (by decide) (if_pos rfl).symm (by decide) (by decide) h)
end
section
theorem dh_cell {post : Int32 → Prop} {L : Nat} {xs : Nat → Int32} {k : Nat} (hk : k < 4) (hL : L ≤ 4) (h : ∀ x, post x) : wpL_cellAt post L xs () (nI k) :=
  pk_le L k (fun _ => h 0) (fun z => ⟨pk_in k L z, h _⟩)
theorem i_vc (xs : Nat → Int32) (L : Nat) (hL : L ≤ 4) : wpL_law (fun r => r = 1) L xs := by
  unfold wpL_law
  exact dh_cell (k := 0) (by decide) hL (fun r => dh_cell (k := 1) (by decide) hL (fun s => dh_cell (k := 2) (by decide) hL (fun a => dh_cell (k := 3) (by decide) hL (fun v => ⟨178, 2848, by decide, by decide, dh_law r s a v rfl⟩))))
end
