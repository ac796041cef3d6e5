section
/-! the base: bytes, the flat code as a list of words, the small methods -/
section
variable {ln hh pc st ct bc ce dn : Int32} {a1 a2 a3 a4 a5 a6 a7 a8 a9 a10 a11 a12 a13 : Nat → Int32}
theorem fx_b8 : ∀ t, t < 128 → (nI t).toInt8.toInt32 = nI t := by decide +kernel
theorem fx_s16 : ∀ t, t < 700 → (nI t).toInt16.toInt32 = nI t := by decide +kernel
/-- the flat code from s up to e is this list of words -/
def fx_CA (b9 b10 b11 b12 : Nat → Int32) : Nat → Nat → List (Int32 × Int32 × Int32 × Int32) → Prop
  | s, e, [] => s = e
  | s, e, w :: t => b9 s = w.1 ∧ b10 s = w.2.1 ∧ b11 s = w.2.2.1 ∧ b12 s = w.2.2.2 ∧ fx_CA b9 b10 b11 b12 (s + 1) e t
/-- a word that works within the ten flat registers -/
def fx_safe (w : Int32 × Int32 × Int32 × Int32) : Prop := vp_in w.2.1 10 ∧ (w.1 = 0 ∨ (w.1 = 1 ∧ vp_in w.2.2.1 10) ∨ ((w.1 = 2 ∨ w.1 = 3 ∨ w.1 = 4) ∧ vp_in w.2.2.1 10 ∧ vp_in w.2.2.2 10))
theorem fx_CA_len {b9 b10 b11 b12 : Nat → Int32} : ∀ (ws : List (Int32 × Int32 × Int32 × Int32)) (s e : Nat), fx_CA b9 b10 b11 b12 s e ws → e = s + ws.length
  | [], s, e, h => by
    have h' : s = e := h
    rw [List.length_nil]
    omega
  | w :: t, s, e, h => by
    have h5 := fx_CA_len t (s + 1) e h.2.2.2.2
    rw [List.length_cons]
    omega
theorem fx_CA_add {b9 b10 b11 b12 : Nat → Int32} {x1 x2 x3 x4 : Int32} : ∀ (ws : List (Int32 × Int32 × Int32 × Int32)) (s e : Nat), fx_CA b9 b10 b11 b12 s e ws → fx_CA (upd b9 e x1) (upd b10 e x2) (upd b11 e x3) (upd b12 e x4) s (e + 1) (ws ++ [(x1, x2, x3, x4)])
  | [], s, e, h => by
    have h' : s = e := h
    subst h'
    exact ⟨pk_us, pk_us, pk_us, pk_us, rfl⟩
  | w :: t, s, e, h => by
    obtain ⟨h1, h2, h3, h4, h5⟩ := h
    have hl := fx_CA_len t (s + 1) e h5
    have hne : s ≠ e := by omega
    exact ⟨(pk_un hne).trans h1, (pk_un hne).trans h2, (pk_un hne).trans h3, (pk_un hne).trans h4, fx_CA_add t (s + 1) e h5⟩
theorem fx_fill {f : Nat → Int32} {n k : Nat} {x : Int32} (hk : k = n) (hx : x = nI n) (h : ∀ j, j < n → f j = nI j) : ∀ j, j < n + 1 → upd f k x j = nI j := by
  intro j hj
  rw [hk]
  by_cases e : j = n
  · rw [e, pk_us, hx]
  · rw [pk_un e]
    exact h j (by omega)
/-- forgetBlocks: no block is known -/
theorem fx_fb {post : St2 → Prop} (H : ∀ b5 : Nat → Int32, (∀ i, i < 297 → b5 i = -1) → post (ln, hh, pc, st, ct, 0, 0, dn, a1, a2, a3, a4, b5, a6, a7, a8, a9, a10, a11, a12, a13)) : wpX_forgetBlocks post (ln, hh, pc, st, ct, bc, ce, dn, a1, a2, a3, a4, a5, a6, a7, a8, a9, a10, a11, a12, a13) :=
  pk_loop (fun n i s => wX_forgetBlocks_2 post ln hh pc st ct bc ce dn n (nI i) a1 a2 a3 a4 s a6 a7 a8 a9 a10 a11 a12 a13) (fun i s => ∀ j, j < i → s j = -1) 297 0 a5 (by omega) (fun j hj => absurd hj (by omega))
    (fun n s h => pk_le 297 297 (fun _ => H s h) (fun z => absurd z (by omega)))
    (fun n i s hi h hw => pk_le 297 i (fun z => absurd z (by omega)) (fun _ => ⟨pk_in i 297 hi, nm_e (nm_r (nI_1 i) (hw _ (fun j hj => by
      rw [nI_clamp (by omega)]
      by_cases e : j = i
      · rw [e, pk_us]
      · rw [pk_un e]
        exact h j (by omega))))⟩))
/-- emit -/
theorem fx_emit {post : Int32 → St2 → Prop} {m : Nat} {o x : Int32} (hm : m < 32) (ho : o.toInt8.toInt32 = o) (hi : ∀ Q : Int32 → Prop, Q 1 → wpX_isInstruction Q (nI m, hh, pc, st, ct, bc, ce, dn, a1, a2, a3, a4, a5, a6, a7, a8, a9, a10, a11, a12, a13) o x)
    (H : ∀ b5 : Nat → Int32, (∀ i, i < 297 → b5 i = -1) → post (nI (m + 1)) (nI (m + 1), hh, pc, st, ct, 0, 0, dn, upd a1 m o, upd a2 m x, a3, a4, b5, a6, a7, a8, a9, a10, a11, a12, a13)) : wpX_emit post (nI m, hh, pc, st, ct, bc, ce, dn, a1, a2, a3, a4, a5, a6, a7, a8, a9, a10, a11, a12, a13) o x := by
  refine pk_lt m 32 (fun _ => hi _ (br_f (by decide) ⟨pk_in m 32 hm, nm_r (by rw [nI_clamp (by omega), ho]) ⟨pk_in m 32 hm, nm_r (by rw [nI_clamp (by omega)]) (nm_r (nI_1 m) (fx_fb (fun b5 h5 => H b5 h5)))⟩⟩)) (fun z => absurd z (by omega))
/-- write: one word more -/
theorem fx_write {post : St2 → Prop} {s e : Nat} {ws : List (Int32 × Int32 × Int32 × Int32)} (hca : fx_CA a9 a10 a11 a12 s e ws) (he : e < 640) (o x y z : Int32) (ho : o.toInt8.toInt32 = o) (hx : x.toInt8.toInt32 = x) (hy : y.toInt8.toInt32 = y)
    (H : ∀ b9 b10 b11 b12 : Nat → Int32, fx_CA b9 b10 b11 b12 s (e + 1) (ws ++ [(o, x, y, z)]) → post (ln, hh, pc, st, ct, bc, nI (e + 1), dn, a1, a2, a3, a4, a5, a6, a7, a8, b9, b10, b11, b12, a13)) : wpX_write post (ln, hh, pc, st, ct, bc, nI e, dn, a1, a2, a3, a4, a5, a6, a7, a8, a9, a10, a11, a12, a13) o x y z := by
  refine ⟨pk_in e 640 he, nm_r (by rw [nI_clamp (by omega), ho]) ⟨pk_in e 640 he, nm_r (by rw [nI_clamp (by omega), hx]) ⟨pk_in e 640 he, nm_r (by rw [nI_clamp (by omega), hy]) ⟨pk_in e 640 he, nm_r (by rw [nI_clamp (by omega)]) (nm_r (nI_1 e) ?_)⟩⟩⟩⟩
  exact H _ _ _ _ (fx_CA_add ws s e hca)
/-- straighten where each value is in its own register -/
theorem fx_st_id {post : St2 → Prop} (h0 : a13 0 = 0) (h1 : a13 1 = 1) (H : post (ln, hh, pc, st, ct, bc, ce, 2, a1, a2, a3, a4, a5, a6, a7, a8, a9, a10, a11, a12, a13)) : wpX_straighten post (ln, hh, pc, st, ct, bc, ce, 2, a1, a2, a3, a4, a5, a6, a7, a8, a9, a10, a11, a12, a13) := by
  refine ⟨2 + 1, ?_⟩
  refine br_f (by decide) ⟨pk_in 0 8 (by omega), nm_r (e' := 0) h0 (br_t rfl (nm_r (e' := 1) rfl ?_))⟩
  refine br_f (by decide) ⟨pk_in 1 8 (by omega), nm_r (e' := 1) h1 (br_t rfl (nm_r (e' := 2) rfl ?_))⟩
  exact br_t (by decide) H
/-- straighten where the two are exchanged -/
theorem fx_st_sw {post : St2 → Prop} {s e : Nat} {ws : List (Int32 × Int32 × Int32 × Int32)} (hca : fx_CA a9 a10 a11 a12 s e ws) (he : e + 3 ≤ 640) (h0 : a13 0 = 1) (h1 : a13 1 = 0)
    (H : ∀ b9 b10 b11 b12 b13 : Nat → Int32, fx_CA b9 b10 b11 b12 s (e + 1 + 1 + 1) (((ws ++ [(1, 9, 0, 0)]) ++ [(1, 0, 1, 0)]) ++ [(1, 1, 9, 0)]) → post (ln, hh, pc, st, ct, bc, nI (e + 1 + 1 + 1), 2, a1, a2, a3, a4, a5, a6, a7, a8, b9, b10, b11, b12, b13)) : wpX_straighten post (ln, hh, pc, st, ct, bc, nI e, 2, a1, a2, a3, a4, a5, a6, a7, a8, a9, a10, a11, a12, a13) := by
  refine ⟨2 + 1, ?_⟩
  refine br_f (by decide) ⟨pk_in 0 8 (by omega), nm_r (e' := 1) h0 (br_f (by decide) (nm_r (e' := 1) rfl ⟨1 + 1, ?_⟩))⟩
  refine br_f (by decide) ⟨pk_in 1 8 (by omega), br_t h1 (nm_r (e' := 2) rfl ?_)⟩
  refine br_t (by decide) (br_f (by decide) ?_)
  refine fx_write hca (by omega) 1 9 0 0 rfl rfl rfl (fun c9 c10 c11 c12 k1 => ?_)
  refine fx_write k1 (by omega) 1 0 1 0 rfl rfl rfl (fun d9 d10 d11 d12 k2 => ?_)
  refine fx_write k2 (by omega) 1 1 9 0 rfl rfl rfl (fun f9 f10 f11 f12 k3 => ?_)
  refine ⟨pk_in 1 8 (by omega), nm_r (e' := upd a13 1 1) rfl ?_⟩
  refine ⟨pk_in 0 8 (by omega), nm_r (e' := upd (upd a13 1 1) 0 0) rfl (nm_r (e' := 1) rfl ?_)⟩
  refine br_f (by decide) ⟨pk_in 1 8 (by omega), nm_r (e' := 1) rfl (br_t rfl (nm_r (e' := 2) rfl ?_))⟩
  exact br_t (by decide) (H _ _ _ _ _ k3)
/-- straighten: some safe words, none where nothing is exchanged -/
theorem fx_st {post : St2 → Prop} {s e : Nat} {ws : List (Int32 × Int32 × Int32 × Int32)} (hca : fx_CA a9 a10 a11 a12 s e ws) (he : e + 3 ≤ 640) (hh' : (a13 0 = 0 ∧ a13 1 = 1) ∨ (a13 0 = 1 ∧ a13 1 = 0))
    (H : ∀ (e' : Nat) (ws' : List (Int32 × Int32 × Int32 × Int32)) (b9 b10 b11 b12 b13 : Nat → Int32), e' ≤ e + 3 → (∀ w, w ∈ ws' → fx_safe w) → (a13 0 = 0 → ws' = []) → fx_CA b9 b10 b11 b12 s e' (ws ++ ws') → post (ln, hh, pc, st, ct, bc, nI e', 2, a1, a2, a3, a4, a5, a6, a7, a8, b9, b10, b11, b12, b13)) : wpX_straighten post (ln, hh, pc, st, ct, bc, nI e, 2, a1, a2, a3, a4, a5, a6, a7, a8, a9, a10, a11, a12, a13) := by
  rcases hh' with ⟨h0, h1⟩ | ⟨h0, h1⟩
  · exact fx_st_id h0 h1 (H e [] _ _ _ _ _ (by omega) (fun w hw => absurd hw (by simp)) (fun _ => rfl) (by rw [List.append_nil]; exact hca))
  · refine fx_st_sw hca he h0 h1 (fun b9 b10 b11 b12 b13 k => H (e + 1 + 1 + 1) [(1, 9, 0, 0), (1, 0, 1, 0), (1, 1, 9, 0)] _ _ _ _ _ (by omega) ?_ (fun z => absurd (h0.symm.trans z) (by decide)) ?_)
    · intro w hw
      simp only [List.mem_cons, List.not_mem_nil, or_false] at hw
      rcases hw with rfl | rfl | rfl
      · exact ⟨pk_in 9 10 (by omega), Or.inr (Or.inl ⟨rfl, pk_in 0 10 (by omega)⟩)⟩
      · exact ⟨pk_in 0 10 (by omega), Or.inr (Or.inl ⟨rfl, pk_in 1 10 (by omega)⟩)⟩
      · exact ⟨pk_in 1 10 (by omega), Or.inr (Or.inl ⟨rfl, pk_in 9 10 (by omega)⟩)⟩
    · rw [List.append_assoc, List.append_assoc] at k
      exact k
/-- faults -/
theorem fx_f0 {post : Int32 → Prop} {o x d : Int32} (ho : o = 0) (hd : d < 8) (H : post 0) : wpX_faults post (ln, hh, pc, st, ct, bc, ce, dn, a1, a2, a3, a4, a5, a6, a7, a8, a9, a10, a11, a12, a13) o x d := br_t ho (br_t hd H)
theorem fx_fk {post : Int32 → Prop} {o x d : Int32} (ho : o = 4 ∨ o = 5 ∨ o = 6 ∨ o = 7) (H0 : x < d → post 0) (H1 : ¬ x < d → post 1) : wpX_faults post (ln, hh, pc, st, ct, bc, ce, dn, a1, a2, a3, a4, a5, a6, a7, a8, a9, a10, a11, a12, a13) o x d := by
  have n0 : ¬ o = 0 := by rcases ho with z | z | z | z <;> rw [z] <;> decide
  have n1 : ¬ o = 1 := by rcases ho with z | z | z | z <;> rw [z] <;> decide
  have n2 : ¬ o = 2 := by rcases ho with z | z | z | z <;> rw [z] <;> decide
  have n3 : ¬ o = 3 := by rcases ho with z | z | z | z <;> rw [z] <;> decide
  have n10 : ¬ o = 10 := by rcases ho with z | z | z | z <;> rw [z] <;> decide
  have n11 : ¬ o = 11 := by rcases ho with z | z | z | z <;> rw [z] <;> decide
  have n12 : ¬ o = 12 := by rcases ho with z | z | z | z <;> rw [z] <;> decide
  have n13 : ¬ o = 13 := by rcases ho with z | z | z | z <;> rw [z] <;> decide
  exact br_f n0 (br_f n2 (br_f n1 (br_f n3 (br_f n10 (br_f n11 (br_f n12 (br_f n13 (br_c H0 H1))))))))
/-- freeRegister -/
theorem fx_fr {post : Int32 → Prop} {n : Nat} (hn : n = 0 ∨ n = 1) (hid : ∀ i, i < n → a13 i = nI i) (H : post (nI n)) : wpX_freeRegister post (ln, hh, pc, st, ct, bc, ce, nI n, a1, a2, a3, a4, a5, a6, a7, a8, a9, a10, a11, a12, a13) := by
  rcases hn with rfl | rfl
  · exact ⟨0 + 1, br_t (by decide) ⟨0 + 1, br_f (by decide) (br_t (by decide) H)⟩⟩
  · have h0 : a13 0 = 0 := hid 0 (by omega)
    refine ⟨1 + 1, br_f (by decide) ⟨pk_in 0 8 (by omega), nm_r (e' := 1) ?_ (nm_r (e' := 1) rfl ?_)⟩⟩
    · show (0 : Int32) ||| ((1 : Int32) <<< ((a13 0) &&& 31)) = 1
      rw [h0]
      decide
    · exact br_t (by decide) ⟨1 + 1, br_f (by decide) (br_f (by decide) (nm_r (e' := 1) rfl (br_f (by decide) (br_t (by decide) H))))⟩
/-- translateMove of LIT -/
theorem fx_tm {post : St2 → Prop} {s e n : Nat} {ws : List (Int32 × Int32 × Int32 × Int32)} {x : Int32} (hn : n = 0 ∨ n = 1) (hid : ∀ i, i < n → a13 i = nI i) (hca : fx_CA a9 a10 a11 a12 s e ws) (he : e < 640)
    (H : ∀ b9 b10 b11 b12 b13 : Nat → Int32, fx_CA b9 b10 b11 b12 s (e + 1) (ws ++ [(0, nI n, 0, x)]) → (∀ i, i < n + 1 → b13 i = nI i) → post (ln, hh, pc, st, ct, bc, nI (e + 1), nI (n + 1), a1, a2, a3, a4, a5, a6, a7, a8, b9, b10, b11, b12, b13)) : wpX_translateMove post (ln, hh, pc, st, ct, bc, nI e, nI n, a1, a2, a3, a4, a5, a6, a7, a8, a9, a10, a11, a12, a13) 0 x := by
  refine br_f (by decide) (fx_fr hn hid (br_t rfl (fx_write hca he 0 (nI n) 0 x rfl (fx_b8 n (by omega)) rfl (fun b9 b10 b11 b12 k => ?_))))
  refine ⟨pk_in n 8 (by omega), nm_e (nm_r (nI_1 n) (H _ _ _ _ _ k (fx_fill (nI_clamp (by omega)) (fx_b8 n (by omega)) hid)))⟩
/-- translateOne of LIT -/
theorem fx_t1 {post : Int32 → St2 → Prop} {s e n : Nat} {ws : List (Int32 × Int32 × Int32 × Int32)} {x : Int32} (hn : n = 0 ∨ n = 1) (hid : ∀ i, i < n → a13 i = nI i) (hca : fx_CA a9 a10 a11 a12 s e ws) (he : e < 640) (ho : a1 n = 0) (hx : a2 n = x)
    (H : ∀ b9 b10 b11 b12 b13 : Nat → Int32, fx_CA b9 b10 b11 b12 s (e + 1) (ws ++ [(0, nI n, 0, x)]) → (∀ i, i < n + 1 → b13 i = nI i) → post 1 (ln, hh, pc, st, ct, bc, nI (e + 1), nI (n + 1), a1, a2, a3, a4, a5, a6, a7, a8, b9, b10, b11, b12, b13)) : wpX_translateOne post (ln, hh, pc, st, ct, bc, nI e, nI n, a1, a2, a3, a4, a5, a6, a7, a8, a9, a10, a11, a12, a13) (nI n) := by
  refine ⟨pk_in n 32 (by omega), nm_r (e' := 0) (by rw [nI_clamp (by omega)]; exact ho) ⟨pk_in n 32 (by omega), nm_r (e' := x) (by rw [nI_clamp (by omega)]; exact hx) ?_⟩⟩
  exact br_f (by decide) (br_f (by decide) (br_f (by decide) (br_f (by decide) (br_f (by decide) (fx_tm hn hid hca he H)))))
/-- translateCombine -/
theorem fx_tc {post : St2 → Prop} {s e A : Nat} {ws : List (Int32 × Int32 × Int32 × Int32)} {K : Int32} (hK : K = 4 ∨ K = 5 ∨ K = 6 ∨ K = 7) (hA : A < 2) (h0 : a13 0 = 0) (h1 : a13 1 = 1) (hca : fx_CA a9 a10 a11 a12 s e ws) (he : e < 640)
    (H : ∀ (e' : Nat) (ws' : List (Int32 × Int32 × Int32 × Int32)) (b9 b10 b11 b12 b13 : Nat → Int32), e' ≤ e + 1 → (∀ w, w ∈ ws' → fx_safe w) → fx_CA b9 b10 b11 b12 s e' (ws ++ ws') → ((b13 0 = 0 ∧ b13 1 = 1) ∨ (b13 0 = 1 ∧ b13 1 = 0)) → post (ln, hh, pc, st, ct, bc, nI e', 2, a1, a2, a3, a4, a5, a6, a7, a8, b9, b10, b11, b12, b13)) : wpX_translateCombine post (ln, hh, pc, st, ct, bc, nI e, 2, a1, a2, a3, a4, a5, a6, a7, a8, a9, a10, a11, a12, a13) K (nI A) := by
  have hS : ∀ (o v : Int32), (o = 2 ∨ o = 3 ∨ o = 4) → vp_in v 10 → ∀ w, w ∈ [(o, (1 : Int32), (1 : Int32), v)] → fx_safe w := by
    intro o v hov hv w hw
    simp only [List.mem_cons, List.not_mem_nil, or_false] at hw
    rw [hw]
    exact ⟨pk_in 1 10 (by omega), Or.inr (Or.inr ⟨hov, pk_in 1 10 (by omega), hv⟩)⟩
  have hcase : A = 0 ∨ A = 1 := by omega
  rcases hcase with rfl | rfl
  · refine ⟨pk_in 1 8 (by omega), nm_r (e' := 1) h1 ⟨pk_in 1 8 (by omega), nm_r (e' := 1) h1 ?_⟩⟩
    rcases hK with rfl | rfl | rfl | rfl
    · refine br_t rfl ⟨pk_in 1 8 (by omega), nm_r (e' := upd a13 1 1) rfl ⟨pk_in 1 8 (by omega), nm_r (e' := upd (upd a13 1 1) 1 1) rfl (H e [] _ _ _ _ _ (by omega) (fun w hw => absurd hw (by simp)) (by rw [List.append_nil]; exact hca) (Or.inl ⟨?_, pk_us⟩))⟩⟩
      rw [pk_un (by omega), pk_un (by omega)]
      exact h0
    · exact br_f (by decide) (br_t rfl (fx_write hca he 2 1 1 1 rfl rfl rfl (fun b9 b10 b11 b12 k => H (e + 1) _ _ _ _ _ _ (Nat.le_refl _) (hS 2 1 (Or.inl rfl) (pk_in 1 10 (by omega))) k (Or.inl ⟨h0, h1⟩))))
    · exact br_f (by decide) (br_f (by decide) (br_t rfl (fx_write hca he 3 1 1 1 rfl rfl rfl (fun b9 b10 b11 b12 k => H (e + 1) _ _ _ _ _ _ (Nat.le_refl _) (hS 3 1 (Or.inr (Or.inl rfl)) (pk_in 1 10 (by omega))) k (Or.inl ⟨h0, h1⟩)))))
    · exact br_f (by decide) (br_f (by decide) (br_f (by decide) (br_t rfl (fx_write hca he 4 1 1 1 rfl rfl rfl (fun b9 b10 b11 b12 k => H (e + 1) _ _ _ _ _ _ (Nat.le_refl _) (hS 4 1 (Or.inr (Or.inr rfl)) (pk_in 1 10 (by omega))) k (Or.inl ⟨h0, h1⟩))))))
  · refine ⟨pk_in 1 8 (by omega), nm_r (e' := 1) h1 ⟨pk_in 0 8 (by omega), nm_r (e' := 0) h0 ?_⟩⟩
    rcases hK with rfl | rfl | rfl | rfl
    · refine br_t rfl ⟨pk_in 1 8 (by omega), nm_r (e' := upd a13 1 0) rfl ⟨pk_in 0 8 (by omega), nm_r (e' := upd (upd a13 1 0) 0 1) rfl (H e [] _ _ _ _ _ (by omega) (fun w hw => absurd hw (by simp)) (by rw [List.append_nil]; exact hca) (Or.inr ⟨pk_us, ?_⟩))⟩⟩
      rw [pk_un (by omega), pk_us]
    · exact br_f (by decide) (br_t rfl (fx_write hca he 2 1 1 0 rfl rfl rfl (fun b9 b10 b11 b12 k => H (e + 1) _ _ _ _ _ _ (Nat.le_refl _) (hS 2 0 (Or.inl rfl) (pk_in 0 10 (by omega))) k (Or.inl ⟨h0, h1⟩))))
    · exact br_f (by decide) (br_f (by decide) (br_t rfl (fx_write hca he 3 1 1 0 rfl rfl rfl (fun b9 b10 b11 b12 k => H (e + 1) _ _ _ _ _ _ (Nat.le_refl _) (hS 3 0 (Or.inr (Or.inl rfl)) (pk_in 0 10 (by omega))) k (Or.inl ⟨h0, h1⟩)))))
    · exact br_f (by decide) (br_f (by decide) (br_f (by decide) (br_t rfl (fx_write hca he 4 1 1 0 rfl rfl rfl (fun b9 b10 b11 b12 k => H (e + 1) _ _ _ _ _ _ (Nat.le_refl _) (hS 4 0 (Or.inr (Or.inr rfl)) (pk_in 0 10 (by omega))) k (Or.inl ⟨h0, h1⟩))))))
/-- translateOne of the third instruction -/
theorem fx_t1k {post : Int32 → St2 → Prop} {s e A : Nat} {ws : List (Int32 × Int32 × Int32 × Int32)} {K : Int32} (hK : K = 4 ∨ K = 5 ∨ K = 6 ∨ K = 7) (hA : A < 2) (h0 : a13 0 = 0) (h1 : a13 1 = 1) (hca : fx_CA a9 a10 a11 a12 s e ws) (he : e < 640) (ho : a1 2 = K) (hx : a2 2 = nI A)
    (H : ∀ (e' : Nat) (ws' : List (Int32 × Int32 × Int32 × Int32)) (b9 b10 b11 b12 b13 : Nat → Int32), e' ≤ e + 1 → (∀ w, w ∈ ws' → fx_safe w) → fx_CA b9 b10 b11 b12 s e' (ws ++ ws') → ((b13 0 = 0 ∧ b13 1 = 1) ∨ (b13 0 = 1 ∧ b13 1 = 0)) → post 1 (ln, hh, pc, st, ct, bc, nI e', 2, a1, a2, a3, a4, a5, a6, a7, a8, b9, b10, b11, b12, b13)) : wpX_translateOne post (ln, hh, pc, st, ct, bc, nI e, 2, a1, a2, a3, a4, a5, a6, a7, a8, a9, a10, a11, a12, a13) (nI 2) := by
  refine ⟨pk_in 2 32 (by omega), nm_r (e' := K) ho ⟨pk_in 2 32 (by omega), nm_r (e' := nI A) hx ?_⟩⟩
  have n10 : ¬ K = 10 := by rcases hK with z | z | z | z <;> rw [z] <;> decide
  have n11 : ¬ K = 11 := by rcases hK with z | z | z | z <;> rw [z] <;> decide
  have n12 : ¬ K = 12 := by rcases hK with z | z | z | z <;> rw [z] <;> decide
  have n13 : ¬ K = 13 := by rcases hK with z | z | z | z <;> rw [z] <;> decide
  have g3 : 3 < K := by rcases hK with z | z | z | z <;> rw [z] <;> decide
  exact br_f n10 (br_f n11 (br_f n12 (br_f n13 (br_t g3 (fx_tc hK hA h0 h1 hca he H)))))
end
end
section
/-! translate, blockAt -/
section
variable {ln hh pc st ct bc ce dn : Int32} {a1 a2 a3 a4 a5 a6 a7 a8 a9 a10 a11 a12 a13 : Nat → Int32}
/-- where the program faults, the third operand being A -/
def fx_T (A : Nat) : Nat := if A < 2 then 3 else 2
/-- the height at place j -/
def fx_d (j : Nat) : Nat := min j 2
/-- the words of the LITs from place j on -/
def fx_lits (p q : Int32) : Nat → List (Int32 × Int32 × Int32 × Int32)
  | 0 => [(0, nI 0, 0, p), (0, nI 1, 0, q)]
  | 1 => [(0, nI 1, 0, q)]
  | _ => []
/-- translate's loop at its end -/
theorem fx_te {post : St2 → Prop} {n b d : Nat} {x4 : Int32} (hb : b < 48) (hd : d < 100) (H : ∀ b7 b8 : Nat → Int32, b7 b = nI (d + 1) → b8 b = nI d → post (ln, hh, pc, st, ct, bc, ce, dn, a1, a2, a3, a4, a5, a6, b7, b8, a9, a10, a11, a12, a13)) : wX_translate_43 post (nI b) (n + 1) x4 (nI d) 0 1 ln hh pc st ct bc ce dn a1 a2 a3 a4 a5 a6 a7 a8 a9 a10 a11 a12 a13 := by
  refine br_t rfl (br_t rfl ⟨pk_in b 48 hb, nm_e (br_f (by decide) ⟨pk_in b 48 hb, nm_e (H _ _ ?_ ?_)⟩)⟩)
  · rw [nI_clamp (by omega), pk_us, nI_1, fx_b8 _ (by omega)]
  · rw [nI_clamp (by omega), pk_us, fx_b8 _ (by omega)]
/-- the trap's words -/
theorem fx_89 {post : St2 → Prop} {J : Int32 → Int32 → Int32 → Int32 → Int32 → Int32 → Int32 → Int32 → Int32 → Int32 → Int32 → Int32 → (Nat → Int32) → (Nat → Int32) → (Nat → Int32) → (Nat → Int32) → (Nat → Int32) → (Nat → Int32) → (Nat → Int32) → (Nat → Int32) → (Nat → Int32) → (Nat → Int32) → (Nat → Int32) → (Nat → Int32) → (Nat → Int32) → Prop} {x1 x5 : Int32} {F s e : Nat} {ws : List (Int32 × Int32 × Int32 × Int32)} (hF : F < 100) (hca : fx_CA a9 a10 a11 a12 s e ws) (he : e + 4 ≤ 640) (hh' : (a13 0 = 0 ∧ a13 1 = 1) ∨ (a13 0 = 1 ∧ a13 1 = 0))
    (H : ∀ (e' : Nat) (ws' : List (Int32 × Int32 × Int32 × Int32)) (b9 b10 b11 b12 b13 : Nat → Int32), e' ≤ e + 4 → (∀ w, w ∈ ws' → fx_safe w) → (a13 0 = 0 → ws' = []) → fx_CA b9 b10 b11 b12 s e' (ws ++ ws' ++ [(11, nI F, 2, 0)]) → J (nI F) x5 0 1 ln hh pc st ct bc (nI e') 2 a1 a2 a3 a4 a5 a6 a7 a8 b9 b10 b11 b12 b13) :
    wX_translate_89 post J x1 (nI F) x5 ln hh pc st ct bc (nI e) 2 a1 a2 a3 a4 a5 a6 a7 a8 a9 a10 a11 a12 a13 := by
  refine fx_st hca (by omega) hh' (fun e' ws' b9 b10 b11 b12 b13 hle hs hn k => ?_)
  exact fx_write k (by omega) 11 (nI F) 2 0 rfl (fx_b8 F (by omega)) rfl (fun c9 c10 c11 c12 k2 => H (e' + 1) ws' _ _ _ _ _ (by omega) hs hn k2)
/-- translate's loop at place 3 -/
theorem fx_L3 {post : St2 → Prop} {n b d s e : Nat} {ws : List (Int32 × Int32 × Int32 × Int32)} (hb : b < 48) (hd : d < 12) (hca : fx_CA a9 a10 a11 a12 s e ws) (he : e + 4 ≤ 640) (hh' : (a13 0 = 0 ∧ a13 1 = 1) ∨ (a13 0 = 1 ∧ a13 1 = 0))
    (H : ∀ (e' : Nat) (ws' : List (Int32 × Int32 × Int32 × Int32)) (b7 b8 b9 b10 b11 b12 b13 : Nat → Int32), e' ≤ e + 4 → (∀ w, w ∈ ws' → fx_safe w) → (a13 0 = 0 → ws' = []) → fx_CA b9 b10 b11 b12 s e' (ws ++ ws' ++ [(11, nI 3, 2, 0)]) → b7 b = nI (d + 1) → b8 b = nI d → post (3, hh, pc, st, ct, bc, nI e', 2, a1, a2, a3, a4, a5, a6, b7, b8, b9, b10, b11, b12, b13)) :
    wX_translate_43 post (nI b) (n + 1 + 1) (nI 3) (nI d) 1 0 3 hh pc st ct bc (nI e) 2 a1 a2 a3 a4 a5 a6 a7 a8 a9 a10 a11 a12 a13 :=
  br_f (by decide) (pk_le 12 d (fun z => absurd z (by omega)) (fun _ => br_t (by decide) (fx_89 (by omega) hca he hh' (fun e' ws' b9 b10 b11 b12 b13 hle hs hn k => fx_te hb (by omega) (fun b7 b8 h7 h8 => H e' ws' b7 b8 _ _ _ _ _ hle hs hn k h7 h8)))))
/-- at place 2 -/
theorem fx_L2 {post : St2 → Prop} {n b d s e A : Nat} {ws : List (Int32 × Int32 × Int32 × Int32)} {K : Int32} (hK : K = 4 ∨ K = 5 ∨ K = 6 ∨ K = 7) (hA : A < 4) (hb : b < 48) (hd : d + 1 < 12) (hca : fx_CA a9 a10 a11 a12 s e ws) (he : e + 5 ≤ 640) (h0 : a13 0 = 0) (h1 : a13 1 = 1) (ho : a1 2 = K) (hx : a2 2 = nI A)
    (H : ∀ (e' : Nat) (ws' : List (Int32 × Int32 × Int32 × Int32)) (b7 b8 b9 b10 b11 b12 b13 : Nat → Int32), e' ≤ e + 5 → (∀ w, w ∈ ws' → fx_safe w) → (2 ≤ A → ws' = []) → fx_CA b9 b10 b11 b12 s e' (ws ++ ws' ++ [(11, nI (fx_T A), 2, 0)]) → b7 b = nI (d + (fx_T A - 2) + 1) → b8 b = nI (d + (fx_T A - 2)) → post (3, hh, pc, st, ct, bc, nI e', 2, a1, a2, a3, a4, a5, a6, b7, b8, b9, b10, b11, b12, b13)) :
    wX_translate_43 post (nI b) (n + 1 + 1 + 1) (nI 2) (nI d) 1 0 3 hh pc st ct bc (nI e) 2 a1 a2 a3 a4 a5 a6 a7 a8 a9 a10 a11 a12 a13 := by
  have ho' : a1 (nI 2).toNatClampNeg = K := ho
  have hx' : a2 (nI 2).toNatClampNeg = nI A := hx
  refine br_f (by decide) (pk_le 12 d (fun z => absurd z (by omega)) (fun _ => br_f (by decide) ⟨pk_in 2 32 (by omega), pk_in 2 32 (by omega), fx_fk (by rw [ho']; exact hK) (fun hlt => ?_) (fun hge => ?_)⟩))
  · have hA2 : A < 2 := by
      rw [hx'] at hlt
      exact (nI_ltI (a := A) (b := 2) (by omega) (by omega)).mp hlt
    have hT : fx_T A = 3 := if_pos hA2
    refine br_t rfl (nm_r (nI_1 d) (fx_t1k hK hA2 h0 h1 hca (by omega) ho hx (fun e1 ws1 b9 b10 b11 b12 b13 hle1 hs1 k1 hh1 => nm_r (e' := nI 3) rfl ?_)))
    refine fx_L3 hb (by omega) k1 (by omega) hh1 (fun e' ws' b7 b8 c9 c10 c11 c12 c13 hle hs hn k h7 h8 => H e' (ws1 ++ ws') _ _ _ _ _ _ _ (by omega) ?_ (fun z => absurd z (by omega)) ?_ ?_ ?_)
    · intro w hw
      rcases List.mem_append.mp hw with z | z
      · exact hs1 w z
      · exact hs w z
    · rw [hT, ← List.append_assoc ws ws1 ws']
      exact k
    · rw [hT]
      exact h7
    · rw [hT]
      exact h8
  · have hA2 : 2 ≤ A := by
      rw [hx'] at hge
      rcases Nat.lt_or_ge A 2 with z | z
      · exact absurd (nI_lt z (by omega)) hge
      · exact z
    have hT : fx_T A = 2 := if_neg (by omega)
    refine br_f (by decide) (fx_89 (by omega) hca (by omega) (Or.inl ⟨h0, h1⟩) (fun e' ws' b9 b10 b11 b12 b13 hle hs hn k => fx_te hb (by omega) (fun b7 b8 h7 h8 => H e' ws' b7 b8 _ _ _ _ _ (by omega) hs (fun _ => hn h0) ?_ ?_ ?_)))
    · rw [hT]
      exact k
    · rw [hT]
      exact h7
    · rw [hT]
      exact h8
/-- a LIT at place n, height n -/
theorem fx_L1 {post : St2 → Prop} {f b d s e n : Nat} {ws : List (Int32 × Int32 × Int32 × Int32)} {x : Int32} (hn : n = 0 ∨ n = 1) (hb : b < 48) (hd : d + 1 < 12) (hid : ∀ i, i < n → a13 i = nI i) (hca : fx_CA a9 a10 a11 a12 s e ws) (he : e < 640) (ho : a1 n = 0) (hx : a2 n = x)
    (H : ∀ (b9 b10 b11 b12 b13 : Nat → Int32), fx_CA b9 b10 b11 b12 s (e + 1) (ws ++ [(0, nI n, 0, x)]) → (∀ i, i < n + 1 → b13 i = nI i) → wX_translate_43 post (nI b) f (nI (n + 1)) (nI (d + 1)) 1 0 3 hh pc st ct bc (nI (e + 1)) (nI (n + 1)) a1 a2 a3 a4 a5 a6 a7 a8 b9 b10 b11 b12 b13) :
    wX_translate_43 post (nI b) (f + 1) (nI n) (nI d) 1 0 3 hh pc st ct bc (nI e) (nI n) a1 a2 a3 a4 a5 a6 a7 a8 a9 a10 a11 a12 a13 := by
  have ho' : a1 (nI n).toNatClampNeg = 0 := by rw [nI_clamp (by omega)]; exact ho
  refine br_f (by decide) (pk_le 12 d (fun z => absurd z (by omega)) (fun _ => pk_le 3 n (fun z => absurd z (by omega)) (fun _ => ⟨pk_in n 32 (by omega), pk_in n 32 (by omega), fx_f0 ho' (nI_lt (a := n) (b := 8) (by omega) (by omega)) ?_⟩)))
  exact br_t rfl (nm_r (nI_1 d) (fx_t1 hn hid hca he ho hx (fun b9 b10 b11 b12 b13 k h13 => nm_r (nI_1 n) (H b9 b10 b11 b12 b13 k h13))))
/-- translate's loop from place j -/
theorem fx_43 {post : St2 → Prop} {b e A j : Nat} {K p q : Int32} (hK : K = 4 ∨ K = 5 ∨ K = 6 ∨ K = 7) (hA : A < 4) (hb : b < 48) (he : e + 8 ≤ 640) (hj : j ≤ fx_T A) (hid : ∀ i, i < 8 → a13 i = nI i) (p0 : a1 0 = 0) (p1 : a1 1 = 0) (p2 : a1 2 = K) (q0 : a2 0 = p) (q1 : a2 1 = q) (q2 : a2 2 = nI A)
    (H : ∀ (e' : Nat) (ws' : List (Int32 × Int32 × Int32 × Int32)) (dn' : Int32) (b7 b8 b9 b10 b11 b12 b13 : Nat → Int32), e' ≤ e + 8 → (∀ w, w ∈ ws' → fx_safe w) → (2 ≤ A → ws' = []) → fx_CA b9 b10 b11 b12 e e' (fx_lits p q j ++ ws' ++ [(11, nI (fx_T A), 2, 0)]) → b7 b = nI (fx_T A - j + 1) → b8 b = nI (fx_T A - j) → post (3, hh, pc, st, ct, bc, nI e', dn', a1, a2, a3, a4, a5, a6, b7, b8, b9, b10, b11, b12, b13)) :
    ∃ f, wX_translate_43 post (nI b) f (nI j) 0 1 0 3 hh pc st ct bc (nI e) (nI (fx_d j)) a1 a2 a3 a4 a5 a6 a7 a8 a9 a10 a11 a12 a13 := by
  have hca : fx_CA a9 a10 a11 a12 e e [] := rfl
  have hT : fx_T A = 3 ∨ fx_T A = 2 := by
    unfold fx_T
    split
    · exact Or.inl rfl
    · exact Or.inr rfl
  have hT2 : fx_T A = 3 → A < 2 := by
    intro z
    unfold fx_T at z
    split at z
    · assumption
    · exact absurd z (by decide)
  have hc : j = 0 ∨ j = 1 ∨ j = 2 ∨ j = 3 := by omega
  have h0 : a13 0 = 0 := hid 0 (by omega)
  have h1 : a13 1 = 1 := hid 1 (by omega)
  rcases hc with rfl | rfl | rfl | rfl
  · refine ⟨0 + 1 + 1 + 1 + 1 + 1, fx_L1 (d := 0) (n := 0) (Or.inl rfl) hb (by omega) (fun i hi => absurd hi (by omega)) hca (by omega) p0 q0 (fun b9 b10 b11 b12 b13 k hi => ?_)⟩
    refine fx_L1 (d := 1) (n := 1) (Or.inr rfl) hb (by omega) hi k (by omega) p1 q1 (fun c9 c10 c11 c12 c13 k2 hi2 => ?_)
    refine fx_L2 (d := 2) hK hA hb (by omega) k2 (by omega) (hi2 0 (by omega)) (hi2 1 (by omega)) p2 q2 (fun e' ws' b7 b8 d9 d10 d11 d12 d13 hle hs hn k3 h7 h8 => H e' ws' _ _ _ _ _ _ _ _ (by omega) hs hn k3 ?_ ?_)
    · rw [h7, show 2 + (fx_T A - 2) + 1 = fx_T A - 0 + 1 by omega]
    · rw [h8, show 2 + (fx_T A - 2) = fx_T A - 0 by omega]
  · refine ⟨0 + 1 + 1 + 1 + 1, fx_L1 (d := 0) (n := 1) (Or.inr rfl) hb (by omega) (fun i hi => hid i (by omega)) hca (by omega) p1 q1 (fun c9 c10 c11 c12 c13 k2 hi2 => ?_)⟩
    refine fx_L2 (d := 1) hK hA hb (by omega) k2 (by omega) (hi2 0 (by omega)) (hi2 1 (by omega)) p2 q2 (fun e' ws' b7 b8 d9 d10 d11 d12 d13 hle hs hn k3 h7 h8 => H e' ws' _ _ _ _ _ _ _ _ (by omega) hs hn k3 ?_ ?_)
    · rw [h7, show 1 + (fx_T A - 2) + 1 = fx_T A - 1 + 1 by omega]
    · rw [h8, show 1 + (fx_T A - 2) = fx_T A - 1 by omega]
  · refine ⟨0 + 1 + 1 + 1, fx_L2 (d := 0) hK hA hb (by omega) hca (by omega) h0 h1 p2 q2 (fun e' ws' b7 b8 d9 d10 d11 d12 d13 hle hs hn k3 h7 h8 => H e' ws' _ _ _ _ _ _ _ _ (by omega) hs hn k3 ?_ ?_)⟩
    · rw [h7, show 0 + (fx_T A - 2) + 1 = fx_T A - 2 + 1 by omega]
    · rw [h8, show 0 + (fx_T A - 2) = fx_T A - 2 by omega]
  · have hT3 : fx_T A = 3 := by omega
    have hA2 := hT2 hT3
    refine ⟨0 + 1 + 1, fx_L3 (d := 0) hb (by omega) hca (by omega) (Or.inl ⟨h0, h1⟩) (fun e' ws' b7 b8 d9 d10 d11 d12 d13 hle hs hn k3 h7 h8 => H e' ws' _ _ _ _ _ _ _ _ (by omega) hs (fun z => absurd z (by omega)) ?_ ?_ ?_)⟩
    · rw [hT3]
      exact k3
    · rw [h7, hT3]
    · rw [h8, hT3]
/-- translate -/
theorem fx_tr {post : St2 → Prop} {b e A j : Nat} {K p q : Int32} (hK : K = 4 ∨ K = 5 ∨ K = 6 ∨ K = 7) (hA : A < 4) (hb : b < 48) (he : e + 8 ≤ 640) (hj : j ≤ fx_T A) (p0 : a1 0 = 0) (p1 : a1 1 = 0) (p2 : a1 2 = K) (q0 : a2 0 = p) (q1 : a2 1 = q) (q2 : a2 2 = nI A)
    (H : ∀ (e' : Nat) (ws' : List (Int32 × Int32 × Int32 × Int32)) (dn' : Int32) (b7 b8 b9 b10 b11 b12 b13 : Nat → Int32), e' ≤ e + 8 → (∀ w, w ∈ ws' → fx_safe w) → (2 ≤ A → ws' = []) → fx_CA b9 b10 b11 b12 e e' (fx_lits p q j ++ ws' ++ [(11, nI (fx_T A), 2, 0)]) → b7 b = nI (fx_T A - j + 1) → b8 b = nI (fx_T A - j) → post (3, hh, pc, st, ct, bc, nI e', dn', a1, a2, a3, a4, a5, a6, b7, b8, b9, b10, b11, b12, b13)) :
    wpX_translate post (3, hh, pc, st, ct, bc, nI e, dn, a1, a2, a3, a4, a5, a6, a7, a8, a9, a10, a11, a12, a13) (nI b) (nI j) (nI (fx_d j)) :=
  pk_loop (fun n i s => wX_translate_8 post (nI b) (nI j) 3 hh pc st ct bc (nI e) (nI (fx_d j)) n (nI i) a1 a2 a3 a4 a5 a6 a7 a8 a9 a10 a11 a12 s) (fun i s => ∀ k, k < i → s k = nI k) 8 0 a13 (by omega) (fun k hk => absurd hk (by omega))
    (fun n s h => pk_le 8 8 (fun _ => fx_43 hK hA hb he hj h p0 p1 p2 q0 q1 q2 H) (fun z => absurd z (by omega)))
    (fun n i s hi h hw => pk_le 8 i (fun z => absurd z (by omega)) (fun _ => ⟨pk_in i 8 hi, nm_e (nm_r (nI_1 i) (hw _ (fx_fill (nI_clamp (by omega)) (fx_b8 i (by omega)) h)))⟩))
/-- the picture: the program, b blocks, e words, no block from key k on -/
def fx_P (K p q : Int32) (A b e k : Nat) (a1 a2 a5 : Nat → Int32) : Prop := (K = 4 ∨ K = 5 ∨ K = 6 ∨ K = 7) ∧ A < 4 ∧ e ≤ 8 * b ∧ (a1 0 = 0 ∧ a1 1 = 0 ∧ a1 2 = K) ∧ (a2 0 = p ∧ a2 1 = q ∧ a2 2 = nI A) ∧ (∀ i, k ≤ i → i < 297 → a5 i = -1)
/-- blockAt at a place not yet translated -/
theorem fx_ba {post : Int32 → St2 → Prop} {K p q : Int32} {A b e k j : Nat} (hP : fx_P K p q A b e k a1 a2 a5) (hb : b ≤ 6) (hj : j ≤ fx_T A) (hk : k ≤ 9 * j + fx_d j)
    (H : ∀ (e' : Nat) (ws' : List (Int32 × Int32 × Int32 × Int32)) (dn' : Int32) (b5 b6 b7 b8 b9 b10 b11 b12 b13 : Nat → Int32), fx_P K p q A (b + 1) e' (9 * j + fx_d j + 1) a1 a2 b5 → (∀ w, w ∈ ws' → fx_safe w) → (2 ≤ A → ws' = []) → fx_CA b9 b10 b11 b12 e e' (fx_lits p q j ++ ws' ++ [(11, nI (fx_T A), 2, 0)]) → b6 b = nI e → b7 b = nI (fx_T A - j + 1) → b8 b = nI (fx_T A - j) → post (nI b) (3, hh, pc, st, ct, nI (b + 1), nI e', dn', a1, a2, a3, a4, b5, b6, b7, b8, b9, b10, b11, b12, b13)) :
    wpX_blockAt post (3, hh, pc, st, ct, nI b, nI e, dn, a1, a2, a3, a4, a5, a6, a7, a8, a9, a10, a11, a12, a13) (nI j) (nI (fx_d j)) := by
  obtain ⟨hK, hA, hle, ⟨p0, p1, p2⟩, ⟨q0, q1, q2⟩, h5⟩ := hP
  have hT : fx_T A ≤ 3 := by
    unfold fx_T
    split <;> omega
  have hd : fx_d j ≤ 2 := Nat.min_le_right _ _
  have hkey : (9 : Int32) * nI j + nI (fx_d j) = nI (9 * j + fx_d j) := by
    rw [show (9 : Int32) = nI 9 from rfl, pk_mul, nI_add]
  have hm1 : a5 (nI (9 * j + fx_d j)).toNatClampNeg = -1 := by
    rw [nI_clamp (by omega)]
    exact h5 _ hk (by omega)
  refine nm_r hkey ⟨pk_in (9 * j + fx_d j) 297 (by omega), br_t (by rw [hm1]; decide) (pk_le 48 b (fun z => absurd z (by omega)) (fun _ => pk_le e 600 (fun _ => ?_) (fun z => absurd z (by omega))))⟩
  refine nm_r (nI_1 b) ⟨pk_in (9 * j + fx_d j) 297 (by omega), nm_e ⟨pk_in b 48 (by omega), nm_e ?_⟩⟩
  refine fx_tr hK hA (by omega) (by omega) hj p0 p1 p2 q0 q1 q2 (fun e' ws' dn' b7 b8 b9 b10 b11 b12 b13 hle' hs hn k3 h7 h8 => H e' ws' dn' _ _ b7 b8 b9 b10 b11 b12 b13 ⟨hK, hA, by omega, ⟨p0, p1, p2⟩, ⟨q0, q1, q2⟩, ?_⟩ hs hn k3 ?_ h7 h8)
  · intro i hi hi2
    rw [nI_clamp (by omega), pk_un (by omega)]
    exact h5 i (by omega) hi2
  · rw [nI_clamp (by omega), pk_us, fx_s16 e (by omega)]
end
end
section
/-! work, execute, tryOne -/
section
variable {ln hh pc st ct bc ce dn : Int32} {a1 a2 a3 a4 a5 a6 a7 a8 a9 a10 a11 a12 a13 : Nat → Int32}
/-- what a word does to the flat registers -/
def fx_w1 (f : Nat → Int32) (w : Int32 × Int32 × Int32 × Int32) : Nat → Int32 := upd f w.2.1.toNatClampNeg (if w.1 = 0 then w.2.2.2 else if w.1 = 1 then f w.2.2.1.toNatClampNeg else if w.1 = 2 then f w.2.2.1.toNatClampNeg + f w.2.2.2.toNatClampNeg else if w.1 = 3 then f w.2.2.1.toNatClampNeg - f w.2.2.2.toNatClampNeg else f w.2.2.1.toNatClampNeg * f w.2.2.2.toNatClampNeg)
def fx_ex (f : Nat → Int32) : List (Int32 × Int32 × Int32 × Int32) → Nat → Int32
  | [] => f
  | w :: t => fx_ex (fx_w1 f w) t
theorem fx_work {post : St2 → Prop} {i : Nat} {w : Int32 × Int32 × Int32 × Int32} (hi : i < 640) (hs : fx_safe w) (h9 : a9 i = w.1) (h10 : a10 i = w.2.1) (h11 : a11 i = w.2.2.1) (h12 : a12 i = w.2.2.2) (H : post (ln, hh, pc, st, ct, bc, ce, dn, a1, a2, a3, fx_w1 a4 w, a5, a6, a7, a8, a9, a10, a11, a12, a13)) : wpX_work post (ln, hh, pc, st, ct, bc, ce, dn, a1, a2, a3, a4, a5, a6, a7, a8, a9, a10, a11, a12, a13) (nI i) := by
  obtain ⟨o, x, y, z⟩ := w
  refine ⟨pk_in i 640 hi, nm_r (e' := o) (by rw [nI_clamp (by omega)]; exact h9) ⟨pk_in i 640 hi, nm_r (e' := x) (by rw [nI_clamp (by omega)]; exact h10) ⟨pk_in i 640 hi, nm_r (e' := y) (by rw [nI_clamp (by omega)]; exact h11) ⟨pk_in i 640 hi, nm_r (e' := z) (by rw [nI_clamp (by omega)]; exact h12) ?_⟩⟩⟩⟩
  obtain ⟨hx, hs⟩ := hs
  dsimp only at hx hs
  rcases hs with ho | ⟨ho, hy⟩ | ⟨ho | ho | ho, hy, hz⟩
  · subst ho
    exact br_t rfl ⟨hx, nm_r (e' := fx_w1 a4 (0, x, y, z)) rfl H⟩
  · subst ho
    exact br_f (by decide) (br_t rfl ⟨hy, hx, nm_r (e' := fx_w1 a4 (1, x, y, z)) rfl H⟩)
  · subst ho
    exact br_f (by decide) (br_f (by decide) (br_t rfl ⟨hy, hz, hx, nm_r (e' := fx_w1 a4 (2, x, y, z)) rfl H⟩))
  · subst ho
    exact br_f (by decide) (br_f (by decide) (br_f (by decide) (br_t rfl ⟨hy, hz, hx, nm_r (e' := fx_w1 a4 (3, x, y, z)) rfl H⟩)))
  · subst ho
    exact br_f (by decide) (br_f (by decide) (br_f (by decide) (br_f (by decide) (br_t rfl ⟨hy, hz, hx, nm_r (e' := fx_w1 a4 (4, x, y, z)) rfl H⟩))))
theorem fx_safe7 {w : Int32 × Int32 × Int32 × Int32} (h : fx_safe w) : ¬ 7 ≤ w.1 := by
  rcases h.2 with z | z | z
  · rw [z]; decide
  · rw [z.1]; decide
  · rcases z.1 with z | z | z <;> rw [z] <;> decide
theorem fx_exl {post : St2 → Prop} {x y : Int32} {e : Nat} (he : e ≤ 640) : ∀ (ws : List (Int32 × Int32 × Int32 × Int32)) (s : Nat) (f : Nat → Int32), fx_CA a9 a10 a11 a12 s e (ws ++ [(11, x, y, 0)]) → (∀ w, w ∈ ws → fx_safe w) → post (ln, y, x, 2, ct, bc, nI e, dn, a1, a2, a3, fx_ex f ws, a5, a6, a7, a8, a9, a10, a11, a12, a13) → ∃ n, wX_execute_2 post n (nI s) ln hh pc st ct bc (nI e) dn a1 a2 a3 f a5 a6 a7 a8 a9 a10 a11 a12 a13
  | [], s, f, k, _, H => by
    obtain ⟨h9, h10, h11, _, hse⟩ := k
    have hse' : s + 1 = e := hse
    have h9' : a9 (nI s).toNatClampNeg = 11 := by rw [nI_clamp (by omega)]; exact h9
    have h10' : a10 (nI s).toNatClampNeg = x := by rw [nI_clamp (by omega)]; exact h10
    have h11' : a11 (nI s).toNatClampNeg = y := by rw [nI_clamp (by omega)]; exact h11
    refine ⟨0 + 1, pk_le e s (fun z => absurd z (by omega)) (fun _ => ⟨pk_in s 640 (by omega), br_t (by rw [h9']; decide) ?_⟩)⟩
    exact ⟨pk_in s 640 (by omega), nm_r (e' := 11) h9' ⟨pk_in s 640 (by omega), nm_r (e' := y) h11' ⟨pk_in s 640 (by omega), nm_r (e' := x) h10' (br_f (by decide) (br_f (by decide) (br_f (by decide) (br_t rfl H))))⟩⟩⟩
  | w :: t, s, f, k, hs, H => by
    obtain ⟨h9, h10, h11, h12, k'⟩ := k
    have hl := fx_CA_len _ _ _ k'
    have hw : fx_safe w := hs w List.mem_cons_self
    obtain ⟨n, hn⟩ := fx_exl he t (s + 1) (fx_w1 f w) k' (fun v hv => hs v (List.mem_cons_of_mem w hv)) H
    have h9' : a9 (nI s).toNatClampNeg = w.1 := by rw [nI_clamp (by omega)]; exact h9
    exact ⟨n + 1, pk_le e s (fun z => absurd z (by omega)) (fun _ => ⟨pk_in s 640 (by omega), br_f (by rw [h9']; exact fx_safe7 hw) (fx_work (by omega) hw h9 h10 h11 h12 (nm_r (nI_1 s) hn))⟩)⟩
theorem fx_exec {post : St2 → Prop} {x y u : Int32} {e s : Nat} {ws : List (Int32 × Int32 × Int32 × Int32)} (hu : u = nI s) (he : e ≤ 640) (k : fx_CA a9 a10 a11 a12 s e (ws ++ [(11, x, y, 0)])) (hs : ∀ w, w ∈ ws → fx_safe w) (H : post (ln, y, x, 2, ct, bc, nI e, dn, a1, a2, a3, fx_ex a4 ws, a5, a6, a7, a8, a9, a10, a11, a12, a13)) : wpX_execute post (ln, hh, pc, st, ct, bc, nI e, dn, a1, a2, a3, a4, a5, a6, a7, a8, a9, a10, a11, a12, a13) u := by
  subst hu
  exact fx_exl he ws s a4 k hs H
/-- tryOne of LIT -/
theorem fx_tryl {post : St2 → Prop} {j : Nat} {x : Int32} (hj : j < 2) (eh : hh = nI j) (ho : a1 j = 0) (hx : a2 j = x) (H : post (3, nI (j + 1), nI (j + 1), st, nI (j + 1), bc, ce, dn, a1, a2, a3, upd a4 j x, a5, a6, a7, a8, a9, a10, a11, a12, a13)) : wpX_tryOne post (3, hh, nI j, st, nI j, bc, ce, dn, a1, a2, a3, a4, a5, a6, a7, a8, a9, a10, a11, a12, a13) := by
  subst eh
  have ho' : a1 (nI j).toNatClampNeg = 0 := by rw [nI_clamp (by omega)]; exact ho
  have hx' : a2 (nI j).toNatClampNeg = x := by rw [nI_clamp (by omega)]; exact hx
  refine pk_le 3 j (fun z => absurd z (by omega)) (fun _ => ⟨pk_in j 32 (by omega), pk_in j 32 (by omega), fx_f0 ho' (nI_lt (a := j) (b := 8) (by omega) (by omega)) ?_⟩)
  refine br_t rfl ⟨pk_in j 32 (by omega), nm_r (e' := 0) ho' ⟨pk_in j 32 (by omega), nm_r (e' := x) hx' (nm_r (nI_1 j) ?_)⟩⟩
  refine br_f (by decide) (nm_r (nI_1 j) (br_f (by decide) (br_f (by decide) (br_f (by decide) (br_f (by decide) ?_)))))
  exact br_f (by decide) (br_t rfl ⟨pk_in j 10 (by omega), nm_r (by rw [nI_clamp (by omega)]) (nm_r (nI_1 j) H)⟩)
def fx_oth (A : Nat) (p q : Int32) : Int32 := if A = 0 then q else p
def fx_top (K : Int32) (q o : Int32) : Int32 := if K = 4 then o else if K = 5 then q + o else if K = 6 then q - o else q * o
def fx_bel (K : Int32) (A : Nat) (p q : Int32) : Int32 := if K = 4 ∧ A = 1 then q else p
theorem fx_u1 {f : Nat → Int32} {x : Int32} : upd f 1 x 0 = f 0 := pk_un (by decide)
theorem fx_u0 {f : Nat → Int32} {x : Int32} : upd f 0 x 1 = f 1 := pk_un (by decide)
/-- tryOne of the third instruction -/
theorem fx_tryk {post : St2 → Prop} {A : Nat} {K p q : Int32} (hK : K = 4 ∨ K = 5 ∨ K = 6 ∨ K = 7) (hA : A < 2) (ho : a1 2 = K) (hx : a2 2 = nI A) (f0 : a4 0 = p) (f1 : a4 1 = q)
    (H : ∀ g : Nat → Int32, g 1 = fx_top K q (fx_oth A p q) → g 0 = fx_bel K A p q → post (3, nI 2, nI 3, st, nI 3, bc, ce, dn, a1, a2, a3, g, a5, a6, a7, a8, a9, a10, a11, a12, a13)) : wpX_tryOne post (3, nI 2, nI 2, st, nI 2, bc, ce, dn, a1, a2, a3, a4, a5, a6, a7, a8, a9, a10, a11, a12, a13) := by
  have ho' : a1 (nI 2).toNatClampNeg = K := ho
  have hx' : a2 (nI 2).toNatClampNeg = nI A := hx
  refine br_f (by decide) ⟨pk_in 2 32 (by omega), pk_in 2 32 (by omega), fx_fk (by rw [ho']; exact hK) (fun _ => ?_) (fun hge => absurd (by rw [hx']; exact nI_lt hA (by omega)) hge)⟩
  have n10 : ¬ K = 10 := by rcases hK with z | z | z | z <;> rw [z] <;> decide
  have n11 : ¬ K = 11 := by rcases hK with z | z | z | z <;> rw [z] <;> decide
  have n12 : ¬ K = 12 := by rcases hK with z | z | z | z <;> rw [z] <;> decide
  have n13 : ¬ K = 13 := by rcases hK with z | z | z | z <;> rw [z] <;> decide
  have g3 : 3 < K := by rcases hK with z | z | z | z <;> rw [z] <;> decide
  refine br_t rfl ⟨pk_in 2 32 (by omega), nm_r (e' := K) ho' ⟨pk_in 2 32 (by omega), nm_r (e' := nI A) hx' (nm_r (e' := nI 3) rfl ?_)⟩⟩
  refine br_f n13 (nm_r (e' := nI 3) rfl (br_f n12 (br_f n10 (br_f n11 (br_t g3 ?_)))))
  have hcase : A = 0 ∨ A = 1 := by omega
  rcases hcase with rfl | rfl
  · refine nm_r (e' := 1) rfl (nm_r (e' := 1) rfl ⟨pk_in 1 10 (by omega), nm_r (e' := q) f1 ⟨pk_in 1 10 (by omega), nm_r (e' := q) f1 ?_⟩⟩)
    rcases hK with rfl | rfl | rfl | rfl
    · exact br_t rfl ⟨pk_in 1 10 (by omega), nm_r (e' := upd a4 1 q) rfl ⟨pk_in 1 10 (by omega), nm_r (e' := upd (upd a4 1 q) 1 q) rfl (H _ pk_us (by rw [fx_u1, fx_u1]; exact f0))⟩⟩
    · exact br_f (by decide) (br_t rfl ⟨pk_in 1 10 (by omega), nm_r (e' := upd a4 1 (q + q)) rfl (H _ pk_us (by rw [fx_u1]; exact f0))⟩)
    · exact br_f (by decide) (br_f (by decide) (br_t rfl ⟨pk_in 1 10 (by omega), nm_r (e' := upd a4 1 (q - q)) rfl (H _ pk_us (by rw [fx_u1]; exact f0))⟩))
    · exact br_f (by decide) (br_f (by decide) (br_f (by decide) (br_t rfl ⟨pk_in 1 10 (by omega), nm_r (e' := upd a4 1 (q * q)) rfl (H _ pk_us (by rw [fx_u1]; exact f0))⟩)))
  · refine nm_r (e' := 1) rfl (nm_r (e' := 0) rfl ⟨pk_in 1 10 (by omega), nm_r (e' := q) f1 ⟨pk_in 0 10 (by omega), nm_r (e' := p) f0 ?_⟩⟩)
    rcases hK with rfl | rfl | rfl | rfl
    · exact br_t rfl ⟨pk_in 1 10 (by omega), nm_r (e' := upd a4 1 p) rfl ⟨pk_in 0 10 (by omega), nm_r (e' := upd (upd a4 1 p) 0 q) rfl (H _ (by rw [fx_u0, pk_us]; rfl) pk_us)⟩⟩
    · exact br_f (by decide) (br_t rfl ⟨pk_in 1 10 (by omega), nm_r (e' := upd a4 1 (q + p)) rfl (H _ pk_us (by rw [fx_u1]; exact f0))⟩)
    · exact br_f (by decide) (br_f (by decide) (br_t rfl ⟨pk_in 1 10 (by omega), nm_r (e' := upd a4 1 (q - p)) rfl (H _ pk_us (by rw [fx_u1]; exact f0))⟩))
    · exact br_f (by decide) (br_f (by decide) (br_f (by decide) (br_t rfl ⟨pk_in 1 10 (by omega), nm_r (e' := upd a4 1 (q * p)) rfl (H _ pk_us (by rw [fx_u1]; exact f0))⟩)))
end
end
section
/-! run -/
section
variable {ln hh pc st ct bc ce dn : Int32} {a1 a2 a3 a4 a5 a6 a7 a8 a9 a10 a11 a12 a13 : Nat → Int32}
theorem fx_T3 (A : Nat) : 2 ≤ fx_T A ∧ fx_T A ≤ 3 := by
  unfold fx_T
  split <;> omega
/-- one instruction, a LIT, because the block is too long -/
theorem fx_r1 {post : Int32 → St2 → Prop} {n r j b e k A : Nat} {K p q : Int32} (x : Int32) (hP : fx_P K p q A b e k a1 a2 a5) (hb : b ≤ 6) (hj : j < 2) (hx : a2 j = x) (hk : k ≤ 9 * j + fx_d j) (hr0 : 0 < r) (hr : r ≤ fx_T A - j)
    (H : ∀ (e' : Nat) (dn' : Int32) (b5 b6 b7 b8 b9 b10 b11 b12 b13 : Nat → Int32), fx_P K p q A (b + 1) e' (9 * j + fx_d j + 1) a1 a2 b5 → wX_run_23 post n (nI (r - 1)) 3 (nI (j + 1)) (nI (j + 1)) 0 (nI (j + 1)) (nI (b + 1)) (nI e') dn' a1 a2 a3 (upd a4 j x) b5 b6 b7 b8 b9 b10 b11 b12 b13) :
    wX_run_23 post (n + 1) (nI r) 3 (nI (fx_d j)) (nI j) 0 (nI j) (nI b) (nI e) dn a1 a2 a3 a4 a5 a6 a7 a8 a9 a10 a11 a12 a13 := by
  have hT := fx_T3 A
  have hd : fx_d j = j := Nat.min_eq_left (by omega)
  have ho : a1 j = 0 := by
    have hc : j = 0 ∨ j = 1 := by omega
    rcases hc with rfl | rfl
    · exact hP.2.2.2.1.1
    · exact hP.2.2.2.1.2.1
  refine pk_le r 0 (fun z => absurd z (by omega)) (fun _ => br_t rfl (fx_ba hP hb (by omega) hk (fun e' ws' dn' b5 b6 b7 b8 b9 b10 b11 b12 b13 hP' hs hn k3 h6 h7 h8 => ?_)))
  have h7' : b7 (nI b).toNatClampNeg = nI (fx_T A - j + 1) := by rw [nI_clamp (by omega)]; exact h7
  refine ⟨pk_in b 48 (by omega), br_t (by rw [h7']; exact nI_lt (by omega) (by omega)) (nm_r (e' := nI (r - 1)) (sb_m1 hr0) (fx_tryl hj (by rw [hd]) ho hx ?_))⟩
  exact H e' dn' b5 b6 b7 b8 b9 b10 b11 b12 b13 hP'
/-- one instruction, the third -/
theorem fx_r1k {post : Int32 → St2 → Prop} {n b e k A : Nat} {K p q : Int32} (hP : fx_P K p q A b e k a1 a2 a5) (hb : b ≤ 6) (hA : A < 2) (hk : k ≤ 20) (f0 : a4 0 = p) (f1 : a4 1 = q)
    (H : ∀ (e' : Nat) (dn' : Int32) (g b5 b6 b7 b8 b9 b10 b11 b12 b13 : Nat → Int32), fx_P K p q A (b + 1) e' 21 a1 a2 b5 → g 1 = fx_top K q (fx_oth A p q) → g 0 = fx_bel K A p q → wX_run_23 post n 0 3 (nI 2) (nI 3) 0 (nI 3) (nI (b + 1)) (nI e') dn' a1 a2 a3 g b5 b6 b7 b8 b9 b10 b11 b12 b13) :
    wX_run_23 post (n + 1) (nI 1) 3 (nI 2) (nI 2) 0 (nI 2) (nI b) (nI e) dn a1 a2 a3 a4 a5 a6 a7 a8 a9 a10 a11 a12 a13 := by
  have hT : fx_T A = 3 := if_pos hA
  refine br_f (by decide) (br_t rfl (fx_ba (j := 2) hP hb (by omega) hk (fun e' ws' dn' b5 b6 b7 b8 b9 b10 b11 b12 b13 hP' hs hn k3 h6 h7 h8 => ?_)))
  have h7' : b7 (nI b).toNatClampNeg = nI (fx_T A - 2 + 1) := by rw [nI_clamp (by omega)]; exact h7
  refine ⟨pk_in b 48 (by omega), br_t (by rw [h7']; exact nI_lt (by omega) (by omega)) (nm_r (e' := 0) rfl (fx_tryk hP.1 hA hP.2.2.2.1.2.2 hP.2.2.2.2.1.2.2 f0 f1 (fun g g1 g0 => ?_)))⟩
  exact H e' dn' g b5 b6 b7 b8 b9 b10 b11 b12 b13 hP' g1 g0
theorem fx_lits_safe (p q : Int32) : ∀ (j : Nat) (w : Int32 × Int32 × Int32 × Int32), w ∈ fx_lits p q j → fx_safe w
  | 0, w, h => by
    have h' : w ∈ [((0 : Int32), nI 0, (0 : Int32), p), (0, nI 1, 0, q)] := h
    simp only [List.mem_cons, List.not_mem_nil, or_false] at h'
    rcases h' with rfl | rfl
    · exact ⟨pk_in 0 10 (by omega), Or.inl rfl⟩
    · exact ⟨pk_in 1 10 (by omega), Or.inl rfl⟩
  | 1, w, h => by
    have h' : w ∈ [((0 : Int32), nI 1, (0 : Int32), q)] := h
    simp only [List.mem_cons, List.not_mem_nil, or_false] at h'
    rw [h']
    exact ⟨pk_in 1 10 (by omega), Or.inl rfl⟩
  | _ + 2, w, h => absurd (show w ∈ ([] : List (Int32 × Int32 × Int32 × Int32)) from h) List.not_mem_nil
/-- the block fits: it is executed, and faults -/
theorem fx_r2 {post : Int32 → St2 → Prop} {n r j b e k A : Nat} {K p q : Int32} (hP : fx_P K p q A b e k a1 a2 a5) (hb : b ≤ 6) (hj : j ≤ fx_T A) (hk : k ≤ 9 * j + fx_d j) (hr : fx_T A - j + 1 ≤ r) (hr2 : r ≤ 200)
    (H : ∀ (e' : Nat) (ws' : List (Int32 × Int32 × Int32 × Int32)) (dn' : Int32) (b5 b6 b7 b8 b9 b10 b11 b12 b13 : Nat → Int32), (2 ≤ A → ws' = []) → post 2 (3, 2, nI (fx_T A), 2, nI (j + (fx_T A - j)), nI (b + 1), nI e', dn', a1, a2, a3, fx_ex a4 (fx_lits p q j ++ ws'), b5, b6, b7, b8, b9, b10, b11, b12, b13)) :
    wX_run_23 post (n + 1 + 1) (nI r) 3 (nI (fx_d j)) (nI j) 0 (nI j) (nI b) (nI e) dn a1 a2 a3 a4 a5 a6 a7 a8 a9 a10 a11 a12 a13 := by
  have hT := fx_T3 A
  refine pk_le r 0 (fun z => absurd z (by omega)) (fun _ => br_t rfl (fx_ba hP hb hj hk (fun e' ws' dn' b5 b6 b7 b8 b9 b10 b11 b12 b13 hP' hs hn k3 h6 h7 h8 => ?_)))
  have h7' : b7 (nI b).toNatClampNeg = nI (fx_T A - j + 1) := by rw [nI_clamp (by omega)]; exact h7
  have h8' : b8 (nI b).toNatClampNeg = nI (fx_T A - j) := by rw [nI_clamp (by omega)]; exact h8
  have h6' : b6 (nI b).toNatClampNeg = nI e := by rw [nI_clamp (by omega)]; exact h6
  have he' : e' ≤ 8 * (b + 1) := hP'.2.2.1
  refine ⟨pk_in b 48 (by omega), br_f (by rw [h7']; exact nI_nlt hr (by omega)) ⟨pk_in b 48 (by omega), nm_r (e' := nI (r - (fx_T A - j + 1))) (by rw [h7', pk_sub hr]) ⟨pk_in b 48 (by omega), nm_r (e' := nI (j + (fx_T A - j))) (by rw [h8', nI_add]) ⟨pk_in b 48 (by omega), ?_⟩⟩⟩⟩
  refine fx_exec h6' (by omega) k3 (fun w hw => ?_) ?_
  · rcases List.mem_append.mp hw with z | z
    · exact fx_lits_safe p q j w z
    · exact hs w z
  · have h2 := H e' ws' dn' b5 b6 b7 b8 b9 b10 b11 b12 b13 hn
    exact pk_le (r - (fx_T A - j + 1)) 0 (fun _ => h2) (fun _ => br_f (by decide) h2)
theorem fx_run {post : Int32 → St2 → Prop} {r : Nat} (hr : r ≤ 200) (h : ∃ f, wX_run_23 post f (nI r) ln hh pc st ct bc ce dn a1 a2 a3 a4 a5 a6 a7 a8 a9 a10 a11 a12 a13) : wpX_run post (ln, hh, pc, st, ct, bc, ce, dn, a1, a2, a3, a4, a5, a6, a7, a8, a9, a10, a11, a12, a13) (nI r) := br_t (nI_pos' (by omega)) (br_t (nI_le (b := 200) hr (by decide)) h)
/-- the last run of the law, out of a state that runs -/
theorem fx_fin {K p q : Int32} {A b e k j : Nat} (hP : fx_P K p q A b e k a1 a2 a5) (hb : b ≤ 6) (hj : j ≤ fx_T A) (hk : k ≤ 9 * j + fx_d j) (Q : Int32 → St2 → Prop) (H : ∀ u, Q 2 u) : wpX_run Q (3, nI (fx_d j), nI j, 0, nI j, nI b, nI e, dn, a1, a2, a3, a4, a5, a6, a7, a8, a9, a10, a11, a12, a13) 200 :=
  have hT := fx_T3 A
  fx_run (r := 200) (by omega) ⟨0 + 1 + 1, fx_r2 hP hb hj hk (by omega) (by omega) (fun _ _ _ _ _ _ _ _ _ _ _ _ _ => H _)⟩
/-- out of a state that has faulted -/
theorem fx_fin2 (Q : Int32 → St2 → Prop) (H : ∀ u, Q 2 u) : wpX_run Q (ln, hh, pc, 2, ct, bc, ce, dn, a1, a2, a3, a4, a5, a6, a7, a8, a9, a10, a11, a12, a13) 200 :=
  fx_run (r := 200) (by omega) ⟨0 + 1, br_f (by decide) (br_f (by decide) (H _))⟩
end
end
section
/-! the law's questions, behind the first run -/
section
variable {ln hh pc st ct bc ce dn : Int32} {a1 a2 a3 a4 a5 a6 a7 a8 a9 a10 a11 a12 a13 : Nat → Int32}
variable {post : Int32 → St0 → Prop} {mc ms kc ks : Nat} {p q x12 x13 : Int32}
theorem fx_q0 (HR : ∀ Q : Int32 → St2 → Prop, (∀ u, Q 2 u) → wpX_run Q (ln, nI 0, nI 0, st, nI 0, bc, ce, dn, a1, a2, a3, a4, a5, a6, a7, a8, a9, a10, a11, a12, a13) 200) (H : post 1 ()) : wL_lawOf_205 post mc ms p q (nI 0) 0 0 x12 x13 0 0 kc ks ln (nI 0) (nI 0) st (nI 0) bc ce dn a1 a2 a3 a4 a5 a6 a7 a8 a9 a10 a11 a12 a13 := by
  refine br_t rfl (br_f (by decide) (br_t rfl (br_f (by decide) (br_f (by decide) (br_t rfl (br_t rfl ?_))))))
  refine br_f (by decide) (br_f (by decide) (br_f (by decide) (br_t rfl (br_t rfl (br_t rfl (br_t rfl (br_t rfl ?_)))))))
  exact HR _ (fun ⟨_, _, _, _, _, _, _, _, _, _, _, _, _, _, _, _, _, _, _, _, _⟩ => br_t rfl H)
theorem fx_q1 (f0 : a4 0 = p) (HR : ∀ Q : Int32 → St2 → Prop, (∀ u, Q 2 u) → wpX_run Q (ln, nI 1, nI 1, st, nI 1, bc, ce, dn, a1, a2, a3, a4, a5, a6, a7, a8, a9, a10, a11, a12, a13) 200) (H : post 1 ()) : wL_lawOf_205 post mc ms p q (nI 1) 0 0 x12 x13 0 0 kc ks ln (nI 1) (nI 1) st (nI 1) bc ce dn a1 a2 a3 a4 a5 a6 a7 a8 a9 a10 a11 a12 a13 := by
  refine br_t rfl (br_f (by decide) (br_t rfl (br_f (by decide) (br_t (by decide) ⟨pk_in 0 10 (by omega), br_f (by decide) (br_t rfl (br_t f0 ?_))⟩))))
  refine br_f (by decide) (br_f (by decide) (br_f (by decide) (br_t rfl (br_t rfl (br_t rfl (br_t rfl (br_t rfl ?_)))))))
  exact HR _ (fun ⟨_, _, _, _, _, _, _, _, _, _, _, _, _, _, _, _, _, _, _, _, _⟩ => br_t rfl H)
theorem fx_q2 (f0 : a4 0 = p) (f1 : a4 1 = q) (HR : ∀ Q : Int32 → St2 → Prop, (∀ u, Q 2 u) → wpX_run Q (ln, nI 2, nI 2, st, nI 2, bc, ce, dn, a1, a2, a3, a4, a5, a6, a7, a8, a9, a10, a11, a12, a13) 200) (H : post 1 ()) : wL_lawOf_205 post mc ms p q (nI 2) 0 0 x12 x13 0 0 kc ks ln (nI 2) (nI 2) st (nI 2) bc ce dn a1 a2 a3 a4 a5 a6 a7 a8 a9 a10 a11 a12 a13 := by
  refine br_t rfl (br_t (by decide) (br_t rfl (br_f (by decide) (br_t (by decide) ⟨pk_in 1 10 (by omega), br_f (by decide) (br_f (by decide) (br_t rfl (br_t f1 ?_)))⟩))))
  refine br_f (by decide) (br_t (by decide) ⟨pk_in 0 10 (by omega), br_t (by decide) (br_t rfl (br_t f0 (br_t rfl (br_t rfl (br_t rfl (br_t rfl ?_))))))⟩)
  exact HR _ (fun ⟨_, _, _, _, _, _, _, _, _, _, _, _, _, _, _, _, _, _, _, _, _⟩ => br_t rfl H)
theorem fx_q3 (f0 : a4 0 = x13) (f1 : a4 1 = x12) (HR : ∀ Q : Int32 → St2 → Prop, (∀ u, Q 2 u) → wpX_run Q (ln, nI 2, nI 3, st, nI 3, bc, ce, dn, a1, a2, a3, a4, a5, a6, a7, a8, a9, a10, a11, a12, a13) 200) (H : post 1 ()) : wL_lawOf_205 post mc ms p q (nI 3) 0 1 x12 x13 0 0 kc ks ln (nI 2) (nI 3) st (nI 3) bc ce dn a1 a2 a3 a4 a5 a6 a7 a8 a9 a10 a11 a12 a13 := by
  refine br_t rfl (br_t (by decide) (br_t rfl (br_f (by decide) (br_t (by decide) ⟨pk_in 1 10 (by omega), br_f (by decide) (br_f (by decide) (br_f (by decide) (br_t f1 ?_)))⟩))))
  refine br_f (by decide) (br_t (by decide) ⟨pk_in 0 10 (by omega), br_t (by decide) (br_f (by decide) (br_t f0 (br_t rfl (br_t rfl (br_t rfl (br_t rfl ?_))))))⟩)
  exact HR _ (fun ⟨_, _, _, _, _, _, _, _, _, _, _, _, _, _, _, _, _, _, _, _, _⟩ => br_t rfl H)
theorem fx_q4 (f0 : a4 0 = p) (f1 : a4 1 = q) (HR : ∀ Q : Int32 → St2 → Prop, (∀ u, Q 2 u) → wpX_run Q (ln, nI 2, nI 2, st, nI 2, bc, ce, dn, a1, a2, a3, a4, a5, a6, a7, a8, a9, a10, a11, a12, a13) 200) (H : post 1 ()) : wL_lawOf_205 post mc ms p q (nI 3) 1 0 x12 x13 2 2 kc ks ln (nI 2) (nI 2) st (nI 2) bc ce dn a1 a2 a3 a4 a5 a6 a7 a8 a9 a10 a11 a12 a13 := by
  refine br_t rfl (br_t (by decide) (br_t rfl (br_f (by decide) (br_t (by decide) ⟨pk_in 1 10 (by omega), br_f (by decide) (br_f (by decide) (br_t rfl (br_t f1 ?_)))⟩))))
  refine br_f (by decide) (br_t (by decide) ⟨pk_in 0 10 (by omega), br_t (by decide) (br_t rfl (br_t f0 (br_f (by decide) (br_t rfl (br_f (by decide) (br_t rfl ?_))))))⟩)
  exact HR _ (fun ⟨_, _, _, _, _, _, _, _, _, _, _, _, _, _, _, _, _, _, _, _, _⟩ => br_t rfl H)
/-- the law's run of m steps and its questions -/
theorem fx_186 {K : Int32} {A m : Nat} (hm : m ≤ 3) (hP : fx_P K p q A 0 0 0 a1 a2 a5) (H : post 1 ()) :
    wL_lawOf_186 post mc ms p q (nI m) (if m = 3 ∧ 2 ≤ A then 1 else 0) (if m = 3 ∧ A < 2 then 1 else 0) (fx_top K q (fx_oth A p q)) (fx_bel K A p q) kc ks 3 0 0 0 0 0 0 dn a1 a2 a3 a4 a5 a6 a7 a8 a9 a10 a11 a12 a13 := by
  have hT := fx_T3 A
  have q0 : a2 0 = p := hP.2.2.2.2.1.1
  have q1 : a2 1 = q := hP.2.2.2.2.1.2.1
  have hc : m = 0 ∨ m = 1 ∨ m = 2 ∨ (m = 3 ∧ A < 2) ∨ (m = 3 ∧ 2 ≤ A) := by omega
  rcases hc with rfl | rfl | rfl | ⟨rfl, hA2⟩ | ⟨rfl, hA2⟩
  · refine fx_run (r := 0) (by omega) ⟨0 + 1, br_t (by decide) (br_t (if_neg (by omega)) ?_)⟩
    rw [if_neg (by omega), if_neg (by omega)]
    exact fx_q0 (fx_fin (j := 0) (b := 0) (e := 0) hP (by omega) (by omega) (by omega)) H
  · refine fx_run (r := 1) (by omega) ⟨0 + 1 + 1, fx_r1 (j := 0) (r := 1) (b := 0) (e := 0) p hP (by omega) (by omega) q0 (by omega) (by omega) (by omega) (fun e1 d1 b5 b6 b7 b8 b9 b10 b11 b12 b13 hP1 => br_t (by decide) (br_t (if_neg (by omega)) ?_))⟩
    rw [if_neg (by omega), if_neg (by omega)]
    exact fx_q1 pk_us (fx_fin (j := 1) hP1 (by omega) (by omega) (by decide)) H
  · refine fx_run (r := 2) (by omega) ⟨0 + 1 + 1 + 1, fx_r1 (j := 0) (r := 2) (b := 0) (e := 0) p hP (by omega) (by omega) q0 (by omega) (by omega) (by omega) (fun e1 d1 b5 b6 b7 b8 b9 b10 b11 b12 b13 hP1 => ?_)⟩
    refine fx_r1 (j := 1) (r := 1) q hP1 (by omega) (by omega) q1 (by decide) (by omega) (by omega) (fun e2 d2 c5 c6 c7 c8 c9 c10 c11 c12 c13 hP2 => br_t (by decide) (br_t (if_neg (by omega)) ?_))
    rw [if_neg (by omega), if_neg (by omega)]
    exact fx_q2 (by rw [fx_u1, pk_us]) pk_us (fx_fin (j := 2) hP2 (by omega) (by omega) (by decide)) H
  · have hT3 : fx_T A = 3 := if_pos hA2
    refine fx_run (r := 3) (by omega) ⟨0 + 1 + 1 + 1 + 1, fx_r1 (j := 0) (r := 3) (b := 0) (e := 0) p hP (by omega) (by omega) q0 (by omega) (by omega) (by omega) (fun e1 d1 b5 b6 b7 b8 b9 b10 b11 b12 b13 hP1 => ?_)⟩
    refine fx_r1 (j := 1) (r := 2) q hP1 (by omega) (by omega) q1 (by decide) (by omega) (by omega) (fun e2 d2 c5 c6 c7 c8 c9 c10 c11 c12 c13 hP2 => ?_)
    refine fx_r1k hP2 (by omega) hA2 (by decide) (by rw [fx_u1, pk_us]) pk_us (fun e3 d3 g g5 g6 g7 g8 g9 g10 g11 g12 g13 hP3 g1 g0 => br_t (by decide) (br_t (if_neg (by omega)) ?_))
    rw [if_neg (by omega), if_pos ⟨rfl, hA2⟩]
    exact fx_q3 g0 g1 (fx_fin (j := 3) hP3 (by omega) (by omega) (by decide)) H
  · have hT2 : fx_T A = 2 := if_neg (by omega)
    refine fx_run (r := 3) (by omega) ⟨0 + 1 + 1, fx_r2 (j := 0) (b := 0) (e := 0) hP (by omega) (by omega) (by omega) (by omega) (by omega) (fun e1 ws' d1 b5 b6 b7 b8 b9 b10 b11 b12 b13 hn => br_f (by rw [if_pos ⟨rfl, hA2⟩]; decide) ?_)⟩
    rw [if_pos ⟨rfl, hA2⟩, if_neg (by omega), hn hA2, hT2]
    exact fx_q4 rfl rfl fx_fin2 H
end
end
section
/-! the law's head, and what is owed -/
section
variable {ln hh pc st ct bc ce dn : Int32} {a1 a2 a3 a4 a5 a6 a7 a8 a9 a10 a11 a12 a13 : Nat → Int32}
variable {post : Int32 → St0 → Prop} {mc ms kc ks : Nat} {p q x8 x9 x10 : Int32}
theorem fx_167 {K z : Int32} {A : Nat} (hA : A < 4) (H : wL_lawOf_186 post mc ms p q x8 x9 x10 z (fx_bel K A p q) kc ks ln hh pc st ct bc ce dn a1 a2 a3 a4 a5 a6 a7 a8 a9 a10 a11 a12 a13) : wL_lawOf_167 post mc ms p q K (nI A) x8 x9 x10 z kc ks ln hh pc st ct bc ce dn a1 a2 a3 a4 a5 a6 a7 a8 a9 a10 a11 a12 a13 := by
  unfold fx_bel at H
  refine br_c (fun h4 => pk_eq A 1 (fun h1 => ?_) (fun h1 => ?_)) (fun h4 => ?_)
  · rw [if_pos ⟨h4, h1⟩] at H
    exact H
  · rw [if_neg (fun z => h1 z.2)] at H
    exact H
  · rw [if_neg (fun z => h4 z.1)] at H
    exact H
theorem fx_123 {K z : Int32} {A : Nat} (hA : A < 4) (H : wL_lawOf_186 post mc ms p q x8 x9 x10 (fx_top K q z) (fx_bel K A p q) kc ks ln hh pc st ct bc ce dn a1 a2 a3 a4 a5 a6 a7 a8 a9 a10 a11 a12 a13) : wL_lawOf_123 post mc ms p q K (nI A) x8 x9 x10 z kc ks ln hh pc st ct bc ce dn a1 a2 a3 a4 a5 a6 a7 a8 a9 a10 a11 a12 a13 := by
  unfold fx_top at H
  refine br_c (fun h4 => fx_167 hA ?_) (fun h4 => br_c (fun h5 => fx_167 hA ?_) (fun h5 => br_c (fun h6 => fx_167 hA ?_) (fun h6 => fx_167 hA ?_)))
  · rw [if_pos h4] at H
    exact H
  · rw [if_neg h4, if_pos h5] at H
    exact H
  · rw [if_neg h4, if_neg h5, if_pos h6] at H
    exact H
  · rw [if_neg h4, if_neg h5, if_neg h6] at H
    exact H
theorem fx_111 {K : Int32} {A : Nat} (hA : A < 4) (H : wL_lawOf_186 post mc ms p q x8 x9 x10 (fx_top K q (fx_oth A p q)) (fx_bel K A p q) kc ks ln hh pc st ct bc ce dn a1 a2 a3 a4 a5 a6 a7 a8 a9 a10 a11 a12 a13) : wL_lawOf_111 post mc ms p q K (nI A) x8 x9 x10 kc ks ln hh pc st ct bc ce dn a1 a2 a3 a4 a5 a6 a7 a8 a9 a10 a11 a12 a13 := by
  unfold fx_oth at H
  refine pk_eq A 0 (fun h0 => fx_123 hA ?_) (fun h0 => fx_123 hA ?_)
  · rw [if_pos h0] at H
    exact H
  · rw [if_neg h0] at H
    exact H
theorem fx_73 {K : Int32} {A m : Nat} (hA : A < 4) (hm : m ≤ 3) (H : wL_lawOf_186 post mc ms p q (nI m) (if m = 3 ∧ 2 ≤ A then 1 else 0) (if m = 3 ∧ A < 2 then 1 else 0) (fx_top K q (fx_oth A p q)) (fx_bel K A p q) kc ks ln hh pc st ct bc ce dn a1 a2 a3 a4 a5 a6 a7 a8 a9 a10 a11 a12 a13) : wL_lawOf_73 post mc ms p q K (nI A) (nI m) kc ks ln hh pc st ct bc ce dn a1 a2 a3 a4 a5 a6 a7 a8 a9 a10 a11 a12 a13 := by
  refine pk_eq m 3 (fun h3 => pk_le A 1 (fun h1 => ?_) (fun h1 => ?_)) (fun h3 => ?_)
  · rw [if_neg (by omega), if_pos (by omega)] at H
    exact pk_eq m 3 (fun _ => pk_lt 1 A (fun z => absurd z (by omega)) (fun _ => fx_111 hA H)) (fun z => absurd h3 z)
  · rw [if_pos (by omega), if_neg (by omega)] at H
    exact pk_eq m 3 (fun _ => pk_lt 1 A (fun _ => fx_111 hA H) (fun z => absurd z (by omega))) (fun z => absurd h3 z)
  · rw [if_neg (by omega), if_neg (by omega)] at H
    exact pk_eq m 3 (fun z => absurd z h3) (fun _ => fx_111 hA H)
theorem fx_init {post : St2 → Prop} (H : ∀ b5 : Nat → Int32, (∀ i, i < 297 → b5 i = -1) → post (0, 0, 0, 0, 0, 0, 0, 0, (fun _ => 0), (fun _ => 0), (fun _ => 0), (fun _ => 0), b5, (fun _ => 0), (fun _ => 0), (fun _ => 0), (fun _ => 0), (fun _ => 0), (fun _ => 0), (fun _ => 0), (fun _ => 0))) : wpX_init post 13 3091 (0, 0, 0, 0, 0, 0, 0, 0) := by
  refine ⟨by omega, by omega, by omega, by omega, by omega, by omega, by omega, by omega, by omega, by omega, by omega, by omega, by omega, by omega, by omega, by omega, by omega, by omega, by omega, by omega, by omega, by omega, by omega, by omega, by omega, by omega, ?_⟩
  exact fx_fb H
theorem fx_lawOf {o a n : Int32} (H : post 1 ()) : wpL_lawOf post 14 3112 () o p q a n := by
  obtain ⟨i, hi, ei⟩ := pk_andE o (m := 3) 2 rfl
  obtain ⟨A, hA, eA⟩ := pk_andE a (m := 3) 2 rfl
  have hK : ∃ K : Int32, 4 + (o &&& 3) = K ∧ (K = 4 ∨ K = 5 ∨ K = 6 ∨ K = 7) := by
    refine ⟨_, rfl, ?_⟩
    rw [ei]
    have hc : i = 0 ∨ i = 1 ∨ i = 2 ∨ i = 3 := by omega
    rcases hc with rfl | rfl | rfl | rfl
    · exact Or.inl rfl
    · exact Or.inr (Or.inl rfl)
    · exact Or.inr (Or.inr (Or.inl rfl))
    · exact Or.inr (Or.inr (Or.inr rfl))
  obtain ⟨K, eK, hK⟩ := hK
  have hA4 : A < 4 := hA
  have hKb : K.toInt8.toInt32 = K := by rcases hK with z | z | z | z <;> rw [z] <;> rfl
  refine nm_r eK (nm_r eA ⟨by omega, by omega, 13, 3091, by omega, by omega, fx_init (fun b5 h5 => ?_)⟩)
  refine fx_emit (m := 0) (by omega) rfl (fun Q hQ => br_f (by decide) (br_t (by decide) (br_t rfl hQ))) (fun c5 k5 => ?_)
  refine fx_emit (m := 1) (by omega) rfl (fun Q hQ => br_f (by decide) (br_t (by decide) (br_t rfl hQ))) (fun d5 l5 => ?_)
  refine fx_emit (m := 2) (by omega) hKb (fun Q hQ => ?_) (fun g5 m5 => br_t rfl ?_)
  · have n0 : ¬ K < 0 := by rcases hK with z | z | z | z <;> rw [z] <;> decide
    have n13 : K ≤ 13 := by rcases hK with z | z | z | z <;> rw [z] <;> decide
    have e0 : ¬ K = 0 := by rcases hK with z | z | z | z <;> rw [z] <;> decide
    have e13 : ¬ K = 13 := by rcases hK with z | z | z | z <;> rw [z] <;> decide
    have l10 : K < 10 := by rcases hK with z | z | z | z <;> rw [z] <;> decide
    have l8 : K < 8 := by rcases hK with z | z | z | z <;> rw [z] <;> decide
    exact br_f n0 (br_t n13 (br_f e0 (br_f e13 (br_t l10 (br_t l8 (br_f (nI_pos (by omega)) (br_f (nI_nlt (a := 7) (b := A) (by omega) (by omega)) hQ)))))))
  · have hP : fx_P K p q A 0 0 0 (upd (upd (upd (fun _ => 0) 0 0) 1 0) 2 K) (upd (upd (upd (fun _ => 0) 0 p) 1 q) 2 (nI A)) g5 := ⟨hK, hA4, by omega, ⟨rfl, rfl, rfl⟩, ⟨rfl, rfl, rfl⟩, fun i _ h => m5 i h⟩
    refine br_c (fun h0 => br_c (fun h3 => ?_) (fun h3 => ?_)) (fun h0 => ?_)
    · obtain ⟨m, hm, em⟩ := nI_of2 (x := n) (M := 3) (n := 3) rfl (Int32.not_lt.mpr h0) h3
      rw [em]
      exact fx_73 hA4 hm (fx_186 hm hP H)
    · exact fx_73 (m := 3) hA4 (by omega) (fx_186 (by omega) hP H)
    · exact fx_73 (m := 0) hA4 (by omega) (fx_186 (by omega) hP H)
theorem fx_cell {Q : Int32 → Prop} {L i : Nat} {xs : Nat → Int32} {x : Int32} (hL : L ≤ 5) (hi : i < 5) (hx : x = nI i) (H : ∀ v, Q v) : wpL_cellAt Q L xs () x := by
  subst hx
  exact pk_le L i (fun _ => H _) (fun z => ⟨pk_in i L z, H _⟩)
end
theorem i_vc (xs : Nat → Int32) (L : Nat) (hL : L ≤ 5) : wpL_law (fun r => r = 1) L xs :=
  fx_cell (i := 0) hL (by omega) rfl (fun o => fx_cell (i := 1) hL (by omega) rfl (fun p => fx_cell (i := 2) hL (by omega) rfl (fun q => fx_cell (i := 3) hL (by omega) rfl (fun a => fx_cell (i := 4) hL (by omega) rfl (fun n => ⟨14, 3112, by omega, by omega, fx_lawOf rfl⟩)))))
end
