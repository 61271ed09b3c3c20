section
/-! PatchGraphs: each method at the states that the law brings it to. A store is nI i with i < 3; a line or patch is 0 or 1 -/
section
variable {c : Int32} {a1 a2 a3 a4 : Nat → Int32} {a5 a6 a7 a8 a9 : Nat → Int64} {a10 a11 a12 : Nat → Int32}
/-! ints and bits -/
theorem pg_cl {i : Nat} (hi : i < 3) : (nI i).toNatClampNeg = i := nI_clamp (by omega)
theorem pg_m0 (i : Nat) : 60 * nI i + 0 = nI (60 * i) := by
  have h : nI 60 * nI i + nI 0 = nI (60 * i) := by rw [pk_mul, nI_add]; rfl
  exact h
theorem pg_in {i : Nat} (hi : i < 3) : vp_in (60 * nI i + 0) 180 := pk_in (60 * i) 180 (by omega) (pg_m0 i)
theorem pg_at {i : Nat} (hi : i < 3) : (60 * nI i + 0).toNatClampNeg = 60 * i := pk_cl (60 * i) (pg_m0 i)
theorem pg_c0 : (0 : Int32).toNatClampNeg = 0 := by decide
theorem pg_c1 : (1 : Int32).toNatClampNeg = 1 := by decide
theorem pg_i0 : vp_in (0 : Int32) 60 := vp_in_iff.mpr (by decide)
theorem pg_i1 : vp_in (1 : Int32) 60 := vp_in_iff.mpr (by decide)
theorem pg_sh0 : (1 : Int64) <<< ((0 : Int32).toInt64 &&& 63) = 1 := by decide
theorem pg_sh1 : (1 : Int64) <<< ((1 : Int32).toInt64 &&& 63) = 2 := by decide
theorem pg_free (y : Int64) : (y &&& 1) &&& ((1 : Int64) ^^^ (-1)) = 0 := by
  rw [Int64.and_assoc, show (1 : Int64) &&& ((1 : Int64) ^^^ (-1)) = 0 by decide, Int64.and_zero]
theorem pg_bit0 {post : Int64 → Prop} {u : St2} (H : post 1) : wpX_bit post u 0 := by
  have h : post ((1 : Int64) <<< ((0 : Int32).toInt64 &&& 63)) := by rw [pg_sh0]; exact H
  exact h
theorem pg_bit1 {post : Int64 → Prop} {u : St2} (H : post 2) : wpX_bit post u 1 := by
  have h : post ((1 : Int64) <<< ((1 : Int32).toInt64 &&& 63)) := by rw [pg_sh1]; exact H
  exact h
theorem pg_ht {post : Int32 → Prop} {u : St2} {x : Int64} {q : Int32} (v : Int64) (hx : x = v) (hb : (((v.toUInt64 >>> (q.toInt64.toUInt64 &&& Int64.toUInt64 63)).toInt64) &&& 1) = 1) (H : post 1) : wpX_hasBit post u x q := by
  subst hx
  exact br_t hb H
theorem pg_hf {post : Int32 → Prop} {u : St2} {x : Int64} {q : Int32} (v : Int64) (hx : x = v) (hb : ¬ (((v.toUInt64 >>> (q.toInt64.toUInt64 &&& Int64.toUInt64 63)).toInt64) &&& 1) = 1) (H : post 0) : wpX_hasBit post u x q := by
  subst hx
  exact br_f hb H
/-! badStore, noPatch -/
theorem pg_sg {post : Int32 → Prop} {u : St2} {i : Nat} (hi : i < 3) (H : post 0) : wpX_badStore post u (nI i) :=
  br_f (nI_pos (by omega)) (br_t (nI_lt (b := 3) hi (by decide)) H)
theorem pg_ge {x : Int32} {n : Nat} (h : nI n ≤ x) : ¬ x < nI n := by
  intro z
  have h1 := Int32.le_iff_toInt_le.mp h
  have h2 := Int32.lt_iff_toInt_lt.mp z
  omega
theorem pg_sb {post : Int32 → Prop} {u : St2} {x : Int32} (h : x < 0 ∨ nI 3 ≤ x) (H : post 1) : wpX_badStore post u x :=
  br_c (fun _ => H) (fun z => br_f (pg_ge (n := 3) (h.resolve_left z)) H)
theorem pg_ng {post : Int32 → Prop} {p m : Nat} (h : p < m) (hm : m < 2 ^ 31) (H : post 0) : wpX_noPatch post (nI m, a1, a2, a3, a4, a5, a6, a7, a8, a9, a10, a11, a12) (nI p) :=
  br_f (nI_pos (by omega)) (br_t (nI_lt h hm) H)
theorem pg_nb {post : Int32 → Prop} {p : Int32} {m : Nat} (h : p < 0 ∨ nI m ≤ p) (H : post 1) : wpX_noPatch post (nI m, a1, a2, a3, a4, a5, a6, a7, a8, a9, a10, a11, a12) p :=
  br_c (fun _ => H) (fun z => br_f (pg_ge (n := m) (h.resolve_left z)) H)
theorem pg_any0 (p : Int32) : p < 0 ∨ nI 0 ≤ p := by
  rcases pk_ix p (n := 0) (by decide) with h | h | ⟨j, hj, _⟩
  · exact Or.inl h
  · exact Or.inr h
  · omega
/-! write -/
theorem pg_wr {post : St2 → Prop} {i : Nat} (hi : i < 3) (hz : ¬ a10 i = 0) (H : post (c, a1, a2, a3, a4, a5, a6, a7, a8, a9, a10, a11, a12)) : wpX_write post (c, a1, a2, a3, a4, a5, a6, a7, a8, a9, a10, a11, a12) (nI i) :=
  ⟨pk_in i 3 hi, br_f (by rw [pg_cl hi]; exact hz) H⟩
theorem pg_w149 {post : St2 → Prop} {i : Nat} {n : Int32} (hi : i < 3) (H : post (c, a1, a2, a3, a4, a5, a6, a7, a8, a9, upd a10 i 1, upd a11 i n, a12)) : wX_write_149 post (nI i) n c a1 a2 a3 a4 a5 a6 a7 a8 a9 a10 a11 a12 :=
  ⟨pk_in i 3 hi, nm_r (by rw [pg_cl hi]) ⟨pk_in i 3 hi, nm_r (by rw [pg_cl hi]) H⟩⟩
theorem pg_w0 {post : St2 → Prop} {i : Nat} (hi : i < 3) (hz : a10 i = 0) (H : post (0, a1, a2, a3, a4, a5, a6, a7, a8, a9, upd a10 i 1, upd a11 i 0, a12)) : wpX_write post (0, a1, a2, a3, a4, a5, a6, a7, a8, a9, a10, a11, a12) (nI i) :=
  ⟨pk_in i 3 hi, br_t (by rw [pg_cl hi]; exact hz) ⟨0 + 1, br_t (by decide) ⟨0 + 1, br_f (by decide) (br_t rfl (pg_w149 hi H))⟩⟩⟩
theorem pg_lines1 {post : Int64 → Prop} {i : Nat} (hi : i < 3) (h1 : ¬ a1 0 = 0) (h6 : a6 i = 1) (h7 : a7 i = 0) (H : post 1) : wpX_linesOf post (1, a1, a2, a3, a4, a5, a6, a7, a8, a9, a10, a11, a12) (nI i) := by
  refine ⟨0 + 1 + 1, br_f (by decide) ?_⟩
  refine br_f (by decide) ⟨pk_in i 3 hi, pg_ht 1 (by rw [pg_cl hi]; exact h6) (by decide) (br_f (by decide) ⟨pg_i0, br_f (by rw [pg_c0]; exact h1) ?_⟩)⟩
  refine br_f (by decide) ⟨pk_in i 3 hi, pg_hf 0 (by rw [pg_cl hi]; exact h7) (by decide) (br_t rfl (pg_bit0 (nm_r (e' := 1) (by decide) (nm_r (e' := 1) (by decide) ?_))))⟩
  exact br_t (by decide) H
theorem pg_w1 {post : St2 → Prop} {i : Nat} (hi : i < 3) (h1 : ¬ a1 0 = 0) (h6 : a6 i = 1) (h7 : a7 i = 0) (hz : a10 i = 0) (H : post (1, a1, a2, a3, a4, a5, a6, a7, a8, a9, upd a10 i 1, upd a11 i 1, upd a12 (60 * i) 0)) : wpX_write post (1, a1, a2, a3, a4, a5, a6, a7, a8, a9, a10, a11, a12) (nI i) := by
  refine ⟨pk_in i 3 hi, br_t (by rw [pg_cl hi]; exact hz) (pg_lines1 hi h1 h6 h7 ⟨0 + 1 + 1, br_f (by decide) (br_f (by decide) (nm_r (e' := 0) (by decide) ⟨0 + 1 + 1, ?_⟩))⟩)⟩
  refine br_f (by decide) (pg_ht 1 rfl (by decide) (br_f (by decide) ⟨pg_in hi, pg_in hi, pg_bit0 (br_t (pg_free _) (br_f (by decide) (nm_r (e' := -1) (by decide) ?_)))⟩))
  refine br_t (by decide) ⟨pg_in hi, nm_r (e' := upd a12 (60 * i) 0) (by rw [pg_at hi]) (nm_r (e' := 1) (by decide) (pg_bit0 (nm_r (e' := 0) (by decide) (nm_r (e' := 1) (by decide) ?_))))⟩
  exact br_f (by decide) (br_t rfl (pg_w149 hi H))
/-! lineAt -/
theorem pg_la0 {post : Int32 → Prop} {i : Nat} (hi : i < 3) (k : Int32) (h : a11 i = 0) (H : post (-1)) : wpX_lineAt post (c, a1, a2, a3, a4, a5, a6, a7, a8, a9, a10, a11, a12) (nI i) k :=
  br_c (fun _ => H) (fun z => ⟨pk_in i 3 hi, br_f (by rw [pg_cl hi, h]; exact z) H⟩)
theorem pg_la1 {post : Int32 → Prop} {i : Nat} (hi : i < 3) (h : a11 i = 1) (h2 : a12 (60 * i) = 0) (H : post 0) : wpX_lineAt post (c, a1, a2, a3, a4, a5, a6, a7, a8, a9, a10, a11, a12) (nI i) 0 :=
  br_f (by decide) ⟨pk_in i 3 hi, br_t (by rw [pg_cl hi, h]; decide) ⟨pg_in hi, by rw [pg_at hi, h2]; exact H⟩⟩
/-! add: the patch 0, which puts a line into an empty text; the patch 1, which strikes it -/
theorem pg_add0 {post : St2 → Prop} {i : Nat} (hi : i < 3) (h1 : ¬ a1 0 = 0) (h2 : a2 0 = -1) (h3 : a3 0 = -1) (H : post (c, a1, a2, a3, a4, a5, vp_updL a6 i (a6 i ||| 1), a7, vp_updL a8 (60 * i) 0, vp_updL a9 (60 * i) 0, upd a10 i 0, a11, a12)) : wpX_add post (c, a1, a2, a3, a4, a5, a6, a7, a8, a9, a10, a11, a12) (nI i) 0 := by
  refine ⟨pk_in i 3 hi, pg_bit0 ⟨pk_in i 3 hi, nm_r (by rw [pg_cl hi]) ⟨pk_in i 3 hi, nm_r (by rw [pg_cl hi]) ⟨pg_i0, br_f (by rw [pg_c0]; exact h1) ⟨pg_in hi, nm_r (by rw [pg_at hi]) ⟨pg_in hi, nm_r (by rw [pg_at hi]) ⟨pg_i0, br_t (by rw [pg_c0]; exact h2) ?_⟩⟩⟩⟩⟩⟩⟩
  exact ⟨pg_i0, br_t (by rw [pg_c0]; exact h3) H⟩
theorem pg_add1 {post : St2 → Prop} {i : Nat} (hi : i < 3) (h1 : a1 1 = 0) (h2 : a2 1 = 0) (H : post (c, a1, a2, a3, a4, a5, vp_updL a6 i (a6 i ||| 2), vp_updL a7 i (a7 i ||| 1), a8, a9, upd a10 i 0, a11, a12)) : wpX_add post (c, a1, a2, a3, a4, a5, a6, a7, a8, a9, a10, a11, a12) (nI i) 1 := by
  refine ⟨pk_in i 3 hi, pg_bit1 ⟨pk_in i 3 hi, nm_r (by rw [pg_cl hi]) ⟨pk_in i 3 hi, nm_r (by rw [pg_cl hi]) ⟨pg_i1, br_t (by rw [pg_c1]; exact h1) ⟨pk_in i 3 hi, pg_i1, ?_⟩⟩⟩⟩⟩
  rw [pg_c1, h2]
  exact pg_bit0 ⟨pk_in i 3 hi, nm_r (by rw [pg_cl hi]) H⟩
/-! make -/
theorem pg_make0 {post : Int32 → St2 → Prop} {i : Nat} {x : Int32} (hi : i < 3) (H : post 0 (1, upd a1 0 1, upd a2 0 (-1), upd a3 0 (-1), upd a4 0 x, vp_updL a5 0 0, vp_updL a6 i (a6 i ||| 1), a7, vp_updL a8 (60 * i) 0, vp_updL a9 (60 * i) 0, upd a10 i 0, a11, a12)) : wpX_make post (0, a1, a2, a3, a4, a5, a6, a7, a8, a9, a10, a11, a12) (nI i) 1 (-1) (-1) x := by
  refine ⟨pg_i0, nm_r (e' := upd a1 0 1) rfl ⟨pg_i0, nm_r (e' := upd a2 0 (-1)) rfl ⟨pg_i0, nm_r (e' := upd a3 0 (-1)) rfl ⟨pg_i0, nm_r (e' := upd a4 0 x) rfl ?_⟩⟩⟩⟩
  refine br_t rfl (br_t rfl ⟨pg_i0, nm_r (e' := vp_updL a5 0 0) rfl (nm_r (e' := 1) (by decide) ?_)⟩)
  exact pg_add0 hi (by rw [pk_us]; decide) pk_us pk_us H
theorem pg_make1 {post : Int32 → St2 → Prop} {i : Nat} (hi : i < 3) (h5 : a5 0 = 0) (H : post 1 (2, upd a1 1 0, upd a2 1 0, upd a3 1 (-1), upd a4 1 0, vp_updL a5 1 1, vp_updL a6 i (a6 i ||| 2), vp_updL a7 i (a7 i ||| 1), a8, a9, upd a10 i 0, a11, a12)) : wpX_make post (1, a1, a2, a3, a4, a5, a6, a7, a8, a9, a10, a11, a12) (nI i) 0 0 (-1) 0 := by
  refine ⟨pg_i1, nm_r (e' := upd a1 1 0) rfl ⟨pg_i1, nm_r (e' := upd a2 1 0) rfl ⟨pg_i1, nm_r (e' := upd a3 1 (-1)) rfl ⟨pg_i1, nm_r (e' := upd a4 1 0) rfl ?_⟩⟩⟩⟩
  refine br_f (by decide) ⟨pg_i0, pg_bit0 (br_t rfl ⟨pg_i1, nm_r (e' := vp_updL a5 1 1) (by rw [pg_c0, pg_c1, h5]; rfl) (nm_r (e' := 2) (by decide) ?_)⟩)⟩
  exact pg_add1 hi pk_us pk_us H
end
end
section
/-! PatchGraphs: the calls that the law makes. 'Nothing made': count 0 and every textLength 0 -/
section
variable {c : Int32} {a1 a2 a3 a4 : Nat → Int32} {a5 a6 a7 a8 a9 : Nat → Int64} {a10 a11 a12 : Nat → Int32}
theorem pg_z {f : Nat → Int32} {i : Nat} (h : ∀ j, f j = 0) : ∀ j, upd f i 0 j = 0 := by
  intro j
  by_cases e : j = i
  · rw [e, pk_us]
  · rw [pk_un e]; exact h j
/-- write where nothing is made -/
theorem pg_wz {post : St2 → Prop} {i : Nat} (hi : i < 3) (h : ∀ j, a11 j = 0) (H : ∀ b10 b11, (∀ j, b11 j = 0) → post (0, a1, a2, a3, a4, a5, a6, a7, a8, a9, b10, b11, a12)) : wpX_write post (0, a1, a2, a3, a4, a5, a6, a7, a8, a9, a10, a11, a12) (nI i) := by
  by_cases hz : a10 i = 0
  · exact pg_w0 hi hz (H _ _ (pg_z h))
  · exact pg_wr hi hz (H _ _ h)
/-! put -/
theorem pg_put_b {post : Int32 → St2 → Prop} {s k x : Int32} (h : s < 0 ∨ nI 3 ≤ s) (H : post (-1000000001) (c, a1, a2, a3, a4, a5, a6, a7, a8, a9, a10, a11, a12)) : wpX_put post (c, a1, a2, a3, a4, a5, a6, a7, a8, a9, a10, a11, a12) s k x := by
  unfold wpX_put
  exact pg_sb h (br_f (by decide) H)
theorem pg_lt0 {k : Int32} (h1 : ¬ k < 0) (h2 : ¬ k = 0) : ¬ k ≤ 0 := by
  intro z
  apply h2
  apply Int32.toInt_inj.mp
  have g1 := Int32.le_iff_toInt_le.mp z
  have g2 : ¬ k.toInt < (0 : Int32).toInt := fun g => h1 (Int32.lt_iff_toInt_lt.mpr g)
  omega
theorem pg_put_k {post : Int32 → St2 → Prop} {i : Nat} {k x : Int32} (hi : i < 3) (hk : ¬ k = 0) (h : ∀ j, a11 j = 0) (H : ∀ b10 b11, (∀ j, b11 j = 0) → post (-1000000001) (0, a1, a2, a3, a4, a5, a6, a7, a8, a9, b10, b11, a12)) : wpX_put post (0, a1, a2, a3, a4, a5, a6, a7, a8, a9, a10, a11, a12) (nI i) k x := by
  unfold wpX_put
  exact pg_sg hi (br_t rfl (pg_wz hi h (fun b10 b11 hb => br_c (fun _ => H b10 b11 hb) (fun z => ⟨pk_in i 3 hi, br_f (by rw [hb]; exact pg_lt0 z hk) (H b10 b11 hb)⟩))))
theorem pg_put_1 {post : Int32 → St2 → Prop} {i : Nat} {x : Int32} (hi : i < 3) (h : ∀ j, a11 j = 0) (H : ∀ b10 b11, post 0 (1, upd a1 0 1, upd a2 0 (-1), upd a3 0 (-1), upd a4 0 x, vp_updL a5 0 0, vp_updL a6 i (a6 i ||| 1), a7, vp_updL a8 (60 * i) 0, vp_updL a9 (60 * i) 0, upd b10 i 0, b11, a12)) : wpX_put post (0, a1, a2, a3, a4, a5, a6, a7, a8, a9, a10, a11, a12) (nI i) 0 x := by
  unfold wpX_put
  exact pg_sg hi (br_t rfl (pg_wz hi h (fun b10 b11 hb => br_f (by decide) ⟨pk_in i 3 hi, br_t (by rw [hb]; decide) (br_f (by decide) (pg_la0 hi _ (hb i) (pg_la0 hi _ (hb i) (pg_make0 hi (H b10 b11)))))⟩)))
/-! pull -/
theorem pg_pull_b {post : Int32 → St2 → Prop} {s t : Int32} (h : s < 0 ∨ nI 3 ≤ s) (H : post (-1000000001) (c, a1, a2, a3, a4, a5, a6, a7, a8, a9, a10, a11, a12)) : wpX_pull post (c, a1, a2, a3, a4, a5, a6, a7, a8, a9, a10, a11, a12) s t := by
  unfold wpX_pull
  exact pg_sb h (br_f (by decide) H)
theorem pg_pull_t {post : Int32 → St2 → Prop} {i : Nat} {t : Int32} (hi : i < 3) (h : t < 0 ∨ nI 3 ≤ t) (H : post (-1000000001) (c, a1, a2, a3, a4, a5, a6, a7, a8, a9, a10, a11, a12)) : wpX_pull post (c, a1, a2, a3, a4, a5, a6, a7, a8, a9, a10, a11, a12) (nI i) t := by
  unfold wpX_pull
  exact pg_sg hi (br_t rfl (pg_sb h (br_f (by decide) H)))
theorem pg_pull_e {post : Int32 → St2 → Prop} {i : Nat} (hi : i < 3) (H : post (-1000000001) (c, a1, a2, a3, a4, a5, a6, a7, a8, a9, a10, a11, a12)) : wpX_pull post (c, a1, a2, a3, a4, a5, a6, a7, a8, a9, a10, a11, a12) (nI i) (nI i) := by
  unfold wpX_pull
  exact pg_sg hi (br_t rfl (pg_sg hi (br_t rfl (br_t rfl H))))
theorem pg_ne {i j : Nat} (hi : i < 3) (hj : j < 3) (e : ¬ i = j) : ¬ nI i = nI j := fun z => e ((nI_eq (by omega) (by omega)).mp z)
theorem pg_pull_0 {post : Int32 → St2 → Prop} {i j : Nat} (hi : i < 3) (hj : j < 3) (e : ¬ i = j) (H : post 0 (0, a1, a2, a3, a4, a5, a6, a7, a8, a9, a10, a11, a12)) : wpX_pull post (0, a1, a2, a3, a4, a5, a6, a7, a8, a9, a10, a11, a12) (nI i) (nI j) := by
  unfold wpX_pull
  exact pg_sg hi (br_t rfl (pg_sg hj (br_t rfl (br_f (pg_ne hi hj e) ⟨pk_in i 3 hi, ⟨0 + 1, br_t (by decide) H⟩⟩))))
/-- addAll of the set of patch 0 alone, into a store without it, where n patches are made (1 or 2) -/
theorem pg_all1 {post : Int32 → St2 → Prop} {j : Nat} {v : Int64} (hj : j < 3) (hv : v = 1) (h1 : ¬ a1 0 = 0) (h2 : a2 0 = -1) (h3 : a3 0 = -1) (h6 : a6 j = 0) (H : post 1 (1, a1, a2, a3, a4, a5, vp_updL a6 j (a6 j ||| 1), a7, vp_updL a8 (60 * j) 0, vp_updL a9 (60 * j) 0, upd a10 j 0, a11, a12)) : wpX_addAll post (1, a1, a2, a3, a4, a5, a6, a7, a8, a9, a10, a11, a12) (nI j) v := by
  refine ⟨0 + 1 + 1, br_f (by decide) (pg_ht 1 hv (by decide) (br_f (by decide) ⟨pk_in j 3 hj, pg_hf 0 (by rw [pg_cl hj]; exact h6) (by decide) (br_t rfl (pg_add0 hj h1 h2 h3 (nm_r (e' := 1) (by decide) (nm_r (e' := 1) (by decide) ?_))))⟩))⟩
  exact br_t (by decide) H
theorem pg_all2 {post : Int32 → St2 → Prop} {j : Nat} {v : Int64} (hj : j < 3) (hv : v = 1) (h1 : ¬ a1 0 = 0) (h2 : a2 0 = -1) (h3 : a3 0 = -1) (h6 : a6 j = 0) (H : post 1 (2, a1, a2, a3, a4, a5, vp_updL a6 j (a6 j ||| 1), a7, vp_updL a8 (60 * j) 0, vp_updL a9 (60 * j) 0, upd a10 j 0, a11, a12)) : wpX_addAll post (2, a1, a2, a3, a4, a5, a6, a7, a8, a9, a10, a11, a12) (nI j) v := by
  refine ⟨0 + 1 + 1 + 1, br_f (by decide) (pg_ht 1 hv (by decide) (br_f (by decide) ⟨pk_in j 3 hj, pg_hf 0 (by rw [pg_cl hj]; exact h6) (by decide) (br_t rfl (pg_add0 hj h1 h2 h3 (nm_r (e' := 1) (by decide) (nm_r (e' := 1) (by decide) ?_))))⟩))⟩
  refine br_f (by decide) (pg_hf 1 hv (by decide) (br_t rfl (nm_r (e' := 2) (by decide) ?_)))
  exact br_t (by decide) H
theorem pg_pull_1 {post : Int32 → St2 → Prop} {i j : Nat} (hi : i < 3) (hj : j < 3) (e : ¬ i = j) (h1 : ¬ a1 0 = 0) (h2 : a2 0 = -1) (h3 : a3 0 = -1) (hs : a6 i = 1) (ht : a6 j = 0) (H : post 1 (1, a1, a2, a3, a4, a5, vp_updL a6 j (a6 j ||| 1), a7, vp_updL a8 (60 * j) 0, vp_updL a9 (60 * j) 0, upd a10 j 0, a11, a12)) : wpX_pull post (1, a1, a2, a3, a4, a5, a6, a7, a8, a9, a10, a11, a12) (nI i) (nI j) := by
  unfold wpX_pull
  exact pg_sg hi (br_t rfl (pg_sg hj (br_t rfl (br_f (pg_ne hi hj e) ⟨pk_in i 3 hi, pg_all1 hj (by rw [pg_cl hi]; exact hs) h1 h2 h3 ht H⟩))))
/-! content -/
theorem pg_con_b {post : Int32 → St2 → Prop} {t k : Int32} (h : t < 0 ∨ nI 3 ≤ t) (H : post (-1000000001) (c, a1, a2, a3, a4, a5, a6, a7, a8, a9, a10, a11, a12)) : wpX_content post (c, a1, a2, a3, a4, a5, a6, a7, a8, a9, a10, a11, a12) t k := by
  unfold wpX_content
  exact pg_sb h (br_f (by decide) H)
theorem pg_con_0 {post : Int32 → St2 → Prop} {j : Nat} {k : Int32} (hj : j < 3) (h : ∀ j, a11 j = 0) (H : ∀ b10 b11, (∀ j, b11 j = 0) → post (-1000000003) (0, a1, a2, a3, a4, a5, a6, a7, a8, a9, b10, b11, a12)) : wpX_content post (0, a1, a2, a3, a4, a5, a6, a7, a8, a9, a10, a11, a12) (nI j) k := by
  unfold wpX_content
  exact pg_sg hj (br_t rfl (pg_wz hj h (fun b10 b11 hb => pg_la0 hj k (hb j) (br_t rfl (H b10 b11 hb)))))
theorem pg_con_1 {post : Int32 → St2 → Prop} {j : Nat} (hj : j < 3) (h1 : ¬ a1 0 = 0) (h6 : a6 j = 1) (h7 : a7 j = 0) (hz : a10 j = 0) (H : post (a4 0) (1, a1, a2, a3, a4, a5, a6, a7, a8, a9, upd a10 j 1, upd a11 j 1, upd a12 (60 * j) 0)) : wpX_content post (1, a1, a2, a3, a4, a5, a6, a7, a8, a9, a10, a11, a12) (nI j) 0 := by
  unfold wpX_content
  exact pg_sg hj (br_t rfl (pg_w1 hj h1 h6 h7 hz (pg_la1 hj pk_us pk_us (br_f (by decide) ⟨pg_i0, by rw [pg_c0]; exact H⟩))))
/-! strike -/
theorem pg_str_b {post : Int32 → St2 → Prop} {t k : Int32} (h : t < 0 ∨ nI 3 ≤ t) (H : post (-1000000001) (c, a1, a2, a3, a4, a5, a6, a7, a8, a9, a10, a11, a12)) : wpX_strike post (c, a1, a2, a3, a4, a5, a6, a7, a8, a9, a10, a11, a12) t k := by
  unfold wpX_strike
  exact pg_sb h (br_f (by decide) H)
theorem pg_str_0 {post : Int32 → St2 → Prop} {j : Nat} {k : Int32} (hj : j < 3) (h : ∀ j, a11 j = 0) (H : ∀ b10 b11, (∀ j, b11 j = 0) → post (-1000000003) (0, a1, a2, a3, a4, a5, a6, a7, a8, a9, b10, b11, a12)) : wpX_strike post (0, a1, a2, a3, a4, a5, a6, a7, a8, a9, a10, a11, a12) (nI j) k := by
  unfold wpX_strike
  exact pg_sg hj (br_t rfl (pg_wz hj h (fun b10 b11 hb => pg_la0 hj k (hb j) (br_t rfl (H b10 b11 hb)))))
theorem pg_str_1 {post : Int32 → St2 → Prop} {j : Nat} (hj : j < 3) (h5 : a5 0 = 0) (hz : ¬ a10 j = 0) (hl : a11 j = 1) (hx : a12 (60 * j) = 0) (H : post 1 (2, upd a1 1 0, upd a2 1 0, upd a3 1 (-1), upd a4 1 0, vp_updL a5 1 1, vp_updL a6 j (a6 j ||| 2), vp_updL a7 j (a7 j ||| 1), a8, a9, upd a10 j 0, a11, a12)) : wpX_strike post (1, a1, a2, a3, a4, a5, a6, a7, a8, a9, a10, a11, a12) (nI j) 0 := by
  unfold wpX_strike
  exact pg_sg hj (br_t rfl (pg_wr hj hz (pg_la1 hj hl hx (br_f (by decide) (br_f (by decide) (pg_make1 hj h5 H))))))
/-! bitsOf, needed -/
theorem pg_bo0 {post : Int32 → Prop} {v : Int64} (hv : v = 0) (H : post 0) : wpX_bitsOf post (c, a1, a2, a3, a4, a5, a6, a7, a8, a9, a10, a11, a12) v := by
  subst hv
  exact ⟨0 + 1, br_f (by decide) (br_t rfl H)⟩
theorem pg_bo1 {post : Int32 → Prop} {v : Int64} (hv : v = 1) (H : post 1) : wpX_bitsOf post (c, a1, a2, a3, a4, a5, a6, a7, a8, a9, a10, a11, a12) v := by
  subst hv
  refine ⟨0 + 1 + 1, br_f (by decide) (br_f (by decide) (nm_r (e' := 0) (by decide) (nm_r (e' := 1) (by decide) (nm_r (e' := 1) (by decide) ?_))))⟩
  exact br_f (by decide) (br_t rfl H)
theorem pg_need_n {post : Int32 → Prop} {m : Nat} {p : Int32} (h : p < 0 ∨ nI m ≤ p) (H : post (-1000000003)) : wpX_needed post (nI m, a1, a2, a3, a4, a5, a6, a7, a8, a9, a10, a11, a12) p := by
  unfold wpX_needed
  exact pg_nb h (br_f (by decide) H)
theorem pg_need_0 {post : Int32 → Prop} {m : Nat} (hm : 0 < m) (hm2 : m < 2 ^ 31) (h5 : a5 0 = 0) (H : post 0) : wpX_needed post (nI m, a1, a2, a3, a4, a5, a6, a7, a8, a9, a10, a11, a12) 0 := by
  unfold wpX_needed
  exact pg_ng (p := 0) hm hm2 (br_t rfl ⟨pg_i0, pg_bo0 (by rw [pg_c0]; exact h5) H⟩)
theorem pg_need_1 {post : Int32 → Prop} (h5 : a5 1 = 1) (H : post 1) : wpX_needed post (2, a1, a2, a3, a4, a5, a6, a7, a8, a9, a10, a11, a12) 1 := by
  unfold wpX_needed
  exact pg_ng (p := 1) (m := 2) (by decide) (by decide) (br_t rfl ⟨pg_i1, pg_bo1 (by rw [pg_c1]; exact h5) H⟩)
/-! drop -/
theorem pg_dr_b {post : Int32 → St2 → Prop} {t p : Int32} (h : t < 0 ∨ nI 3 ≤ t) (H : post (-1000000001) (c, a1, a2, a3, a4, a5, a6, a7, a8, a9, a10, a11, a12)) : wpX_drop post (c, a1, a2, a3, a4, a5, a6, a7, a8, a9, a10, a11, a12) t p := by
  unfold wpX_drop
  exact pg_sb h (br_f (by decide) H)
theorem pg_dr_n {post : Int32 → St2 → Prop} {j m : Nat} {p : Int32} (hj : j < 3) (h : p < 0 ∨ nI m ≤ p) (H : post (-1000000003) (nI m, a1, a2, a3, a4, a5, a6, a7, a8, a9, a10, a11, a12)) : wpX_drop post (nI m, a1, a2, a3, a4, a5, a6, a7, a8, a9, a10, a11, a12) (nI j) p := by
  unfold wpX_drop
  exact pg_sg hj (br_t rfl (pg_nb h (br_f (by decide) H)))
theorem pg_ni2 {post : Int64 → Prop} {j : Nat} (hj : j < 3) (h50 : a5 0 = 0) (h51 : a5 1 = 1) (h6 : a6 j = 3) (H : post 1) : wpX_neededIn post (2, a1, a2, a3, a4, a5, a6, a7, a8, a9, a10, a11, a12) (nI j) := by
  refine ⟨0 + 1 + 1 + 1, br_f (by decide) ⟨pk_in j 3 hj, pg_ht 3 (by rw [pg_cl hj]; exact h6) (by decide) (br_f (by decide) ⟨pg_i0, nm_r (e' := 0) (by rw [pg_c0, h50]; rfl) (nm_r (e' := 1) (by decide) ?_)⟩)⟩⟩
  refine br_f (by decide) ⟨pk_in j 3 hj, pg_ht 3 (by rw [pg_cl hj]; exact h6) (by decide) (br_f (by decide) ⟨pg_i1, nm_r (e' := 1) (by rw [pg_c1, h51]; rfl) (nm_r (e' := 2) (by decide) ?_)⟩)⟩
  exact br_t (by decide) H
theorem pg_dr_0 {post : Int32 → St2 → Prop} {j : Nat} (hj : j < 3) (h50 : a5 0 = 0) (h51 : a5 1 = 1) (h6 : a6 j = 3) (H : post (-1000000004) (2, a1, a2, a3, a4, a5, a6, a7, a8, a9, a10, a11, a12)) : wpX_drop post (2, a1, a2, a3, a4, a5, a6, a7, a8, a9, a10, a11, a12) (nI j) 0 := by
  unfold wpX_drop
  exact pg_sg hj (br_t rfl (pg_ng (p := 0) (m := 2) (by decide) (by decide) (br_t rfl ⟨pk_in j 3 hj, pg_ht 3 (by rw [pg_cl hj]; exact h6) (by decide) (br_f (by decide) (pg_ni2 hj h50 h51 h6 (pg_ht 1 rfl (by decide) (br_f (by decide) H))))⟩)))
theorem pg_reb {post : St2 → Prop} {j : Nat} {v : Int64} (hj : j < 3) (hv : v = 1) (h1 : ¬ a1 0 = 0) (h2 : a2 0 = -1) (h3 : a3 0 = -1) (H : ∀ b6 b7 b8 b9 b10, b6 j = 1 → post (2, a1, a2, a3, a4, a5, b6, b7, b8, b9, b10, a11, a12)) : wpX_rebuild post (2, a1, a2, a3, a4, a5, a6, a7, a8, a9, a10, a11, a12) (nI j) v :=
  ⟨pk_in j 3 hj, nm_r (by rw [pg_cl hj]) ⟨pk_in j 3 hj, nm_r (by rw [pg_cl hj]) ⟨pk_in j 3 hj, nm_r (by rw [pg_cl hj]) (pg_all2 hj hv h1 h2 h3 pk_uLs (H _ _ _ _ _ (by rw [pk_uLs, pk_uLs]; decide)))⟩⟩⟩
theorem pg_dr_1 {post : Int32 → St2 → Prop} {j : Nat} (hj : j < 3) (h1 : ¬ a1 0 = 0) (h2 : a2 0 = -1) (h3 : a3 0 = -1) (h50 : a5 0 = 0) (h51 : a5 1 = 1) (h6 : a6 j = 3) (H : ∀ b6 b7 b8 b9 b10, post 1 (2, a1, a2, a3, a4, a5, b6, b7, b8, b9, b10, a11, a12)) : wpX_drop post (2, a1, a2, a3, a4, a5, a6, a7, a8, a9, a10, a11, a12) (nI j) 1 := by
  unfold wpX_drop
  refine pg_sg hj (br_t rfl (pg_ng (p := 1) (m := 2) (by decide) (by decide) (br_t rfl ⟨pk_in j 3 hj, pg_ht 3 (by rw [pg_cl hj]; exact h6) (by decide) (br_f (by decide) (pg_ni2 hj h50 h51 h6 (pg_hf 1 rfl (by decide) (br_t rfl ⟨pk_in j 3 hj, pg_bit1 ?_⟩))))⟩)))
  exact pg_reb hj (by rw [pg_cl hj, h6]; decide) h1 h2 h3 (fun b6 b7 b8 b9 b10 hb => ⟨pk_in j 3 hj, pg_bo1 (by rw [pg_cl hj]; exact hb) (H b6 b7 b8 b9 b10)⟩)
end
end
section
/-! The law's answer: what the six calls must have answered. x13: store, x14: other, x15: one, x16: there, x17: apart, x18: made (each 0 or not 0) -/
section
variable {post : Int32 → St0 → Prop} {mc ms : Nat} {s k x t p put pul con str nee dro bad x13 x14 x15 x16 x17 x18 z0 z1 : Int32} {kc ks : Nat}
theorem pg_337 (P : post 1 ()) (h : z1 = z0) : wL_lawOf_337 post mc ms z0 z1 kc ks := br_t h P
theorem pg_297 (P : post 1 ()) (h : z1 = z0) (g : dro = if x14 = 0 then bad else if x18 = 0 then bad - 2 else if p = 0 then bad - 3 else 1) : wL_lawOf_297 post mc ms p dro bad x14 x18 z0 z1 kc ks :=
  br_t h (br_c (fun e => pg_337 P (by rw [g, if_pos e])) (fun e => br_c (fun e2 => pg_337 P (by rw [g, if_neg e, if_pos e2])) (fun e2 => br_c (fun e3 => pg_337 P (by rw [g, if_neg e, if_neg e2, if_pos e3])) (fun e3 => pg_337 P (by rw [g, if_neg e, if_neg e2, if_neg e3])))))
theorem pg_278 (P : post 1 ()) (h : z1 = z0) (gn : nee = if x18 = 0 then bad - 2 else p) (gd : dro = if x14 = 0 then bad else if x18 = 0 then bad - 2 else if p = 0 then bad - 3 else 1) : wL_lawOf_278 post mc ms p nee dro bad x14 x18 z0 z1 kc ks :=
  br_t h (br_c (fun e => pg_297 P (by rw [gn, if_pos e]) gd) (fun e => pg_297 P (by rw [gn, if_neg e]) gd))
theorem pg_250 (P : post 1 ()) (h : z1 = z0) (gs : str = if x14 = 0 then bad else if x16 = 0 then bad - 2 else 1) (gn : nee = if x18 = 0 then bad - 2 else p) (gd : dro = if x14 = 0 then bad else if x18 = 0 then bad - 2 else if p = 0 then bad - 3 else 1) : wL_lawOf_250 post mc ms p str nee dro bad x14 x16 x18 z0 z1 kc ks :=
  br_t h (br_c (fun e => pg_278 P (by rw [gs, if_pos e]) gn gd) (fun e => br_c (fun e2 => pg_278 P (by rw [gs, if_neg e, if_pos e2]) gn gd) (fun e2 => pg_278 P (by rw [gs, if_neg e, if_neg e2]) gn gd)))
theorem pg_222 (P : post 1 ()) (h : z1 = z0) (gc : con = if x14 = 0 then bad else if x16 = 0 then bad - 2 else x) (gs : str = if x14 = 0 then bad else if x16 = 0 then bad - 2 else 1) (gn : nee = if x18 = 0 then bad - 2 else p) (gd : dro = if x14 = 0 then bad else if x18 = 0 then bad - 2 else if p = 0 then bad - 3 else 1) : wL_lawOf_222 post mc ms x p con str nee dro bad x14 x16 x18 z0 z1 kc ks :=
  br_t h (br_c (fun e => pg_250 P (by rw [gc, if_pos e]) gs gn gd) (fun e => br_c (fun e2 => pg_250 P (by rw [gc, if_neg e, if_pos e2]) gs gn gd) (fun e2 => pg_250 P (by rw [gc, if_neg e, if_neg e2]) gs gn gd)))
theorem pg_197 (P : post 1 ()) (h : z1 = z0) (gl : pul = if x17 = 0 then bad else if x15 = 0 then 0 else 1) (gc : con = if x14 = 0 then bad else if x16 = 0 then bad - 2 else x) (gs : str = if x14 = 0 then bad else if x16 = 0 then bad - 2 else 1) (gn : nee = if x18 = 0 then bad - 2 else p) (gd : dro = if x14 = 0 then bad else if x18 = 0 then bad - 2 else if p = 0 then bad - 3 else 1) : wL_lawOf_197 post mc ms x p pul con str nee dro bad x14 x15 x16 x17 x18 z0 z1 kc ks :=
  br_t h (br_c (fun e => pg_222 P (by rw [gl, if_pos e]) gc gs gn gd) (fun e => br_c (fun e2 => pg_222 P (by rw [gl, if_neg e, if_pos e2]) gc gs gn gd) (fun e2 => pg_222 P (by rw [gl, if_neg e, if_neg e2]) gc gs gn gd)))
theorem pg_182 (P : post 1 ()) (gp : put = if x15 = 0 then bad else 0) (gl : pul = if x17 = 0 then bad else if x15 = 0 then 0 else 1) (gc : con = if x14 = 0 then bad else if x16 = 0 then bad - 2 else x) (gs : str = if x14 = 0 then bad else if x16 = 0 then bad - 2 else 1) (gn : nee = if x18 = 0 then bad - 2 else p) (gd : dro = if x14 = 0 then bad else if x18 = 0 then bad - 2 else if p = 0 then bad - 3 else 1) : wL_lawOf_182 post mc ms x p put pul con str nee dro bad x14 x15 x16 x17 x18 kc ks :=
  br_c (fun e => pg_197 P (by rw [gp, if_pos e]) gl gc gs gn gd) (fun e => pg_197 P (by rw [gp, if_neg e]) gl gc gs gn gd)
/-! the flags, from the last to the first -/
theorem pg_166 (h0 : ¬ (p = 0 ∧ ¬ x15 = 0)) (H : ∀ y : Int32, (¬ y = 0 ↔ (p = 0 ∧ ¬ x15 = 0) ∨ (p = 1 ∧ ¬ x16 = 0)) → wL_lawOf_182 post mc ms x p put pul con str nee dro bad x14 x15 x16 x17 y kc ks) : wL_lawOf_166 post mc ms x p put pul con str nee dro bad x14 x15 x16 x17 kc ks :=
  br_c (fun e => br_c (fun e2 => H 0 ⟨fun z => absurd rfl z, fun z => absurd (z.resolve_left h0).2 (fun g => g e2)⟩) (fun e2 => H 1 ⟨fun _ => Or.inr ⟨e, e2⟩, fun _ => by decide⟩)) (fun e => H 0 ⟨fun z => absurd rfl z, fun z => absurd (z.resolve_left h0).1 e⟩)
theorem pg_154 (H : ∀ y : Int32, (¬ y = 0 ↔ (p = 0 ∧ ¬ x15 = 0) ∨ (p = 1 ∧ ¬ x16 = 0)) → wL_lawOf_182 post mc ms x p put pul con str nee dro bad x14 x15 x16 x17 y kc ks) : wL_lawOf_154 post mc ms x p put pul con str nee dro bad x14 x15 x16 x17 kc ks :=
  br_c (fun e => br_c (fun e2 => pg_166 (fun z => z.2 e2) H) (fun e2 => H 1 ⟨fun _ => Or.inl ⟨e, e2⟩, fun _ => by decide⟩)) (fun e => pg_166 (fun z => e z.1) H)
theorem pg_132 (H : ∀ y : Int32, (¬ y = 0 ↔ ¬ x13 = 0 ∧ ¬ x14 = 0 ∧ ¬ s = t) → wL_lawOf_154 post mc ms x p put pul con str nee dro bad x14 x15 x16 y kc ks) : wL_lawOf_132 post mc ms s x t p put pul con str nee dro bad x13 x14 x15 x16 kc ks :=
  br_c (fun e => H 0 ⟨fun z => absurd rfl z, fun z => absurd e z.1⟩) (fun e => br_c (fun e2 => H 0 ⟨fun z => absurd rfl z, fun z => absurd e2 z.2.1⟩) (fun e2 => br_c (fun e3 => H 0 ⟨fun z => absurd rfl z, fun z => absurd e3 z.2.2⟩) (fun e3 => H 1 ⟨fun _ => ⟨e, e2, e3⟩, fun _ => by decide⟩)))
theorem pg_115 (H : ∀ y : Int32, (¬ y = 0 ↔ ¬ x15 = 0 ∧ ¬ x14 = 0) → wL_lawOf_132 post mc ms s x t p put pul con str nee dro bad x13 x14 x15 y kc ks) : wL_lawOf_115 post mc ms s x t p put pul con str nee dro bad x13 x14 x15 kc ks :=
  br_c (fun e => H 0 ⟨fun z => absurd rfl z, fun z => absurd e z.1⟩) (fun e => br_c (fun e2 => H 0 ⟨fun z => absurd rfl z, fun z => absurd e2 z.2⟩) (fun e2 => H 1 ⟨fun _ => ⟨e, e2⟩, fun _ => by decide⟩))
theorem pg_99 (H : ∀ y : Int32, (¬ y = 0 ↔ ¬ x13 = 0 ∧ k = 0) → wL_lawOf_115 post mc ms s x t p put pul con str nee dro bad x13 x14 y kc ks) : wL_lawOf_99 post mc ms s k x t p put pul con str nee dro bad x13 x14 kc ks :=
  br_c (fun e => H 0 ⟨fun z => absurd rfl z, fun z => absurd e z.1⟩) (fun e => br_c (fun e2 => H 1 ⟨fun _ => ⟨e, e2⟩, fun _ => by decide⟩) (fun e2 => H 0 ⟨fun z => absurd rfl z, fun z => absurd z.2 e2⟩))
theorem pg_83 (H : ∀ y : Int32, (¬ y = 0 ↔ ¬ t < 0 ∧ ¬ 2 < t) → wL_lawOf_99 post mc ms s k x t p put pul con str nee dro bad x13 y kc ks) : wL_lawOf_83 post mc ms s k x t p put pul con str nee dro bad x13 kc ks :=
  br_c (fun e => H 0 ⟨fun z => absurd rfl z, fun z => absurd e z.1⟩) (fun e => br_c (fun e2 => H 0 ⟨fun z => absurd rfl z, fun z => absurd e2 z.2⟩) (fun e2 => H 1 ⟨fun _ => ⟨e, e2⟩, fun _ => by decide⟩))
/-- the law's end as printed in wpL_lawOf -/
def pg_End (post : Int32 → St0 → Prop) (mc ms : Nat) (s k x t p put pul con str nee dro bad : Int32) (kc ks : Nat) : Prop :=
  ((s < 0 → (wL_lawOf_82 post mc ms s k x t p put pul con str nee dro bad kc ks)) ∧ (¬ s < 0 → (((2 < s → (wL_lawOf_82 post mc ms s k x t p put pul con str nee dro bad kc ks)) ∧ (¬ 2 < s → (wL_lawOf_83 post mc ms s k x t p put pul con str nee dro bad 1 kc ks))))))
theorem pg_top (H : ∀ y : Int32, (¬ y = 0 ↔ ¬ s < 0 ∧ ¬ 2 < s) → wL_lawOf_83 post mc ms s k x t p put pul con str nee dro bad y kc ks) : pg_End post mc ms s k x t p put pul con str nee dro bad kc ks :=
  br_c (fun e => H 0 ⟨fun z => absurd rfl z, fun z => absurd e z.1⟩) (fun e => br_c (fun e2 => H 0 ⟨fun z => absurd rfl z, fun z => absurd e2 z.2⟩) (fun e2 => H 1 ⟨fun _ => ⟨e, e2⟩, fun _ => by decide⟩))
/-- all flags together -/
theorem pg_end (H : ∀ y13 y14 y15 y16 y17 y18 : Int32, (¬ y13 = 0 ↔ ¬ s < 0 ∧ ¬ 2 < s) → (¬ y14 = 0 ↔ ¬ t < 0 ∧ ¬ 2 < t) → (¬ y15 = 0 ↔ ¬ y13 = 0 ∧ k = 0) → (¬ y16 = 0 ↔ ¬ y15 = 0 ∧ ¬ y14 = 0) → (¬ y17 = 0 ↔ ¬ y13 = 0 ∧ ¬ y14 = 0 ∧ ¬ s = t) → (¬ y18 = 0 ↔ (p = 0 ∧ ¬ y15 = 0) ∨ (p = 1 ∧ ¬ y16 = 0)) → wL_lawOf_182 post mc ms x p put pul con str nee dro bad y14 y15 y16 y17 y18 kc ks) : pg_End post mc ms s k x t p put pul con str nee dro bad kc ks :=
  pg_top (fun y13 e13 => pg_83 (fun y14 e14 => pg_99 (fun y15 e15 => pg_115 (fun y16 e16 => pg_132 (fun y17 e17 => pg_154 (fun y18 e18 => H y13 y14 y15 y16 y17 y18 e13 e14 e15 e16 e17 e18))))))
theorem pg_f0 {y : Int32} {q : Prop} (h : ¬ y = 0 ↔ q) (hq : ¬ q) : y = 0 := Classical.byContradiction (fun z => hq (h.mp z))
/-- the store of the put is bad, or k isn't 0: no patch is made -/
theorem pg_end_0 (P : post 1 ()) (ho : ¬ ((¬ s < 0 ∧ ¬ 2 < s) ∧ k = 0))
    (gl : ((¬ s < 0 ∧ ¬ 2 < s) ∧ (¬ t < 0 ∧ ¬ 2 < t) ∧ ¬ s = t → pul = 0) ∧ (¬ ((¬ s < 0 ∧ ¬ 2 < s) ∧ (¬ t < 0 ∧ ¬ 2 < t) ∧ ¬ s = t) → pul = -1000000001))
    (gc : ((¬ t < 0 ∧ ¬ 2 < t) → con = -1000000003) ∧ (¬ (¬ t < 0 ∧ ¬ 2 < t) → con = -1000000001))
    (gs : ((¬ t < 0 ∧ ¬ 2 < t) → str = -1000000003) ∧ (¬ (¬ t < 0 ∧ ¬ 2 < t) → str = -1000000001))
    (gd : ((¬ t < 0 ∧ ¬ 2 < t) → dro = -1000000003) ∧ (¬ (¬ t < 0 ∧ ¬ 2 < t) → dro = -1000000001)) :
    pg_End post mc ms s k x t p (-1000000001) pul con str (-1000000003) dro (-1000000001) kc ks := by
  refine pg_end (fun y13 y14 y15 y16 y17 y18 e13 e14 e15 e16 e17 e18 => ?_)
  have f15 : y15 = 0 := pg_f0 e15 (fun z => ho ⟨e13.mp z.1, z.2⟩)
  have f16 : y16 = 0 := pg_f0 e16 (fun z => z.1 f15)
  have f18 : y18 = 0 := pg_f0 e18 (fun z => z.elim (fun g => g.2 f15) (fun g => g.2 f16))
  refine pg_182 P (by rw [if_pos f15]) ?_ ?_ ?_ (by rw [if_pos f18]; decide) ?_
  · by_cases e : y17 = 0
    · rw [if_pos e]; exact gl.2 (fun z => (e17.mpr ⟨e13.mpr z.1, e14.mpr z.2.1, z.2.2⟩) e)
    · rw [if_neg e, if_pos f15]
      have g := e17.mp e
      exact gl.1 ⟨e13.mp g.1, e14.mp g.2.1, g.2.2⟩
  · by_cases e : y14 = 0
    · rw [if_pos e]; exact gc.2 (fun z => e14.mpr z e)
    · rw [if_neg e, if_pos f16, gc.1 (e14.mp e)]; decide
  · by_cases e : y14 = 0
    · rw [if_pos e]; exact gs.2 (fun z => e14.mpr z e)
    · rw [if_neg e, if_pos f16, gs.1 (e14.mp e)]; decide
  · by_cases e : y14 = 0
    · rw [if_pos e]; exact gd.2 (fun z => e14.mpr z e)
    · rw [if_neg e, if_pos f18, gd.1 (e14.mp e)]; decide
/-- a patch is made; the second store is bad -/
theorem pg_end_1 (P : post 1 ()) (hs : ¬ s < 0 ∧ ¬ 2 < s) (hk : k = 0) (ht : ¬ (¬ t < 0 ∧ ¬ 2 < t)) (gn : (p = 0 → nee = 0) ∧ (¬ p = 0 → nee = -1000000003)) :
    pg_End post mc ms s k x t p 0 (-1000000001) (-1000000001) (-1000000001) nee (-1000000001) (-1000000001) kc ks := by
  refine pg_end (fun y13 y14 y15 y16 y17 y18 e13 e14 e15 e16 e17 e18 => ?_)
  have f15 : ¬ y15 = 0 := e15.mpr ⟨e13.mpr hs, hk⟩
  have f14 : y14 = 0 := pg_f0 e14 ht
  have f16 : y16 = 0 := pg_f0 e16 (fun z => z.2 f14)
  have f17 : y17 = 0 := pg_f0 e17 (fun z => z.2.1 f14)
  refine pg_182 P (by rw [if_neg f15]) (by rw [if_pos f17]) (by rw [if_pos f14]) (by rw [if_pos f14]) ?_ (by rw [if_pos f14])
  by_cases e : p = 0
  · rw [if_neg (e18.mpr (Or.inl ⟨e, f15⟩)), gn.1 e, e]
  · rw [if_pos (pg_f0 e18 (fun z => z.elim (fun g => e g.1) (fun g => g.2 f16))), gn.2 e]; decide
/-- a patch is made, and struck in the second store -/
theorem pg_end_2 (P : post 1 ()) (hs : ¬ s < 0 ∧ ¬ 2 < s) (hk : k = 0) (ht : ¬ t < 0 ∧ ¬ 2 < t) (gl : (s = t → pul = -1000000001) ∧ (¬ s = t → pul = 1))
    (gd : (p = 0 ∧ nee = 0 ∧ dro = -1000000004) ∨ (p = 1 ∧ nee = 1 ∧ dro = 1) ∨ (¬ p = 0 ∧ ¬ p = 1 ∧ nee = -1000000003 ∧ dro = -1000000003)) :
    pg_End post mc ms s k x t p 0 pul x 1 nee dro (-1000000001) kc ks := by
  refine pg_end (fun y13 y14 y15 y16 y17 y18 e13 e14 e15 e16 e17 e18 => ?_)
  have f13 : ¬ y13 = 0 := e13.mpr hs
  have f15 : ¬ y15 = 0 := e15.mpr ⟨f13, hk⟩
  have f14 : ¬ y14 = 0 := e14.mpr ht
  have f16 : ¬ y16 = 0 := e16.mpr ⟨f15, f14⟩
  refine pg_182 P (by rw [if_neg f15]) ?_ (by rw [if_neg f14, if_neg f16]) (by rw [if_neg f14, if_neg f16]) ?_ ?_
  · by_cases e : s = t
    · rw [if_pos (pg_f0 e17 (fun z => z.2.2 e))]; exact gl.1 e
    · rw [if_neg (e17.mpr ⟨f13, f14, e⟩), if_neg f15]; exact gl.2 e
  · rcases gd with ⟨e, g, _⟩ | ⟨e, g, _⟩ | ⟨e, e', g, _⟩
    · rw [if_neg (e18.mpr (Or.inl ⟨e, f15⟩)), g, e]
    · rw [if_neg (e18.mpr (Or.inr ⟨e, f16⟩)), g, e]
    · rw [if_pos (pg_f0 e18 (fun z => z.elim (fun g => e g.1) (fun g => e' g.1))), g]; decide
  · rw [if_neg f14]
    rcases gd with ⟨e, _, g⟩ | ⟨e, _, g⟩ | ⟨e, e', _, g⟩
    · rw [if_neg (e18.mpr (Or.inl ⟨e, f15⟩)), if_pos e, g]; decide
    · rw [if_neg (e18.mpr (Or.inr ⟨e, f16⟩)), if_neg (by rw [e]; decide), g]
    · rw [if_pos (pg_f0 e18 (fun z => z.elim (fun g => e g.1) (fun g => e' g.1))), g]; decide
end
end
section
/-! the law, joined: the six calls one behind another, by what the first store, k and the second store are -/
theorem pg_okS {i : Nat} (hi : i < 3) : ¬ nI i < 0 ∧ ¬ 2 < nI i := ⟨nI_pos (by omega), nI_nlt (a := 2) (b := i) (by omega) (by decide)⟩
theorem pg_noS {s : Int32} (h : s < 0 ∨ nI 3 ≤ s) : ¬ (¬ s < 0 ∧ ¬ 2 < s) := by
  intro z
  rcases h with h | h
  · exact z.1 h
  · apply z.2
    apply Int32.lt_iff_toInt_lt.mpr
    have g := Int32.le_iff_toInt_le.mp h
    rw [nI_toInt (by decide)] at g
    have e : (2 : Int32).toInt = 2 := by decide
    omega
theorem pg_st (s : Int32) : (s < 0 ∨ nI 3 ≤ s) ∨ ∃ i : Nat, i < 3 ∧ s = nI i := by
  rcases pk_ix s (n := 3) (by decide) with h | h | h
  · exact Or.inl (Or.inl h)
  · exact Or.inl (Or.inr h)
  · exact Or.inr h
section
variable {post : Int32 → St0 → Prop} {mc ms : Nat} {kc ks : Nat}
/-- pull and the calls behind it, the law's end behind them, as printed -/
abbrev pg_K4 (post : Int32 → St0 → Prop) (mc ms kc ks : Nat) (s k x t p r1 r2 : Int32) (u : St2) : Prop :=
  wpX_content (fun r3 u => match u with | (c, a1, a2, a3, a4, a5, a6, a7, a8, a9, a10, a11, a12) => (wpX_strike (fun r4 u => match u with | (c, a1, a2, a3, a4, a5, a6, a7, a8, a9, a10, a11, a12) => (wpX_needed (fun r5 => (wpX_drop (fun r6 u => match u with | (_, _, _, _, _, _, _, _, _, _, _, _, _) => pg_End post mc ms s k x t p r1 r2 r3 r4 r5 r6 (-1000000001) kc ks) (c, a1, a2, a3, a4, a5, a6, a7, a8, a9, a10, a11, a12) t p)) (c, a1, a2, a3, a4, a5, a6, a7, a8, a9, a10, a11, a12) p)) (c, a1, a2, a3, a4, a5, a6, a7, a8, a9, a10, a11, a12) t k)) u t 0
variable {a1 a2 a3 a4 : Nat → Int32} {a5 a6 a7 a8 a9 : Nat → Int64} {a10 a11 a12 : Nat → Int32}
/-- nothing made -/
theorem pg_r0 (P : post 1 ()) {s k x t p r2 : Int32} (ho : ¬ ((¬ s < 0 ∧ ¬ 2 < s) ∧ k = 0))
    (gl : ((¬ s < 0 ∧ ¬ 2 < s) ∧ (¬ t < 0 ∧ ¬ 2 < t) ∧ ¬ s = t → r2 = 0) ∧ (¬ ((¬ s < 0 ∧ ¬ 2 < s) ∧ (¬ t < 0 ∧ ¬ 2 < t) ∧ ¬ s = t) → r2 = -1000000001))
    (h : ∀ j, a11 j = 0) : pg_K4 post mc ms kc ks s k x t p (-1000000001) r2 (0, a1, a2, a3, a4, a5, a6, a7, a8, a9, a10, a11, a12) := by
  rcases pg_st t with hb | ⟨j, hj, rfl⟩
  · refine pg_con_b hb (pg_str_b hb (pg_need_n (m := 0) (pg_any0 p) (pg_dr_b hb ?_)))
    have z := pg_noS hb
    exact pg_end_0 P ho gl ⟨fun g => absurd g z, fun _ => rfl⟩ ⟨fun g => absurd g z, fun _ => rfl⟩ ⟨fun g => absurd g z, fun _ => rfl⟩
  · refine pg_con_0 hj h (fun b10 b11 hb => pg_str_0 hj hb (fun d10 d11 hd => pg_need_n (m := 0) (pg_any0 p) (pg_dr_n (m := 0) hj (pg_any0 p) ?_)))
    have z := pg_okS hj
    exact pg_end_0 P ho gl ⟨fun _ => rfl, fun g => absurd z g⟩ ⟨fun _ => rfl, fun g => absurd z g⟩ ⟨fun _ => rfl, fun g => absurd z g⟩
/-- a patch made, the second store bad -/
theorem pg_r1 (P : post 1 ()) {s x t p : Int32} (hs : ¬ s < 0 ∧ ¬ 2 < s) (hb : t < 0 ∨ nI 3 ≤ t) (h5 : a5 0 = 0) :
    pg_K4 post mc ms kc ks s 0 x t p 0 (-1000000001) (1, a1, a2, a3, a4, a5, a6, a7, a8, a9, a10, a11, a12) := by
  refine pg_con_b hb (pg_str_b hb ?_)
  rcases pk_ix p (n := 1) (by decide) with hp | hp | ⟨q, hq, hp⟩
  · exact pg_need_n (m := 1) (Or.inl hp) (pg_dr_b hb (pg_end_1 P hs rfl (pg_noS hb) ⟨fun e => absurd hp (by rw [e]; decide), fun _ => rfl⟩))
  · exact pg_need_n (m := 1) (Or.inr hp) (pg_dr_b hb (pg_end_1 P hs rfl (pg_noS hb) ⟨fun e => absurd hp (by rw [e]; decide), fun _ => rfl⟩))
  · have e : p = 0 := by rw [hp, show q = 0 by omega]; rfl
    subst e
    exact pg_need_0 (m := 1) (by decide) (by decide) h5 (pg_dr_b hb (pg_end_1 P hs rfl (pg_noS hb) ⟨fun _ => rfl, fun e => absurd rfl e⟩))
/-- a patch made, in the second store too -/
theorem pg_r2 (P : post 1 ()) {s x p r2 : Int32} {j : Nat} (hs : ¬ s < 0 ∧ ¬ 2 < s) (hj : j < 3) (gl : (s = nI j → r2 = -1000000001) ∧ (¬ s = nI j → r2 = 1))
    (h1 : ¬ a1 0 = 0) (h2 : a2 0 = -1) (h3 : a3 0 = -1) (h4 : a4 0 = x) (h5 : a5 0 = 0) (h6 : a6 j = 1) (h7 : a7 j = 0) (hz : a10 j = 0) :
    pg_K4 post mc ms kc ks s 0 x (nI j) p 0 r2 (1, a1, a2, a3, a4, a5, a6, a7, a8, a9, a10, a11, a12) := by
  refine pg_con_1 hj h1 h6 h7 hz (pg_str_1 hj h5 (by rw [pk_us]; decide) pk_us pk_us ?_)
  rw [h4]
  have k50 : vp_updL a5 1 1 0 = 0 := by rw [pk_uLn (by decide)]; exact h5
  have k51 : vp_updL a5 1 1 1 = 1 := pk_uLs
  have k6 : vp_updL a6 j (a6 j ||| 2) j = 3 := by rw [pk_uLs, h6]; decide
  have k1 : ¬ upd a1 1 0 0 = 0 := by rw [pk_un (by decide)]; exact h1
  have k2 : upd a2 1 0 0 = -1 := by rw [pk_un (by decide)]; exact h2
  have k3 : upd a3 1 (-1) 0 = -1 := by rw [pk_un (by decide)]; exact h3
  have ht := pg_okS hj
  rcases pk_ix p (n := 2) (by decide) with hp | hp | ⟨q, hq, hp⟩
  · exact pg_need_n (m := 2) (Or.inl hp) (pg_dr_n (m := 2) hj (Or.inl hp) (pg_end_2 P hs rfl ht gl (Or.inr (Or.inr ⟨fun e => absurd hp (by rw [e]; decide), fun e => absurd hp (by rw [e]; decide), rfl, rfl⟩))))
  · exact pg_need_n (m := 2) (Or.inr hp) (pg_dr_n (m := 2) hj (Or.inr hp) (pg_end_2 P hs rfl ht gl (Or.inr (Or.inr ⟨fun e => absurd hp (by rw [e]; decide), fun e => absurd hp (by rw [e]; decide), rfl, rfl⟩))))
  · rcases (show q = 0 ∨ q = 1 by omega) with e | e
    · have e' : p = 0 := by rw [hp, e]; rfl
      subst e'
      exact pg_need_0 (m := 2) (by decide) (by decide) k50 (pg_dr_0 hj k50 k51 k6 (pg_end_2 P hs rfl ht gl (Or.inl ⟨rfl, rfl, rfl⟩)))
    · have e' : p = 1 := by rw [hp, e]; rfl
      subst e'
      exact pg_need_1 k51 (pg_dr_1 hj k1 k2 k3 k50 k51 k6 (fun b6 b7 b8 b9 b10 => pg_end_2 P hs rfl ht gl (Or.inr (Or.inl ⟨rfl, rfl, rfl⟩))))
/-- the six calls on a new object -/
theorem pg_six (P : post 1 ()) (s k x t p : Int32) :
    wpX_put (fun r1 u => match u with | (c, a1, a2, a3, a4, a5, a6, a7, a8, a9, a10, a11, a12) => (wpX_pull (fun r2 u => match u with | (c, a1, a2, a3, a4, a5, a6, a7, a8, a9, a10, a11, a12) => pg_K4 post mc ms kc ks s k x t p r1 r2 (c, a1, a2, a3, a4, a5, a6, a7, a8, a9, a10, a11, a12)) (c, a1, a2, a3, a4, a5, a6, a7, a8, a9, a10, a11, a12) s t)) (0, (fun _ => 0), (fun _ => 0), (fun _ => 0), (fun _ => 0), (fun _ => 0), (fun _ => 0), (fun _ => 0), (fun _ => 0), (fun _ => 0), (fun _ => 0), (fun _ => 0), (fun _ => 0)) s k x := by
  rcases pg_st s with hb | ⟨i, hi, rfl⟩
  · have z := pg_noS hb
    exact pg_put_b hb (pg_pull_b hb (pg_r0 P (fun g => z g.1) ⟨fun g => absurd g.1 z, fun _ => rfl⟩ (fun _ => rfl)))
  · have hs := pg_okS hi
    by_cases hk : k = 0
    · subst hk
      refine pg_put_1 hi (fun _ => rfl) (fun b10 b11 => ?_)
      have w1 : ¬ upd (fun _ => 0) 0 1 0 = 0 := by rw [pk_us]; decide
      rcases pg_st t with hb | ⟨j, hj, rfl⟩
      · exact pg_pull_t hi hb (pg_r1 P hs hb pk_uLs)
      · by_cases e : i = j
        · subst e
          exact pg_pull_e hi (pg_r2 P hs hi ⟨fun _ => rfl, fun e => absurd rfl e⟩ w1 pk_us pk_us pk_us pk_uLs (by rw [pk_uLs]; decide) rfl pk_us)
        · exact pg_pull_1 hi hj e w1 pk_us pk_us (by rw [pk_uLs]; decide) (by rw [pk_uLn (fun z => e z.symm)])
            (pg_r2 P hs hj ⟨fun z => absurd z (pg_ne hi hj e), fun _ => rfl⟩ w1 pk_us pk_us pk_us pk_uLs (by rw [pk_uLs, pk_uLn (fun z => e z.symm)]; decide) rfl pk_us)
    · refine pg_put_k hi hk (fun _ => rfl) (fun b10 b11 hb11 => ?_)
      rcases pg_st t with hb | ⟨j, hj, rfl⟩
      · have z := pg_noS hb
        exact pg_pull_t hi hb (pg_r0 P (fun g => hk g.2) ⟨fun g => absurd g.2.1 z, fun _ => rfl⟩ hb11)
      · by_cases e : i = j
        · subst e
          exact pg_pull_e hi (pg_r0 P (fun g => hk g.2) ⟨fun g => absurd rfl g.2.2, fun _ => rfl⟩ hb11)
        · exact pg_pull_0 hi hj e (pg_r0 P (fun g => hk g.2) ⟨fun _ => rfl, fun g => absurd ⟨hs, pg_okS hj, pg_ne hi hj e⟩ g⟩ hb11)
end
theorem pg_lawOf {post : Int32 → St0 → Prop} (P : post 1 ()) (s k x t p : Int32) : wpL_lawOf post 13 865 () s k x t p :=
  ⟨by decide, by decide, 12, 852, by decide, by decide, by decide, by decide, by decide, by decide, by decide, by decide, by decide, by decide, by decide, by decide, by decide, by decide, by decide, by decide, by decide, by decide, by decide, by decide, by decide, by decide, by decide, by decide, by decide, by decide, pg_six P s k x t p⟩
theorem pg_cell {post : Int32 → Prop} {L : Nat} {xs : Nat → Int32} (hL : L ≤ 5) (i : Nat) (hi : i < 5) (H : ∀ r, post r) : wpL_cellAt post L xs () (nI i) :=
  pk_le L i (fun _ => H 0) (fun z => ⟨pk_in i L z, H _⟩)
theorem i_vc (xs : Nat → Int32) (L : Nat) (hL : L ≤ 5) : wpL_law (fun r => r = 1) L xs :=
  pg_cell hL 0 (by decide) (fun r1 => pg_cell hL 1 (by decide) (fun r2 => pg_cell hL 2 (by decide) (fun r3 => pg_cell hL 3 (by decide) (fun r4 => pg_cell hL 4 (by decide) (fun r5 => ⟨13, 865, by decide, by decide, pg_lawOf rfl r1 r2 r3 r4 r5⟩)))))
end
