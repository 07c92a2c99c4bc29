section
section
variable {fc w l h e : Int32} {a1 a2 a3 a4 a5 a6 a7 a8 a9 a10 a11 a12 a13 : Nat → Int32}
theorem jt_un {f : Nat → Int32} {k : Nat} {x : Int32} (hk : f k = x) : upd f k x = f := by
  funext j
  by_cases ej : j = k
  · rw [ej, pk_us, hk]
  · rw [pk_un ej]
theorem jt_cl {n : Nat} (hn : n < 256) : (nI n).toNatClampNeg = n := nI_clamp (by omega)
theorem jt_ne {n : Nat} (h0 : 0 < n) (hn : n < 256) : ¬ nI n = 0 := nI_ne0 h0 (by omega)
theorem jt_c0 : (0 : Int32).toNatClampNeg = 0 := by decide
theorem jt_s16 : ∀ t, t < 256 → (nI t).toInt16.toInt32 = nI t := by decide +kernel
theorem jt_z16 : (0 : Int32).toInt16.toInt32 = 0 := by decide
theorem jt_vs0 : vp_nar .short 0 = 0 := by rw [vp_nar_short]; decide
theorem jt_vb1 : vp_nar .byte 1 = 1 := by rw [vp_nar_byte]; decide
theorem jt_bool1 : vp_nar .boolean 1 = 1 := by decide
theorem jt_in0 {f : Nat → Int32} (hf : ∀ j, f j = 0) (j : Nat) : vp_in (f j) 256 := by
  rw [hf j]
  exact pk_in 0 256 (by decide)

theorem jt_set {post : Int32 → Prop} (s : Nat) (hs : s < 4) (hp : post 1) : wpX_isSet post (fc, w, l, h, e, a1, a2, a3, a4, a5, a6, a7, a8, a9, a10, a11, a12, a13) (nI s) :=
  br_f (nI_pos (by omega)) (br_f (nI_nlt (a := 3) (b := s) (by omega) (by decide)) hp)
theorem jt_setN {post : Int32 → Prop} {p : Int32} (hs : p < 0 ∨ 3 < p) (hp : post 0) : wpX_isSet post (fc, w, l, h, e, a1, a2, a3, a4, a5, a6, a7, a8, a9, a10, a11, a12, a13) p :=
  br_c (fun _ => hp) (fun z => br_t (hs.resolve_left z) hp)
theorem jt_setC {post : Int32 → Prop} {p : Int32} (h0 : post 0) (h1 : post 1) : wpX_isSet post (fc, w, l, h, e, a1, a2, a3, a4, a5, a6, a7, a8, a9, a10, a11, a12, a13) p :=
  br_c (fun _ => h0) (fun _ => br_c (fun _ => h0) (fun _ => h1))

theorem jt_hasN {post : Int32 → Prop} {p x : Int32} (hs : p < 0 ∨ 3 < p) (hp : post 0) : wpX_has post (fc, w, l, h, e, a1, a2, a3, a4, a5, a6, a7, a8, a9, a10, a11, a12, a13) p x := by
  unfold wpX_has
  exact jt_setN hs (br_t rfl hp)
theorem jt_has0 {post : Int32 → Prop} {s : Nat} {x : Int32} (hs : s < 4) (h5 : a5 s = 0) (hp : post 0) : wpX_has post (fc, w, l, h, e, a1, a2, a3, a4, a5, a6, a7, a8, a9, a10, a11, a12, a13) (nI s) x := by
  unfold wpX_has
  refine jt_set s hs (br_f (by decide) ⟨pk_in s 4 hs, nm_r (e' := 0) ?_ ⟨1, br_t rfl (br_t rfl hp)⟩⟩)
  rw [jt_cl (by omega)]
  exact h5
theorem jt_hasL {post : Int32 → Prop} {s n : Nat} {x : Int32} (h1 : ∀ j, a1 j = 0) (h2 : ∀ j, a2 j = 0) (hs : s < 4) (n0 : 0 < n) (hn : n < 256) (h5 : a5 s = nI n)
    (hp1 : a3 n = x → post 1) (hp0 : ¬ a3 n = x → post 0) : wpX_has post (fc, w, l, h, e, a1, a2, a3, a4, a5, a6, a7, a8, a9, a10, a11, a12, a13) (nI s) x := by
  have cl := jt_cl hn
  unfold wpX_has
  refine jt_set s hs (br_f (by decide) ⟨pk_in s 4 hs, nm_r (e' := nI n) ?_ ⟨2, br_f (jt_ne n0 hn) ⟨pk_in n 256 hn, br_c (fun hc => br_f (jt_ne n0 hn) (hp1 ?_)) (fun hc => ⟨pk_in n 256 hn, br_c (fun _ => ⟨pk_in n 256 hn, nm_r (h2 _) (br_t rfl (br_t rfl (hp0 ?_)))⟩) (fun _ => ⟨pk_in n 256 hn, nm_r (h1 _) (br_t rfl (br_t rfl (hp0 ?_)))⟩)⟩)⟩⟩⟩)
  · rw [jt_cl (by omega)]
    exact h5
  · rw [cl] at hc
    exact hc
  · rw [cl] at hc
    exact hc
  · rw [cl] at hc
    exact hc

theorem jt_rankN {post : Int32 → Prop} {p x : Int32} (hs : p < 0 ∨ 3 < p) (hp : post (-1)) : wpX_rank post (fc, w, l, h, e, a1, a2, a3, a4, a5, a6, a7, a8, a9, a10, a11, a12, a13) p x := by
  unfold wpX_rank
  exact jt_setN hs (br_t rfl hp)
theorem jt_rank0 {post : Int32 → Prop} {s : Nat} {x : Int32} (hs : s < 4) (h5 : a5 s = 0) (hp : post 0) : wpX_rank post (fc, w, l, h, e, a1, a2, a3, a4, a5, a6, a7, a8, a9, a10, a11, a12, a13) (nI s) x := by
  unfold wpX_rank
  refine jt_set s hs (br_f (by decide) ⟨pk_in s 4 hs, nm_r (e' := 0) ?_ ⟨1, br_t rfl hp⟩⟩)
  rw [jt_cl (by omega)]
  exact h5
theorem jt_rankL {post : Int32 → Prop} {s n : Nat} {x : Int32} (h1 : ∀ j, a1 j = 0) (h2 : ∀ j, a2 j = 0) (h40 : a4 0 = 0) (hs : s < 4) (n0 : 0 < n) (hn : n < 256) (h5 : a5 s = nI n)
    (hp0 : x ≤ a3 n → post 0) (hp1 : ¬ x ≤ a3 n → post 1) : wpX_rank post (fc, w, l, h, e, a1, a2, a3, a4, a5, a6, a7, a8, a9, a10, a11, a12, a13) (nI s) x := by
  have cl := jt_cl hn
  unfold wpX_rank
  refine jt_set s hs (br_f (by decide) ⟨pk_in s 4 hs, nm_r (e' := nI n) ?_ ⟨2, br_f (jt_ne n0 hn) ⟨pk_in n 256 hn, br_c (fun hc => ⟨pk_in n 256 hn, nm_r (h1 _) (br_t rfl (hp0 ?_))⟩) (fun hc => ⟨pk_in n 256 hn, jt_in0 h1 _, nm_r (e' := 1) ?_ ⟨pk_in n 256 hn, nm_r (h2 _) (br_t rfl (hp1 ?_))⟩⟩)⟩⟩⟩)
  · rw [jt_cl (by omega)]
    exact h5
  · rw [cl] at hc
    exact hc
  · rw [h1, jt_c0, h40]
    decide
  · rw [cl] at hc
    exact hc

theorem jt_fill {s : Nat → Int32} {i : Nat} (hi : i < 255) (hs : ∀ j, j < i → s j = nI (255 - j)) : ∀ j, j < i + 1 → upd s i (nI (255 - i)) j = nI (255 - j) := by
  intro j hj
  by_cases ej : j = i
  · rw [ej, pk_us]
  · rw [pk_un ej]
    exact hs j (by omega)
theorem jt_init {post : St2 → Prop} {mc ms : Nat} (hmc : 13 ≤ mc) (hms : 1572 ≤ ms)
    (H : ∀ a6 : Nat → Int32, (∀ j, j < 255 → a6 j = nI (255 - j)) → post (nI 255, 0, 0, 0, 0, fun _ => 0, fun _ => 0, fun _ => 0, fun _ => 0, fun _ => 0, a6, fun _ => 0, fun _ => 0, fun _ => 0, fun _ => 0, fun _ => 0, fun _ => 0, fun _ => 0)) : wpX_init post mc ms (0, 0, 0, 0, 0) := by
  unfold wpX_init
  refine ⟨by omega, by omega, by omega, by omega, by omega, by omega, by omega, by omega, by omega, by omega, by omega, by omega, by omega, by omega, by omega, by omega, by omega, by omega, by omega, by omega, by omega, by omega, by omega, by omega, by omega, by omega, ?_⟩
  refine pk_loop (fun n i s => wX_init_116 post mc ms 13 1572 0 0 0 0 n (nI (255 - i)) (nI i) (fun _ => 0) (fun _ => 0) (fun _ => 0) (fun _ => 0) (fun _ => 0) s (fun _ => 0) (fun _ => 0) (fun _ => 0) (fun _ => 0) (fun _ => 0) (fun _ => 0) (fun _ => 0)) (fun i s => ∀ j, j < i → s j = nI (255 - j)) 255 0 (fun _ => 0) (by omega) (fun j hj => absurd hj (by omega)) ?_ ?_
  · intro n s hs
    exact br_t (by decide) (H s hs)
  · intro n i s hi hs hw
    refine br_f (nI_nle (by omega) (by omega)) ⟨pk_in i 256 (by omega), nm_r (e' := upd s i (nI (255 - i))) ?_ (nm_r (nI_1 i) (nm_r (e' := nI (255 - (i + 1))) ?_ (hw _ (jt_fill hi hs))))⟩
    · rw [jt_cl (by omega), jt_s16 _ (by omega)]
    · rw [show 255 - i = 255 - (i + 1) + 1 by omega]
      exact pk_m1 _
end
end
section
section
variable {fc w l h e : Int32} {a1 a2 a3 a4 a5 a6 a7 a8 a9 a10 a11 a12 a13 : Nat → Int32}
theorem jt_weight {post : Int32 → Prop} (h40 : a4 0 = 0) (hp : post (0 + 1)) : wpX_weight post (fc, w, l, h, e, a1, a2, a3, a4, a5, a6, a7, a8, a9, a10, a11, a12, a13) 0 := by
  refine ⟨pk_in 0 256 (by decide), ?_⟩
  rw [jt_c0, h40]
  exact hp
theorem jt_cnt {n : Nat} (h1 : ∀ j, a1 j = 0) (h2 : ∀ j, a2 j = 0) (h40 : a4 0 = 0) (hn : n < 256) (h4 : a4 n = 1) :
    upd a4 (nI n).toNatClampNeg (((a4 (a1 (nI n).toNatClampNeg).toNatClampNeg + a4 (a2 (nI n).toNatClampNeg).toNatClampNeg) + 1).toInt8.toInt32) = a4 := by
  rw [h1, h2, jt_c0, h40, jt_cl hn]
  exact jt_un (by rw [h4]; decide)
theorem jt_up {post : St2 → Prop} {n : Nat} (h1 : ∀ j, a1 j = 0) (h2 : ∀ j, a2 j = 0) (h40 : a4 0 = 0) (hn : n < 256) (h4 : a4 n = 1) (hp : post (fc, w, l, h, e, a1, a2, a3, a4, a5, a6, a7, a8, a9, a10, a11, a12, a13)) : wpX_update post (fc, w, l, h, e, a1, a2, a3, a4, a5, a6, a7, a8, a9, a10, a11, a12, a13) (nI n) :=
  ⟨pk_in n 256 hn, jt_in0 h1 _, pk_in n 256 hn, jt_in0 h2 _, pk_in n 256 hn, nm_r (jt_cnt h1 h2 h40 hn h4) hp⟩
theorem jt_up4 {post : St2 → Prop} {n : Nat} (h1 : ∀ j, a1 j = 0) (h2 : ∀ j, a2 j = 0) (h40 : a4 0 = 0) (hn : n < 256) (h4 : a4 n = 1) (hp : post (fc, w, l, h, e, a1, a2, a3, a4, a5, a6, a7, a8, a9, a10, a11, a12, a13)) : wpX_update_4 post (fc, w, l, h, e, a1, a2, a3, a4, a5, a6, a7, a8, a9, a10, a11, a12, a13) (nI n) :=
  ⟨pk_in n 256 hn, jt_in0 h1 _, pk_in n 256 hn, jt_in0 h2 _, pk_in n 256 hn, nm_r (jt_cnt h1 h2 h40 hn h4) hp⟩
theorem jt_bal {post : Int32 → St2 → Prop} {n : Nat} (h1 : ∀ j, a1 j = 0) (h2 : ∀ j, a2 j = 0) (h40 : a4 0 = 0) (hn : n < 256) (h4 : a4 n = 1) (hp : post (nI n) (fc, w, l, h, e, a1, a2, a3, a4, a5, a6, a7, a8, a9, a10, a11, a12, a13)) : wpX_balanced post (fc, w, l, h, e, a1, a2, a3, a4, a5, a6, a7, a8, a9, a10, a11, a12, a13) (nI n) := by
  unfold wpX_balanced
  refine jt_up h1 h2 h40 hn h4 ⟨pk_in n 256 hn, nm_r (h1 _) ⟨pk_in n 256 hn, nm_r (h2 _) ?_⟩⟩
  refine jt_weight h40 (jt_weight h40 (br_t (by decide) ?_))
  exact jt_weight h40 (jt_weight h40 (br_t (by decide) hp))
theorem jt_bal2 {post : Int32 → St2 → Prop} {n : Nat} (h1 : ∀ j, a1 j = 0) (h2 : ∀ j, a2 j = 0) (h40 : a4 0 = 0) (hn : n < 256) (h4 : a4 n = 1) (hp : post (nI n) (fc, w, l, h, e, a1, a2, a3, a4, a5, a6, a7, a8, a9, a10, a11, a12, a13)) : wpX_balanced_2 post (fc, w, l, h, e, a1, a2, a3, a4, a5, a6, a7, a8, a9, a10, a11, a12, a13) (nI n) := by
  unfold wpX_balanced_2
  refine jt_up4 h1 h2 h40 hn h4 ⟨pk_in n 256 hn, nm_r (h1 _) ⟨pk_in n 256 hn, nm_r (h2 _) ?_⟩⟩
  refine jt_weight h40 (jt_weight h40 (br_t (by decide) ?_))
  exact jt_weight h40 (jt_weight h40 (br_t (by decide) hp))
theorem jt_st0 {f : Nat → Int32} {n : Nat} (hf : ∀ j, f j = 0) : upd f (nI n).toNatClampNeg (0 : Int32).toInt16.toInt32 = f := jt_un (by rw [hf, jt_z16])
theorem jt_join {post : Int32 → St2 → Prop} {n : Nat} (h1 : ∀ j, a1 j = 0) (h2 : ∀ j, a2 j = 0) (h40 : a4 0 = 0) (hn : n < 256) (h4 : a4 n = 1) (hp : post (nI n) (fc, w, l, h, e, a1, a2, a3, a4, a5, a6, a7, a8, a9, a10, a11, a12, a13)) : wpX_join post (fc, w, l, h, e, a1, a2, a3, a4, a5, a6, a7, a8, a9, a10, a11, a12, a13) 0 (nI n) 0 := by
  unfold wpX_join
  refine jt_weight h40 (jt_weight h40 (br_t (by decide) ?_))
  unfold wX_join_32
  refine jt_weight h40 (jt_weight h40 (br_t (by decide) ⟨1, br_t rfl ⟨1, br_t rfl ?_⟩⟩))
  refine ⟨pk_in n 256 hn, nm_r (jt_st0 h1) ⟨pk_in n 256 hn, nm_r (jt_st0 h2) ?_⟩⟩
  exact jt_bal h1 h2 h40 hn h4 ⟨1, br_t (Int32.le_refl _) hp⟩
theorem jt_join2 {post : Int32 → St2 → Prop} {n : Nat} (h1 : ∀ j, a1 j = 0) (h2 : ∀ j, a2 j = 0) (h40 : a4 0 = 0) (hn : n < 256) (h4 : a4 n = 1) (hp : post (nI n) (fc, w, l, h, e, a1, a2, a3, a4, a5, a6, a7, a8, a9, a10, a11, a12, a13)) : wpX_join_2 post (fc, w, l, h, e, a1, a2, a3, a4, a5, a6, a7, a8, a9, a10, a11, a12, a13) 0 (nI n) 0 := by
  unfold wpX_join_2
  refine jt_weight h40 (jt_weight h40 (br_t (by decide) ?_))
  unfold wX_join_2_32
  refine jt_weight h40 (jt_weight h40 (br_t (by decide) ⟨1, br_t rfl ⟨1, br_t rfl ?_⟩⟩))
  refine ⟨pk_in n 256 hn, nm_r (jt_st0 h1) ⟨pk_in n 256 hn, nm_r (jt_st0 h2) ?_⟩⟩
  exact jt_bal2 h1 h2 h40 hn h4 ⟨1, br_t (Int32.le_refl _) hp⟩

theorem jt_split0 {post : St2 → Prop} {x : Int32} (hp : post (fc, 0, 0, 0, 0, a1, a2, a3, a4, a5, a6, a7, a8, a9, a10, a11, a12, a13)) : wpX_splitTree post (fc, w, l, h, e, a1, a2, a3, a4, a5, a6, a7, a8, a9, a10, a11, a12, a13) 0 x :=
  ⟨1, br_t rfl (br_t rfl (br_t rfl ⟨1, br_t (by decide) (br_t rfl hp)⟩))⟩
theorem jt_splitL {post : St2 → Prop} {n : Nat} {x : Int32} (h1 : ∀ j, a1 j = 0) (h2 : ∀ j, a2 j = 0) (n0 : 0 < n) (hn : n < 256) (h4 : a4 n = 1) (h3 : a3 n = x)
    (hp : post (fc, 0, 0, 0, nI n, a1, a2, a3, a4, a5, a6, a7, a8, a9, a10, a11, a12, a13)) : wpX_splitTree post (fc, w, l, h, e, a1, a2, a3, a4, a5, a6, a7, a8, a9, a10, a11, a12, a13) (nI n) x := by
  have cl := jt_cl hn
  have ne := jt_ne n0 hn
  refine ⟨1, br_f ne ⟨pk_in n 256 hn, br_t (by rw [cl]; exact h3) (br_f ne ⟨pk_in n 256 hn, ?_⟩)⟩⟩
  rw [h1]
  refine br_f ne ⟨pk_in n 256 hn, nm_r (h2 _) ⟨1, br_t (by decide) (br_f ne ⟨pk_in n 256 hn, nm_r (jt_un (h1 _)) ⟨pk_in n 256 hn, nm_r (jt_un (h2 _)) ⟨pk_in n 256 hn, nm_r (jt_un (by rw [cl]; exact h4)) hp⟩⟩⟩)⟩⟩
theorem jt_jt0 {post : Int32 → St2 → Prop} {b : Int32} (hp : post b (fc, w, l, h, e, a1, a2, a3, a4, a5, a6, a7, a8, a9, a10, a11, a12, a13)) : wpX_joinTwo post (fc, w, l, h, e, a1, a2, a3, a4, a5, a6, a7, a8, a9, a10, a11, a12, a13) 0 b := br_t rfl hp
theorem jt_jt20 {post : Int32 → St2 → Prop} {b : Int32} (hp : post b (fc, w, l, h, e, a1, a2, a3, a4, a5, a6, a7, a8, a9, a10, a11, a12, a13)) : wpX_joinTwo_2 post (fc, w, l, h, e, a1, a2, a3, a4, a5, a6, a7, a8, a9, a10, a11, a12, a13) 0 b := br_t rfl hp
end
end
section
section
variable {fc w l h e : Int32} {a1 a2 a3 a4 a5 a6 a7 a8 a9 a10 a11 a12 a13 : Nat → Int32}
theorem jt_new {post : Int32 → St2 → Prop} {k m : Nat} {x : Int32} (h1 : ∀ j, a1 j = 0) (h2 : ∀ j, a2 j = 0) (hk : k < 256) (hm : m < 256) (h6 : a6 k = nI m)
    (hp : post (nI m) (nI k, w, l, h, e, a1, a2, upd a3 m x, upd a4 m 1, a5, a6, a7, a8, a9, a10, a11, a12, a13)) : wpX_newNode post (nI (k + 1), w, l, h, e, a1, a2, a3, a4, a5, a6, a7, a8, a9, a10, a11, a12, a13) x := by
  have cl := jt_cl hm
  refine nm_r (nI_pred k) ⟨pk_in k 256 hk, nm_r (e' := nI m) (by rw [jt_cl hk]; exact h6) ⟨pk_in m 256 hm, nm_r (e' := upd a3 m x) (by rw [cl]) ⟨pk_in m 256 hm, nm_r (jt_un (h1 _)) ⟨pk_in m 256 hm, nm_r (jt_un (h2 _)) ⟨pk_in m 256 hm, nm_r (e' := upd a4 m 1) (by rw [cl]) hp⟩⟩⟩⟩⟩
theorem jt_ck {p m : Nat} (h4 : a4 p = 1) : upd a4 m 1 p = 1 := by
  by_cases ej : p = m
  · rw [ej, pk_us]
  · rw [pk_un ej, h4]
theorem jt_twin {post : Int32 → St2 → Prop} {k m p : Nat} (h1 : ∀ j, a1 j = 0) (h2 : ∀ j, a2 j = 0) (hk : k < 256) (hm : m < 256) (h6 : a6 k = nI m) (pn : p < 256) (h4 : a4 p = 1)
    (hp : post (nI m) (nI k, w, l, h, e, a1, a2, upd a3 m (a3 p), upd a4 m 1, a5, a6, a7, a8, a9, a10, a11, a12, a13)) : wpX_twin post (nI (k + 1), w, l, h, e, a1, a2, a3, a4, a5, a6, a7, a8, a9, a10, a11, a12, a13) (nI p) := by
  have cl := jt_cl hm
  have cp := jt_cl pn
  refine ⟨pk_in p 256 pn, ?_⟩
  rw [cp]
  refine jt_new h1 h2 hk hm h6 ⟨pk_in p 256 pn, pk_in m 256 hm, nm_r (e' := a1) ?_ ⟨pk_in p 256 pn, pk_in m 256 hm, nm_r (e' := a2) ?_ ⟨pk_in p 256 pn, pk_in m 256 hm, nm_r (e' := upd a4 m 1) ?_ hp⟩⟩⟩
  · exact jt_un (by rw [h1, h1, jt_vs0])
  · exact jt_un (by rw [h2, h2, jt_vs0])
  · exact jt_un (by rw [cl, jt_ck h4, jt_vb1, pk_us])
theorem jt_push {post : St2 → Prop} {i : Nat} {p q : Int32} (hi : i < 64) (hp : post (fc, nI (i + 1), l, h, e, a1, a2, a3, a4, a5, a6, upd a7 i p.toInt16.toInt32, upd a8 i (vp_nar .boolean q), a9, a10, a11, a12, a13)) : wpX_pushWay post (fc, nI i, l, h, e, a1, a2, a3, a4, a5, a6, a7, a8, a9, a10, a11, a12, a13) p q :=
  ⟨pk_in i 64 hi, nm_r (e' := upd a7 i p.toInt16.toInt32) (by rw [jt_cl (by omega)]) ⟨pk_in i 64 hi, nm_r (e' := upd a8 i (vp_nar .boolean q)) (by rw [jt_cl (by omega)]) (nm_r (nI_1 i) hp)⟩⟩
theorem jt_copy {post : Int32 → St2 → Prop} {k m p : Nat} (h1 : ∀ j, a1 j = 0) (h2 : ∀ j, a2 j = 0) (hk : k < 256) (hm : m < 256) (h6 : a6 k = nI m) (p0 : 0 < p) (pn : p < 256) (h4 : a4 p = 1)
    (hp : ∀ a7 a8 : Nat → Int32, post (nI m) (nI k, 0, l, h, e, a1, a2, upd a3 m (a3 p), upd a4 m 1, a5, a6, a7, a8, a9, a10, a11, a12, a13)) : wpX_copyOf post (nI (k + 1), w, l, h, e, a1, a2, a3, a4, a5, a6, a7, a8, a9, a10, a11, a12, a13) (nI p) := by
  unfold wpX_copyOf
  refine br_f (jt_ne p0 pn) (jt_twin h1 h2 hk hm h6 pn h4 (jt_push (i := 0) (by decide) ⟨2, br_f (by decide) (nm_r (nI_pred 0) ⟨pk_in 0 64 (by decide), nm_r (e' := nI m) ?_ ⟨pk_in m 256 hm, br_t (h1 _) ⟨pk_in m 256 hm, br_t (h2 _) (br_t (by decide) (hp _ _))⟩⟩⟩)⟩))
  rw [jt_cl (n := 0) (by decide), pk_us, jt_s16 m hm]
theorem jt_rel0 {post : St2 → Prop} (hp : post (fc, w, l, h, e, a1, a2, a3, a4, a5, a6, a7, a8, a9, a10, a11, a12, a13)) : wpX_release post (fc, w, l, h, e, a1, a2, a3, a4, a5, a6, a7, a8, a9, a10, a11, a12, a13) 0 := br_t rfl hp
theorem jt_rel {post : St2 → Prop} {k n : Nat} (hk : k < 256) (n0 : 0 < n) (hn : n < 256) (hp : post (nI (k + 1), w, l, h, e, a1, a2, a3, a4, a5, upd a6 k (nI n), a7, a8, a9, a10, a11, a12, a13)) : wpX_release post (nI k, w, l, h, e, a1, a2, a3, a4, a5, a6, a7, a8, a9, a10, a11, a12, a13) (nI n) :=
  br_f (jt_ne n0 hn) ⟨pk_in k 256 hk, nm_r (e' := upd a6 k (nI n)) (by rw [jt_cl hk, jt_s16 n hn]) (nm_r (nI_1 k) hp)⟩
theorem jt_pop0 {post : St2 → Prop} {m i : Nat} (hi : i < 64) (h7 : a7 i = 0) (hp : wX_releaseTree_11 post m fc (nI i) l h e a1 a2 a3 a4 a5 a6 a7 a8 a9 a10 a11 a12 a13) : wX_releaseTree_11 post (m + 1) fc (nI (i + 1)) l h e a1 a2 a3 a4 a5 a6 a7 a8 a9 a10 a11 a12 a13 :=
  br_f (nI_nle (by omega) (by omega)) (nm_r (nI_pred i) ⟨pk_in i 64 hi, nm_r (e' := 0) (by rw [jt_cl (by omega)]; exact h7) (br_t rfl hp)⟩)
theorem jt_rt0 {post : St2 → Prop} (hp : ∀ a7 a8 : Nat → Int32, post (fc, 0, l, h, e, a1, a2, a3, a4, a5, a6, a7, a8, a9, a10, a11, a12, a13)) : wpX_releaseTree post (fc, w, l, h, e, a1, a2, a3, a4, a5, a6, a7, a8, a9, a10, a11, a12, a13) 0 := by
  unfold wpX_releaseTree
  refine jt_push (i := 0) (by decide) ⟨2, jt_pop0 (i := 0) (by decide) ?_ (br_t (by decide) (hp _ _))⟩
  rw [pk_us, jt_z16]
theorem jt_rtL {post : St2 → Prop} {k n : Nat} (h1 : ∀ j, a1 j = 0) (h2 : ∀ j, a2 j = 0) (hk : k < 256) (n0 : 0 < n) (hn : n < 256)
    (hp : ∀ a7 a8 : Nat → Int32, post (nI (k + 1), 0, l, h, e, a1, a2, a3, a4, a5, upd a6 k (nI n), a7, a8, a9, a10, a11, a12, a13)) : wpX_releaseTree post (nI k, w, l, h, e, a1, a2, a3, a4, a5, a6, a7, a8, a9, a10, a11, a12, a13) (nI n) := by
  unfold wpX_releaseTree
  refine jt_push (i := 0) (by decide) ⟨4, br_f (by decide) (nm_r (nI_pred 0) ⟨pk_in 0 64 (by decide), nm_r (e' := nI n) ?_ (br_f (jt_ne n0 hn) (jt_rel hk n0 hn ⟨pk_in n 256 hn, ?_⟩))⟩)⟩
  · rw [jt_cl (n := 0) (by decide), pk_us, jt_s16 n hn]
  · rw [h1]
    refine jt_push (i := 0) (by decide) ⟨pk_in n 256 hn, ?_⟩
    rw [h2]
    refine jt_push (i := 1) (by decide) (jt_pop0 (i := 1) (by decide) ?_ (jt_pop0 (i := 0) (by decide) ?_ (br_t (by decide) (hp _ _))))
    · rw [pk_us, jt_z16]
    · rw [pk_un (by decide), pk_us, jt_z16]
theorem jt_wn {post : Int32 → St2 → Prop} {how : Int32} (hp : ∀ (w : Int32) (a7 a8 : Nat → Int32), post 0 (fc, w, l, h, e, a1, a2, a3, a4, a5, a6, a7, a8, a9, a10, a11, a12, a13)) : wpX_withNothing post (fc, w, l, h, e, a1, a2, a3, a4, a5, a6, a7, a8, a9, a10, a11, a12, a13) how 0 0 := by
  unfold wpX_withNothing
  exact br_c (fun _ => br_t rfl (hp _ _ _)) (fun _ => jt_rt0 (fun _ _ => br_c (fun _ => hp _ _ _) (fun _ => jt_rt0 (fun _ _ => hp _ _ _))))
end
end
section
section
variable {fc w l h e : Int32} {a1 a2 a3 a4 a5 a6 a7 a8 a9 a10 a11 a12 a13 : Nat → Int32}
/-- the sides of two leaves: nothing with nothing -/
theorem jt_cw {post : Int32 → St2 → Prop} {how t x7 : Int32} {m : Nat}
    (hp : ∀ (w : Int32) (a7 a8 : Nat → Int32), wX_combined_15 post how m t 0 0 0 0 fc w l h e a1 a2 a3 a4 a5 a6 a7 a8 a9 a10 a11 a12 a13) : wX_combined_15 post how (m + 1) t 0 0 x7 1 fc w l h e a1 a2 a3 a4 a5 a6 a7 a8 a9 a10 a11 a12 a13 := by
  refine br_f (by decide) (br_f (by decide) (br_t rfl (br_f (by decide) ?_)))
  exact jt_wn hp
theorem jt_cfin {post : Int32 → St2 → Prop} {how : Int32} {p k : Nat} (h1 : ∀ j, a1 j = 0) (h2 : ∀ j, a2 j = 0) (h40 : a4 0 = 0) (p0 : 0 < p) (pn : p < 256) (hk : k < 256) (h4 : a4 p = 1)
    (h9 : a9 0 = nI p) (h11 : a11 0 = 0) (h12 : a12 0 = 1)
    (hs : how = 0 ∨ how = 1 → post (nI p) (nI k, 0, l, h, e, a1, a2, a3, a4, a5, a6, a7, a8, a9, a10, a11, a12, a13))
    (hl : how = 2 → post 0 (nI (k + 1), 0, l, h, e, a1, a2, a3, a4, a5, upd a6 k (nI p), a7, a8, a9, a10, a11, a12, a13)) (hh : how = 0 ∨ how = 1 ∨ how = 2) : wpX_finished post (nI k, w, l, h, e, a1, a2, a3, a4, a5, a6, a7, a8, a9, a10, a11, a12, a13) how 0 0 := by
  unfold wpX_finished
  have stay : post (nI p) (nI k, 0, l, h, e, a1, a2, a3, a4, a5, a6, a7, a8, a9, a10, a11, a12, a13) → wX_finished_31 post 0 0 (nI p) (nI k) w l h e a1 a2 a3 a4 a5 a6 a7 a8 a9 a10 a11 a12 a13 := by
    intro hq
    unfold wX_finished_31
    refine br_f (by decide) ⟨pk_in 0 32 (by decide), ?_⟩
    rw [jt_c0, h11]
    exact jt_join h1 h2 h40 pn h4 hq
  refine ⟨pk_in 0 32 (by decide), nm_r (e' := nI p) (by rw [jt_c0]; exact h9) ?_⟩
  rcases hh with e0 | e1 | e2
  · exact br_t e0 (stay (hs (Or.inl e0)))
  · refine br_f (by rw [e1]; decide) ⟨pk_in 0 32 (by decide), br_t e1 (br_t (by rw [jt_c0]; exact h12) (stay (hs (Or.inr e1))))⟩
  · refine br_f (by rw [e2]; decide) ⟨pk_in 0 32 (by decide), br_f (by rw [e2]; decide) (br_f (by rw [jt_c0, h12]; decide) (br_t rfl (jt_rel hk p0 pn ⟨pk_in 0 32 (by decide), ?_⟩)))⟩
    rw [jt_c0, h11]
    exact jt_jt0 (hl e2)
/-- two leaves of one int: united and met the first is left; less: nothing -/
theorem jt_comb {post : Int32 → St2 → Prop} {how : Int32} {p q k : Nat} (h1 : ∀ j, a1 j = 0) (h2 : ∀ j, a2 j = 0) (h40 : a4 0 = 0) (p0 : 0 < p) (pn : p < 256) (q0 : 0 < q) (qn : q < 256) (hk : k + 1 < 256)
    (hp4 : a4 p = 1) (hq4 : a4 q = 1) (h3 : a3 q = a3 p)
    (hs : how = 0 ∨ how = 1 → ∀ (w l h e : Int32) (a7 a8 a9 a10 a11 a12 a13 : Nat → Int32), post (nI p) (nI (k + 1), w, l, h, e, a1, a2, a3, a4, a5, upd a6 k (nI q), a7, a8, a9, a10, a11, a12, a13))
    (hl : how = 2 → ∀ (w l h e : Int32) (a7 a8 a9 a10 a11 a12 a13 : Nat → Int32), post 0 (nI (k + 2), w, l, h, e, a1, a2, a3, a4, a5, upd (upd a6 k (nI q)) (k + 1) (nI p), a7, a8, a9, a10, a11, a12, a13)) (hh : how = 0 ∨ how = 1 ∨ how = 2) :
    wpX_combined post (nI k, w, l, h, e, a1, a2, a3, a4, a5, a6, a7, a8, a9, a10, a11, a12, a13) how (nI p) (nI q) := by
  unfold wpX_combined
  have np := jt_ne p0 pn
  have nq := jt_ne q0 qn
  have cp := jt_cl pn
  refine ⟨6, br_f (by decide) (br_f (by decide) (br_f np (br_f nq ⟨pk_in p 256 pn, ?_⟩)))⟩
  rw [cp]
  refine jt_splitL h1 h2 q0 qn hq4 h3 ⟨pk_in 0 32 (by decide), nm_r (e' := upd a9 0 (nI p)) (by rw [jt_c0, jt_s16 p pn]) ⟨pk_in 0 32 (by decide), nm_r (e' := upd a10 0 0) (by rw [jt_c0, jt_z16]) (br_f nq ?_)⟩⟩
  refine ⟨pk_in 0 32 (by decide), nm_r (e' := upd a12 0 1) (by rw [jt_c0, jt_bool1]) ⟨pk_in 0 32 (by decide), nm_r (e' := upd a13 0 0) (by rw [jt_c0]) ?_⟩⟩
  refine jt_rel (by omega) q0 qn (nm_r (e' := 1) (by decide) ⟨pk_in p 256 pn, nm_r (h1 _) ?_⟩)
  refine jt_cw (fun w a7 a8 => ?_)
  refine br_t rfl (br_f (by decide) (br_t rfl (br_t rfl (nm_r (e' := 0) (by decide) ⟨pk_in 0 32 (by decide), br_t (by rw [jt_c0, pk_us]) ⟨pk_in 0 32 (by decide), nm_r (e' := upd a11 0 0) (by rw [jt_c0, jt_z16]) ⟨pk_in 0 32 (by decide), nm_r (e' := upd (upd a13 0 0) 0 1) (by rw [jt_c0]) ⟨pk_in 0 32 (by decide), ?_, nm_r (h2 _) ⟨pk_in 0 32 (by decide), nm_r (e' := 0) (by rw [jt_c0, pk_us]) ?_⟩⟩⟩⟩⟩))))
  · rw [jt_c0, pk_us]
    exact pk_in p 256 pn
  · refine jt_cw (fun w a7 a8 => ?_)
    refine br_t rfl (br_f (by decide) (br_t rfl (br_t rfl (nm_r (e' := 0) (by decide) ⟨pk_in 0 32 (by decide), br_f (by rw [jt_c0, pk_us]; decide) ?_⟩))))
    refine jt_cfin h1 h2 h40 p0 pn hk hp4 pk_us pk_us pk_us (fun hc => ?_) (fun hc => ?_) hh
    · exact nm_r (e' := 0) (by decide) (br_t rfl (br_t (by decide) (hs hc _ _ _ _ _ _ _ _ _ _ _)))
    · exact nm_r (e' := 0) (by decide) (br_t rfl (br_t (by decide) (hl hc _ _ _ _ _ _ _ _ _ _ _)))
theorem jt_comb0 {post : Int32 → St2 → Prop} {how : Int32} (hp : ∀ (w : Int32) (a7 a8 : Nat → Int32), post 0 (fc, w, l, h, e, a1, a2, a3, a4, a5, a6, a7, a8, a9, a10, a11, a12, a13)) : wpX_combined post (fc, w, l, h, e, a1, a2, a3, a4, a5, a6, a7, a8, a9, a10, a11, a12, a13) how 0 0 := by
  unfold wpX_combined
  exact ⟨2, jt_cw (fun w a7 a8 => br_t rfl (br_t (by decide) (hp w a7 a8)))⟩
theorem jt_either {post : Int32 → St2 → Prop} {s r p q k : Nat} (h1 : ∀ j, a1 j = 0) (h2 : ∀ j, a2 j = 0) (h40 : a4 0 = 0) (hs : s < 4) (r0 : 0 < r) (rn : r < 256) (p0 : 0 < p) (pn : p < 256) (q0 : 0 < q) (qn : q < 256) (hk : k + 1 < 256)
    (hr4 : a4 r = 1) (hp4 : a4 p = 1) (hq4 : a4 q = 1) (hp3 : a3 p = a3 r) (hq3 : a3 q = a3 r) (h5 : a5 s = nI r)
    (H : ∀ (w l h e : Int32) (a6 a7 a8 a9 a10 a11 a12 a13 : Nat → Int32), post 0 (nI (k + 2), w, l, h, e, a1, a2, a3, a4, a5, a6, a7, a8, a9, a10, a11, a12, a13)) :
    wpX_combinedEither post (nI k, w, l, h, e, a1, a2, a3, a4, a5, a6, a7, a8, a9, a10, a11, a12, a13) (nI s) (nI s) (nI p) (nI q) := by
  have cs : (nI s).toNatClampNeg = s := jt_cl (by omega)
  have u3p : upd a3 p (a3 r) = a3 := jt_un hp3
  have u3q : upd a3 q (a3 r) = a3 := jt_un hq3
  have u4p : upd a4 p 1 = a4 := jt_un hp4
  have u4q : upd a4 q 1 = a4 := jt_un hq4
  unfold wpX_combinedEither
  refine jt_comb h1 h2 h40 p0 pn q0 qn hk hp4 hq4 (by rw [hp3, hq3]) (fun hc => absurd hc (by decide)) (fun _ w l h e a7 a8 a9 a10 a11 a12 a13 => ⟨pk_in s 4 hs, ?_⟩) (Or.inr (Or.inr rfl))
  rw [cs, h5]
  refine jt_copy (k := k + 1) (m := p) h1 h2 hk pn pk_us r0 rn hr4 (fun a7 a8 => ⟨pk_in s 4 hs, ?_⟩)
  rw [h5, u3p, u4p]
  refine jt_copy (k := k) (m := q) h1 h2 (by omega) qn (by rw [pk_un (by omega), pk_us]) r0 rn hr4 (fun a7 a8 => ?_)
  rw [u3q, u4q]
  refine jt_comb h1 h2 h40 q0 qn p0 pn hk hq4 hp4 (by rw [hp3, hq3]) (fun hc => absurd hc (by decide)) (fun _ w l h e a7 a8 a9 a10 a11 a12 a13 => ?_) (Or.inr (Or.inr rfl))
  exact jt_comb0 (fun w a7 a8 => H _ _ _ _ _ _ _ _ _ _ _ _)
theorem jt_c89 {post : Int32 → St2 → Prop} {d k z r : Nat} {c : Int32} (h1 : ∀ j, a1 j = 0) (h2 : ∀ j, a2 j = 0) (hd : d < 4) (zn : z < 256) (hk : k < 256) (h4 : a4 z = c) (hc : c ≤ 20) (r0 : 0 < r) (rn : r < 256) (h5 : a5 d = 0 ∨ a5 d = nI r)
    (H : ∀ (k' : Nat) (w : Int32) (a6 a7 a8 : Nat → Int32), k' ≤ k + 1 → post c (nI k', w, l, h, e, a1, a2, a3, a4, upd a5 d (nI z), a6, a7, a8, a9, a10, a11, a12, a13)) : wX_combine_89 post (nI d) (nI z) (nI k) w l h e a1 a2 a3 a4 a5 a6 a7 a8 a9 a10 a11 a12 a13 := by
  have cd : (nI d).toNatClampNeg = d := jt_cl (by omega)
  have cz := jt_cl zn
  unfold wX_combine_89
  refine ⟨pk_in z 256 zn, br_t (by rw [cz, h4]; exact hc) ⟨pk_in d 4 hd, ?_⟩⟩
  rw [cd]
  rcases h5 with e0 | er
  · rw [e0]
    refine jt_rt0 (fun a7 a8 => ⟨pk_in d 4 hd, nm_r (e' := upd a5 d (nI z)) (by rw [jt_s16 z zn]) ⟨pk_in z 256 zn, ?_⟩⟩)
    rw [cz, h4]
    exact H _ _ _ _ _ (by omega)
  · rw [er]
    refine jt_rtL h1 h2 hk r0 rn (fun a7 a8 => ⟨pk_in d 4 hd, nm_r (e' := upd a5 d (nI z)) (by rw [jt_s16 z zn]) ⟨pk_in z 256 zn, ?_⟩⟩)
    rw [cz, h4]
    exact H _ _ _ _ _ (by omega)
end
end
section
section
variable {fc w l h e : Int32} {a1 a2 a3 a4 a5 a6 a7 a8 a9 a10 a11 a12 a13 : Nat → Int32}
theorem jt_k3 {f : Nat → Int32} {m r : Nat} : upd f m (f r) r = f r := by
  by_cases ej : r = m
  · rw [ej, pk_us]
  · rw [pk_un ej]
theorem jt_combine {post : Int32 → St2 → Prop} {how : Int32} {s d r m n k : Nat} (h1 : ∀ j, a1 j = 0) (h2 : ∀ j, a2 j = 0) (h40 : a4 0 = 0) (hs : s < 4) (hd : d < 4)
    (r0 : 0 < r) (rn : r < 256) (m0 : 0 < m) (mn : m < 256) (n0 : 0 < n) (nn : n < 256) (hk : k + 3 < 256) (hr4 : a4 r = 1) (h5 : a5 s = nI r) (h5d : a5 d = 0 ∨ a5 d = nI r) (h6m : a6 (k + 1) = nI m) (h6n : a6 k = nI n)
    (hh : how = 0 ∨ how = 1 ∨ how = 2 ∨ how = 3)
    (Hs : how = 0 ∨ how = 1 → ∀ (k' : Nat) (w l h e : Int32) (a6 a7 a8 a9 a10 a11 a12 a13 : Nat → Int32), k' < 256 → post 1 (nI k', w, l, h, e, a1, a2, upd (upd a3 m (a3 r)) n (a3 r), upd (upd a4 m 1) n 1, upd a5 d (nI m), a6, a7, a8, a9, a10, a11, a12, a13))
    (Hl : how = 2 ∨ how = 3 → ∀ (k' : Nat) (w l h e : Int32) (a6 a7 a8 a9 a10 a11 a12 a13 : Nat → Int32), k' < 256 → post 0 (nI k', w, l, h, e, a1, a2, upd (upd a3 m (a3 r)) n (a3 r), upd (upd a4 m 1) n 1, upd a5 d (nI 0), a6, a7, a8, a9, a10, a11, a12, a13)) :
    wpX_combine post (nI (k + 2), w, l, h, e, a1, a2, a3, a4, a5, a6, a7, a8, a9, a10, a11, a12, a13) how (nI d) (nI s) (nI s) := by
  have cs : (nI s).toNatClampNeg = s := jt_cl (by omega)
  have f1 : ¬ how < 0 := by
    rcases hh with e0 | e0 | e0 | e0 <;> rw [e0] <;> decide
  have f2 : ¬ 3 < how := by
    rcases hh with e0 | e0 | e0 | e0 <;> rw [e0] <;> decide
  have g40 : upd (upd a4 m 1) n 1 0 = 0 := by rw [pk_un (by omega), pk_un (by omega)]; exact h40
  have gn : upd (upd a4 m 1) n 1 n = 1 := pk_us
  have gm : upd (upd a4 m 1) n 1 m = 1 := jt_ck pk_us
  have gr : upd (upd a4 m 1) n 1 r = 1 := jt_ck (jt_ck hr4)
  have kn : upd (upd a3 m (a3 r)) n (a3 r) n = a3 r := pk_us
  have km : upd (upd a3 m (a3 r)) n (a3 r) m = a3 r := by
    by_cases ej : m = n
    · rw [ej, pk_us]
    · rw [pk_un ej, pk_us]
  have kr : upd (upd a3 m (a3 r)) n (a3 r) r = a3 r := by
    by_cases ej : r = n
    · rw [ej, pk_us]
    · rw [pk_un ej, jt_k3]
  unfold wpX_combine
  refine br_f f1 (br_f f2 (jt_set d hd (br_f (by decide) (jt_set s hs (br_f (by decide) (jt_set s hs (br_f (by decide) ⟨pk_in s 4 hs, ?_⟩)))))))
  rw [cs, h5]
  refine jt_copy (k := k + 1) (m := m) h1 h2 (by omega) mn h6m r0 rn hr4 (fun a7 a8 => ⟨pk_in s 4 hs, ?_⟩)
  rw [h5]
  refine jt_copy (k := k) (m := n) h1 h2 (by omega) nn h6n r0 rn (jt_ck hr4) (fun a7 a8 => ?_)
  rw [jt_k3]
  rcases hh with e0 | e0 | e0 | e0
  · refine br_f (by rw [e0]; decide) (jt_comb h1 h2 g40 m0 mn n0 nn (by omega) gm gn (by rw [kn, km]) (fun _ w l h e a7 a8 a9 a10 a11 a12 a13 => ?_) (fun hc => absurd (hc.symm.trans e0) (by decide)) (Or.inl e0))
    exact jt_c89 h1 h2 hd mn (by omega) gm (by decide) r0 rn h5d (fun k' w a6 a7 a8 hk' => Hs (Or.inl e0) k' _ _ _ _ _ _ _ _ _ _ _ _ (by omega))
  · refine br_f (by rw [e0]; decide) (jt_comb h1 h2 g40 m0 mn n0 nn (by omega) gm gn (by rw [kn, km]) (fun _ w l h e a7 a8 a9 a10 a11 a12 a13 => ?_) (fun hc => absurd (hc.symm.trans e0) (by decide)) (Or.inr (Or.inl e0)))
    exact jt_c89 h1 h2 hd mn (by omega) gm (by decide) r0 rn h5d (fun k' w a6 a7 a8 hk' => Hs (Or.inr e0) k' _ _ _ _ _ _ _ _ _ _ _ _ (by omega))
  · refine br_f (by rw [e0]; decide) (jt_comb h1 h2 g40 m0 mn n0 nn (by omega) gm gn (by rw [kn, km]) (fun hc => absurd hc (by rw [e0]; decide)) (fun _ w l h e a7 a8 a9 a10 a11 a12 a13 => ?_) (Or.inr (Or.inr e0)))
    exact jt_c89 (z := 0) h1 h2 hd (by decide) (by omega) g40 (by decide) r0 rn h5d (fun k' w a6 a7 a8 hk' => Hl (Or.inl e0) k' _ _ _ _ _ _ _ _ _ _ _ _ (by omega))
  · refine br_t e0 (jt_either h1 h2 g40 hs r0 rn m0 mn n0 nn (by omega) gr gm gn (by rw [km, kr]) (by rw [kn, kr]) h5 (fun w l h e a6 a7 a8 a9 a10 a11 a12 a13 => ?_))
    exact jt_c89 (z := 0) h1 h2 hd (by decide) (by omega) g40 (by decide) r0 rn h5d (fun k' w a6 a7 a8 hk' => Hl (Or.inr e0) k' _ _ _ _ _ _ _ _ _ _ _ _ (by omega))
theorem jt_combineN {post : Int32 → St2 → Prop} {how p q : Int32} (hs : how < 0 ∨ 3 < how ∨ (p < 0 ∨ 3 < p) ∨ (q < 0 ∨ 3 < q)) (hp : post (-1) (fc, w, l, h, e, a1, a2, a3, a4, a5, a6, a7, a8, a9, a10, a11, a12, a13)) : wpX_combine post (fc, w, l, h, e, a1, a2, a3, a4, a5, a6, a7, a8, a9, a10, a11, a12, a13) how p q q := by
  unfold wpX_combine
  refine br_c (fun _ => hp) (fun z1 => br_c (fun _ => hp) (fun z2 => ?_))
  rcases hs with hs | hs | hs | hs
  · exact absurd hs z1
  · exact absurd hs z2
  · exact jt_setN hs (br_t rfl hp)
  · exact jt_setC (br_t rfl hp) (br_f (by decide) (jt_setN hs (br_t rfl hp)))
theorem jt_addN {post : Int32 → St2 → Prop} {p x : Int32} (hs : p < 0 ∨ 3 < p) (hp : post (-1) (fc, w, l, h, e, a1, a2, a3, a4, a5, a6, a7, a8, a9, a10, a11, a12, a13)) : wpX_add post (fc, w, l, h, e, a1, a2, a3, a4, a5, a6, a7, a8, a9, a10, a11, a12, a13) p x := by
  unfold wpX_add
  exact jt_setN hs (br_t rfl hp)
theorem jt_add {post : Int32 → St2 → Prop} {s m k : Nat} {x : Int32} (h1 : ∀ j, a1 j = 0) (h2 : ∀ j, a2 j = 0) (h40 : a4 0 = 0) (hs : s < 4) (h5 : a5 s = 0) (hk : k < 256) (m0 : 0 < m) (mn : m < 256) (h6 : a6 k = nI m)
    (H : post 1 (nI k, 0, 0, 0, 0, a1, a2, upd a3 m x, upd a4 m 1, upd a5 s (nI m), a6, a7, a8, a9, a10, a11, a12, a13)) : wpX_add post (nI (k + 1), w, l, h, e, a1, a2, a3, a4, a5, a6, a7, a8, a9, a10, a11, a12, a13) (nI s) x := by
  have cs : (nI s).toNatClampNeg = s := jt_cl (by omega)
  unfold wpX_add
  refine jt_set s hs (br_f (by decide) (jt_has0 hs h5 (br_t rfl ⟨pk_in s 4 hs, ?_, br_t ?_ ⟨pk_in s 4 hs, ?_⟩⟩)))
  · rw [cs, h5]
    exact pk_in 0 256 (by decide)
  · rw [cs, h5, jt_c0, h40]
    decide
  · rw [cs, h5]
    refine jt_split0 (jt_new h1 h2 hk mn h6 (jt_join2 h1 h2 ?_ mn pk_us ⟨pk_in s 4 hs, nm_r (e' := upd a5 s (nI m)) ?_ H⟩))
    · rw [pk_un (by omega)]
      exact h40
    · rw [jt_s16 m mn]
theorem jt_ceilN {post : Int32 → Prop} {p x : Int32} (hs : p < 0 ∨ 3 < p) (hp : post (-1)) : wpX_ceiling post (fc, w, l, h, e, a1, a2, a3, a4, a5, a6, a7, a8, a9, a10, a11, a12, a13) p x := by
  unfold wpX_ceiling
  exact jt_setN hs (br_t rfl hp)
theorem jt_ceil0 {post : Int32 → Prop} {s : Nat} {x : Int32} (h40 : a4 0 = 0) (hs : s < 4) (h5 : a5 s = 0) (hp : post (-3)) : wpX_ceiling post (fc, w, l, h, e, a1, a2, a3, a4, a5, a6, a7, a8, a9, a10, a11, a12, a13) (nI s) x := by
  have cs : (nI s).toNatClampNeg = s := jt_cl (by omega)
  unfold wpX_ceiling
  refine jt_set s hs (br_f (by decide) (jt_rank0 hs h5 ⟨pk_in s 4 hs, ?_, br_t ?_ hp⟩))
  · rw [cs, h5]
    exact pk_in 0 256 (by decide)
  · rw [cs, h5, jt_c0, h40]
    decide
theorem jt_ceilL {post : Int32 → Prop} {s n : Nat} {x : Int32} (h1 : ∀ j, a1 j = 0) (h2 : ∀ j, a2 j = 0) (h40 : a4 0 = 0) (hs : s < 4) (n0 : 0 < n) (hn : n < 256) (h4 : a4 n = 1) (h5 : a5 s = nI n)
    (hp0 : x ≤ a3 n → post 0) (hp3 : ¬ x ≤ a3 n → post (-3)) : wpX_ceiling post (fc, w, l, h, e, a1, a2, a3, a4, a5, a6, a7, a8, a9, a10, a11, a12, a13) (nI s) x := by
  have cs : (nI s).toNatClampNeg = s := jt_cl (by omega)
  have cn := jt_cl hn
  unfold wpX_ceiling
  refine jt_set s hs (br_f (by decide) (jt_rankL h1 h2 h40 hs n0 hn h5 (fun hc => ⟨pk_in s 4 hs, ?_, br_f ?_ (hp0 hc)⟩) (fun hc => ⟨pk_in s 4 hs, ?_, br_t ?_ (hp3 hc)⟩)))
  · rw [cs, h5]
    exact pk_in n 256 hn
  · rw [cs, h5, cn, h4]
    decide
  · rw [cs, h5]
    exact pk_in n 256 hn
  · rw [cs, h5, cn, h4]
    decide
theorem jt_remN {post : Int32 → St2 → Prop} {p x : Int32} (hs : p < 0 ∨ 3 < p) (hp : post (-1) (fc, w, l, h, e, a1, a2, a3, a4, a5, a6, a7, a8, a9, a10, a11, a12, a13)) : wpX_remove post (fc, w, l, h, e, a1, a2, a3, a4, a5, a6, a7, a8, a9, a10, a11, a12, a13) p x := by
  unfold wpX_remove
  exact jt_setN hs (br_t rfl hp)
theorem jt_rem0 {post : Int32 → St2 → Prop} {s : Nat} {x : Int32} (hs : s < 4) (h5 : a5 s = 0) (hp : post 0 (fc, w, l, h, e, a1, a2, a3, a4, a5, a6, a7, a8, a9, a10, a11, a12, a13)) : wpX_remove post (fc, w, l, h, e, a1, a2, a3, a4, a5, a6, a7, a8, a9, a10, a11, a12, a13) (nI s) x := by
  unfold wpX_remove
  exact jt_set s hs (br_f (by decide) (jt_has0 hs h5 (br_t rfl hp)))
theorem jt_remL {post : Int32 → St2 → Prop} {s n k : Nat} {x : Int32} (h1 : ∀ j, a1 j = 0) (h2 : ∀ j, a2 j = 0) (hs : s < 4) (hk : k < 256) (n0 : 0 < n) (hn : n < 256) (h4 : a4 n = 1) (h5 : a5 s = nI n)
    (hp1 : a3 n = x → ∀ (w l h e : Int32) (a6 : Nat → Int32), post 1 (nI (k + 1), w, l, h, e, a1, a2, a3, a4, upd a5 s 0, a6, a7, a8, a9, a10, a11, a12, a13)) (hp0 : ¬ a3 n = x → post 0 (nI k, w, l, h, e, a1, a2, a3, a4, a5, a6, a7, a8, a9, a10, a11, a12, a13)) : wpX_remove post (nI k, w, l, h, e, a1, a2, a3, a4, a5, a6, a7, a8, a9, a10, a11, a12, a13) (nI s) x := by
  have cs : (nI s).toNatClampNeg = s := jt_cl (by omega)
  unfold wpX_remove
  refine jt_set s hs (br_f (by decide) (jt_hasL h1 h2 hs n0 hn h5 (fun hc => br_f (by decide) ⟨pk_in s 4 hs, ?_⟩) (fun hc => br_t rfl (hp0 hc))))
  rw [cs, h5]
  refine jt_splitL h1 h2 n0 hn h4 hc (jt_rel hk n0 hn (jt_jt20 ⟨pk_in s 4 hs, nm_r (e' := upd a5 s 0) ?_ (hp1 hc _ _ _ _ _)⟩))
  rw [jt_z16]
theorem jt_atN {post : Int32 → Prop} {p x : Int32} (hs : p < 0 ∨ 3 < p) (hp : post 0) : wpX_at post (fc, w, l, h, e, a1, a2, a3, a4, a5, a6, a7, a8, a9, a10, a11, a12, a13) p x := by
  unfold wpX_at
  exact jt_setN hs (br_t rfl hp)
theorem jt_at0 {post : Int32 → Prop} {s : Nat} (h40 : a4 0 = 0) (hs : s < 4) (h5 : a5 s = 0) (hp : post 0) : wpX_at post (fc, w, l, h, e, a1, a2, a3, a4, a5, a6, a7, a8, a9, a10, a11, a12, a13) (nI s) 0 := by
  have cs : (nI s).toNatClampNeg = s := jt_cl (by omega)
  unfold wpX_at
  refine jt_set s hs (br_f (by decide) (br_f (by decide) ⟨pk_in s 4 hs, ?_, br_f ?_ hp⟩))
  · rw [cs, h5]
    exact pk_in 0 256 (by decide)
  · rw [cs, h5, jt_c0, h40]
    decide
theorem jt_atL {post : Int32 → Prop} {s n : Nat} (h1 : ∀ j, a1 j = 0) (h40 : a4 0 = 0) (hs : s < 4) (hn : n < 256) (h4 : a4 n = 1) (h5 : a5 s = nI n) (hp : post (a3 n)) : wpX_at post (fc, w, l, h, e, a1, a2, a3, a4, a5, a6, a7, a8, a9, a10, a11, a12, a13) (nI s) 0 := by
  have cs : (nI s).toNatClampNeg = s := jt_cl (by omega)
  have cn := jt_cl hn
  unfold wpX_at
  refine jt_set s hs (br_f (by decide) (br_f (by decide) ⟨pk_in s 4 hs, ?_, br_t ?_ ⟨pk_in s 4 hs, nm_r (e' := nI n) ?_ ⟨1, pk_in n 256 hn, jt_in0 h1 _, br_t ?_ ⟨pk_in n 256 hn, ?_⟩⟩⟩⟩))
  · rw [cs, h5]
    exact pk_in n 256 hn
  · rw [cs, h5, cn, h4]
    decide
  · rw [cs, h5]
  · rw [h1, jt_c0, h40]
  · rw [cn]
    exact hp
end
end
section
section
variable {fc w l h e : Int32} {a1 a2 a3 a4 a5 a6 a7 a8 a9 a10 a11 a12 a13 : Nat → Int32}
/-- from the ceiling on, the int is in the set -/
theorem jt_in {post : Int32 → St0 → Prop} {mc ms kc ks s n k : Nat} {x y : Int32} (h1 : ∀ j, a1 j = 0) (h2 : ∀ j, a2 j = 0) (h40 : a4 0 = 0) (hs : s < 4) (hk : k < 256) (n0 : 0 < n) (hn : n < 256) (h4 : a4 n = 1) (h3 : a3 n = x) (h5 : a5 s = nI n)
    (hp : post 1 ()) : wL_lawOf_172 post mc ms (nI s) x y 1 1 kc ks (nI k) w l h e a1 a2 a3 a4 a5 a6 a7 a8 a9 a10 a11 a12 a13 := by
  have rest : ∀ z : Int32, wL_lawOf_206 post mc ms (nI s) x y 1 1 z z kc ks (nI k) w l h e a1 a2 a3 a4 a5 a6 a7 a8 a9 a10 a11 a12 a13 := by
    intro z
    unfold wL_lawOf_206
    refine br_t rfl (jt_remL h1 h2 hs hk n0 hn h4 h5 (fun hc w l h e a6 => br_f (by decide) (br_f (by decide) (br_t (h3.symm.trans hc) ?_))) (fun hc => br_f (by decide) (br_f (by decide) (br_f (fun t => hc (h3.trans t)) ?_))))
    · unfold wL_lawOf_242
      exact br_t rfl (jt_at0 h40 hs pk_us (br_f (by decide) (br_t (h3.symm.trans hc) (br_t rfl hp))))
    · unfold wL_lawOf_241 wL_lawOf_242
      exact br_t rfl (jt_atL h1 h40 hs hn h4 h5 (br_f (by decide) (br_f (fun t => hc (h3.trans t)) (br_t h3 hp))))
  unfold wL_lawOf_172
  refine jt_ceilL h1 h2 h40 hs n0 hn h4 h5 (fun hc => br_f (by decide) (br_f (by decide) (br_f ?_ (rest 0)))) (fun hc => br_f (by decide) (br_f (by decide) (br_t ?_ (rest (-3)))))
  · rw [h3] at hc
    exact Int32.not_lt.mpr hc
  · rw [h3] at hc
    exact Int32.not_le.mp hc
/-- from the ceiling on, the set is empty -/
theorem jt_out {post : Int32 → St0 → Prop} {mc ms kc ks s : Nat} {x y : Int32} (h40 : a4 0 = 0) (hs : s < 4) (h5 : a5 s = 0)
    (hp : post 1 ()) : wL_lawOf_172 post mc ms (nI s) x y 1 0 kc ks fc w l h e a1 a2 a3 a4 a5 a6 a7 a8 a9 a10 a11 a12 a13 := by
  unfold wL_lawOf_172
  refine jt_ceil0 h40 hs h5 (br_f (by decide) (br_t rfl ?_))
  unfold wL_lawOf_204 wL_lawOf_206
  refine br_t rfl (jt_rem0 hs h5 (br_f (by decide) (br_t rfl ?_)))
  unfold wL_lawOf_241 wL_lawOf_242
  exact br_t rfl (jt_at0 h40 hs h5 (br_t rfl (br_t rfl hp)))
/-- no set: every answer is -1, the last one 0 -/
theorem jt_none {post : Int32 → St0 → Prop} {mc ms kc ks : Nat} {p x y d how z : Int32} (hs : p < 0 ∨ 3 < p) (hp : post 1 ()) : wL_lawOf_39 post mc ms p x y d how 0 z kc ks fc w l h e a1 a2 a3 a4 a5 a6 a7 a8 a9 a10 a11 a12 a13 := by
  have tail : wL_lawOf_125 post mc ms p x y d how 0 (-1) kc ks fc w l h e a1 a2 a3 a4 a5 a6 a7 a8 a9 a10 a11 a12 a13 := by
    unfold wL_lawOf_125 wL_lawOf_140
    refine br_t rfl (br_t rfl ?_)
    unfold wL_lawOf_171 wL_lawOf_172
    refine jt_ceilN hs (br_t rfl ?_)
    unfold wL_lawOf_206
    refine br_t rfl (jt_remN hs (br_t rfl ?_))
    unfold wL_lawOf_242
    exact br_t rfl (jt_atN hs (br_t rfl (br_t rfl hp)))
  unfold wL_lawOf_39
  refine jt_addN hs (br_t rfl ?_)
  unfold wL_lawOf_58
  refine br_t rfl (jt_rankN hs (br_t rfl ?_))
  unfold wL_lawOf_89
  exact br_t rfl (jt_combineN (Or.inr (Or.inr (Or.inr hs))) (br_t rfl tail))
theorem jt_140 {post : Int32 → St0 → Prop} {mc ms kc ks : Nat} {p x y d how z : Int32} (hin : ¬ (d = p ∧ ¬ how < 2 ∧ how ≤ 3) → wL_lawOf_172 post mc ms p x y 1 1 kc ks fc w l h e a1 a2 a3 a4 a5 a6 a7 a8 a9 a10 a11 a12 a13)
    (hout : (d = p ∧ ¬ how < 2 ∧ how ≤ 3) → wL_lawOf_172 post mc ms p x y 1 0 kc ks fc w l h e a1 a2 a3 a4 a5 a6 a7 a8 a9 a10 a11 a12 a13) : wL_lawOf_140 post mc ms p x y d how 1 z z kc ks fc w l h e a1 a2 a3 a4 a5 a6 a7 a8 a9 a10 a11 a12 a13 := by
  unfold wL_lawOf_140
  refine br_t rfl (br_f (by decide) (br_c (fun c1 => br_c (fun c2 => ?_) (fun c2 => br_c (fun c3 => ?_) (fun c3 => ?_))) (fun c1 => ?_)))
  · exact hin (fun t => t.2.1 c2)
  · exact hout ⟨c1, c2, c3⟩
  · exact hin (fun t => c3 t.2.2)
  · exact hin (fun t => c1 t.1)
end
section
theorem jt_how {x : Int32} (h0 : ¬ x < 0) (h3 : ¬ 3 < x) : x = 0 ∨ x = 1 ∨ x = 2 ∨ x = 3 := by
  obtain ⟨j, hj, e⟩ := nI_of2 (M := 3) (n := 3) (by decide) h0 (Int32.not_lt.mp h3)
  have : j = 0 ∨ j = 1 ∨ j = 2 ∨ j = 3 := by omega
  rcases this with r | r | r | r <;> rw [r] at e
  · exact Or.inl e
  · exact Or.inr (Or.inl e)
  · exact Or.inr (Or.inr (Or.inl e))
  · exact Or.inr (Or.inr (Or.inr e))
end
end
section
section
variable {fc w l h e : Int32} {a1 a2 a3 a4 a5 a6 a7 a8 a9 a10 a11 a12 a13 : Nat → Int32}
/-- the state behind the add: node 1 is the one leaf -/
theorem jt_89 {post : Int32 → St0 → Prop} {mc ms kc ks s : Nat} {x y d how z v : Int32} (h1 : ∀ j, a1 j = 0) (h2 : ∀ j, a2 j = 0) (h40 : a4 0 = 0) (hs : s < 4) (h3 : a3 1 = x) (h4 : a4 1 = 1) (h5 : a5 s = nI 1) (h5n : ∀ j, j ≠ s → a5 j = 0)
    (h6 : a6 253 = nI 2) (h6' : a6 252 = nI 3) (hz : (z = 0 ∧ (d < 0 ∨ 3 < d)) ∨ (z = 1 ∧ ¬ d < 0 ∧ ¬ 3 < d)) (hp : post 1 ()) :
    wL_lawOf_89 post mc ms (nI s) x y d how 1 z v v kc ks (nI 254) w l h e a1 a2 a3 a4 a5 a6 a7 a8 a9 a10 a11 a12 a13 := by
  unfold wL_lawOf_89
  refine br_t rfl ?_
  by_cases bad : how < 0 ∨ 3 < how ∨ (d < 0 ∨ 3 < d)
  · have T : wL_lawOf_125 post mc ms (nI s) x y d how 1 (-1) kc ks (nI 254) w l h e a1 a2 a3 a4 a5 a6 a7 a8 a9 a10 a11 a12 a13 := by
      unfold wL_lawOf_125
      refine jt_140 (fun _ => jt_in (n := 1) h1 h2 h40 hs (by decide) (by decide) (by decide) h4 h3 h5 hp) (fun t => ?_)
      exfalso
      obtain ⟨ed, c2, c3⟩ := t
      rcases bad with b | b | b | b
      · exact c2 (Int32.lt_trans b (by decide))
      · exact Int32.not_lt.mpr c3 b
      · rw [ed] at b
        exact nI_pos (by omega) b
      · rw [ed] at b
        exact nI_nlt (a := 3) (b := s) (by omega) (by decide) b
    refine jt_combineN (bad.imp id (fun t => t.imp id Or.inl)) (br_f (by decide) (br_c (fun _ => T) (fun z7 => br_c (fun _ => T) (fun z0 => br_c (fun z3 => ?_) (fun _ => T)))))
    exfalso
    rcases bad with b | b | b
    · exact z0 b
    · exact Int32.not_lt.mpr z3 b
    · rcases hz with hz | hz
      · exact z7 hz.1
      · exact b.elim hz.2.1 hz.2.2
  · have b1 : ¬ how < 0 := fun t => bad (Or.inl t)
    have b2 : ¬ 3 < how := fun t => bad (Or.inr (Or.inl t))
    have b3 : ¬ d < 0 := fun t => bad (Or.inr (Or.inr (Or.inl t)))
    have b4 : ¬ 3 < d := fun t => bad (Or.inr (Or.inr (Or.inr t)))
    have z1 : ¬ z = 0 := by
      rcases hz with hz | hz
      · exact absurd hz.2 (fun t => t.elim b3 b4)
      · rw [hz.1]
        decide
    obtain ⟨d', hd, ed⟩ := nI_of2 (M := 3) (n := 3) (by decide) b3 (Int32.not_lt.mp b4)
    subst ed
    have deq : nI d' = nI s → d' = s := fun t => (nI_eq (by omega) (by omega)).mp t
    have h5d : a5 d' = 0 ∨ a5 d' = nI 1 := by
      by_cases ej : d' = s
      · rw [ej]
        exact Or.inr h5
      · exact Or.inl (h5n d' ej)
    have k1 : upd (upd a3 2 (a3 1)) 3 (a3 1) 1 = x := by
      rw [pk_un (by decide), pk_un (by decide)]
      exact h3
    have k2 : upd (upd a3 2 (a3 1)) 3 (a3 1) 2 = x := by
      rw [pk_un (by decide), pk_us]
      exact h3
    have c0 : upd (upd a4 2 1) 3 1 0 = 0 := by
      rw [pk_un (by decide), pk_un (by decide)]
      exact h40
    have c1 : upd (upd a4 2 1) 3 1 1 = 1 := jt_ck (jt_ck h4)
    have c2 : upd (upd a4 2 1) 3 1 2 = 1 := jt_ck pk_us
    refine jt_combine (r := 1) (m := 2) (n := 3) (k := 252) h1 h2 h40 hs (by omega) (by decide) (by decide) (by decide) (by decide) (by decide) (by decide) (by decide) h4 h5 h5d h6 h6' (jt_how b1 b2) ?_ ?_
    · intro hc k' w l h e a6 a7 a8 a9 a10 a11 a12 a13 hk'
      refine br_f (by decide) (br_f z1 (br_f b1 (br_t (Int32.not_lt.mp b2) (br_f ?_ ?_))))
      · rcases hc with e0 | e0 <;> rw [e0] <;> decide
      · refine jt_140 (fun _ => ?_) (fun t => absurd t.2.1 (fun u => u ?_))
        · by_cases ej : d' = s
          · exact jt_in (n := 2) h1 h2 c0 hs hk' (by decide) (by decide) c2 k2 (by rw [ej, pk_us]) hp
          · exact jt_in (n := 1) h1 h2 c0 hs hk' (by decide) (by decide) c1 k1 (by rw [pk_un (fun t => ej t.symm)]; exact h5) hp
        · rcases hc with e0 | e0 <;> rw [e0] <;> decide
    · intro hc k' w l h e a6 a7 a8 a9 a10 a11 a12 a13 hk'
      refine br_f (by decide) (br_f z1 (br_f b1 (br_t (Int32.not_lt.mp b2) (br_t ?_ ?_))))
      · rcases hc with e0 | e0 <;> rw [e0] <;> decide
      · refine jt_140 (fun t => ?_) (fun t => ?_)
        · have ej : ¬ d' = s := by
            intro ej
            refine t ⟨by rw [ej], ?_, Int32.not_lt.mp b2⟩
            rcases hc with e0 | e0 <;> rw [e0] <;> decide
          exact jt_in (n := 1) h1 h2 c0 hs hk' (by decide) (by decide) c1 k1 (by rw [pk_un (fun t => ej t.symm)]; exact h5) hp
        · exact jt_out c0 hs (by rw [deq t.1, pk_us]; rfl) hp
theorem jt_58 {post : Int32 → St0 → Prop} {mc ms kc ks s : Nat} {x y d how z v : Int32} (h1 : ∀ j, a1 j = 0) (h2 : ∀ j, a2 j = 0) (h40 : a4 0 = 0) (hs : s < 4) (h3 : a3 1 = x) (h4 : a4 1 = 1) (h5 : a5 s = nI 1) (h5n : ∀ j, j ≠ s → a5 j = 0)
    (h6 : a6 253 = nI 2) (h6' : a6 252 = nI 3) (hz : (z = 0 ∧ (d < 0 ∨ 3 < d)) ∨ (z = 1 ∧ ¬ d < 0 ∧ ¬ 3 < d)) (hp : post 1 ()) :
    wL_lawOf_58 post mc ms (nI s) x y d how 1 z v v kc ks (nI 254) w l h e a1 a2 a3 a4 a5 a6 a7 a8 a9 a10 a11 a12 a13 := by
  unfold wL_lawOf_58
  refine br_t rfl (jt_rankL (n := 1) h1 h2 h40 hs (by decide) (by decide) h5 (fun hc => br_f (by decide) (br_t ?_ ?_)) (fun hc => br_f (by decide) (br_f ?_ ?_)))
  · rw [h3] at hc
    exact hc
  · exact jt_89 h1 h2 h40 hs h3 h4 h5 h5n h6 h6' hz hp
  · rw [h3] at hc
    exact hc
  · exact jt_89 h1 h2 h40 hs h3 h4 h5 h5n h6 h6' hz hp
theorem jt_39 {post : Int32 → St0 → Prop} {mc ms kc ks s : Nat} {x y d how z : Int32} (h1 : ∀ j, a1 j = 0) (h2 : ∀ j, a2 j = 0) (h40 : a4 0 = 0) (hs : s < 4) (h5 : ∀ j, a5 j = 0)
    (h6 : ∀ j, j < 255 → a6 j = nI (255 - j)) (hz : (z = 0 ∧ (d < 0 ∨ 3 < d)) ∨ (z = 1 ∧ ¬ d < 0 ∧ ¬ 3 < d)) (hp : post 1 ()) :
    wL_lawOf_39 post mc ms (nI s) x y d how 1 z kc ks (nI 255) w l h e a1 a2 a3 a4 a5 a6 a7 a8 a9 a10 a11 a12 a13 := by
  unfold wL_lawOf_39
  refine jt_add (k := 254) (m := 1) h1 h2 h40 hs (h5 s) (by decide) (by decide) (by decide) (h6 254 (by decide)) (br_f (by decide) ?_)
  exact jt_58 h1 h2 (by rw [pk_un (by decide)]; exact h40) hs pk_us pk_us pk_us (fun j hj => by rw [pk_un hj]; exact h5 j) (h6 253 (by decide)) (h6 252 (by decide)) hz hp
theorem jt_23 {post : Int32 → St0 → Prop} {mc ms kc ks : Nat} {p x y d how o : Int32}
    (H : ∀ z : Int32, ((z = 0 ∧ (d < 0 ∨ 3 < d)) ∨ (z = 1 ∧ ¬ d < 0 ∧ ¬ 3 < d)) → wL_lawOf_39 post mc ms p x y d how o z kc ks fc w l h e a1 a2 a3 a4 a5 a6 a7 a8 a9 a10 a11 a12 a13) :
    wL_lawOf_23 post mc ms p x y d how o kc ks fc w l h e a1 a2 a3 a4 a5 a6 a7 a8 a9 a10 a11 a12 a13 := by
  unfold wL_lawOf_23
  exact br_c (fun c => H 0 (Or.inl ⟨rfl, Or.inl c⟩)) (fun c => br_c (fun c' => H 0 (Or.inl ⟨rfl, Or.inr c'⟩)) (fun c' => H 1 (Or.inr ⟨rfl, c, c'⟩)))
theorem jt_lawOf {post : Int32 → St0 → Prop} {p x y d how : Int32} (hp : post 1 ()) : wpL_lawOf post 446 7136 () p x y d how := by
  unfold wpL_lawOf
  refine ⟨by decide, by decide, 445, 7118, by decide, by decide, jt_init (by decide) (by decide) (fun a6 h6 => ?_)⟩
  refine br_c (fun c => ?_) (fun c => br_c (fun c' => ?_) (fun c' => ?_))
  · exact jt_23 (fun z _ => jt_none (Or.inl c) hp)
  · exact jt_23 (fun z _ => jt_none (Or.inr c') hp)
  · obtain ⟨s, hs, es⟩ := nI_of2 (M := 3) (n := 3) (by decide) c (Int32.not_lt.mp c')
    rw [es]
    exact jt_23 (fun z hz => jt_39 (fun _ => rfl) (fun _ => rfl) rfl (by omega) (fun _ => rfl) h6 hz hp)
theorem jt_cell {post : Int32 → Prop} {L : Nat} {xs : Nat → Int32} {k : Nat} (hL : L ≤ 5) (hk : k < 5) (hp : ∀ r, post r) : wpL_cellAt post L xs () (nI k) := by
  unfold wpL_cellAt
  exact pk_le L k (fun _ => hp _) (fun c => ⟨pk_in k L c, hp _⟩)
end
theorem i_vc (xs : Nat → Int32) (L : Nat) (hL : L ≤ 5) : wpL_law (fun r => r = 1) L xs := by
  unfold wpL_law
  refine jt_cell (k := 0) hL (by decide) (fun _ => jt_cell (k := 1) hL (by decide) (fun _ => jt_cell (k := 2) hL (by decide) (fun _ => jt_cell (k := 3) hL (by decide) (fun _ => jt_cell (k := 4) hL (by decide) (fun _ => ?_)))))
  exact ⟨446, 7136, by decide, by decide, jt_lawOf rfl⟩
end
