section
/-- what strength computes for an occurring word -/
def ws_str (c l : Int32) : Int32 := (256 * c) / ((c + 2) + (l / 4))
/-- the draft's length -/
def ws_sum (c : Nat → Int32) : Int32 := 0 + c 0 + c 1 + c 2 + c 3 + c 4 + c 5 + c 6 + c 7
theorem ws_p1 : ∀ c, c < 8 → ∀ l, l < 15 → ¬ ((nI c + 2) + (nI l / 4)) = 0 := by decide +kernel
theorem ws_p2 : ∀ c, c < 8 → ∀ l, l < 15 → ws_str (nI c) (nI l) = nI (256 * c / (c + 2 + l / 4)) := by decide +kernel
theorem ws_p3 : ∀ c, c < 8 → ∀ l, l < 15 → 256 * c / (c + 2 + l / 4) ≤ 256 := by decide +kernel
theorem ws_by : ∀ c, c < 8 → (nI c).toInt8.toInt32 = nI c := by decide +kernel
theorem ws_b10 : ∀ b, b < 10 → (10 + nI b) - 10 = nI b := by decide +kernel
theorem ws_bb : ∀ b, b < 10 → 0 < b → (¬ (10 + nI b) < 0) ∧ (¬ 19 < (10 + nI b)) ∧ (¬ (10 + nI b) = 10) ∧ (¬ (10 + nI b) ≤ 0) ∧ (¬ (10 + nI b) ≤ 10) ∧ (¬ (10 + nI b) = 0) := by decide +kernel
theorem ws_m1 {k : Nat} (h : k < 2 ^ 31) : ¬ nI k ≤ -1 := by
  intro z
  rw [Int32.le_iff_toInt_le, nI_toInt h] at z
  have e : (-1 : Int32).toInt = -1 := by decide +kernel
  rw [e] at z
  omega
theorem ws_bnd {b r g : Nat} (hb : b ≤ 9) (hr : r ≤ 192) (hg : g ≤ 256) : ¬ 0 + (nI b * nI r) * nI g ≤ -1 := by
  have h1 : b * r ≤ 9 * 192 := Nat.mul_le_mul hb hr
  have h2 : b * r * g ≤ 9 * 192 * 256 := Nat.mul_le_mul h1 hg
  rw [← nI_0, pk_mul, pk_mul, nI_add]
  exact ws_m1 (by omega)
theorem ws_ad (k d t : Nat) {c : Int32} (hc : c = nI k := by rfl) : c * nI d + nI t = nI (k * d + t) := by rw [hc, pk_mul, nI_add]
theorem ws_z (x : Int32) : 0 + x = x := by grind
theorem ws_le {x y : Int32} (h : x = y) {z : Int32} (g : y ≤ z) : x ≤ z := by rw [h]; exact g
theorem ws_nle {x y : Int32} (h : x = y) {z : Int32} (g : ¬ y ≤ z) : ¬ x ≤ z := by rw [h]; exact g
end
section
section
variable {f0 f1 f2 f3 f4 : Int32} {a1 a2 a3 a4 a5 a6 a7 a8 a9 a10 a11 a12 a13 a14 a15 : Nat → Int32}
theorem ws_2 (e : Nat) : nI e + 2 = nI (e + 2) := nI_add e 2
theorem ws_dl_s {post : Int32 → Prop} {n : Nat} {s : Int32} (i : Nat) (hi : i < 8) (h : wX_draftLength_4 post f0 f1 f2 f3 f4 a1 a2 a3 a4 a5 a6 a7 a8 a9 a10 a11 a12 a13 a14 a15 n (s + a5 i) (nI (i + 1))) : wX_draftLength_4 post f0 f1 f2 f3 f4 a1 a2 a3 a4 a5 a6 a7 a8 a9 a10 a11 a12 a13 a14 a15 (n + 1) s (nI i) :=
  br_f (nI_ge (b := 8) hi (by decide)) ⟨pk_in i 8 hi, nm_r (by rw [nI_clamp (by omega)]) (nm_r (nI_1 i) h)⟩
theorem ws_dl_x {post : Int32 → Prop} {n : Nat} {s : Int32} (h : post s) : wX_draftLength_4 post f0 f1 f2 f3 f4 a1 a2 a3 a4 a5 a6 a7 a8 a9 a10 a11 a12 a13 a14 a15 (n + 1) s (nI 8) :=
  br_t (nI_le (a := 8) (b := 8) (by decide) (by decide)) h
theorem ws_dl {post : Int32 → Prop} (H : post (ws_sum a5)) : wpX_draftLength post (f0, f1, f2, f3, f4, a1, a2, a3, a4, a5, a6, a7, a8, a9, a10, a11, a12, a13, a14, a15) :=
  ⟨9, ws_dl_s 0 (by decide) (ws_dl_s 1 (by decide) (ws_dl_s 2 (by decide) (ws_dl_s 3 (by decide) (ws_dl_s 4 (by decide) (ws_dl_s 5 (by decide) (ws_dl_s 6 (by decide) (ws_dl_s 7 (by decide) (ws_dl_x H))))))))⟩
theorem ws_wr {post : Int32 → St2 → Prop} (k v : Nat) (hk : k < 8) (hv : v < 8) (H : post (ws_sum (upd a5 k (nI v))) (f0, f1, f2, f3, f4, a1, a2, a3, a4, (upd a5 k (nI v)), a6, a7, a8, a9, a10, a11, a12, a13, a14, a15)) : wpX_write post (f0, f1, f2, f3, f4, a1, a2, a3, a4, a5, a6, a7, a8, a9, a10, a11, a12, a13, a14, a15) (nI k) (nI v) :=
  br_f (nI_pos (by omega)) (br_f (nI_ge (b := 8) hk (by decide)) (br_f (by decide) (br_f (nI_pos (by omega)) (br_t (nI_le (b := 7) (by omega) (by decide)) ⟨pk_in k 8 hk, nm_r (e' := upd a5 k (nI v)) (by rw [nI_clamp (by omega)]) (ws_dl H)⟩))))
theorem ws_lo0 {post : Int32 → Prop} (t : Nat) (ht : t < 8) (h2 : a2 t = 0) (H : post (-1)) : wpX_lastOf post (f0, f1, f2, f3, f4, a1, a2, a3, a4, a5, a6, a7, a8, a9, a10, a11, a12, a13, a14, a15) (nI t) :=
  ⟨1, pk_in t 8 ht, br_t (by rw [nI_clamp (by omega), h2]; decide) H⟩
theorem ws_lo2 {post : Int32 → Prop} (h2 : a2 2 = 2) (h1 : a1 96 = 1) (H : post 0) : wpX_lastOf post (f0, f1, f2, f3, f4, a1, a2, a3, a4, a5, a6, a7, a8, a9, a10, a11, a12, a13, a14, a15) 2 :=
  ⟨2, pk_in 2 8 (by decide), br_f (ws_nle h2 (by decide)) ⟨pk_in 96 384 (by decide), nm_r (e' := 0) (show (-1 : Int32) + a1 96 = 0 by rw [h1]; decide) (nm_r (e' := 2) (by decide) ⟨pk_in 2 8 (by decide), br_t (ws_le h2 (by decide)) H⟩)⟩⟩
theorem ws_ix_x {post : St2 → Prop} {n : Nat} {d : Int32} (h : post (f0, f1, f2, f3, f4, a1, a2, a3, a4, a5, a6, a7, a8, a9, a10, a11, a12, a13, a14, a15)) : wX_index_2 post d f0 f1 f2 f3 f4 (n + 1) (nI 8) a1 a2 a3 a4 a5 a6 a7 a8 a9 a10 a11 a12 a13 a14 a15 :=
  br_t (nI_le (a := 8) (b := 8) (by decide) (by decide)) h
theorem ws_ix_skip {post : St2 → Prop} {n : Nat} (d t : Nat) (hd : d < 24) (ht : t < 8) (hc : a3 (8 * d + t) = 0) (h : wX_index_2 post (nI d) f0 f1 f2 f3 f4 n (nI (t + 1)) a1 a2 a3 a4 a5 a6 a7 a8 a9 a10 a11 a12 a13 a14 a15) : wX_index_2 post (nI d) f0 f1 f2 f3 f4 (n + 1) (nI t) a1 a2 a3 a4 a5 a6 a7 a8 a9 a10 a11 a12 a13 a14 a15 :=
  br_f (nI_ge (b := 8) ht (by decide)) ⟨pk_in (8 * d + t) 192 (by omega) (ws_ad 8 d t), br_t (by rw [ws_ad 8 d t, nI_clamp (by omega), hc]; decide) (nm_r (nI_1 t) h)⟩
theorem ws_ix_put {post : St2 → Prop} {n : Nat} (d t e c : Nat) (r : Int32) (hd : d < 24) (ht : t < 8) (he : e + 1 < 48) (h2 : a2 t = nI e) (hc : a3 (8 * d + t) = nI c) (h0 : 0 < c) (h8 : c < 8)
    (hl : ∀ P : Int32 → Prop, P r → wpX_lastOf P (f0, f1, f2, f3, f4, a1, a2, a3, a4, a5, a6, a7, a8, a9, a10, a11, a12, a13, a14, a15) (nI t))
    (h : wX_index_2 post (nI d) f0 f1 f2 f3 f4 n (nI (t + 1)) (upd (upd a1 (48 * t + e) ((nI d - r).toInt8.toInt32)) (48 * t + e + 1) (nI c)) (upd a2 t (nI (e + 2))) a3 a4 a5 a6 a7 a8 a9 a10 a11 a12 a13 a14 a15) :
    wX_index_2 post (nI d) f0 f1 f2 f3 f4 (n + 1) (nI t) a1 a2 a3 a4 a5 a6 a7 a8 a9 a10 a11 a12 a13 a14 a15 := by
  have e8 : (8 : Int32) * nI d + nI t = nI (8 * d + t) := ws_ad 8 d t
  have e48 : (48 : Int32) * nI t + a2 (nI t).toNatClampNeg = nI (48 * t + e) := by rw [nI_clamp (by omega), h2, ws_ad 48 t e]
  have ec : a3 ((8 : Int32) * nI d + nI t).toNatClampNeg = nI c := by rw [e8, nI_clamp (by omega), hc]
  refine br_f (nI_ge (b := 8) ht (by decide)) ⟨pk_in (8 * d + t) 192 (by omega) e8, br_f (by rw [ec]; exact nI_nle h0 (by omega)) ⟨pk_in t 8 ht, nm_r e48 (hl _ ?_)⟩⟩
  refine ⟨pk_in (48 * t + e) 384 (by omega), nm_r (e' := upd a1 (48 * t + e) ((nI d - r).toInt8.toInt32)) (by rw [nI_clamp (by omega)]) ⟨pk_in (8 * d + t) 192 (by omega) e8, pk_in (48 * t + e + 1) 384 (by omega) (nI_1 _), ?_⟩⟩
  refine nm_r (e' := upd (upd a1 (48 * t + e) ((nI d - r).toInt8.toInt32)) (48 * t + e + 1) (nI c)) (by rw [ec, nI_1, nI_clamp (by omega), ws_by c h8]) ⟨pk_in t 8 ht, pk_in t 8 ht, ?_⟩
  exact nm_r (e' := upd a2 t (nI (e + 2))) (by rw [nI_clamp (by omega), h2, ws_2]) (nm_r (nI_1 t) h)
theorem ws_ixt {P : St2 → Prop} {n : Nat} (d z : Nat) (hd : d < 24) (hz : z < 8) (c3 : a3 (8 * d + 3) = 0) (c4 : a3 (8 * d + 4) = 0) (c5 : a3 (8 * d + 5) = nI z) (c6 : a3 (8 * d + 6) = 0) (c7 : a3 (8 * d + 7) = 0) (h5 : a2 5 = 0)
    (H : ∀ b1 b2, (∀ j, j < 240 → b1 j = a1 j) → b2 2 = a2 2 → (z = 0 → b2 5 = 0) → P (f0, f1, f2, f3, f4, b1, b2, a3, a4, a5, a6, a7, a8, a9, a10, a11, a12, a13, a14, a15)) : wX_index_2 P (nI d) f0 f1 f2 f3 f4 (n + 6) (nI 3) a1 a2 a3 a4 a5 a6 a7 a8 a9 a10 a11 a12 a13 a14 a15 := by
  refine ws_ix_skip d 3 hd (by decide) c3 (ws_ix_skip d 4 hd (by decide) c4 ?_)
  rcases Nat.eq_zero_or_pos z with g | g
  · exact ws_ix_skip d 5 hd (by decide) (by rw [c5, g]; rfl) (ws_ix_skip d 6 hd (by decide) c6 (ws_ix_skip d 7 hd (by decide) c7 (ws_ix_x (H a1 a2 (fun _ _ => rfl) rfl (fun _ => h5)))))
  · refine ws_ix_put d 5 0 z (-1) hd (by decide) (by decide) h5 c5 g hz (fun Q q => ws_lo0 5 (by decide) h5 q) (ws_ix_skip d 6 hd (by decide) c6 (ws_ix_skip d 7 hd (by decide) c7 (ws_ix_x (H _ _ (fun j hj => ?_) ?_ (fun w => absurd w (by omega))))))
    · rw [pk_un (by omega), pk_un (by omega)]
    · rw [pk_un (by decide)]
theorem ws_ixd {P : St2 → Prop} (d x z e : Nat) (r : Int32) (hd : d < 24) (hx : x < 8) (hz : z < 8) (he : e + 1 < 48) (c0 : a3 (8 * d + 0) = 0) (c1 : a3 (8 * d + 1) = 0) (c2 : a3 (8 * d + 2) = nI x) (c3 : a3 (8 * d + 3) = 0) (c4 : a3 (8 * d + 4) = 0) (c5 : a3 (8 * d + 5) = nI z) (c6 : a3 (8 * d + 6) = 0) (c7 : a3 (8 * d + 7) = 0)
    (h2 : a2 2 = nI e) (h5 : a2 5 = 0) (hl : ∀ Q : Int32 → Prop, Q r → wpX_lastOf Q (f0, f1, f2, f3, f4, a1, a2, a3, a4, a5, a6, a7, a8, a9, a10, a11, a12, a13, a14, a15) (nI 2))
    (H : ∀ b1 b2, (x = 0 → b2 2 = nI e ∧ ∀ j, j < 240 → b1 j = a1 j) → (0 < x → b2 2 = nI (e + 2) ∧ b1 (48 * 2 + e) = (nI d - r).toInt8.toInt32 ∧ b1 (48 * 2 + e + 1) = nI x ∧ ∀ j, j < 48 * 2 + e → b1 j = a1 j) → (z = 0 → b2 5 = 0) → P (f0, f1, f2, f3, f4, b1, b2, a3, a4, a5, a6, a7, a8, a9, a10, a11, a12, a13, a14, a15)) : wpX_index P (f0, f1, f2, f3, f4, a1, a2, a3, a4, a5, a6, a7, a8, a9, a10, a11, a12, a13, a14, a15) (nI d) := by
  refine ⟨9, ws_ix_skip d 0 hd (by decide) c0 (ws_ix_skip d 1 hd (by decide) c1 ?_)⟩
  rcases Nat.eq_zero_or_pos x with g | g
  · exact ws_ix_skip d 2 hd (by decide) (by rw [c2, g]; rfl) (ws_ixt d z hd hz c3 c4 c5 c6 c7 h5 (fun b1 b2 k1 k2 k5 => H b1 b2 (fun _ => ⟨by rw [k2, h2], k1⟩) (fun w => absurd w (by omega)) k5))
  · refine ws_ix_put d 2 e x r hd (by decide) he h2 c2 g hx hl (ws_ixt d z hd hz c3 c4 c5 c6 c7 (by rw [pk_un (by decide)]; exact h5) (fun b1 b2 k1 k2 k5 => H b1 b2 (fun w => absurd w (by omega)) (fun _ => ⟨?_, ?_, ?_, fun j hj => ?_⟩) k5))
    · rw [k2, pk_us]
    · rw [k1 _ (by omega), pk_un (by omega), pk_us]
    · rw [k1 _ (by omega), pk_us]
    · rw [k1 _ (by omega), pk_un (by omega), pk_un (by omega)]
theorem ws_add {post : Int32 → St2 → Prop} {K : (Nat → Int32) → (Nat → Int32) → Prop} (d : Nat) (hd : d < 24)
    (hix : ∀ s, (∀ j, j < 8 → s (8 * d + j) = a5 j) → (∀ j, j < 8 * d → s j = a3 j) → ∀ P : St2 → Prop, (∀ b1 b2, K b1 b2 → P ((nI d), f1, f2, f3, f4, b1, b2, s, (upd a4 d (ws_sum a5)), a5, a6, a7, a8, a9, a10, a11, a12, a13, a14, a15)) → wpX_index P ((nI d), f1, f2, f3, f4, a1, a2, s, (upd a4 d (ws_sum a5)), a5, a6, a7, a8, a9, a10, a11, a12, a13, a14, a15) (nI d))
    (H : ∀ s b1 b2, (∀ j, j < 8 → s (8 * d + j) = a5 j) → (∀ j, j < 8 * d → s j = a3 j) → K b1 b2 → post (nI d) ((nI (d + 1)), (f1 ||| ((1 : Int32) <<< (nI d &&& 31))), f2, f3, f4, b1, b2, s, (upd a4 d (ws_sum a5)), a5, a6, a7, a8, a9, a10, a11, a12, a13, a14, a15)) : wpX_add post ((nI d), f1, f2, f3, f4, a1, a2, a3, a4, a5, a6, a7, a8, a9, a10, a11, a12, a13, a14, a15) := by
  refine br_f (fun z => absurd ((nI_eq (b := 24) (by omega) (by decide)).mp z) (by omega)) ?_
  refine pk_loop (fun n i s => wX_add_13 post (nI d) f1 f2 f3 f4 n (nI i) a1 a2 s a4 a5 a6 a7 a8 a9 a10 a11 a12 a13 a14 a15) (fun i s => (∀ j, j < i → s (8 * d + j) = a5 j) ∧ ∀ j, j < 8 * d → s j = a3 j) 8 0 a3 (by decide) ⟨fun j hj => absurd hj (by omega), fun j _ => rfl⟩ ?_ ?_
  · intro n s h
    refine br_t (nI_le (a := 8) (b := 8) (by decide) (by decide)) (ws_dl ⟨pk_in d 24 hd, nm_r (e' := upd a4 d (ws_sum a5)) (by rw [nI_clamp (by omega)]) (hix s h.1 h.2 _ (fun b1 b2 k => nm_e (nm_r (nI_1 d) ?_)))⟩)
    have t := H s b1 b2 h.1 h.2 k
    rw [nI_pred]
    exact t
  · intro n i s hi h hw
    refine br_f (nI_ge (b := 8) hi (by decide)) ⟨pk_in i 8 hi, pk_in (8 * d + i) 192 (by omega) (ws_ad 8 d i), nm_r (e' := upd s (8 * d + i) (a5 i)) (by rw [ws_ad 8 d i, nI_clamp (by omega), nI_clamp (by omega)]) (nm_r (nI_1 i) (hw _ ⟨fun j hj => ?_, fun j hj => ?_⟩))⟩
    · by_cases g : j = i
      · rw [g, pk_us]
      · rw [pk_un (by omega)]
        exact h.1 j (by omega)
    · rw [pk_un (by omega)]
      exact h.2 j hj
theorem ws_item {post : Int32 → St2 → Prop} (b : Nat) (h0 : 0 < b) (hb : b < 10) (H : post 1 (f0, f1, 1, f3, f4, a1, a2, a3, a4, a5, (upd a6 0 2), (upd a7 0 (10 + nI b)), a8, a9, a10, a11, a12, a13, a14, a15)) : wpX_item post (f0, f1, 0, f3, f4, a1, a2, a3, a4, a5, a6, a7, a8, a9, a10, a11, a12, a13, a14, a15) 2 (10 + nI b) := by
  obtain ⟨h1, h2, h3, _⟩ := ws_bb b hb h0
  exact br_f (by decide) (br_f (by decide) (br_f (by decide) (br_f h1 (br_f h2 (br_f h3 ⟨1, br_t (by decide) (br_f (by decide) (br_f (by decide) (nm_r (e' := 1) (by decide) ⟨pk_in 0 5 (by decide), nm_e ⟨pk_in 0 5 (by decide), nm_e H⟩⟩)))⟩)))))
end
end
section
section
variable {f0 f1 f2 f3 f4 : Int32} {a1 a2 a3 a4 a5 a6 a7 a8 a9 a10 a11 a12 a13 a14 a15 : Nat → Int32}
theorem ws_d2 : ∀ d, d < 2 → (nI d = 0 ∨ nI d = 1) ∧ (¬ nI d = 1000) ∧ (¬ 1000 ≤ nI d) ∧ (¬ 2 ≤ nI d) ∧ nI d < nI d + 1 ∧ (0 : Int32) + ((3 >>> (nI d &&& 31)) &&& 1) = 1 ∧ (-1 : Int32) + nI (d + 1) = nI d := by decide +kernel
theorem ws_rar : ∀ n, n < 3 → (64 * ((2 : Int32) + 1)) / (nI n + 1) = nI (192 / (n + 1)) ∧ (¬ nI n + 1 = 0) ∧ 192 / (n + 1) ≤ 192 := by decide +kernel
theorem ws_live {post : Int32 → Prop} {d : Int32} (hd : d = 0 ∨ d = 1) (H : post 1) : wpX_isLive post (2, 3, f2, f3, f4, a1, a2, a3, a4, a5, a6, a7, a8, a9, a10, a11, a12, a13, a14, a15) d := by
  rcases hd with rfl | rfl
  · exact br_f (by decide) (br_f (by decide) (br_t (by decide) H))
  · exact br_f (by decide) (br_f (by decide) (br_t (by decide) H))
theorem ws_lc {post : Int32 → Prop} (H : post 2) : wpX_liveCount post (2, 3, f2, f3, f4, a1, a2, a3, a4, a5, a6, a7, a8, a9, a10, a11, a12, a13, a14, a15) :=
  ⟨3, br_f (by decide) (nm_r (e' := 1) (by decide) (nm_r (e' := 1) (by decide) (br_f (by decide) (nm_r (e' := 2) (by decide) (nm_r (e' := 2) (by decide) (br_t (by decide) H))))))⟩
theorem ws_sp0 {post : Int32 → Prop} (h2 : a2 2 = 0) (H : post 0) : wpX_spreadOf post (f0, f1, f2, f3, f4, a1, a2, a3, a4, a5, a6, a7, a8, a9, a10, a11, a12, a13, a14, a15) 2 :=
  ⟨1, pk_in 2 8 (by decide), br_t (ws_le h2 (by decide)) H⟩
theorem ws_sp1 {post : Int32 → Prop} (d : Nat) (hd : d < 2) (h2 : a2 2 = 2) (h1 : a1 96 = nI (d + 1)) (H : post 1) : wpX_spreadOf post (f0, 3, f2, f3, f4, a1, a2, a3, a4, a5, a6, a7, a8, a9, a10, a11, a12, a13, a14, a15) 2 := by
  obtain ⟨_, _, _, _, _, e2, e1⟩ := ws_d2 d hd
  exact ⟨2, pk_in 2 8 (by decide), br_f (ws_nle h2 (by decide)) ⟨pk_in 96 384 (by decide), nm_r (e' := nI d) (show (-1 : Int32) + a1 96 = nI d by rw [h1]; exact e1) (nm_r e2 (nm_r (e' := 2) (by decide) ⟨pk_in 2 8 (by decide), br_t (ws_le h2 (by decide)) H⟩))⟩⟩
theorem ws_sp2 {post : Int32 → Prop} (h2 : a2 2 = 4) (h1 : a1 96 = 1) (h3 : a1 98 = 1) (H : post 2) : wpX_spreadOf post (f0, 3, f2, f3, f4, a1, a2, a3, a4, a5, a6, a7, a8, a9, a10, a11, a12, a13, a14, a15) 2 :=
  ⟨3, pk_in 2 8 (by decide), br_f (ws_nle h2 (by decide)) ⟨pk_in 96 384 (by decide), nm_r (e' := 0) (show (-1 : Int32) + a1 96 = 0 by rw [h1]; decide) (nm_r (e' := 1) (by decide) (nm_r (e' := 2) (by decide) ⟨pk_in 2 8 (by decide), br_f (ws_nle h2 (by decide)) ⟨pk_in 98 384 (by decide), nm_r (e' := 1) (show (0 : Int32) + a1 98 = 1 by rw [h3]; decide) (nm_r (e' := 2) (by decide) (nm_r (e' := 4) (by decide) ⟨pk_in 2 8 (by decide), br_t (ws_le h2 (by decide)) H⟩))⟩⟩))⟩⟩
theorem ws_st {post : Int32 → Prop} {p q : Int32} (c l : Nat) (hp : p = nI c) (hq : q = nI l) (h0 : 0 < c) (hc : c < 8) (hl : l < 15) (H : post (ws_str (nI c) (nI l))) : wpX_strength post () p q := by
  subst hp hq
  exact br_t (nI_lt (a := 0) h0 (by omega)) ⟨by decide, ws_p1 c hc l hl, H⟩
theorem ws_st2 {post : Int32 → Prop} {p q : Int32} (c l : Nat) (hp : p = nI c) (hq : q = nI l) (h0 : 0 < c) (hc : c < 8) (hl : l < 15) (H : ∀ s, s ≤ 256 → post (nI s)) : wpX_strength post () p q :=
  ws_st c l hp hq h0 hc hl (by rw [ws_p2 c hc l hl]; exact H _ (ws_p3 c hc l hl))
theorem ws_gr_s {post : Int32 → Prop} {n : Nat} {x2 : Int32} (k e m c l d : Nat) (h2 : a2 2 = nI e) (hke : k < e) (he : e < 48) (hx : x2 + a1 (96 + k) = nI d) (hd : d < 24) (hc : a1 (96 + k + 1) = nI c) (hl : a4 d = nI l) (c0 : 0 < c) (c8 : c < 8) (l15 : l < 15) (hm : m ≤ 256)
    (h : ∀ m', m' ≤ 256 → wX_greatest_7 post 2 f0 f1 f2 f3 f4 a1 a2 a3 a4 a5 a6 a7 a8 a9 a10 a11 a12 a13 a14 a15 n (nI d) (nI m') (nI (k + 2))) : wX_greatest_7 post 2 f0 f1 f2 f3 f4 a1 a2 a3 a4 a5 a6 a7 a8 a9 a10 a11 a12 a13 a14 a15 (n + 1) x2 (nI m) (nI k) := by
  have e48 : (48 : Int32) * 2 + nI k = nI (96 + k) := ws_ad 48 2 k
  exact ⟨pk_in 2 8 (by decide), br_f (ws_nle h2 (nI_ge hke (by omega))) ⟨pk_in (96 + k) 384 (by omega) e48, nm_r (e' := nI d) (by rw [e48, nI_clamp (by omega), hx]) ⟨pk_in (96 + k + 1) 384 (by omega) (by rw [e48, nI_1]), pk_in d 24 hd, ws_st2 c l (by rw [e48, nI_1, nI_clamp (by omega), hc]) (by rw [nI_clamp (by omega), hl]) c0 c8 l15 (fun s hs => br_c (fun _ => nm_r (ws_2 k) (h m hm)) (fun _ => nm_r (ws_2 k) (h s hs)))⟩⟩⟩
theorem ws_gr0 {post : Int32 → Prop} (h2 : a2 2 = 0) (H : ∀ g, g ≤ 256 → post (nI g)) : wpX_greatest post (f0, f1, f2, f3, f4, a1, a2, a3, a4, a5, a6, a7, a8, a9, a10, a11, a12, a13, a14, a15) 2 :=
  ⟨1, pk_in 2 8 (by decide), br_t (ws_le h2 (by decide)) (H 0 (by decide))⟩
theorem ws_gr1 {post : Int32 → Prop} (d c l : Nat) (hd : d < 2) (h2 : a2 2 = 2) (h1 : a1 96 = nI (d + 1)) (hc : a1 97 = nI c) (hl : a4 d = nI l) (c0 : 0 < c) (c8 : c < 8) (l15 : l < 15) (H : ∀ g, g ≤ 256 → post (nI g)) : wpX_greatest post (f0, f1, f2, f3, f4, a1, a2, a3, a4, a5, a6, a7, a8, a9, a10, a11, a12, a13, a14, a15) 2 :=
  ⟨2, ws_gr_s (x2 := -1) 0 2 0 c l d h2 (by decide) (by decide) (show (-1 : Int32) + a1 96 = nI d by rw [h1]; exact (ws_d2 d hd).2.2.2.2.2.2) (by omega) hc hl c0 c8 l15 (by decide) (fun m hm => ⟨pk_in 2 8 (by decide), br_t (ws_le h2 (by decide)) (H m hm)⟩)⟩
theorem ws_gr2 {post : Int32 → Prop} (x y l m : Nat) (h2 : a2 2 = 4) (h96 : a1 96 = 1) (h97 : a1 97 = nI x) (h98 : a1 98 = 1) (h99 : a1 99 = nI y) (hl : a4 0 = nI l) (hm : a4 1 = nI m) (x0 : 0 < x) (x8 : x < 8) (y0 : 0 < y) (y8 : y < 8) (l15 : l < 15) (m15 : m < 15) (H : ∀ g, g ≤ 256 → post (nI g)) : wpX_greatest post (f0, f1, f2, f3, f4, a1, a2, a3, a4, a5, a6, a7, a8, a9, a10, a11, a12, a13, a14, a15) 2 :=
  ⟨3, ws_gr_s (x2 := -1) 0 4 0 x l 0 h2 (by decide) (by decide) (show (-1 : Int32) + a1 96 = nI 0 by rw [h96]; decide) (by decide) h97 hl x0 x8 l15 (by decide) (fun k hk => ws_gr_s (x2 := nI 0) 2 4 k y m 1 h2 (by decide) (by decide) (show nI 0 + a1 98 = nI 1 by rw [h98]; decide) (by decide) h99 hm y0 y8 m15 hk (fun g hg => ⟨pk_in 2 8 (by decide), br_t (ws_le h2 (by decide)) (H g hg)⟩))⟩
theorem ws_42e {post : St2 → Prop} {J : (Nat → Int32) → (Nat → Int32) → (Nat → Int32) → (Nat → Int32) → (Nat → Int32) → (Nat → Int32) → (Nat → Int32) → (Nat → Int32) → (Nat → Int32) → (Nat → Int32) → (Nat → Int32) → (Nat → Int32) → (Nat → Int32) → (Nat → Int32) → (Nat → Int32) → Prop} {x2 : Int32} (k e : Nat) (h8 : a8 0 + 2 = nI k) (h2 : a2 2 = nI e) (hke : e ≤ k) (hk : k < 48)
    (H : ∀ b8 b9, b9 0 = 1000 → J a1 a2 a3 a4 a5 a6 a7 b8 b9 a10 a11 a12 a13 a14 a15) : wX_moveTo_42 post J 0 x2 2 f0 f1 f2 f3 f4 a1 a2 a3 a4 a5 a6 a7 a8 a9 a10 a11 a12 a13 a14 a15 :=
  ⟨pk_in 0 5 (by decide), pk_in 0 5 (by decide), nm_r (e' := upd a8 0 (nI k)) (show upd a8 0 (a8 0 + 2) = upd a8 0 (nI k) by rw [h8]) ⟨pk_in 0 5 (by decide), pk_in 2 8 (by decide), br_f (show ¬ upd a8 0 (nI k) 0 < a2 2 by rw [pk_us, h2]; exact nI_nlt hke (by omega)) ⟨pk_in 0 5 (by decide), nm_r (e' := upd a9 0 1000) rfl (H _ _ pk_us)⟩⟩⟩
theorem ws_42n {post : St2 → Prop} {J : (Nat → Int32) → (Nat → Int32) → (Nat → Int32) → (Nat → Int32) → (Nat → Int32) → (Nat → Int32) → (Nat → Int32) → (Nat → Int32) → (Nat → Int32) → (Nat → Int32) → (Nat → Int32) → (Nat → Int32) → (Nat → Int32) → (Nat → Int32) → (Nat → Int32) → Prop} {x2 : Int32} (k e d : Nat) (h8 : a8 0 + 2 = nI k) (h2 : a2 2 = nI e) (hke : k < e) (he : e < 48) (hd : a9 0 + a1 (96 + k) = nI d)
    (H : ∀ b8 b9 b10, b8 0 = nI k → b9 0 = nI d → b10 0 = a1 (96 + k + 1) → J a1 a2 a3 a4 a5 a6 a7 b8 b9 b10 a11 a12 a13 a14 a15) : wX_moveTo_42 post J 0 x2 2 f0 f1 f2 f3 f4 a1 a2 a3 a4 a5 a6 a7 a8 a9 a10 a11 a12 a13 a14 a15 := by
  have e48 : (48 : Int32) * 2 + nI k = nI (96 + k) := ws_ad 48 2 k
  have e8 : upd a8 0 (nI k) (0 : Int32).toNatClampNeg = nI k := pk_us
  have i0 : vp_in 0 5 := pk_in 0 5 (by decide)
  refine ⟨i0, i0, nm_r (e' := upd a8 0 (nI k)) (show upd a8 0 (a8 0 + 2) = upd a8 0 (nI k) by rw [h8]) ⟨i0, pk_in 2 8 (by decide), br_t ?_ ⟨i0, i0, ?_, i0, nm_r (e' := upd a9 0 (nI d)) ?_ ⟨i0, ?_, i0, nm_r (e' := upd a10 0 (a1 (96 + k + 1))) ?_ (H _ _ _ pk_us pk_us pk_us)⟩⟩⟩⟩
  · show upd a8 0 (nI k) 0 < a2 2
    rw [pk_us, h2]
    exact nI_lt hke (by omega)
  · rw [e8, e48]
    exact pk_in (96 + k) 384 (by omega)
  · show upd a9 0 (a9 0 + a1 ((48 : Int32) * 2 + upd a8 0 (nI k) (0 : Int32).toNatClampNeg).toNatClampNeg) = upd a9 0 (nI d)
    rw [e8, e48, nI_clamp (by omega), hd]
  · rw [e8, e48, nI_1]
    exact pk_in (96 + k + 1) 384 (by omega)
  · show upd a10 0 (a1 ((48 : Int32) * 2 + upd a8 0 (nI k) (0 : Int32).toNatClampNeg + 1).toNatClampNeg) = upd a10 0 (a1 (96 + k + 1))
    rw [e8, e48, nI_1, nI_clamp (by omega)]
theorem ws_mvE {post : St2 → Prop} {fr D : Int32} (k e : Nat) (h13 : a13 0 = 2) (h9 : a9 0 = D) (hD : ¬ D = 1000) (hlt : D < fr) (h8 : a8 0 + 2 = nI k) (h2 : a2 2 = nI e) (hke : e ≤ k) (hk : k < 48)
    (H : ∀ b8 b9, b9 0 = 1000 → post (f0, f1, f2, f3, f4, a1, a2, a3, a4, a5, a6, a7, b8, b9, a10, a11, a12, a13, a14, a15)) : wpX_moveTo post (f0, f1, f2, f3, f4, a1, a2, a3, a4, a5, a6, a7, a8, a9, a10, a11, a12, a13, a14, a15) 0 fr :=
  ⟨pk_in 0 5 (by decide), nm_r (e' := 2) h13 ⟨2, pk_in 0 5 (by decide), br_f (show ¬ a9 0 = 1000 by rw [h9]; exact hD) ⟨pk_in 0 5 (by decide), br_t (show a9 0 < fr by rw [h9]; exact hlt) (ws_42e k e h8 h2 hke hk (fun b8 b9 g => ⟨pk_in 0 5 (by decide), br_t (show b9 0 = 1000 from g) (H b8 b9 g)⟩))⟩⟩⟩
theorem ws_mvN {post : St2 → Prop} {fr D : Int32} (k e d : Nat) (hd2 : d < 2) (h13 : a13 0 = 2) (h9 : a9 0 = D) (hD : ¬ D = 1000) (hlt : D < fr) (h8 : a8 0 + 2 = nI k) (h2 : a2 2 = nI e) (hke : k < e) (he : e < 48) (hd : D + a1 (96 + k) = nI d) (hfr : ¬ nI d < fr)
    (H : ∀ b8 b9 b10, b8 0 = nI k → b9 0 = nI d → b10 0 = a1 (96 + k + 1) → post (2, 3, f2, f3, f4, a1, a2, a3, a4, a5, a6, a7, b8, b9, b10, a11, a12, a13, a14, a15)) : wpX_moveTo post (2, 3, f2, f3, f4, a1, a2, a3, a4, a5, a6, a7, a8, a9, a10, a11, a12, a13, a14, a15) 0 fr :=
  ⟨pk_in 0 5 (by decide), nm_r (e' := 2) h13 ⟨2, pk_in 0 5 (by decide), br_f (show ¬ a9 0 = 1000 by rw [h9]; exact hD) ⟨pk_in 0 5 (by decide), br_t (show a9 0 < fr by rw [h9]; exact hlt) (ws_42n k e d h8 h2 hke he (by rw [h9]; exact hd) (fun b8 b9 b10 g8 g9 g10 => ⟨pk_in 0 5 (by decide), br_f (show ¬ b9 0 = 1000 by rw [g9]; exact (ws_d2 d hd2).2.1) ⟨pk_in 0 5 (by decide), br_f (show ¬ b9 0 < fr by rw [g9]; exact hfr) ⟨pk_in 0 5 (by decide), ws_live (show b9 0 = 0 ∨ b9 0 = 1 by rw [g9]; exact (ws_d2 d hd2).1) (br_f (by decide) (H b8 b9 b10 g8 g9 g10))⟩⟩⟩))⟩⟩⟩
theorem ws_ol {post : St2 → Prop} {K : (Nat → Int32) → (Nat → Int32) → (Nat → Int32) → Prop} (b n : Nat) (b0 : 0 < b) (hb : b < 10) (hn : n < 3) (h6 : a6 0 = 2) (h7 : a7 0 = 10 + nI b)
    (hsp : ∀ P : Int32 → Prop, P (nI n) → wpX_spreadOf P (2, 3, 1, 0, f4, a1, a2, a3, a4, a5, a6, a7, a8, a9, a10, a11, a12, a13, a14, a15) 2)
    (hgr : ∀ (P : Int32 → Prop) (b11 : Nat → Int32), (∀ g, g ≤ 256 → P (nI g)) → wpX_greatest P (2, 3, 1, 0, f4, a1, a2, a3, a4, a5, a6, a7, a8, a9, a10, b11, a12, a13, a14, a15) 2)
    (hmv : ∀ (P : St2 → Prop) (b8 b9 b11 b12 b13 : Nat → Int32), b8 0 = -2 → b9 0 = -1 → b13 0 = 2 → (∀ c8 c9 c10, K c8 c9 c10 → P (2, 3, 1, 1, f4, a1, a2, a3, a4, a5, a6, a7, c8, c9, c10, b11, b12, b13, a14, a15)) → wpX_moveTo P (2, 3, 1, 1, f4, a1, a2, a3, a4, a5, a6, a7, b8, b9, a10, b11, b12, b13, a14, a15) 0 0)
    (H : ∀ c8 c9 c10 b11 b12 b13, K c8 c9 c10 → b11 0 = nI b * nI (192 / (n + 1)) → (¬ 0 + b12 0 ≤ -1) → b13 0 = 2 → post (2, 3, 1, 1, f4, a1, a2, a3, a4, a5, a6, a7, c8, c9, c10, b11, b12, b13, a14, a15)) : wpX_openLanes post (2, 3, 1, f3, f4, a1, a2, a3, a4, a5, a6, a7, a8, a9, a10, a11, a12, a13, a14, a15) := by
  obtain ⟨_, _, _, q4, q5, q6⟩ := ws_bb b hb b0
  obtain ⟨r1, r2, r3⟩ := ws_rar n hn
  have q : a7 0 - 10 = nI b := by rw [h7]; exact ws_b10 b hb
  have i0 : vp_in 0 5 := pk_in 0 5 (by decide)
  refine ws_lc ⟨2, br_f (by decide) ⟨i0, br_f (show ¬ a7 0 ≤ 0 by rw [h7]; exact q4) ⟨i0, nm_r (e' := 2) h6 ⟨i0, br_f (show ¬ a7 0 ≤ 10 by rw [h7]; exact q5) ⟨i0, ?_⟩⟩⟩⟩⟩
  refine hsp _ ⟨r2, nm_r r1 ⟨i0, nm_r (e' := upd a11 0 (nI b * nI (192 / (n + 1)))) (show upd a11 0 ((a7 0 - 10) * nI (192 / (n + 1))) = upd a11 0 (nI b * nI (192 / (n + 1))) by rw [q]) (hgr _ _ (fun g hg => ?_))⟩⟩
  refine ⟨i0, nm_r (e' := upd a12 0 ((nI b * nI (192 / (n + 1))) * nI g)) (show upd a12 0 (((a7 0 - 10) * nI (192 / (n + 1))) * nI g) = upd a12 0 ((nI b * nI (192 / (n + 1))) * nI g) by rw [q]) ⟨i0, nm_r (e' := upd a13 0 2) rfl ⟨i0, nm_r (e' := upd a8 0 (-2)) rfl ⟨i0, nm_r (e' := upd a9 0 (-1)) rfl (nm_r (e' := 1) (by decide) ?_)⟩⟩⟩⟩
  refine hmv _ _ _ _ _ _ pk_us pk_us pk_us (fun c8 c9 c10 k => nm_r (e' := 1) (by decide) (br_t (by decide) (H _ _ _ _ _ _ k pk_us ?_ pk_us)))
  rw [pk_us]
  exact ws_bnd (by omega) r3 hg
end
end
section
section
variable {f0 f1 f2 f3 f4 : Int32} {a1 a2 a3 a4 a5 a6 a7 a8 a9 a10 a11 a12 a13 a14 a15 : Nat → Int32}
theorem ws_ol0 {post : St2 → Prop} (b : Nat) (b0 : 0 < b) (hb : b < 10) (h6 : a6 0 = 2) (h7 : a7 0 = 10 + nI b) (h2 : a2 2 = 0)
    (H : ∀ c8 c9 c10 b11 b12 b13, c9 0 = 1000 → b11 0 = nI b * nI 192 → (¬ 0 + b12 0 ≤ -1) → b13 0 = 2 → post (2, 3, 1, 1, f4, a1, a2, a3, a4, a5, a6, a7, c8, c9, c10, b11, b12, b13, a14, a15)) : wpX_openLanes post (2, 3, 1, f3, f4, a1, a2, a3, a4, a5, a6, a7, a8, a9, a10, a11, a12, a13, a14, a15) :=
  ws_ol (K := fun _ c9 _ => c9 0 = 1000) b 0 b0 hb (by decide) h6 h7 (fun P p => ws_sp0 h2 p) (fun P b11 p => ws_gr0 h2 p)
    (fun P b8 b9 b11 b12 b13 k8 k9 k13 p => ws_mvE 0 0 k13 k9 (by decide) (by decide) (by rw [k8]; decide) h2 (by decide) (by decide) (fun c8 c9 g => p c8 c9 _ g)) H
theorem ws_ol1 {post : St2 → Prop} (b d c l : Nat) (b0 : 0 < b) (hb : b < 10) (hd : d < 2) (c0 : 0 < c) (c8 : c < 8) (l15 : l < 15) (h6 : a6 0 = 2) (h7 : a7 0 = 10 + nI b) (h2 : a2 2 = 2) (h1 : a1 96 = nI (d + 1)) (hc : a1 97 = nI c) (hl : a4 d = nI l)
    (H : ∀ c8 c9 c10 b11 b12 b13, c8 0 = 0 → c9 0 = nI d → c10 0 = nI c → b11 0 = nI b * nI 96 → (¬ 0 + b12 0 ≤ -1) → b13 0 = 2 → post (2, 3, 1, 1, f4, a1, a2, a3, a4, a5, a6, a7, c8, c9, c10, b11, b12, b13, a14, a15)) : wpX_openLanes post (2, 3, 1, f3, f4, a1, a2, a3, a4, a5, a6, a7, a8, a9, a10, a11, a12, a13, a14, a15) :=
  ws_ol (K := fun c8 c9 c10 => c8 0 = 0 ∧ c9 0 = nI d ∧ c10 0 = nI c) b 1 b0 hb (by decide) h6 h7 (fun P p => ws_sp1 d hd h2 h1 p) (fun P b11 p => ws_gr1 d c l hd h2 h1 hc hl c0 c8 l15 p)
    (fun P b8 b9 b11 b12 b13 k8 k9 k13 p => ws_mvN 0 2 d hd k13 k9 (by decide) (by decide) (by rw [k8]; decide) h2 (by decide) (by decide) (show (-1 : Int32) + a1 96 = nI d by rw [h1]; exact (ws_d2 d hd).2.2.2.2.2.2) (nI_pos (by omega)) (fun c8 c9 c10 g8 g9 g10 => p c8 c9 c10 ⟨g8, g9, by rw [g10]; exact hc⟩))
    (fun c8 c9 c10 b11 b12 b13 k => H c8 c9 c10 b11 b12 b13 k.1 k.2.1 k.2.2)
theorem ws_ol2 {post : St2 → Prop} (b x y l m : Nat) (b0 : 0 < b) (hb : b < 10) (x0 : 0 < x) (x8 : x < 8) (y0 : 0 < y) (y8 : y < 8) (l15 : l < 15) (m15 : m < 15) (h6 : a6 0 = 2) (h7 : a7 0 = 10 + nI b) (h2 : a2 2 = 4) (h96 : a1 96 = 1) (h97 : a1 97 = nI x) (h98 : a1 98 = 1) (h99 : a1 99 = nI y) (hl : a4 0 = nI l) (hm : a4 1 = nI m)
    (H : ∀ c8 c9 c10 b11 b12 b13, c8 0 = 0 → c9 0 = nI 0 → c10 0 = nI x → b11 0 = nI b * nI 64 → (¬ 0 + b12 0 ≤ -1) → b13 0 = 2 → post (2, 3, 1, 1, f4, a1, a2, a3, a4, a5, a6, a7, c8, c9, c10, b11, b12, b13, a14, a15)) : wpX_openLanes post (2, 3, 1, f3, f4, a1, a2, a3, a4, a5, a6, a7, a8, a9, a10, a11, a12, a13, a14, a15) :=
  ws_ol (K := fun c8 c9 c10 => c8 0 = 0 ∧ c9 0 = nI 0 ∧ c10 0 = nI x) b 2 b0 hb (by decide) h6 h7 (fun P p => ws_sp2 h2 h96 h98 p) (fun P b11 p => ws_gr2 x y l m h2 h96 h97 h98 h99 hl hm x0 x8 y0 y8 l15 m15 p)
    (fun P b8 b9 b11 b12 b13 k8 k9 k13 p => ws_mvN 0 4 0 (by decide) k13 k9 (by decide) (by decide) (by rw [k8]; decide) h2 (by decide) (by decide) (show (-1 : Int32) + a1 96 = nI 0 by rw [h96]; decide) (by decide) (fun c8 c9 c10 g8 g9 g10 => p c8 c9 c10 ⟨g8, g9, by rw [g10]; exact h97⟩))
    (fun c8 c9 c10 b11 b12 b13 k => H c8 c9 c10 b11 b12 b13 k.1 k.2.1 k.2.2)
theorem ws_so1 {post : Int32 → Prop} {w : Int32} (c l : Nat) (h13 : a13 0 = 2) (h11 : a11 0 = w) (h3 : a3 10 = nI c) (h4 : a4 1 = nI l) (c0 : 0 < c) (c8 : c < 8) (l15 : l < 15) (H : post (w * ws_str (nI c) (nI l))) : wpX_scoreOf post (f0, f1, f2, 1, f4, a1, a2, a3, a4, a5, a6, a7, a8, a9, a10, a11, a12, a13, a14, a15) 1 :=
  ⟨2, br_f (by decide) ⟨pk_in 0 5 (by decide), pk_in 0 5 (by decide), (show vp_in ((8 : Int32) * 1 + a13 0) 192 by rw [h13]; exact pk_in 10 192 (by decide)), pk_in 1 24 (by decide), ws_st c l (show a3 ((8 : Int32) * 1 + a13 0).toNatClampNeg = nI c by rw [h13]; exact h3) h4 c0 c8 l15 (nm_r (e' := w * ws_str (nI c) (nI l)) (show (0 : Int32) + a11 0 * ws_str (nI c) (nI l) = w * ws_str (nI c) (nI l) by rw [h11, ws_z]) (nm_r (e' := 1) (by decide) (br_t (by decide) H)))⟩⟩
theorem ws_so0 {post : Int32 → Prop} (h13 : a13 0 = 2) (h3 : a3 10 = 0) (H : post 0) : wpX_scoreOf post (f0, f1, f2, 1, f4, a1, a2, a3, a4, a5, a6, a7, a8, a9, a10, a11, a12, a13, a14, a15) 1 :=
  ⟨2, br_f (by decide) ⟨pk_in 0 5 (by decide), pk_in 0 5 (by decide), (show vp_in ((8 : Int32) * 1 + a13 0) 192 by rw [h13]; exact pk_in 10 192 (by decide)), pk_in 1 24 (by decide), br_f (show ¬ (0 : Int32) < a3 ((8 : Int32) * 1 + a13 0).toNatClampNeg by rw [h13]; show ¬ (0 : Int32) < a3 10; rw [h3]; decide) (nm_r (e' := 0) (show (0 : Int32) + a11 0 * 0 = 0 by grind) (nm_r (e' := 1) (by decide) (br_t (by decide) H)))⟩⟩
theorem ws_mt1 {post : Int32 → Prop} (d c b : Nat) (hd : d < 2) (h6 : a6 0 = 2) (h7 : a7 0 = 10 + nI b) (b0 : 0 < b) (hb : b < 10) (h3 : a3 (8 * d + 2) = nI c) (c0 : 0 < c) (c8 : c < 8) (H : post 1) : wpX_matches post (f0, f1, 1, f3, f4, a1, a2, a3, a4, a5, a6, a7, a8, a9, a10, a11, a12, a13, a14, a15) (nI d) := by
  obtain ⟨_, _, _, q4, q5, q6⟩ := ws_bb b hb b0
  have i0 : vp_in 0 5 := pk_in 0 5 (by decide)
  have e8 : (8 : Int32) * nI d + a6 (0 : Int32).toNatClampNeg = nI (8 * d + 2) := by
    show (8 : Int32) * nI d + a6 0 = nI (8 * d + 2)
    rw [h6]
    exact ws_ad 8 d 2
  have n0 : ¬ a7 0 = 0 := by rw [h7]; exact q6
  have n1 : ¬ a7 0 ≤ 10 := by rw [h7]; exact q5
  have n2 : ¬ a7 0 ≤ 0 := by rw [h7]; exact q4
  exact ⟨2, br_f (by decide) ⟨i0, pk_in (8 * d + 2) 192 (by omega) e8, br_f (by rw [e8, nI_clamp (by omega), h3]; exact nI_nle c0 (by omega)) ⟨i0, br_f n0 ⟨i0, br_f n1 (br_f (by decide) (br_t rfl ⟨i0, br_f n2 (br_f (by decide) (nm_r (e' := 1) (by decide) (br_t (by decide) ⟨by rfl, H⟩)))⟩))⟩⟩⟩⟩
theorem ws_mt0 {post : Int32 → Prop} (d b : Nat) (hd : d < 2) (h6 : a6 0 = 2) (h7 : a7 0 = 10 + nI b) (b0 : 0 < b) (hb : b < 10) (h3 : a3 (8 * d + 2) = 0) (H : post 0) : wpX_matches post (f0, f1, 1, f3, f4, a1, a2, a3, a4, a5, a6, a7, a8, a9, a10, a11, a12, a13, a14, a15) (nI d) := by
  obtain ⟨_, _, _, q4, q5, q6⟩ := ws_bb b hb b0
  have i0 : vp_in 0 5 := pk_in 0 5 (by decide)
  have e8 : (8 : Int32) * nI d + a6 (0 : Int32).toNatClampNeg = nI (8 * d + 2) := by
    show (8 : Int32) * nI d + a6 0 = nI (8 * d + 2)
    rw [h6]
    exact ws_ad 8 d 2
  have n0 : ¬ a7 0 = 0 := by rw [h7]; exact q6
  have n1 : ¬ a7 0 ≤ 10 := by rw [h7]; exact q5
  exact ⟨2, br_f (by decide) ⟨i0, pk_in (8 * d + 2) 192 (by omega) e8, br_t (by rw [e8, nI_clamp (by omega), h3]; decide) ⟨i0, br_f n0 ⟨i0, br_f n1 (br_t rfl H)⟩⟩⟩⟩
/-- one if the word occurs -/
def ws_one (c : Nat) : Nat := if c = 0 then 0 else 1
theorem ws_mg_s {post : Int32 → Prop} {n : Nat} (d c b s : Nat) (hd : d < 2) (h6 : a6 0 = 2) (h7 : a7 0 = 10 + nI b) (b0 : 0 < b) (hb : b < 10) (h3 : a3 (8 * d + 2) = nI c) (c8 : c < 8)
    (h : wX_matching_4 post 2 3 1 f3 f4 a1 a2 a3 a4 a5 a6 a7 a8 a9 a10 a11 a12 a13 a14 a15 n (nI (s + ws_one c)) (nI (d + 1))) : wX_matching_4 post 2 3 1 f3 f4 a1 a2 a3 a4 a5 a6 a7 a8 a9 a10 a11 a12 a13 a14 a15 (n + 1) (nI s) (nI d) := by
  refine br_f (ws_d2 d hd).2.2.2.1 (ws_live (ws_d2 d hd).1 (br_f (by decide) ?_))
  rcases Nat.eq_zero_or_pos c with g | g
  · subst g
    exact ws_mt0 d b hd h6 h7 b0 hb h3 (br_t rfl (nm_r (e' := nI (s + ws_one 0)) (nI_add s 0) (nm_r (nI_1 d) h)))
  · have e : ws_one c = 1 := if_neg (by omega)
    rw [e] at h
    exact ws_mt1 d c b hd h6 h7 b0 hb h3 g c8 (br_f (by decide) (nm_r (nI_1 s) (nm_r (nI_1 d) h)))
theorem ws_mg {post : Int32 → Prop} (x y b : Nat) (h6 : a6 0 = 2) (h7 : a7 0 = 10 + nI b) (b0 : 0 < b) (hb : b < 10) (h3 : a3 2 = nI x) (h10 : a3 10 = nI y) (x8 : x < 8) (y8 : y < 8) (H : post (nI (0 + ws_one x + ws_one y))) : wpX_matching post (2, 3, 1, f3, f4, a1, a2, a3, a4, a5, a6, a7, a8, a9, a10, a11, a12, a13, a14, a15) :=
  ⟨3, ws_mg_s 0 x b 0 (by decide) h6 h7 b0 hb h3 x8 (ws_mg_s 1 y b (0 + ws_one x) (by decide) h6 h7 b0 hb h10 y8 (br_t (by decide) H))⟩
theorem ws_nc {post : Int32 → Prop} {D : Int32} (hf : ¬ f4 = 10) (h9 : a9 0 = D) (h12 : ¬ 0 + a12 0 ≤ -1) (hD : D = 1000 ∨ ¬ 1000 ≤ D) (H : post D) : wpX_nextChance post (f0, f1, f2, 1, f4, a1, a2, a3, a4, a5, a6, a7, a8, a9, a10, a11, a12, a13, a14, a15) := by
  have i0 : vp_in 0 5 := pk_in 0 5 (by decide)
  refine br_f hf ⟨2, br_f (by decide) ⟨2, br_f (by decide) ⟨i0, i0, br_f Int32.lt_irrefl ⟨i0, nm_e (nm_r (e' := 1) (by decide) (br_t (by decide) (br_f h12 ⟨i0, br_c (fun z => ?_) (fun _ => ?_)⟩)))⟩⟩⟩⟩
  · have z' : 1000 ≤ a9 0 := z
    rw [h9] at z'
    rcases hD with g | g
    · subst g
      exact nm_r (e' := 1) (by decide) (br_t (by decide) H)
    · exact absurd z' g
  · exact ⟨i0, nm_r (e' := D) h9 (nm_r (e' := 1) (by decide) (br_t (by decide) H))⟩
theorem ws_ld {post : Int32 → Prop} {D : Int32} (h9 : a9 0 = D) (hD : ¬ 1000 ≤ D) (H : post D) : wpX_leastDocument post (f0, f1, f2, 1, f4, a1, a2, a3, a4, a5, a6, a7, a8, a9, a10, a11, a12, a13, a14, a15) :=
  ⟨2, br_f (by decide) ⟨pk_in 0 5 (by decide), br_f (show ¬ 1000 ≤ a9 0 by rw [h9]; exact hD) ⟨pk_in 0 5 (by decide), nm_r (e' := D) h9 (nm_r (e' := 1) (by decide) (br_t (by decide) H))⟩⟩⟩
theorem ws_sh {post : Int32 → Prop} {w : Int32} (d c l : Nat) (hd : d < 2) (h9 : a9 0 = nI d) (h10 : a10 0 = nI c) (h11 : a11 0 = w) (h4 : a4 d = nI l) (c0 : 0 < c) (c8 : c < 8) (l15 : l < 15) (H : post (w * ws_str (nI c) (nI l))) : wpX_scoreHere post (f0, f1, f2, 1, f4, a1, a2, a3, a4, a5, a6, a7, a8, a9, a10, a11, a12, a13, a14, a15) (nI d) :=
  ⟨2, br_f (by decide) ⟨pk_in 0 5 (by decide), br_t h9 ⟨pk_in 0 5 (by decide), pk_in 0 5 (by decide), pk_in d 24 (by omega), ws_st c l h10 (by rw [nI_clamp (by omega)]; exact h4) c0 c8 l15 (nm_r (e' := w * ws_str (nI c) (nI l)) (show (0 : Int32) + a11 0 * ws_str (nI c) (nI l) = w * ws_str (nI c) (nI l) by rw [h11, ws_z]) (nm_r (e' := 1) (by decide) (br_t (by decide) H)))⟩⟩⟩
theorem ws_of0 {post : St2 → Prop} {d v : Int32} (H : ∀ b14 b15, b14 0 = d → b15 0 = v → post (f0, f1, f2, f3, 1, a1, a2, a3, a4, a5, a6, a7, a8, a9, a10, a11, a12, a13, b14, b15)) : wpX_offer post (f0, f1, f2, f3, 0, a1, a2, a3, a4, a5, a6, a7, a8, a9, a10, a11, a12, a13, a14, a15) d v :=
  br_f (by decide) ⟨1, br_t (by decide) (br_f (by decide) ⟨pk_in 0 10 (by decide), nm_r (e' := upd a15 0 v) rfl ⟨pk_in 0 10 (by decide), nm_r (e' := upd a14 0 d) rfl (br_f (by decide) (nm_r (e' := 1) (by decide) (H _ _ pk_us pk_us)))⟩⟩)⟩
theorem ws_of1 {post : St2 → Prop} {d v d0 v0 : Int32} (h14 : a14 0 = d0) (h15 : a15 0 = v0)
    (H : ∀ b14 b15, (v ≤ v0 → b14 0 = d0 ∧ b15 1 = v) → (¬ v ≤ v0 → b14 0 = d ∧ b15 1 = v0) → post (f0, f1, f2, f3, 2, a1, a2, a3, a4, a5, a6, a7, a8, a9, a10, a11, a12, a13, b14, b15)) : wpX_offer post (f0, f1, f2, f3, 1, a1, a2, a3, a4, a5, a6, a7, a8, a9, a10, a11, a12, a13, a14, a15) d v := by
  refine br_f (by decide) ⟨2, br_f (by decide) ⟨pk_in 0 10 (by decide), br_c (fun z => ?_) (fun z => ?_)⟩⟩
  · have z' : v ≤ v0 := by rw [← h15]; exact z
    exact br_f (by decide) ⟨pk_in 1 10 (by decide), nm_r (e' := upd a15 1 v) rfl ⟨pk_in 1 10 (by decide), nm_r (e' := upd a14 1 d) rfl (br_f (by decide) (nm_r (e' := 2) (by decide) (H _ _ (fun _ => ⟨by rw [pk_un (by decide)]; exact h14, pk_us⟩) (fun g => absurd z' g))))⟩⟩
  · have z' : ¬ v ≤ v0 := by rw [← h15]; exact z
    refine br_f (by decide) ⟨pk_in 0 10 (by decide), pk_in 1 10 (by decide), nm_r (e' := upd a15 1 v0) (show upd a15 1 (a15 0) = upd a15 1 v0 by rw [h15]) ⟨pk_in 0 10 (by decide), pk_in 1 10 (by decide), nm_r (e' := upd a14 1 d0) (show upd a14 1 (a14 0) = upd a14 1 d0 by rw [h14]) (nm_r (e' := 0) (by decide) (br_t (by decide) ?_))⟩⟩
    exact br_f (by decide) ⟨pk_in 0 10 (by decide), nm_r (e' := upd (upd a15 1 v0) 0 v) rfl ⟨pk_in 0 10 (by decide), nm_r (e' := upd (upd a14 1 d0) 0 d) rfl (br_f (by decide) (nm_r (e' := 2) (by decide) (H _ _ (fun g => absurd g z') (fun _ => ⟨pk_us, by rw [pk_un (by decide), pk_us]⟩))))⟩⟩
theorem ws_fbE {post : St2 → Prop} {n : Nat} {x1 : Int32} (hx : ¬ 125 ≤ x1) (hf : ¬ f4 = 10) (h9 : a9 0 = 1000) (h12 : ¬ 0 + a12 0 ≤ -1) (H : post (f0, f1, f2, 1, f4, a1, a2, a3, a4, a5, a6, a7, a8, a9, a10, a11, a12, a13, a14, a15)) : wX_findBest_11 post (n + 1) x1 f0 f1 f2 1 f4 a1 a2 a3 a4 a5 a6 a7 a8 a9 a10 a11 a12 a13 a14 a15 :=
  br_f hx (ws_nc hf h9 h12 (Or.inl rfl) (br_t rfl H))
theorem ws_rd {post : St2 → Prop} {n : Nat} {x1 w : Int32} {K : Int32 → (Nat → Int32) → (Nat → Int32) → Prop} {M : (Nat → Int32) → (Nat → Int32) → (Nat → Int32) → Prop} (d c l b : Nat) (hx : ¬ 125 ≤ x1) (hf : ¬ f4 = 10) (hd : d < 2) (c0 : 0 < c) (c8 : c < 8) (l15 : l < 15) (b0 : 0 < b) (hb : b < 10)
    (h6 : a6 0 = 2) (h7 : a7 0 = 10 + nI b) (h3 : a3 (8 * d + 2) = nI c) (h4 : a4 d = nI l) (h9 : a9 0 = nI d) (h10 : a10 0 = nI c) (h11 : a11 0 = w) (h12 : ¬ 0 + a12 0 ≤ -1)
    (Hof : ∀ P : St2 → Prop, (∀ g4 b14 b15, K g4 b14 b15 → P (2, 3, 1, 1, g4, a1, a2, a3, a4, a5, a6, a7, a8, a9, a10, a11, a12, a13, b14, b15)) → wpX_offer P (2, 3, 1, 1, f4, a1, a2, a3, a4, a5, a6, a7, a8, a9, a10, a11, a12, a13, a14, a15) (nI d) (w * ws_str (nI c) (nI l)))
    (Hmv : ∀ (g4 : Int32) (b14 b15 : Nat → Int32) (P : St2 → Prop), (∀ c8 c9 c10, M c8 c9 c10 → P (2, 3, 1, 1, g4, a1, a2, a3, a4, a5, a6, a7, c8, c9, c10, a11, a12, a13, b14, b15)) → wpX_moveTo P (2, 3, 1, 1, g4, a1, a2, a3, a4, a5, a6, a7, a8, a9, a10, a11, a12, a13, b14, b15) 0 (nI d + 1))
    (Hn : ∀ g4 b14 b15 c8 c9 c10, K g4 b14 b15 → M c8 c9 c10 → wX_findBest_11 post n (x1 + 1) 2 3 1 1 g4 a1 a2 a3 a4 a5 a6 a7 c8 c9 c10 a11 a12 a13 b14 b15) : wX_findBest_11 post (n + 1) x1 2 3 1 1 f4 a1 a2 a3 a4 a5 a6 a7 a8 a9 a10 a11 a12 a13 a14 a15 :=
  br_f hx (ws_nc hf h9 h12 (Or.inr (ws_d2 d hd).2.2.1) (br_f (ws_d2 d hd).2.1 (ws_ld h9 (ws_d2 d hd).2.2.1 (br_t rfl (ws_mt1 d c b hd h6 h7 b0 hb h3 c0 c8 (br_f (by decide) (ws_sh d c l hd h9 h10 h11 h4 c0 c8 l15 (Hof _ (fun g4 b14 b15 k => ⟨2, br_f (by decide) (Hmv g4 b14 b15 _ (fun c8 c9 c10 m => nm_r (e' := 1) (by decide) (br_t (by decide) (nm_e (Hn _ _ _ _ _ _ k m)))))⟩)))))))))
theorem ws_fb0 {post : St2 → Prop} (b : Nat) (b0 : 0 < b) (hb : b < 10) (h6 : a6 0 = 2) (h7 : a7 0 = 10 + nI b) (h2 : a2 2 = 0)
    (H : ∀ c8 c9 c10 b11 b12 b13, post (2, 3, 1, 1, 0, a1, a2, a3, a4, a5, a6, a7, c8, c9, c10, b11, b12, b13, a14, a15)) : wpX_findBest post (2, 3, 1, f3, f4, a1, a2, a3, a4, a5, a6, a7, a8, a9, a10, a11, a12, a13, a14, a15) :=
  ws_ol0 (f3 := f3) b b0 hb h6 h7 h2 (fun c8 c9 c10 b11 b12 b13 k9 k11 k12 k13 => ⟨1, ws_fbE (by decide) (by decide) k9 k12 (H _ _ _ _ _ _)⟩)
theorem ws_fb1 {post : St2 → Prop} (b d c l : Nat) (b0 : 0 < b) (hb : b < 10) (hd : d < 2) (c0 : 0 < c) (c8 : c < 8) (l15 : l < 15) (h6 : a6 0 = 2) (h7 : a7 0 = 10 + nI b) (h2 : a2 2 = 2) (h1 : a1 96 = nI (d + 1)) (hc : a1 97 = nI c) (hl : a4 d = nI l) (h3 : a3 (8 * d + 2) = nI c)
    (H : ∀ c8 c9 c10 b11 b12 b13 b14 b15, b14 0 = nI d → post (2, 3, 1, 1, 1, a1, a2, a3, a4, a5, a6, a7, c8, c9, c10, b11, b12, b13, b14, b15)) : wpX_findBest post (2, 3, 1, f3, f4, a1, a2, a3, a4, a5, a6, a7, a8, a9, a10, a11, a12, a13, a14, a15) :=
  ws_ol1 (f3 := f3) b d c l b0 hb hd c0 c8 l15 h6 h7 h2 h1 hc hl (fun c8' c9 c10 b11 b12 b13 k8 k9 k10 k11 k12 k13 => ⟨2,
    ws_rd (K := fun g4 b14 _ => g4 = 1 ∧ b14 0 = nI d) (M := fun _ c9 _ => c9 0 = 1000) d c l b (by decide) (by decide) hd c0 c8 l15 b0 hb h6 h7 h3 hl k9 k10 k11 k12
      (fun P p => ws_of0 (fun b14 b15 g _ => p 1 b14 b15 ⟨rfl, g⟩))
      (fun g4 b14 b15 P p => ws_mvE 2 2 k13 k9 (ws_d2 d hd).2.1 (ws_d2 d hd).2.2.2.2.1 (by rw [k8]; decide) h2 (by decide) (by decide) (fun e8 e9 g => p e8 e9 _ g))
      (fun g4 b14 b15 e8 e9 e10 k m => by obtain ⟨rfl, k⟩ := k; exact ws_fbE (by decide) (by decide) m k12 (H _ _ _ _ _ _ _ _ k))⟩)
theorem ws_fb2 {post : St2 → Prop} (b x y l m : Nat) (b0 : 0 < b) (hb : b < 10) (x0 : 0 < x) (x8 : x < 8) (y0 : 0 < y) (y8 : y < 8) (l15 : l < 15) (m15 : m < 15) (h6 : a6 0 = 2) (h7 : a7 0 = 10 + nI b) (h2 : a2 2 = 4) (h96 : a1 96 = 1) (h97 : a1 97 = nI x) (h98 : a1 98 = 1) (h99 : a1 99 = nI y) (hl : a4 0 = nI l) (hm : a4 1 = nI m) (h3 : a3 2 = nI x) (h10 : a3 10 = nI y)
    (H : ∀ c8 c9 c10 b11 b12 b13 b14 b15, (nI b * nI 64 * ws_str (nI y) (nI m) ≤ nI b * nI 64 * ws_str (nI x) (nI l) → b14 0 = nI 0 ∧ b15 1 = nI b * nI 64 * ws_str (nI y) (nI m)) → (¬ nI b * nI 64 * ws_str (nI y) (nI m) ≤ nI b * nI 64 * ws_str (nI x) (nI l) → b14 0 = nI 1 ∧ b15 1 = nI b * nI 64 * ws_str (nI x) (nI l)) → post (2, 3, 1, 1, 2, a1, a2, a3, a4, a5, a6, a7, c8, c9, c10, b11, b12, b13, b14, b15)) : wpX_findBest post (2, 3, 1, f3, f4, a1, a2, a3, a4, a5, a6, a7, a8, a9, a10, a11, a12, a13, a14, a15) :=
  ws_ol2 (f3 := f3) b x y l m b0 hb x0 x8 y0 y8 l15 m15 h6 h7 h2 h96 h97 h98 h99 hl hm (fun c8' c9 c10 b11 b12 b13 k8 k9 k10 k11 k12 k13 => ⟨3,
    ws_rd (K := fun g4 b14 b15 => g4 = 1 ∧ b14 0 = nI 0 ∧ b15 0 = nI b * nI 64 * ws_str (nI x) (nI l)) (M := fun e8 e9 e10 => e8 0 = 2 ∧ e9 0 = nI 1 ∧ e10 0 = nI y) 0 x l b (by decide) (by decide) (by decide) x0 x8 l15 b0 hb h6 h7 h3 hl k9 k10 k11 k12
      (fun P p => ws_of0 (fun b14 b15 g g' => p 1 b14 b15 ⟨rfl, g, g'⟩))
      (fun g4 b14 b15 P p => ws_mvN 2 4 1 (by decide) k13 k9 (by decide) (by decide) (by rw [k8]; decide) h2 (by decide) (by decide) (show nI 0 + a1 98 = nI 1 by rw [h98]; decide) (by decide) (fun e8 e9 e10 g8 g9 g10 => p e8 e9 e10 ⟨g8, g9, by rw [g10]; exact h99⟩))
      (fun g4 b14 b15 e8 e9 e10 k t => by
        obtain ⟨rfl, k14, k15⟩ := k
        obtain ⟨t8, t9, t10⟩ := t
        exact ws_rd (K := fun g4 b14 b15 => g4 = 2 ∧ (nI b * nI 64 * ws_str (nI y) (nI m) ≤ nI b * nI 64 * ws_str (nI x) (nI l) → b14 0 = nI 0 ∧ b15 1 = nI b * nI 64 * ws_str (nI y) (nI m)) ∧ (¬ nI b * nI 64 * ws_str (nI y) (nI m) ≤ nI b * nI 64 * ws_str (nI x) (nI l) → b14 0 = nI 1 ∧ b15 1 = nI b * nI 64 * ws_str (nI x) (nI l))) (M := fun _ c9 _ => c9 0 = 1000) 1 y m b (by decide) (by decide) (by decide) y0 y8 m15 b0 hb h6 h7 h10 hm t9 t10 k11 k12
          (fun P p => ws_of1 k14 k15 (fun b14 b15 g g' => p 2 b14 b15 ⟨rfl, g, g'⟩))
          (fun g4 b14 b15 P p => ws_mvE 4 4 k13 t9 (by decide) (by decide) (by rw [t8]; decide) h2 (by decide) (by decide) (fun e8 e9 g => p e8 e9 _ g))
          (fun g4 b14 b15 e8 e9 e10 k t => by
            obtain ⟨rfl, k, k'⟩ := k
            exact ws_fbE (by decide) (by decide) t k12 (H _ _ _ _ _ _ _ _ k k')))⟩)
end
end
section
section
variable {f0 f1 f2 f3 f4 : Int32} {a1 a2 a3 a4 a5 a6 a7 a8 a9 a10 a11 a12 a13 a14 a15 : Nat → Int32}
theorem ws_cA {post : Int32 → St0 → Prop} {mc ms kc ks : Nat} {z : Int32} (b : Nat) (b0 : 0 < b) (hb : b < 10) (h6 : a6 0 = 2) (h7 : a7 0 = 10 + nI b) (h2 : a2 2 = 0) (h3 : a3 2 = nI 0) (h10 : a3 10 = nI 0) (H : post 1 ()) :
    wL_lawOf_123 post mc ms (nI 0) (nI 0) z (nI b) 0 kc ks 2 3 1 f3 f4 a1 a2 a3 a4 a5 a6 a7 a8 a9 a10 a11 a12 a13 a14 a15 := by
  refine br_t (by decide) (nm_r (e' := 0) (by decide) ⟨by decide, nm_e (br_t (by decide) (br_t (by decide) ?_))⟩)
  refine ws_mg 0 0 b h6 h7 b0 hb h3 h10 (by decide) (by decide) (br_t (by decide) ?_)
  unfold wpX_score
  refine ws_live (Or.inr rfl) ?_
  refine br_f (by decide) ?_
  refine ws_ol0 (f3 := f3) b b0 hb h6 h7 h2 (fun c8 c9 c10 b11 b12 b13 k9 k11 k12 k13 => ?_)
  refine ws_so0 k13 h10 (br_t rfl (br_t rfl ?_))
  refine br_f (by decide) (br_t (by decide) (ws_fb0 b b0 hb h6 h7 h2 (fun c8 c9 c10 b11 b12 b13 => br_t (by decide) (br_t rfl ?_))))
  exact br_f (by decide) (br_t (by decide) (ws_fb0 b b0 hb h6 h7 h2 (fun c8 c9 c10 b11 b12 b13 => br_t (by decide) (br_f (by decide) (br_t rfl H)))))
theorem ws_cB {post : Int32 → St0 → Prop} {mc ms kc ks : Nat} {z : Int32} (b x : Nat) (b0 : 0 < b) (hb : b < 10) (x0 : 0 < x) (x8 : x < 8) (h6 : a6 0 = 2) (h7 : a7 0 = 10 + nI b) (h2 : a2 2 = 2) (h96 : a1 96 = nI 1) (h97 : a1 97 = nI x) (h3 : a3 2 = nI x) (h10 : a3 10 = nI 0) (h4 : a4 0 = nI x) (H : post 1 ()) :
    wL_lawOf_123 post mc ms (nI x) (nI 0) z (nI b) 1 kc ks 2 3 1 f3 f4 a1 a2 a3 a4 a5 a6 a7 a8 a9 a10 a11 a12 a13 a14 a15 := by
  have e1 : ws_one x = 1 := if_neg (by omega)
  refine br_t (by decide) (nm_r (e' := 1) (by decide) ⟨by decide, nm_e (br_f (nI_nle x0 (by omega)) ⟨by decide, ws_p1 x x8 x (by omega), br_t (by decide) ?_⟩)⟩)
  refine ws_mg x 0 b h6 h7 b0 hb h3 h10 x8 (by decide) (br_t (by rw [e1]; decide) ?_)
  unfold wpX_score
  refine ws_live (Or.inr rfl) ?_
  refine br_f (by decide) ?_
  refine ws_ol1 (f3 := f3) b 0 x x b0 hb (by decide) x0 x8 (by omega) h6 h7 h2 h96 h97 h4 (fun c8 c9 c10 b11 b12 b13 k8 k9 k10 k11 k12 k13 => ?_)
  refine ws_so0 k13 h10 (br_t rfl (br_f (by decide) (br_f (nI_nle x0 (by omega)) (br_t rfl ?_))))
  refine br_f (by decide) (br_t (by decide) (ws_fb1 b 0 x x b0 hb (by decide) x0 x8 (by omega) h6 h7 h2 h96 h97 h4 h3 (fun c8 c9 c10 b11 b12 b13 b14 b15 k => br_f (by decide) ⟨pk_in 0 10 (by decide), br_t k ?_⟩)))
  exact br_f (by decide) (br_t (by decide) (ws_fb1 b 0 x x b0 hb (by decide) x0 x8 (by omega) h6 h7 h2 h96 h97 h4 h3 (fun c8 c9 c10 b11 b12 b13 b14 b15 k => br_t (by decide) (br_f (by decide) (br_t rfl H)))))
theorem ws_cC {post : Int32 → St0 → Prop} {mc ms kc ks : Nat} (b y z : Nat) (b0 : 0 < b) (hb : b < 10) (y0 : 0 < y) (y8 : y < 8) (z8 : z < 8) (h6 : a6 0 = 2) (h7 : a7 0 = 10 + nI b) (h2 : a2 2 = 2) (h96 : a1 96 = nI 2) (h97 : a1 97 = nI y) (h3 : a3 2 = nI 0) (h10 : a3 10 = nI y) (h4 : a4 1 = nI (y + z)) (H : post 1 ()) :
    wL_lawOf_123 post mc ms (nI 0) (nI y) (nI z) (nI b) 0 kc ks 2 3 1 f3 f4 a1 a2 a3 a4 a5 a6 a7 a8 a9 a10 a11 a12 a13 a14 a15 := by
  have e1 : ws_one y = 1 := if_neg (by omega)
  refine br_f (nI_nle y0 (by omega)) (nm_r (e' := 1) (by decide) ⟨by decide, nm_r (e' := nI 96) (by decide) (br_t (by decide) (br_f (nI_nle y0 (by omega)) ⟨by decide, by rw [nI_add]; exact ws_p1 y y8 (y + z) (by omega), ?_⟩))⟩)
  rw [nI_add y z]
  refine ws_mg 0 y b h6 h7 b0 hb h3 h10 (by decide) y8 (br_t (by rw [e1]; decide) ?_)
  unfold wpX_score
  refine ws_live (Or.inr rfl) ?_
  refine br_f (by decide) ?_
  refine ws_ol1 (f3 := f3) b 1 y (y + z) b0 hb (by decide) y0 y8 (by omega) h6 h7 h2 h96 h97 h4 (fun c8 c9 c10 b11 b12 b13 k8 k9 k10 k11 k12 k13 => ?_)
  refine ws_so1 y (y + z) k13 k11 h10 h4 y0 y8 (by omega) (br_t rfl (br_f (by decide) (br_t (by decide) ?_)))
  refine br_f (by decide) (br_t (by decide) (ws_fb1 b 1 y (y + z) b0 hb (by decide) y0 y8 (by omega) h6 h7 h2 h96 h97 h4 h10 (fun c8 c9 c10 b11 b12 b13 b14 b15 k => br_f (by decide) ⟨pk_in 0 10 (by decide), br_t k ?_⟩)))
  exact br_f (by decide) (br_t (by decide) (ws_fb1 b 1 y (y + z) b0 hb (by decide) y0 y8 (by omega) h6 h7 h2 h96 h97 h4 h10 (fun c8 c9 c10 b11 b12 b13 b14 b15 k => br_t (by decide) (br_f (by decide) (br_t rfl H)))))
theorem ws_D270 {post : Int32 → St0 → Prop} {mc ms kc ks : Nat} {z0 : Int32} (b x y l m : Nat) (b0 : 0 < b) (hb : b < 10) (x0 : 0 < x) (x8 : x < 8) (y0 : 0 < y) (y8 : y < 8) (l15 : l < 15) (m15 : m < 15) (h6 : a6 0 = 2) (h7 : a7 0 = 10 + nI b) (h2 : a2 2 = 4) (h96 : a1 96 = 1) (h97 : a1 97 = nI x) (h98 : a1 98 = 1) (h99 : a1 99 = nI y) (hl : a4 0 = nI l) (hm : a4 1 = nI m) (h3 : a3 2 = nI x) (h10 : a3 10 = nI y)
    (hz : nI b * nI 64 * ws_str (nI y) (nI m) ≤ nI b * nI 64 * ws_str (nI x) (nI l) → z0 = nI 0) (hz' : ¬ nI b * nI 64 * ws_str (nI y) (nI m) ≤ nI b * nI 64 * ws_str (nI x) (nI l) → z0 = nI 1) (H : post 1 ()) :
    wL_lawOf_270 post mc ms (nI 2) (nI b * nI 64 * ws_str (nI x) (nI l)) (nI b * nI 64 * ws_str (nI y) (nI m)) z0 kc ks 2 3 1 f3 f4 a1 a2 a3 a4 a5 a6 a7 a8 a9 a10 a11 a12 a13 a14 a15 := by
  refine br_f (by decide) (br_t (by decide) (ws_fb2 b x y l m b0 hb x0 x8 y0 y8 l15 m15 h6 h7 h2 h96 h97 h98 h99 hl hm h3 h10 (fun c8 c9 c10 b11 b12 b13 b14 b15 g g' => br_f (by decide) ⟨pk_in 0 10 (by decide), br_t ?_ ?_⟩)))
  · show b14 0 = z0
    rcases Classical.em (nI b * nI 64 * ws_str (nI y) (nI m) ≤ nI b * nI 64 * ws_str (nI x) (nI l)) with q | q
    · rw [(g q).1, hz q]
    · rw [(g' q).1, hz' q]
  · exact br_f (by decide) (br_t (by decide) (ws_fb2 b x y l m b0 hb x0 x8 y0 y8 l15 m15 h6 h7 h2 h96 h97 h98 h99 hl hm h3 h10 (fun c8 c9 c10 b11 b12 b13 b14 b15 g g' => br_f (by decide) ⟨pk_in 1 10 (by decide), br_t (by decide) (br_c (fun q => br_t (g q).2 H) (fun q => br_t (g' q).2 H))⟩)))
theorem ws_cD {post : Int32 → St0 → Prop} {mc ms kc ks : Nat} (b x y z : Nat) (b0 : 0 < b) (hb : b < 10) (x0 : 0 < x) (x8 : x < 8) (y0 : 0 < y) (y8 : y < 8) (z8 : z < 8) (h6 : a6 0 = 2) (h7 : a7 0 = 10 + nI b) (h2 : a2 2 = 4) (h96 : a1 96 = 1) (h97 : a1 97 = nI x) (h98 : a1 98 = 1) (h99 : a1 99 = nI y) (hl : a4 0 = nI x) (hm : a4 1 = nI (y + z)) (h3 : a3 2 = nI x) (h10 : a3 10 = nI y) (H : post 1 ()) :
    wL_lawOf_123 post mc ms (nI x) (nI y) (nI z) (nI b) 1 kc ks 2 3 1 f3 f4 a1 a2 a3 a4 a5 a6 a7 a8 a9 a10 a11 a12 a13 a14 a15 := by
  have e1 : ws_one x = 1 := if_neg (by omega)
  have e2 : ws_one y = 1 := if_neg (by omega)
  refine br_f (nI_nle y0 (by omega)) (nm_r (e' := nI 2) (by decide) ⟨by decide, nm_r (e' := nI 64) (by decide) (br_f (nI_nle x0 (by omega)) ⟨by decide, ws_p1 x x8 x (by omega), br_f (nI_nle y0 (by omega)) ⟨by decide, by rw [nI_add]; exact ws_p1 y y8 (y + z) (by omega), ?_⟩⟩)⟩)
  rw [nI_add y z]
  refine ws_mg x y b h6 h7 b0 hb h3 h10 x8 y8 (br_t (by rw [e1, e2]) ?_)
  unfold wpX_score
  refine ws_live (Or.inr rfl) ?_
  refine br_f (by decide) ?_
  refine ws_ol2 (f3 := f3) b x y x (y + z) b0 hb x0 x8 y0 y8 (by omega) (by omega) h6 h7 h2 h96 h97 h98 h99 hl hm (fun c8 c9 c10 b11 b12 b13 k8 k9 k10 k11 k12 k13 => ?_)
  refine ws_so1 y (y + z) k13 k11 h10 hm y0 y8 (by omega) (br_t rfl (br_f (by decide) (br_f (nI_nle x0 (by omega)) (br_f (nI_ne0 y0 (by omega)) (br_c (fun q => ?_) (fun q => ?_))))))
  · exact ws_D270 b x y x (y + z) b0 hb x0 x8 y0 y8 (by omega) (by omega) h6 h7 h2 h96 h97 h98 h99 hl hm h3 h10 (fun t => absurd t (Int32.not_le.mpr q)) (fun _ => rfl) H
  · exact ws_D270 b x y x (y + z) b0 hb x0 x8 y0 y8 (by omega) (by omega) h6 h7 h2 h96 h97 h98 h99 hl hm h3 h10 (fun _ => rfl) (fun t => absurd (Int32.not_le.mp t) q) H
end
end
section
theorem ws_z7 : ∀ j, j < 8 → 1 + (nI j - nI j / 7 * 7) = nI (1 + j % 7) := by decide +kernel
theorem ws_b9 : ∀ j, j < 16 → 1 + (nI j - nI j / 9 * 9) = nI (1 + j % 9) := by decide +kernel
theorem ws_sum1 (x : Nat) : ws_sum (upd (fun _ => 0) 2 (nI x)) = nI x := by
  show (0 : Int32) + 0 + 0 + nI x + 0 + 0 + 0 + 0 + 0 = nI x
  grind
theorem ws_sum2 (x y z : Nat) : ws_sum (upd (upd (upd (fun _ => 0) 2 (nI x)) 2 (nI y)) 5 (nI z)) = nI y + nI z := by
  show (0 : Int32) + 0 + 0 + nI y + 0 + 0 + nI z + 0 + 0 = nI y + nI z
  grind
/-- word 2's list after document 0 -/
def ws_K0 (x : Nat) (b1 b2 : Nat → Int32) : Prop := b2 5 = 0 ∧ (x = 0 → b2 2 = 0) ∧ (0 < x → b2 2 = 2 ∧ b1 96 = 1 ∧ b1 97 = nI x)
/-- word 2's list after document 1 -/
def ws_K1 (x y : Nat) (b1 b2 : Nat → Int32) : Prop := (x = 0 → y = 0 → b2 2 = 0) ∧ (0 < x → y = 0 → b2 2 = 2 ∧ b1 96 = nI 1 ∧ b1 97 = nI x) ∧ (x = 0 → 0 < y → b2 2 = 2 ∧ b1 96 = nI 2 ∧ b1 97 = nI y) ∧ (0 < x → 0 < y → b2 2 = 4 ∧ b1 96 = 1 ∧ b1 97 = nI x ∧ b1 98 = 1 ∧ b1 99 = nI y)
section
variable {f0 f1 f2 f3 f4 : Int32} {a1 a2 a3 a4 a5 a6 a7 a8 a9 a10 a11 a12 a13 a14 a15 : Nat → Int32}
theorem ws_i0 {P : St2 → Prop} (x : Nat) (hx : x < 8) (s1 : ∀ j, j < 8 → a3 (8 * 0 + j) = upd (fun _ => 0) 2 (nI x) j) (h2 : a2 2 = 0) (h5 : a2 5 = 0)
    (H : ∀ b1 b2, ws_K0 x b1 b2 → P (f0, f1, f2, f3, f4, b1, b2, a3, a4, a5, a6, a7, a8, a9, a10, a11, a12, a13, a14, a15)) : wpX_index P (f0, f1, f2, f3, f4, a1, a2, a3, a4, a5, a6, a7, a8, a9, a10, a11, a12, a13, a14, a15) (nI 0) :=
  ws_ixd 0 x 0 0 (-1) (by decide) hx (by decide) (by decide) (s1 0 (by decide)) (s1 1 (by decide)) (s1 2 (by decide)) (s1 3 (by decide)) (s1 4 (by decide)) (s1 5 (by decide)) (s1 6 (by decide)) (s1 7 (by decide)) h2 h5
    (fun Q q => ws_lo0 2 (by decide) h2 q)
    (fun b1 b2 k1 k2 k3 => H b1 b2 ⟨k3 rfl, fun e => (k1 e).1, fun e => ⟨(k2 e).1, (k2 e).2.1.trans (by decide), (k2 e).2.2.1⟩⟩)
theorem ws_i1 {P : St2 → Prop} (x y z : Nat) (hy : y < 8) (hz : z < 8) (s1 : ∀ j, j < 8 → a3 (8 * 1 + j) = upd (upd (upd (fun _ => 0) 2 (nI x)) 2 (nI y)) 5 (nI z) j) (k : ws_K0 x a1 a2)
    (H : ∀ b1 b2, ws_K1 x y b1 b2 → P (f0, f1, f2, f3, f4, b1, b2, a3, a4, a5, a6, a7, a8, a9, a10, a11, a12, a13, a14, a15)) : wpX_index P (f0, f1, f2, f3, f4, a1, a2, a3, a4, a5, a6, a7, a8, a9, a10, a11, a12, a13, a14, a15) (nI 1) := by
  obtain ⟨h5, g0, g1⟩ := k
  rcases Nat.eq_zero_or_pos x with e | e
  · have h2 := g0 e
    exact ws_ixd 1 y z 0 (-1) (by decide) hy hz (by decide) (s1 0 (by decide)) (s1 1 (by decide)) (s1 2 (by decide)) (s1 3 (by decide)) (s1 4 (by decide)) (s1 5 (by decide)) (s1 6 (by decide)) (s1 7 (by decide)) h2 h5
      (fun Q q => ws_lo0 2 (by decide) h2 q)
      (fun b1 b2 k1 k2 k3 => H b1 b2 ⟨fun _ t => (k1 t).1, fun t => absurd t (by omega), fun _ t => ⟨(k2 t).1, (k2 t).2.1.trans (by decide), (k2 t).2.2.1⟩, fun t => absurd t (by omega)⟩)
  · obtain ⟨h2, h96, h97⟩ := g1 e
    exact ws_ixd 1 y z 2 0 (by decide) hy hz (by decide) (s1 0 (by decide)) (s1 1 (by decide)) (s1 2 (by decide)) (s1 3 (by decide)) (s1 4 (by decide)) (s1 5 (by decide)) (s1 6 (by decide)) (s1 7 (by decide)) h2 h5
      (fun Q q => ws_lo2 h2 h96 q)
      (fun b1 b2 k1 k2 k3 => H b1 b2 ⟨fun t => absurd t (by omega), fun _ t => ⟨(k1 t).1, ((k1 t).2 96 (by decide)).trans h96, ((k1 t).2 97 (by decide)).trans h97⟩, fun t => absurd t (by omega), fun _ t => ⟨(k2 t).1, ((k2 t).2.2.2 96 (by decide)).trans h96, ((k2 t).2.2.2 97 (by decide)).trans h97, (k2 t).2.1.trans (by decide), (k2 t).2.2.1⟩⟩)
theorem ws_tail {post : Int32 → St0 → Prop} {mc ms kc ks : Nat} (x y z b : Nat) (hx : x < 8) (hy : y < 8) (hz : z < 8) (b0 : 0 < b) (hb : b < 10) (h6 : a6 0 = 2) (h7 : a7 0 = 10 + nI b) (k : ws_K1 x y a1 a2) (h3 : a3 2 = nI x) (h10 : a3 10 = nI y) (hl : a4 0 = nI x) (hm : a4 1 = nI (y + z)) (H : post 1 ()) :
    (nI x ≤ 0 → wL_lawOf_123 post mc ms (nI x) (nI y) (nI z) (nI b) 0 kc ks 2 3 1 f3 f4 a1 a2 a3 a4 a5 a6 a7 a8 a9 a10 a11 a12 a13 a14 a15) ∧ (¬ nI x ≤ 0 → wL_lawOf_123 post mc ms (nI x) (nI y) (nI z) (nI b) 1 kc ks 2 3 1 f3 f4 a1 a2 a3 a4 a5 a6 a7 a8 a9 a10 a11 a12 a13 a14 a15) := by
  obtain ⟨kA, kB, kC, kD⟩ := k
  rcases Nat.eq_zero_or_pos x with e | e
  · subst e
    refine br_t (by decide) ?_
    rcases Nat.eq_zero_or_pos y with g | g
    · subst g
      exact ws_cA b b0 hb h6 h7 (kA rfl rfl) h3 h10 H
    · obtain ⟨q1, q2, q3⟩ := kC rfl g
      exact ws_cC b y z b0 hb g hy hz h6 h7 q1 q2 q3 h3 h10 hm H
  · refine br_f (nI_nle e (by omega)) ?_
    rcases Nat.eq_zero_or_pos y with g | g
    · subst g
      obtain ⟨q1, q2, q3⟩ := kB e rfl
      exact ws_cB b x b0 hb e hx h6 h7 q1 q2 q3 h3 h10 hl H
    · obtain ⟨q1, q2, q3, q4, q5⟩ := kD e g
      exact ws_cD b x y z b0 hb e hx g hy hz h6 h7 q1 q2 q3 q4 q5 hl hm h3 h10 H
end
theorem ws_lawOf (p0 p1 p2 p3 : Int32) : wpL_lawOf (fun r _ => r = 1) 16 696 () p0 p1 p2 p3 := by
  obtain ⟨x, hx, ex⟩ := pk_andE p0 (m := 7) 3 (by decide)
  obtain ⟨y, hy, ey⟩ := pk_andE p1 (m := 7) 3 (by decide)
  obtain ⟨j, hj, ej⟩ := pk_andE p3 (m := 7) 3 (by decide)
  obtain ⟨i, hi, ei⟩ := pk_andE p2 (m := 15) 4 (by decide)
  have hz : 1 + j % 7 < 8 := by omega
  have hb : 1 + i % 9 < 10 := by omega
  refine ⟨by decide, by decide, 15, 676, by decide, by decide, ?_⟩
  refine ⟨by decide, by decide, by decide, by decide, by decide, by decide, by decide, by decide, by decide, by decide, by decide, by decide, by decide, by decide, by decide, by decide, by decide, by decide, by decide, by decide, by decide, by decide, by decide, by decide, by decide, by decide, by decide, by decide, by decide, by decide, ?_⟩
  refine nm_r ex (nm_r ey ⟨by decide, nm_r (e' := nI (1 + j % 7)) (by rw [ej]; exact ws_z7 j hj) ?_⟩)
  refine ws_wr 2 x (by decide) hx ?_
  refine ws_add (K := ws_K0 x) 0 (by decide) (fun s s1 s2 P p => ws_i0 x hx s1 rfl rfl p) (fun s b1 b2 s1 s2 k => ?_)
  refine ws_wr 2 y (by decide) hy ?_
  refine ws_wr 5 (1 + j % 7) (by decide) hz ?_
  refine br_t (ws_sum2 x y (1 + j % 7)) ?_
  refine ws_add (K := ws_K1 x y) 1 (by decide) (fun s' s1' s2' P p => ws_i1 x y (1 + j % 7) hy hz s1' k p) (fun s' b1' b2' s1' s2' k' => ?_)
  refine br_t (by decide) ⟨by decide, nm_r (e' := nI (1 + i % 9)) (by rw [ei]; exact ws_b9 i hi) ?_⟩
  refine ws_item (1 + i % 9) (by omega) hb ?_
  refine br_t rfl ?_
  refine ws_tail x y (1 + j % 7) (1 + i % 9) hx hy hz (by omega) hb pk_us pk_us k' ?_ (s1' 2 (by decide)) ?_ ?_ rfl
  · exact (s2' 2 (by decide)).trans (s1 2 (by decide))
  · rw [pk_un (by decide), pk_us]
    exact ws_sum1 x
  · rw [pk_us, ws_sum2, nI_add]
theorem ws_cell {post : Int32 → Prop} {L : Nat} {xs : Nat → Int32} (k : Nat) (hk : k < 4) (hL : L ≤ 4) (H : ∀ v, post v) : wpL_cellAt post L xs () (nI k) :=
  pk_le L k (fun _ => H 0) (fun z => ⟨pk_in k L z, H _⟩)
theorem i_vc (xs : Nat → Int32) (L : Nat) (hL : L ≤ 4) : wpL_law (fun r => r = 1) L xs := by
  unfold wpL_law
  refine ws_cell 0 (by decide) hL (fun v1 => ?_)
  refine ws_cell 1 (by decide) hL (fun v2 => ?_)
  refine ws_cell 2 (by decide) hL (fun v3 => ?_)
  refine ws_cell 3 (by decide) hL (fun v4 => ?_)
  exact ⟨16, 696, by decide, by decide, ws_lawOf v1 v2 v3 v4⟩
end
