section
section
variable {a1 a2 a3 a4 a5 a6 a7 a8 a9 a10 : Nat → Int32}
/-! ints of the small ranges -/
theorem tc_line : ∀ k, k < 4 → ∀ j, j < 16 → (nI k * 4) + (nI j &&& 3) = nI (k * 4 + j % 4) := by decide +kernel
theorem tc_at : ∀ k, k < 4 → nI k * 3 + 0 = nI (k * 3) := by decide +kernel
theorem tc_at1 : ∀ k, k < 4 → nI k * 3 + 1 - 1 = nI (k * 3) := by decide +kernel
theorem tc_lg : ∀ k, k < 4 → nI (k * 3) * 16 + 0 = nI (k * 3 * 16) := by decide +kernel
theorem tc_b8 : ∀ j, j < 16 → (nI j).toInt8.toInt32 = nI j := by decide +kernel
theorem tc_z : ∀ j, j < 16 → ((0 : Int32) >>> (nI j &&& 31)) &&& 1 = 0 := by decide +kernel
theorem tc_bit : ∀ j, j < 16 → ∀ i, i < 16 → ((((1 : Int32) <<< (nI j &&& 31)) >>> (nI i &&& 31)) &&& 1 = 0 ↔ i ≠ j) := by decide +kernel
theorem tc_b1 : ∀ j, j < 16 → (0 : Int32) ||| ((1 : Int32) <<< (nI j &&& 31)) = (1 : Int32) <<< (nI j &&& 31) := by decide +kernel
theorem tc_i0 {x : Int32} (h : x = 0) : x ≤ 0 := by subst h; decide
theorem tc_i1 {x : Int32} (h : x = 1) : ¬ x ≤ 0 := by subst h; decide
theorem tc_i2 {x : Int32} (h : x = 1) : x ≤ 0 + 1 := by subst h; decide
theorem tc_or0 {x : Int32} (h : x = 0) : 0 ||| x = 0 := by subst h; decide
theorem tc_c {f : Nat → Int32} {n : Nat} {v : Int32} (h : f n = v) (hn : n < 2 ^ 31) : f (nI n).toNatClampNeg = v := by
  rw [nI_clamp hn]
  exact h
/-! isCore, isCell -/
theorem tc_core1 {post : Int32 → Prop} {u : St0} {k : Nat} (hk : k < 4) (h : post 1) : wpX_isCore post u (nI k) :=
  br_f (nI_pos (by omega)) (br_f (nI_ge (b := 4) hk (by decide)) h)
theorem tc_core0 {post : Int32 → Prop} {u : St0} {p : Int32} (hp : p < 0 ∨ nI 4 ≤ p) (h : post 0) : wpX_isCore post u p :=
  br_c (fun _ => h) (fun z => br_t (hp.resolve_left z) h)
theorem tc_cell1 {post : Int32 → Prop} {u : St0} {k : Nat} (hk : k < 16) (h : post 1) : wpX_isCell post u (nI k) :=
  br_f (nI_pos (by omega)) (br_f (nI_ge (b := 16) hk (by decide)) h)
theorem tc_cell0 {post : Int32 → Prop} {u : St0} {p : Int32} (hp : p < 0 ∨ nI 16 ≤ p) (h : post 0) : wpX_isCell post u p :=
  br_c (fun _ => h) (fun z => br_t (hp.resolve_left z) h)
/-! the sets, at level 0 or 1 -/
def tc_WS (a1 a2 a3 a4 a5 a6 a7 a8 a9 a10 : Nat → Int32) (W : Nat → Int32) : Prop := ∀ (e : Nat) (post : Int32 → Prop), e < 4 → post (W e) → wpX_writtenSet post (a1, a2, a3, a4, a5, a6, a7, a8, a9, a10) (nI e)
def tc_RS (a1 a2 a3 a4 a5 a6 a7 a8 a9 a10 : Nat → Int32) (W : Nat → Int32) : Prop := ∀ (e : Nat) (post : Int32 → Prop), e < 4 → post (W e) → wpX_readSet post (a1, a2, a3, a4, a5, a6, a7, a8, a9, a10) (nI e)
theorem tc_ws0 {post : Int32 → Prop} {k : Nat} (hk : k < 4) (h5 : a5 k = 0) (h : post 0) : wpX_writtenSet post (a1, a2, a3, a4, a5, a6, a7, a8, a9, a10) (nI k) :=
  ⟨1, pk_in k 4 hk, br_t (tc_i0 (tc_c h5 (by omega))) h⟩
theorem tc_ws1 {post : Int32 → Prop} {k : Nat} (hk : k < 4) (h5 : a5 k = 1) (h : post (0 ||| a7 (k * 3))) : wpX_writtenSet post (a1, a2, a3, a4, a5, a6, a7, a8, a9, a10) (nI k) :=
  ⟨2, pk_in k 4 hk, br_f (tc_i1 (tc_c h5 (by omega))) ⟨pk_in (k * 3) 12 (by omega) (tc_at k hk), nm_r (congrArg (fun t => 0 ||| a7 t) (pk_cl (k * 3) (tc_at k hk))) (nm_e ⟨pk_in k 4 hk, br_t (tc_i2 (tc_c h5 (by omega))) h⟩)⟩⟩
theorem tc_rs0 {post : Int32 → Prop} {k : Nat} (hk : k < 4) (h5 : a5 k = 0) (h : post 0) : wpX_readSet post (a1, a2, a3, a4, a5, a6, a7, a8, a9, a10) (nI k) :=
  ⟨1, pk_in k 4 hk, br_t (tc_i0 (tc_c h5 (by omega))) h⟩
theorem tc_rs1 {post : Int32 → Prop} {k : Nat} (hk : k < 4) (h5 : a5 k = 1) (h : post (0 ||| a6 (k * 3))) : wpX_readSet post (a1, a2, a3, a4, a5, a6, a7, a8, a9, a10) (nI k) :=
  ⟨2, pk_in k 4 hk, br_f (tc_i1 (tc_c h5 (by omega))) ⟨pk_in (k * 3) 12 (by omega) (tc_at k hk), nm_r (congrArg (fun t => 0 ||| a6 t) (pk_cl (k * 3) (tc_at k hk))) (nm_e ⟨pk_in k 4 hk, br_t (tc_i2 (tc_c h5 (by omega))) h⟩)⟩⟩
/-- all sets empty -/
theorem tc_wsz (h5 : ∀ e, a5 e = 0 ∨ a5 e = 1) (h7 : ∀ i, a7 i = 0) : tc_WS a1 a2 a3 a4 a5 a6 a7 a8 a9 a10 (fun _ => 0) := by
  intro e post he h
  rcases h5 e with z | z
  · exact tc_ws0 he z h
  · refine tc_ws1 he z ?_
    rw [tc_or0 (h7 _)]
    exact h
theorem tc_rsz (h5 : ∀ e, a5 e = 0 ∨ a5 e = 1) (h6 : ∀ i, a6 i = 0) : tc_RS a1 a2 a3 a4 a5 a6 a7 a8 a9 a10 (fun _ => 0) := by
  intro e post he h
  rcases h5 e with z | z
  · exact tc_rs0 he z h
  · refine tc_rs1 he z ?_
    rw [tc_or0 (h6 _)]
    exact h
/-- no level: all sets empty -/
theorem tc_wsl (h5 : ∀ e, a5 e = 0) : tc_WS a1 a2 a3 a4 a5 a6 a7 a8 a9 a10 (fun _ => 0) :=
  fun e _ he h => tc_ws0 he (h5 e) h
/-- core k wrote cell j, at level 1 -/
def tc_W (k j e : Nat) : Int32 := if e = k then (1 : Int32) <<< (nI j &&& 31) else 0
theorem tc_wsG {k j : Nat} (hj : j < 16) (h5 : ∀ e, a5 e = if e = k then 1 else 0) (h7 : ∀ i, a7 i = if i = k * 3 then (1 : Int32) <<< (nI j &&& 31) else 0) : tc_WS a1 a2 a3 a4 a5 a6 a7 a8 a9 a10 (tc_W k j) := by
  intro e post he h
  unfold tc_W at h
  by_cases z : e = k
  · rw [if_pos z] at h
    refine tc_ws1 he ((h5 e).trans (if_pos z)) ?_
    rw [h7, if_pos (by omega), tc_b1 j hj]
    exact h
  · rw [if_neg z] at h
    exact tc_ws0 he ((h5 e).trans (if_neg z)) h
/-! rivalsOf -/
def tc_g (c : Nat) (x2 w : Int32) (e : Nat) : Int32 := if e = c then 0 else if (w >>> (x2 &&& 31)) &&& 1 = 0 then 0 else (1 : Int32) <<< (nI e &&& 31)
theorem tc_rv35 {post : Int32 → Prop} {J : Int32 → Int32 → Prop} {c e : Nat} (hc : c < 4) (he : e < 4) {x2 x3 x4 w : Int32} (h : J (x4 ||| tc_g c x2 w e) (nI (e + 1))) : wX_rivalsOf_35 post J (nI c) x2 x3 x4 (nI e) w a1 a2 a3 a4 a5 a6 a7 a8 a9 a10 := by
  unfold tc_g at h
  refine pk_eq e c (fun z => ?_) (fun z => ?_)
  · rw [if_pos z] at h
    exact nm_e (nm_r (nI_1 e) h)
  · rw [if_neg z] at h
    refine br_c (fun g => ?_) (fun g => ?_)
    · rw [if_pos g] at h
      exact nm_e (nm_r (nI_1 e) h)
    · rw [if_neg g] at h
      exact nm_e (nm_r (nI_1 e) h)
theorem tc_rvS {post : Int32 → Prop} {c e n : Nat} {x2 x4 : Int32} {W : Nat → Int32} (hc : c < 4) (he : e < 4) (hW : tc_WS a1 a2 a3 a4 a5 a6 a7 a8 a9 a10 W) (h : wX_rivalsOf_6 post (nI c) x2 0 a1 a2 a3 a4 a5 a6 a7 a8 a9 a10 n (x4 ||| tc_g c x2 (W e) e) (nI (e + 1))) : wX_rivalsOf_6 post (nI c) x2 0 a1 a2 a3 a4 a5 a6 a7 a8 a9 a10 (n + 1) x4 (nI e) :=
  pk_le 4 e (fun z => absurd z (by omega)) (fun _ => hW e _ he (br_t rfl (tc_rv35 hc he h)))
theorem tc_rv0 {post : Int32 → Prop} {c : Nat} {x2 : Int32} {W : Nat → Int32} (hc : c < 4) (hW : tc_WS a1 a2 a3 a4 a5 a6 a7 a8 a9 a10 W) (h : post ((((0 ||| tc_g c x2 (W 0) 0) ||| tc_g c x2 (W 1) 1) ||| tc_g c x2 (W 2) 2) ||| tc_g c x2 (W 3) 3)) : wpX_rivalsOf post (a1, a2, a3, a4, a5, a6, a7, a8, a9, a10) (nI c) x2 0 :=
  ⟨5, tc_rvS (e := 0) hc (by omega) hW (tc_rvS (e := 1) hc (by omega) hW (tc_rvS (e := 2) hc (by omega) hW (tc_rvS (e := 3) hc (by omega) hW (pk_le 4 4 (fun _ => h) (fun z => absurd z (by omega))))))⟩
theorem tc_rvT {post : Int32 → Prop} {c e n : Nat} {x2 x4 : Int32} {W R : Nat → Int32} (hc : c < 4) (he : e < 4) (hW : tc_WS a1 a2 a3 a4 a5 a6 a7 a8 a9 a10 W) (hR : tc_RS a1 a2 a3 a4 a5 a6 a7 a8 a9 a10 R) (h : wX_rivalsOf_6 post (nI c) x2 1 a1 a2 a3 a4 a5 a6 a7 a8 a9 a10 n (x4 ||| tc_g c x2 (W e ||| R e) e) (nI (e + 1))) : wX_rivalsOf_6 post (nI c) x2 1 a1 a2 a3 a4 a5 a6 a7 a8 a9 a10 (n + 1) x4 (nI e) :=
  pk_le 4 e (fun z => absurd z (by omega)) (fun _ => hW e _ he (br_f (by decide) (hR e _ he (nm_e (tc_rv35 hc he h)))))
theorem tc_rv1 {post : Int32 → Prop} {c : Nat} {x2 : Int32} {W R : Nat → Int32} (hc : c < 4) (hW : tc_WS a1 a2 a3 a4 a5 a6 a7 a8 a9 a10 W) (hR : tc_RS a1 a2 a3 a4 a5 a6 a7 a8 a9 a10 R) (h : post ((((0 ||| tc_g c x2 (W 0 ||| R 0) 0) ||| tc_g c x2 (W 1 ||| R 1) 1) ||| tc_g c x2 (W 2 ||| R 2) 2) ||| tc_g c x2 (W 3 ||| R 3) 3)) : wpX_rivalsOf post (a1, a2, a3, a4, a5, a6, a7, a8, a9, a10) (nI c) x2 1 :=
  ⟨5, tc_rvT (e := 0) hc (by omega) hW hR (tc_rvT (e := 1) hc (by omega) hW hR (tc_rvT (e := 2) hc (by omega) hW hR (tc_rvT (e := 3) hc (by omega) hW hR (pk_le 4 4 (fun _ => h) (fun z => absurd z (by omega))))))⟩
theorem tc_gz : ∀ c, c < 4 → ∀ i, i < 16 → ((((0 ||| tc_g c (nI i) 0 0) ||| tc_g c (nI i) 0 1) ||| tc_g c (nI i) 0 2) ||| tc_g c (nI i) 0 3) = 0 := by decide +kernel
theorem tc_gzz : ∀ c, c < 4 → ∀ i, i < 16 → ((((0 ||| tc_g c (nI i) (0 ||| 0) 0) ||| tc_g c (nI i) (0 ||| 0) 1) ||| tc_g c (nI i) (0 ||| 0) 2) ||| tc_g c (nI i) (0 ||| 0) 3) = 0 := by decide +kernel
theorem tc_gG : ∀ k, k < 4 → ∀ c, c < 4 → ∀ j, j < 16 → ∀ i, i < 16 → ((((0 ||| tc_g c (nI i) (tc_W k j 0) 0) ||| tc_g c (nI i) (tc_W k j 1) 1) ||| tc_g c (nI i) (tc_W k j 2) 2) ||| tc_g c (nI i) (tc_W k j 3) 3) = if c ≠ k ∧ i = j then (1 : Int32) <<< (nI k &&& 31) else 0 := by decide +kernel
theorem tc_rv0z {post : Int32 → Prop} {c i : Nat} (hc : c < 4) (hi : i < 16) (hW : tc_WS a1 a2 a3 a4 a5 a6 a7 a8 a9 a10 (fun _ => 0)) (h : post 0) : wpX_rivalsOf post (a1, a2, a3, a4, a5, a6, a7, a8, a9, a10) (nI c) (nI i) 0 := by
  refine tc_rv0 hc hW ?_
  rw [tc_gz c hc i hi]
  exact h
theorem tc_rv1z {post : Int32 → Prop} {c i : Nat} (hc : c < 4) (hi : i < 16) (hW : tc_WS a1 a2 a3 a4 a5 a6 a7 a8 a9 a10 (fun _ => 0)) (hR : tc_RS a1 a2 a3 a4 a5 a6 a7 a8 a9 a10 (fun _ => 0)) (h : post 0) : wpX_rivalsOf post (a1, a2, a3, a4, a5, a6, a7, a8, a9, a10) (nI c) (nI i) 1 := by
  refine tc_rv1 hc hW hR ?_
  rw [tc_gzz c hc i hi]
  exact h
theorem tc_rv0G {post : Int32 → Prop} {k c j i : Nat} (hk : k < 4) (hc : c < 4) (hj : j < 16) (hi : i < 16) (hW : tc_WS a1 a2 a3 a4 a5 a6 a7 a8 a9 a10 (tc_W k j)) (h : post (if c ≠ k ∧ i = j then (1 : Int32) <<< (nI k &&& 31) else 0)) : wpX_rivalsOf post (a1, a2, a3, a4, a5, a6, a7, a8, a9, a10) (nI c) (nI i) 0 := by
  refine tc_rv0 hc hW ?_
  rw [tc_gG k hk c hc j hj i hi]
  exact h
/-! holds, newest -/
theorem tc_ln {post : Int32 → Prop} {u : St0} {k j : Nat} (hk : k < 4) (hj : j < 16) (h : post (nI (k * 4 + j % 4))) : wpX_lineOf post u (nI k) (nI j) := by
  unfold wpX_lineOf
  rw [tc_line k hk j hj]
  exact h
theorem tc_hold {post : Int32 → Prop} {k j : Nat} (hk : k < 4) (hj : j < 16) (h0 : ¬ (¬ a3 (k * 4 + j % 4) = 0 ∧ a2 (k * 4 + j % 4) = nI j) → post 0) (h1 : (¬ a3 (k * 4 + j % 4) = 0 ∧ a2 (k * 4 + j % 4) = nI j) → post 1) : wpX_holds post (a1, a2, a3, a4, a5, a6, a7, a8, a9, a10) (nI k) (nI j) := by
  have hl : k * 4 + j % 4 < 16 := by omega
  unfold wpX_holds
  refine tc_ln hk hj ?_
  rw [nI_clamp (by omega)]
  exact ⟨vp_in_nI hl (by decide), br_c (fun z => h0 (fun t => t.1 z)) (fun z => ⟨vp_in_nI hl (by decide), br_c (fun g => h1 ⟨z, g⟩) (fun g => h0 (fun t => g t.2))⟩)⟩
theorem tc_nwS {post : Int32 → Prop} {j e n : Nat} (hj : j < 16) (he : e < 4) (hn : ¬ (a3 (e * 4 + j % 4) = 3 ∧ a2 (e * 4 + j % 4) = nI j)) (h : wX_newest_2 post (nI j) a1 a2 a3 a4 a5 a6 a7 a8 a9 a10 n (nI (e + 1))) : wX_newest_2 post (nI j) a1 a2 a3 a4 a5 a6 a7 a8 a9 a10 (n + 1) (nI e) := by
  have hl : e * 4 + j % 4 < 16 := by omega
  refine pk_le 4 e (fun z => absurd z (by omega)) (fun _ => tc_ln he hj ?_)
  rw [nI_clamp (by omega)]
  exact tc_hold he hj (fun _ => br_t rfl (nm_r (nI_1 e) h)) (fun z => br_f (by decide) ⟨vp_in_nI hl (by decide), br_f (fun g => hn ⟨g, z.2⟩) (nm_r (nI_1 e) h)⟩)
theorem tc_nwH {post : Int32 → Prop} {j k n : Nat} (hj : j < 16) (hk : k < 4) (h3 : a3 (k * 4 + j % 4) = 3) (h2 : a2 (k * 4 + j % 4) = nI j) (h : post (a4 (k * 4 + j % 4))) : wX_newest_2 post (nI j) a1 a2 a3 a4 a5 a6 a7 a8 a9 a10 (n + 1) (nI k) := by
  have hl : k * 4 + j % 4 < 16 := by omega
  refine pk_le 4 k (fun z => absurd z (by omega)) (fun _ => tc_ln hk hj ?_)
  rw [nI_clamp (by omega)]
  exact tc_hold hk hj (fun z => absurd ⟨by rw [h3]; decide, h2⟩ z) (fun z => br_f (by decide) ⟨vp_in_nI hl (by decide), br_t h3 ⟨vp_in_nI hl (by decide), h⟩⟩)
theorem tc_nwE {post : Int32 → Prop} {j n : Nat} (hj : j < 16) (h : post (a1 j)) : wX_newest_2 post (nI j) a1 a2 a3 a4 a5 a6 a7 a8 a9 a10 (n + 1) (nI 4) :=
  pk_le 4 4 (fun _ => ⟨vp_in_nI hj (by decide), by rw [nI_clamp (by omega)]; exact h⟩) (fun z => absurd z (by omega))
theorem tc_newM {post : Int32 → Prop} {j : Nat} (hj : j < 16) (hn : ∀ e, e < 4 → ¬ (a3 (e * 4 + j % 4) = 3 ∧ a2 (e * 4 + j % 4) = nI j)) (h : post (a1 j)) : wpX_newest post (a1, a2, a3, a4, a5, a6, a7, a8, a9, a10) (nI j) :=
  ⟨5, tc_nwS (e := 0) hj (by omega) (hn 0 (by omega)) (tc_nwS (e := 1) hj (by omega) (hn 1 (by omega)) (tc_nwS (e := 2) hj (by omega) (hn 2 (by omega)) (tc_nwS (e := 3) hj (by omega) (hn 3 (by omega)) (tc_nwE hj h))))⟩
theorem tc_newH {post : Int32 → Prop} {j k : Nat} (hj : j < 16) (hk : k < 4) (hn : ∀ e, e < k → ¬ (a3 (e * 4 + j % 4) = 3 ∧ a2 (e * 4 + j % 4) = nI j)) (h3 : a3 (k * 4 + j % 4) = 3) (h2 : a2 (k * 4 + j % 4) = nI j) (h : post (a4 (k * 4 + j % 4))) : wpX_newest post (a1, a2, a3, a4, a5, a6, a7, a8, a9, a10) (nI j) :=
  pk_loop (σ := Unit) (fun n i _ => wX_newest_2 post (nI j) a1 a2 a3 a4 a5 a6 a7 a8 a9 a10 n (nI i)) (fun _ _ => True) k 0 () (by omega) trivial
    (fun n _ _ => tc_nwH hj hk h3 h2 h)
    (fun n i _ hi _ hw => tc_nwS hj (by omega) (hn i hi) (hw () trivial))
/-! writerOf, before -/
theorem tc_wrS {post : Int32 → Prop} {j e n : Nat} {W : Nat → Int32} (he : e < 4) (hW : tc_WS a1 a2 a3 a4 a5 a6 a7 a8 a9 a10 W) (hb : (W e >>> (nI j &&& 31)) &&& 1 = 0) (h : wX_writerOf_2 post (nI j) a1 a2 a3 a4 a5 a6 a7 a8 a9 a10 n (nI (e + 1))) : wX_writerOf_2 post (nI j) a1 a2 a3 a4 a5 a6 a7 a8 a9 a10 (n + 1) (nI e) :=
  pk_le 4 e (fun z => absurd z (by omega)) (fun _ => hW e _ he (br_t hb (nm_r (nI_1 e) h)))
theorem tc_wrN {post : Int32 → Prop} {j : Nat} {W : Nat → Int32} (hW : tc_WS a1 a2 a3 a4 a5 a6 a7 a8 a9 a10 W) (hb : ∀ e, e < 4 → (W e >>> (nI j &&& 31)) &&& 1 = 0) (h : post (-1)) : wpX_writerOf post (a1, a2, a3, a4, a5, a6, a7, a8, a9, a10) (nI j) :=
  ⟨5, tc_wrS (e := 0) (by omega) hW (hb 0 (by omega)) (tc_wrS (e := 1) (by omega) hW (hb 1 (by omega)) (tc_wrS (e := 2) (by omega) hW (hb 2 (by omega)) (tc_wrS (e := 3) (by omega) hW (hb 3 (by omega)) (pk_le 4 4 (fun _ => h) (fun z => absurd z (by omega))))))⟩
theorem tc_wrK {post : Int32 → Prop} {j k : Nat} {W : Nat → Int32} (hk : k < 4) (hW : tc_WS a1 a2 a3 a4 a5 a6 a7 a8 a9 a10 W) (hb : ∀ e, e < k → (W e >>> (nI j &&& 31)) &&& 1 = 0) (hb1 : ¬ (W k >>> (nI j &&& 31)) &&& 1 = 0) (h : post (nI k)) : wpX_writerOf post (a1, a2, a3, a4, a5, a6, a7, a8, a9, a10) (nI j) :=
  pk_loop (σ := Unit) (fun n i _ => wX_writerOf_2 post (nI j) a1 a2 a3 a4 a5 a6 a7 a8 a9 a10 n (nI i)) (fun _ _ => True) k 0 () (by omega) trivial
    (fun n _ _ => pk_le 4 k (fun z => absurd z (by omega)) (fun _ => hW k _ hk (br_f hb1 h)))
    (fun n i _ hi _ hw => tc_wrS (by omega) hW (hb i hi) (hw () trivial))
/-- who wrote cell i after core k wrote cell j -/
theorem tc_wrG {post : Int32 → Prop} {k j i : Nat} (hk : k < 4) (hj : j < 16) (hi : i < 16) (hW : tc_WS a1 a2 a3 a4 a5 a6 a7 a8 a9 a10 (tc_W k j)) (hy : i = j → post (nI k)) (hn : i ≠ j → post (-1)) : wpX_writerOf post (a1, a2, a3, a4, a5, a6, a7, a8, a9, a10) (nI i) := by
  have hz : ∀ e, e ≠ k → (tc_W k j e >>> (nI i &&& 31)) &&& 1 = 0 := fun e he => by
    unfold tc_W
    rw [if_neg he]
    exact tc_z i hi
  have hK : tc_W k j k = (1 : Int32) <<< (nI j &&& 31) := if_pos rfl
  by_cases z : i = j
  · refine tc_wrK hk hW (fun e he => hz e (by omega)) ?_ (hy z)
    rw [hK]
    exact fun g => (tc_bit j hj i hi).mp g z
  · refine tc_wrN hW (fun e he => ?_) (hn z)
    by_cases g : e = k
    · rw [g, hK]
      exact (tc_bit j hj i hi).mpr z
    · exact hz e g
theorem tc_bef {post : Int32 → Prop} {k j : Nat} (hk : k < 4) (h5 : a5 k = 1) (h8 : a8 (k * 3) = 1) (h9 : a9 (k * 3 * 16) = nI j) (h : post (a10 (k * 3 * 16))) : wpX_before post (a1, a2, a3, a4, a5, a6, a7, a8, a9, a10) (nI k) (nI j) :=
  ⟨1, pk_in k 4 hk, br_f (tc_i1 (tc_c h5 (by omega))) (nm_r (tc_at k hk) ⟨1, pk_in (k * 3) 12 (by omega), br_f (tc_i1 (tc_c h8 (by omega)))
    ⟨pk_in (k * 3 * 16) 192 (by omega) (tc_lg k hk), br_t ((congrArg a9 (pk_cl (k * 3 * 16) (tc_lg k hk))).trans h9) ⟨pk_in (k * 3 * 16) 192 (by omega) (tc_lg k hk), by
      rw [tc_lg k hk, nI_clamp (by omega)]
      exact h⟩⟩⟩)⟩
end
end
section
section
variable {a1 a2 a3 a4 a5 a6 a7 a8 a9 a10 : Nat → Int32}
/-! writeBack, fetch: nobody else holds the cell -/
theorem tc_wb {post : St2 → Prop} {l : Nat} (hl : l < 16) (h0 : ¬ a3 l = 3 → post (a1, a2, a3, a4, a5, a6, a7, a8, a9, a10)) (h1 : a3 l = 3 → ∃ t, t < 16 ∧ a2 l = nI t ∧ post (upd a1 t (a4 l), a2, a3, a4, a5, a6, a7, a8, a9, a10)) : wpX_writeBack post (a1, a2, a3, a4, a5, a6, a7, a8, a9, a10) (nI l) := by
  refine ⟨vp_in_nI hl (by decide), ?_⟩
  rw [nI_clamp (by omega)]
  refine br_c (fun z => ?_) h0
  obtain ⟨t, ht, e, hp⟩ := h1 z
  rw [e, nI_clamp (by omega)]
  exact ⟨vp_in_nI hl (by decide), vp_in_nI hl (by decide), vp_in_nI ht (by decide), nm_e hp⟩
theorem tc_ftE {post : St2 → Prop} {k j n : Nat} (hk : k < 4) (hj : j < 16) (h : post (a1, upd a2 (k * 4 + j % 4) (nI j), upd a3 (k * 4 + j % 4) 2, upd a4 (k * 4 + j % 4) (a1 j), a5, a6, a7, a8, a9, a10)) : wX_fetch_27 post (nI k) (nI j) (nI (k * 4 + j % 4)) (n + 1) 0 (nI 4) a1 a2 a3 a4 a5 a6 a7 a8 a9 a10 := by
  have hl : k * 4 + j % 4 < 16 := by omega
  refine pk_le 4 4 (fun _ => ⟨vp_in_nI hl (by decide), ?_⟩) (fun z => absurd z (by omega))
  rw [nI_clamp (show k * 4 + j % 4 < 2 ^ 31 by omega), nI_clamp (show j < 2 ^ 31 by omega), tc_b8 j hj]
  exact nm_e ⟨vp_in_nI hj (by decide), vp_in_nI hl (by decide), nm_e (br_t rfl ⟨vp_in_nI hl (by decide), nm_r (congrArg (upd a3 (k * 4 + j % 4)) (show (2 : Int32).toInt8.toInt32 = 2 by decide)) h⟩)⟩
theorem tc_ftS {post : St2 → Prop} {k j e n : Nat} {x3 x4 : Int32} (hk : k < 4) (hj : j < 16) (he : e < 4) (hn : e ≠ k → ¬ (¬ a3 (e * 4 + j % 4) = 0 ∧ a2 (e * 4 + j % 4) = nI j)) (h : wX_fetch_27 post (nI k) (nI j) x3 n x4 (nI (e + 1)) a1 a2 a3 a4 a5 a6 a7 a8 a9 a10) : wX_fetch_27 post (nI k) (nI j) x3 (n + 1) x4 (nI e) a1 a2 a3 a4 a5 a6 a7 a8 a9 a10 :=
  pk_le 4 e (fun z => absurd z (by omega)) (fun _ => pk_eq e k (fun _ => nm_r (nI_1 e) h) (fun z => tc_hold he hj (fun _ => br_t rfl (nm_r (nI_1 e) h)) (fun g => absurd g (hn z))))
theorem tc_ft {post : St2 → Prop} {k j : Nat} (hk : k < 4) (hj : j < 16) (hn : ∀ e, e < 4 → e ≠ k → ¬ (¬ a3 (e * 4 + j % 4) = 0 ∧ a2 (e * 4 + j % 4) = nI j)) (h : post (a1, upd a2 (k * 4 + j % 4) (nI j), upd a3 (k * 4 + j % 4) 2, upd a4 (k * 4 + j % 4) (a1 j), a5, a6, a7, a8, a9, a10)) : ∃ fu : Nat, wX_fetch_27 post (nI k) (nI j) (nI (k * 4 + j % 4)) fu 0 0 a1 a2 a3 a4 a5 a6 a7 a8 a9 a10 :=
  ⟨5, tc_ftS (e := 0) hk hj (by omega) (hn 0 (by omega)) (tc_ftS (e := 1) hk hj (by omega) (hn 1 (by omega)) (tc_ftS (e := 2) hk hj (by omega) (hn 2 (by omega)) (tc_ftS (e := 3) hk hj (by omega) (hn 3 (by omega)) (tc_ftE hk hj h))))⟩
theorem tc_fetch {post : St2 → Prop} {k j : Nat} (hk : k < 4) (hj : j < 16) (hn : ∀ e, e < 4 → e ≠ k → ¬ (¬ a3 (e * 4 + j % 4) = 0 ∧ a2 (e * 4 + j % 4) = nI j))
    (H1 : (¬ a3 (k * 4 + j % 4) = 0 ∧ a2 (k * 4 + j % 4) = nI j) → post (a1, a2, a3, a4, a5, a6, a7, a8, a9, a10))
    (H2 : ¬ (¬ a3 (k * 4 + j % 4) = 0 ∧ a2 (k * 4 + j % 4) = nI j) → ¬ a3 (k * 4 + j % 4) = 3 → post (a1, upd a2 (k * 4 + j % 4) (nI j), upd a3 (k * 4 + j % 4) 2, upd a4 (k * 4 + j % 4) (a1 j), a5, a6, a7, a8, a9, a10))
    (H3 : ¬ (¬ a3 (k * 4 + j % 4) = 0 ∧ a2 (k * 4 + j % 4) = nI j) → a3 (k * 4 + j % 4) = 3 → ∃ t, t < 16 ∧ a2 (k * 4 + j % 4) = nI t ∧ post (upd a1 t (a4 (k * 4 + j % 4)), upd a2 (k * 4 + j % 4) (nI j), upd a3 (k * 4 + j % 4) 2, upd a4 (k * 4 + j % 4) (upd a1 t (a4 (k * 4 + j % 4)) j), a5, a6, a7, a8, a9, a10)) :
    wpX_fetch post (a1, a2, a3, a4, a5, a6, a7, a8, a9, a10) (nI k) (nI j) := by
  have hl : k * 4 + j % 4 < 16 := by omega
  unfold wpX_fetch
  refine tc_hold hk hj (fun z => br_t rfl (tc_ln hk hj (tc_wb hl (fun g => ?_) (fun g => ?_)))) (fun z => br_f (by decide) (H1 z))
  · exact tc_ft hk hj hn (H2 z g)
  · obtain ⟨t, ht, e, hp⟩ := H3 z g
    exact ⟨t, ht, e, tc_ft hk hj hn hp⟩
/-! store, log, change: into empty caches, an empty log -/
theorem tc_st71 {post : St2 → Prop} {l : Nat} {v : Int32} (hl : l < 16) (h : post (a1, a2, upd a3 l 3, upd a4 l v, a5, a6, a7, a8, a9, a10)) : wX_store_71 post v (nI l) a1 a2 a3 a4 a5 a6 a7 a8 a9 a10 := by
  refine ⟨vp_in_nI hl (by decide), ?_⟩
  rw [nI_clamp (by omega)]
  exact nm_e ⟨vp_in_nI hl (by decide), nm_e h⟩
theorem tc_store {post : St2 → Prop} {k j : Nat} {v : Int32} (hk : k < 4) (hj : j < 16) (h3 : ∀ i, a3 i = 0) (h : post (a1, upd a2 (k * 4 + j % 4) (nI j), upd (upd a3 (k * 4 + j % 4) 2) (k * 4 + j % 4) 3, upd (upd a4 (k * 4 + j % 4) (a1 j)) (k * 4 + j % 4) v, a5, a6, a7, a8, a9, a10)) : wpX_store post (a1, a2, a3, a4, a5, a6, a7, a8, a9, a10) (nI k) (nI j) v := by
  have hl : k * 4 + j % 4 < 16 := by omega
  unfold wpX_store
  refine tc_fetch hk hj (fun e _ _ z => z.1 (h3 _)) (fun z => absurd (h3 _) z.1) (fun _ _ => ?_) (fun _ z => absurd ((h3 _).symm.trans z) (by decide))
  refine tc_ln hk hj ⟨vp_in_nI hl (by decide), ?_⟩
  rw [nI_clamp (by omega), pk_us]
  exact br_f (by decide) (tc_st71 hl h)
theorem tc_log {post : St2 → Prop} {k j : Nat} {old : Int32} (hk : k < 4) (hj : j < 16) (h8 : a8 (k * 3) = 0) (h : post (a1, a2, a3, a4, a5, a6, upd a7 (k * 3) (a7 (k * 3) ||| ((1 : Int32) <<< (nI j &&& 31))), upd a8 (k * 3) 1, upd a9 (k * 3 * 16) (nI j), upd a10 (k * 3 * 16) old)) : wpX_log post (a1, a2, a3, a4, a5, a6, a7, a8, a9, a10) (nI (k * 3)) (nI j) old := by
  have hq : k * 3 < 12 := by omega
  have hr : k * 3 * 16 < 192 := by omega
  refine ⟨vp_in_nI hq (by decide), ?_⟩
  rw [nI_clamp (show k * 3 < 2 ^ 31 by omega), h8, tc_lg k hk, tc_b8 j hj, nI_clamp (show k * 3 * 16 < 2 ^ 31 by omega)]
  exact ⟨vp_in_nI hr (by decide), nm_e ⟨vp_in_nI hq (by decide), vp_in_nI hr (by decide), nm_e ⟨vp_in_nI hq (by decide), vp_in_nI hq (by decide), nm_r (congrArg (upd a8 (k * 3)) (show ((0 : Int32) + 1).toInt8.toInt32 = 1 by decide)) ⟨vp_in_nI hq (by decide), vp_in_nI hq (by decide), nm_e h⟩⟩⟩⟩
theorem tc_change {post : St2 → Prop} {k j : Nat} {v : Int32} (hk : k < 4) (hj : j < 16) (h5 : a5 k = 1) (h7 : ∀ i, a7 i = 0) (h8 : a8 (k * 3) = 0) (h3 : ∀ i, a3 i = 0)
    (h : post (a1, upd a2 (k * 4 + j % 4) (nI j), upd (upd a3 (k * 4 + j % 4) 2) (k * 4 + j % 4) 3, upd (upd a4 (k * 4 + j % 4) (a1 j)) (k * 4 + j % 4) v, a5, a6, upd a7 (k * 3) (a7 (k * 3) ||| ((1 : Int32) <<< (nI j &&& 31))), upd a8 (k * 3) 1, upd a9 (k * 3 * 16) (nI j), upd a10 (k * 3 * 16) (a1 j))) :
    wpX_change post (a1, a2, a3, a4, a5, a6, a7, a8, a9, a10) (nI k) (nI j) v := by
  have hq : k * 3 < 12 := by omega
  refine ⟨vp_in_nI hk (by decide), ?_⟩
  rw [nI_clamp (by omega), h5]
  refine br_f (by decide) ⟨vp_in_nI hk (by decide), nm_r (tc_at1 k hk) ⟨vp_in_nI hq (by decide), ?_⟩⟩
  rw [nI_clamp (by omega)]
  refine br_t (by rw [h7]; exact tc_z j hj) (tc_newM hj (fun e _ z => absurd ((h3 _).symm.trans z.1) (by decide)) (tc_log hk hj h8 ?_))
  exact tc_store hk hj h3 h
theorem tc_note {post : St2 → Prop} {k : Nat} {x : Int32} (hk : k < 4) (h5 : a5 k = 0 ∨ a5 k = 1) (h : ∀ b, post (a1, a2, a3, a4, a5, b, a7, a8, a9, a10)) : wpX_noteRead post (a1, a2, a3, a4, a5, a6, a7, a8, a9, a10) (nI k) x := by
  have hq : k * 3 < 12 := by omega
  refine ⟨vp_in_nI hk (by decide), ?_⟩
  rw [nI_clamp (by omega)]
  rcases h5 with z | z
  · rw [z]
    exact br_t (by decide) (h a6)
  · rw [z, tc_at1 k hk]
    exact br_f (by decide) ⟨vp_in_nI hk (by decide), vp_in_nI hq (by decide), vp_in_nI hq (by decide), nm_e (h _)⟩
end
end
section
section
variable {a1 a2 a3 a4 a5 a6 a7 a8 a9 a10 : Nat → Int32}
/-! a core or not, a cell or not: the law's flags -/
def tc_fC (p : Int32) : Int32 := if p < 0 then 0 else if 3 < p then 0 else 1
def tc_fX (p : Int32) : Int32 := if p < 0 then 0 else if 15 < p then 0 else 1
theorem tc_fC1 : ∀ k, k < 4 → tc_fC (nI k) = 1 := by decide +kernel
theorem tc_fX1 : ∀ k, k < 16 → tc_fX (nI k) = 1 := by decide +kernel
theorem tc_fC0 {p : Int32} (h : p < 0 ∨ nI 4 ≤ p) : tc_fC p = 0 := by
  unfold tc_fC
  by_cases z : p < 0
  · rw [if_pos z]
  · have h' := h.resolve_left z
    obtain ⟨n, hn, rfl⟩ := nI_of z
    have h4 : 4 ≤ n := (nI_leI (by omega) hn).mp h'
    rw [if_neg z, if_pos (show (3 : Int32) < nI n from nI_lt (a := 3) (by omega) hn)]
theorem tc_fX0 {p : Int32} (h : p < 0 ∨ nI 16 ≤ p) : tc_fX p = 0 := by
  unfold tc_fX
  by_cases z : p < 0
  · rw [if_pos z]
  · have h' := h.resolve_left z
    obtain ⟨n, hn, rfl⟩ := nI_of z
    have h4 : 16 ≤ n := (nI_leI (by omega) hn).mp h'
    rw [if_neg z, if_pos (show (15 : Int32) < nI n from nI_lt (a := 15) (by omega) hn)]
theorem tc_ixC (p : Int32) : (p < 0 ∨ nI 4 ≤ p) ∨ ∃ k, k < 4 ∧ p = nI k := by
  rcases pk_ix p (n := 4) (by omega) with z | z | z
  · exact Or.inl (Or.inl z)
  · exact Or.inl (Or.inr z)
  · exact Or.inr z
theorem tc_ixX (p : Int32) : (p < 0 ∨ nI 16 ≤ p) ∨ ∃ k, k < 16 ∧ p = nI k := by
  rcases pk_ix p (n := 16) (by omega) with z | z | z
  · exact Or.inl (Or.inl z)
  · exact Or.inl (Or.inr z)
  · exact Or.inr z
theorem tc_m1 : ∀ k, k < 4 → ¬ (-1 : Int32) = nI k := by decide +kernel
theorem tc_10 : ¬ (1 : Int32) = 0 := by decide
theorem tc_32 {x : Int32} (h : x = 2) : ¬ x = 3 := by subst h; decide
theorem tc_30 {x : Int32} (h : x = 0) : ¬ x = 3 := by subst h; decide
/-! begin, write, end -/
theorem tc_begin0 {post : Int32 → St2 → Prop} {p : Int32} (z : p < 0 ∨ nI 4 ≤ p) (h : post (-1) (a1, a2, a3, a4, a5, a6, a7, a8, a9, a10)) : wpX_begin post (a1, a2, a3, a4, a5, a6, a7, a8, a9, a10) p := by
  unfold wpX_begin
  exact tc_core0 z (br_t rfl h)
theorem tc_begin1 {post : Int32 → St2 → Prop} {k : Nat} (hk : k < 4) (h5 : a5 k = 0) (h : post 1 (a1, a2, a3, a4, upd a5 k 1, upd a6 (k * 3) 0, upd a7 (k * 3) 0, upd a8 (k * 3) 0, a9, a10)) : wpX_begin post (a1, a2, a3, a4, a5, a6, a7, a8, a9, a10) (nI k) := by
  have hq : k * 3 < 12 := by omega
  unfold wpX_begin
  refine tc_core1 hk (br_f tc_10 ⟨vp_in_nI hk (by decide), ?_⟩)
  rw [nI_clamp (by omega), h5]
  refine br_t (by decide) ⟨vp_in_nI hk (by decide), nm_r (tc_at k hk) ⟨vp_in_nI hq (by decide), ?_⟩⟩
  rw [nI_clamp (by omega)]
  refine nm_e ⟨vp_in_nI hq (by decide), nm_e ⟨vp_in_nI hq (by decide), nm_e ⟨vp_in_nI hk (by decide), vp_in_nI hk (by decide), nm_r (congrArg (upd a5 k) (show ((0 : Int32) + 1).toInt8.toInt32 = 1 by decide)) ⟨vp_in_nI hk (by decide), ?_⟩⟩⟩⟩
  rw [pk_us]
  exact h
theorem tc_write0 {post : Int32 → St2 → Prop} {p q v : Int32} (z : (p < 0 ∨ nI 4 ≤ p) ∨ (q < 0 ∨ nI 16 ≤ q)) (h : post (-1) (a1, a2, a3, a4, a5, a6, a7, a8, a9, a10)) : wpX_write post (a1, a2, a3, a4, a5, a6, a7, a8, a9, a10) p q v := by
  unfold wpX_write
  rcases tc_ixC p with g | ⟨k, hk, rfl⟩
  · exact tc_core0 g (br_t rfl h)
  · have hq : q < 0 ∨ nI 16 ≤ q := by
      rcases z with z | z
      · have := tc_fC0 z
        rw [tc_fC1 k hk] at this
        exact absurd this tc_10
      · exact z
    exact tc_core1 hk (br_f tc_10 (tc_cell0 hq (br_t rfl h)))
/-- after core k wrote v into cell j, at its first level -/
def tc_G (k j : Nat) (v : Int32) (a1 a2 a3 a4 a5 a7 a8 a9 a10 : Nat → Int32) : Prop :=
  (∀ i, a1 i = 0) ∧ a2 (k * 4 + j % 4) = nI j ∧ (∀ i, a3 i = if i = k * 4 + j % 4 then 3 else 0) ∧ a4 (k * 4 + j % 4) = v ∧ (∀ e, a5 e = if e = k then 1 else 0) ∧ (∀ i, a7 i = if i = k * 3 then (1 : Int32) <<< (nI j &&& 31) else 0) ∧ a8 (k * 3) = 1 ∧ a9 (k * 3 * 16) = nI j ∧ a10 (k * 3 * 16) = 0
theorem tc_write1 {post : Int32 → St2 → Prop} {k j : Nat} {v : Int32} (hk : k < 4) (hj : j < 16) (h1 : ∀ i, a1 i = 0) (h3 : ∀ i, a3 i = 0) (h5 : ∀ e, a5 e = if e = k then 1 else 0) (h6 : ∀ i, a6 i = 0) (h7 : ∀ i, a7 i = 0) (h8 : ∀ i, a8 i = 0)
    (h : ∀ b2 b3 b4 b7 b8 b9 b10, tc_G k j v a1 b2 b3 b4 a5 b7 b8 b9 b10 → post 0 (a1, b2, b3, b4, a5, a6, b7, b8, b9, b10)) :
    wpX_write post (a1, a2, a3, a4, a5, a6, a7, a8, a9, a10) (nI k) (nI j) v := by
  have h5' : ∀ e, a5 e = 0 ∨ a5 e = 1 := fun e => by
    by_cases z : e = k
    · exact Or.inr ((h5 e).trans (if_pos z))
    · exact Or.inl ((h5 e).trans (if_neg z))
  unfold wpX_write
  refine tc_core1 hk (br_f tc_10 (tc_cell1 hj (br_f tc_10 (tc_rv1z hk hj (tc_wsz h5' h7) (tc_rsz h5' h6) (br_t rfl (tc_change hk hj ((h5 k).trans (if_pos rfl)) h7 (h8 _) h3 ?_))))))
  refine h _ _ _ _ _ _ _ ⟨h1, pk_us, fun i => ?_, pk_us, h5, fun i => ?_, pk_us, pk_us, ?_⟩
  · by_cases z : i = k * 4 + j % 4
    · rw [if_pos z, z, pk_us]
    · rw [if_neg z, pk_un z, pk_un z]
      exact h3 i
  · by_cases z : i = k * 3
    · rw [if_pos z, z, pk_us, h7, tc_b1 j hj]
    · rw [if_neg z, pk_un z]
      exact h7 i
  · rw [pk_us]
    exact h1 j
theorem tc_end0 {post : Int32 → St2 → Prop} {p : Int32} (z : p < 0 ∨ nI 4 ≤ p) (h : post (-1) (a1, a2, a3, a4, a5, a6, a7, a8, a9, a10)) : wpX_end post (a1, a2, a3, a4, a5, a6, a7, a8, a9, a10) p := by
  unfold wpX_end
  exact tc_core0 z (br_t rfl h)
theorem tc_end1 {post : Int32 → St2 → Prop} {k : Nat} (hk : k < 4) (h5 : a5 k = 1) (h : post 0 (a1, a2, a3, a4, upd a5 k 0, a6, a7, a8, a9, a10)) : wpX_end post (a1, a2, a3, a4, a5, a6, a7, a8, a9, a10) (nI k) := by
  unfold wpX_end
  refine tc_core1 hk (br_f tc_10 ⟨vp_in_nI hk (by decide), ?_⟩)
  rw [nI_clamp (by omega), h5]
  refine br_f tc_10 ⟨vp_in_nI hk (by decide), vp_in_nI hk (by decide), nm_r (congrArg (upd a5 k) (show ((1 : Int32) - 1).toInt8.toInt32 = 0 by decide)) ⟨vp_in_nI hk (by decide), ?_⟩⟩
  rw [pk_us]
  exact br_t (by decide) ⟨vp_in_nI hk (by decide), h⟩
/-! nothing written: sees, rivals, read, committed -/
theorem tc_cinZ {post : Int32 → Prop} {j : Nat} (hj : j < 16) (h1 : ∀ i, a1 i = 0) (h3 : ∀ i, ¬ a3 i = 3) (h5 : ∀ e, a5 e = 0 ∨ a5 e = 1) (h7 : ∀ i, a7 i = 0) (h : post 0) : wpX_committedIn post (a1, a2, a3, a4, a5, a6, a7, a8, a9, a10) (nI j) := by
  unfold wpX_committedIn
  refine tc_wrN (tc_wsz h5 h7) (fun _ _ => tc_z j hj) (br_f (by decide) (tc_newM hj (fun e _ z => h3 _ z.1) ?_))
  rw [h1]
  exact h
theorem tc_comZ {post : Int32 → Prop} {q : Int32} (h1 : ∀ i, a1 i = 0) (h3 : ∀ i, ¬ a3 i = 3) (h5 : ∀ e, a5 e = 0 ∨ a5 e = 1) (h7 : ∀ i, a7 i = 0) (h : post 0) : wpX_committed post (a1, a2, a3, a4, a5, a6, a7, a8, a9, a10) q := by
  unfold wpX_committed
  rcases tc_ixX q with z | ⟨i, hi, rfl⟩
  · exact tc_cell0 z (br_t rfl h)
  · exact tc_cell1 hi (br_f tc_10 (tc_cinZ hi h1 h3 h5 h7 h))
theorem tc_seesZ {post : Int32 → Prop} {p q : Int32} (h1 : ∀ i, a1 i = 0) (h3 : ∀ i, ¬ a3 i = 3) (h5 : ∀ e, a5 e = 0 ∨ a5 e = 1) (h7 : ∀ i, a7 i = 0) (h : post 0) : wpX_sees post (a1, a2, a3, a4, a5, a6, a7, a8, a9, a10) p q := by
  unfold wpX_sees
  rcases tc_ixC p with z | ⟨d, hd, rfl⟩
  · exact tc_core0 z (br_t rfl h)
  · rcases tc_ixX q with z | ⟨i, hi, rfl⟩
    · exact tc_core1 hd (br_f tc_10 (tc_cell0 z (br_t rfl h)))
    · exact tc_core1 hd (br_f tc_10 (tc_cell1 hi (br_f tc_10 (tc_wrN (tc_wsz h5 h7) (fun _ _ => tc_z i hi) (br_f (tc_m1 d hd) (tc_cinZ hi h1 h3 h5 h7 h))))))
theorem tc_rivZ {post : Int32 → Prop} {p q : Int32} (h5 : ∀ e, a5 e = 0 ∨ a5 e = 1) (h7 : ∀ i, a7 i = 0) (h : post 0) : wpX_rivals post (a1, a2, a3, a4, a5, a6, a7, a8, a9, a10) p q 0 := by
  unfold wpX_rivals
  rcases tc_ixC p with z | ⟨d, hd, rfl⟩
  · exact tc_core0 z (br_t rfl h)
  · rcases tc_ixX q with z | ⟨i, hi, rfl⟩
    · exact tc_core1 hd (br_f tc_10 (tc_cell0 z (br_t rfl h)))
    · exact tc_core1 hd (br_f tc_10 (tc_cell1 hi (br_f tc_10 (br_t rfl (br_f (by decide) (tc_rv0z hd hi (tc_wsz h5 h7) h))))))
theorem tc_readZ {post : Int32 → St2 → Prop} {p q : Int32} (h3 : ∀ i, a3 i = 0) (h5 : ∀ e, a5 e = 0 ∨ a5 e = 1) (h7 : ∀ i, a7 i = 0)
    (h : ∀ r b2 b3 b4 b6, (r = if tc_fC p = 0 ∨ tc_fX q = 0 then -1 else 0) → (∀ i, ¬ b3 i = 3) → post r (a1, b2, b3, b4, a5, b6, a7, a8, a9, a10)) :
    wpX_read post (a1, a2, a3, a4, a5, a6, a7, a8, a9, a10) p q := by
  unfold wpX_read
  rcases tc_ixC p with z | ⟨d, hd, rfl⟩
  · exact tc_core0 z (br_t rfl (h _ _ _ _ _ (if_pos (Or.inl (tc_fC0 z))).symm (fun i => tc_30 (h3 i))))
  · rcases tc_ixX q with z | ⟨i, hi, rfl⟩
    · exact tc_core1 hd (br_f tc_10 (tc_cell0 z (br_t rfl (h _ _ _ _ _ (if_pos (Or.inr (tc_fX0 z))).symm (fun i => tc_30 (h3 i))))))
    · refine tc_core1 hd (br_f tc_10 (tc_cell1 hi (br_f tc_10 (tc_rv0z hd hi (tc_wsz h5 h7) (br_t rfl (tc_fetch hd hi (fun e _ _ z => z.1 (h3 _)) (fun z => absurd (h3 _) z.1) (fun _ _ => ?_) (fun _ z => absurd z (tc_30 (h3 _)))))))))
      refine tc_note hd (h5 d) (fun b => h _ _ _ _ b (if_neg ?_).symm (fun t => ?_))
      · rw [tc_fC1 d hd, tc_fX1 i hi]
        exact fun g => g.elim tc_10 tc_10
      · by_cases g : t = d * 4 + i % 4
        · rw [g, pk_us]
          decide
        · rw [pk_un g]
          exact tc_30 (h3 t)
/-! cell j written by core k: sees, rivals, read, committed -/
theorem tc_G5 {k : Nat} (h5 : ∀ e, a5 e = if e = k then 1 else 0) : ∀ e, a5 e = 0 ∨ a5 e = 1 := fun e => by
  by_cases z : e = k
  · exact Or.inr ((h5 e).trans (if_pos z))
  · exact Or.inl ((h5 e).trans (if_neg z))
theorem tc_G3 {l i : Nat} (h3 : ∀ i, a3 i = if i = l then 3 else 0) (h : ¬ a3 i = 0) : i = l := by
  by_cases z : i = l
  · exact z
  · exact absurd ((h3 i).trans (if_neg z)) h
theorem tc_cinG {post : Int32 → Prop} {k j i : Nat} {v : Int32} (hk : k < 4) (hj : j < 16) (hi : i < 16) (hG : tc_G k j v a1 a2 a3 a4 a5 a7 a8 a9 a10) (h : post 0) : wpX_committedIn post (a1, a2, a3, a4, a5, a6, a7, a8, a9, a10) (nI i) := by
  obtain ⟨h1, h2, h3, h4, h5, h7, h8, h9, h10⟩ := hG
  unfold wpX_committedIn
  refine tc_wrG hk hj hi (tc_wsG hj h5 h7) (fun z => br_t (nI_pos' (by omega)) ?_) (fun z => br_f (by decide) (tc_newM hi (fun e he g => ?_) ?_))
  · refine tc_bef hk ((h5 k).trans (if_pos rfl)) h8 (by rw [h9, z]) ?_
    rw [h10]
    exact h
  · have hl : e * 4 + i % 4 = k * 4 + j % 4 := tc_G3 h3 (by rw [g.1]; decide)
    have h' := g.2
    rw [hl, h2] at h'
    exact z ((nI_eq (by omega) (by omega)).mp h').symm
  · rw [h1]
    exact h
theorem tc_seesG {post : Int32 → Prop} {k j : Nat} {v p q : Int32} (hk : k < 4) (hj : j < 16) (hG : tc_G k j v a1 a2 a3 a4 a5 a7 a8 a9 a10) (h : post (if p = nI k ∧ q = nI j then v else 0)) : wpX_sees post (a1, a2, a3, a4, a5, a6, a7, a8, a9, a10) p q := by
  have hG' := hG
  obtain ⟨h1, h2, h3, h4, h5, h7, h8, h9, h10⟩ := hG
  unfold wpX_sees
  rcases tc_ixC p with z | ⟨d, hd, rfl⟩
  · have hp : ¬ (p = nI k ∧ q = nI j) := fun g => by
      have t := tc_fC0 z
      rw [g.1, tc_fC1 k hk] at t
      exact tc_10 t
    rw [if_neg hp] at h
    exact tc_core0 z (br_t rfl h)
  · rcases tc_ixX q with z | ⟨i, hi, rfl⟩
    · have hp : ¬ (nI d = nI k ∧ q = nI j) := fun g => by
        have t := tc_fX0 z
        rw [g.2, tc_fX1 j hj] at t
        exact tc_10 t
      rw [if_neg hp] at h
      exact tc_core1 hd (br_f tc_10 (tc_cell0 z (br_t rfl h)))
    · refine tc_core1 hd (br_f tc_10 (tc_cell1 hi (br_f tc_10 (tc_wrG hk hj hi (tc_wsG hj h5 h7) (fun z => pk_eq k d (fun g => ?_) (fun g => ?_)) (fun z => br_f (tc_m1 d hd) ?_)))))
      · rw [if_pos ⟨by rw [g], by rw [z]⟩] at h
        rw [z]
        refine tc_newH hj hk (fun e he t => ?_) ((h3 _).trans (if_pos rfl)) h2 ?_
        · have hl : e * 4 + j % 4 = k * 4 + j % 4 := tc_G3 h3 (by rw [t.1]; decide)
          omega
        · rw [h4]
          exact h
      · rw [if_neg (fun t => g ((nI_eq (by omega) (by omega)).mp t.1).symm)] at h
        exact tc_cinG hk hj hi hG' h
      · rw [if_neg (fun t => z ((nI_eq (by omega) (by omega)).mp t.2))] at h
        exact tc_cinG hk hj hi hG' h
theorem tc_rivG {post : Int32 → Prop} {k j : Nat} {v p q : Int32} (hk : k < 4) (hj : j < 16) (hG : tc_G k j v a1 a2 a3 a4 a5 a7 a8 a9 a10) (h : post (if tc_fC p = 1 ∧ p ≠ nI k ∧ q = nI j then (1 : Int32) <<< (nI k &&& 31) else 0)) : wpX_rivals post (a1, a2, a3, a4, a5, a6, a7, a8, a9, a10) p q 0 := by
  obtain ⟨h1, h2, h3, h4, h5, h7, h8, h9, h10⟩ := hG
  unfold wpX_rivals
  rcases tc_ixC p with z | ⟨d, hd, rfl⟩
  · rw [if_neg (fun g => tc_10 (g.1.symm.trans (tc_fC0 z)))] at h
    exact tc_core0 z (br_t rfl h)
  · rcases tc_ixX q with z | ⟨i, hi, rfl⟩
    · have hp : ¬ (tc_fC (nI d) = 1 ∧ nI d ≠ nI k ∧ q = nI j) := fun g => by
        have t := tc_fX0 z
        rw [g.2.2, tc_fX1 j hj] at t
        exact tc_10 t
      rw [if_neg hp] at h
      exact tc_core1 hd (br_f tc_10 (tc_cell0 z (br_t rfl h)))
    · refine tc_core1 hd (br_f tc_10 (tc_cell1 hi (br_f tc_10 (br_t rfl (br_f (by decide) (tc_rv0G hk hd hj hi (tc_wsG hj h5 h7) ?_))))))
      by_cases g : d ≠ k ∧ i = j
      · rw [if_pos g]
        rw [if_pos ⟨tc_fC1 d hd, fun t => g.1 ((nI_eq (by omega) (by omega)).mp t), by rw [g.2]⟩] at h
        exact h
      · rw [if_neg g]
        rw [if_neg (fun t => g ⟨fun e => t.2.1 (by rw [e]), (nI_eq (by omega) (by omega)).mp t.2.2⟩)] at h
        exact h
/-- after the read: cell j is v, in core k's line or in memory -/
def tc_R (k j : Nat) (v : Int32) (a1 a2 a3 a4 : Nat → Int32) : Prop :=
  (∀ i, i ≠ k * 4 + j % 4 → ¬ a3 i = 3) ∧ ((a3 (k * 4 + j % 4) = 3 ∧ a2 (k * 4 + j % 4) = nI j ∧ a4 (k * 4 + j % 4) = v) ∨ (¬ a3 (k * 4 + j % 4) = 3 ∧ a1 j = v))
theorem tc_GR {k j : Nat} {v : Int32} (hG : tc_G k j v a1 a2 a3 a4 a5 a7 a8 a9 a10) : tc_R k j v a1 a2 a3 a4 := by
  obtain ⟨h1, h2, h3, h4, h5, h7, h8, h9, h10⟩ := hG
  exact ⟨fun i hi => tc_30 ((h3 i).trans (if_neg hi)), Or.inl ⟨(h3 _).trans (if_pos rfl), h2, h4⟩⟩
theorem tc_readG {post : Int32 → St2 → Prop} {k j : Nat} {v p q : Int32} (hk : k < 4) (hj : j < 16) (hG : tc_G k j v a1 a2 a3 a4 a5 a7 a8 a9 a10)
    (h : ∀ r b1 b2 b3 b4 b6, (r = if tc_fC p = 0 ∨ tc_fX q = 0 then -1 else if p ≠ nI k ∧ q = nI j then -2 else 0) → tc_R k j v b1 b2 b3 b4 → post r (b1, b2, b3, b4, a5, b6, a7, a8, a9, a10)) :
    wpX_read post (a1, a2, a3, a4, a5, a6, a7, a8, a9, a10) p q := by
  have hR := tc_GR hG
  obtain ⟨h1, h2, h3, h4, h5, h7, h8, h9, h10⟩ := hG
  unfold wpX_read
  rcases tc_ixC p with z | ⟨d, hd, rfl⟩
  · exact tc_core0 z (br_t rfl (h _ _ _ _ _ _ (if_pos (Or.inl (tc_fC0 z))).symm hR))
  · rcases tc_ixX q with z | ⟨i, hi, rfl⟩
    · exact tc_core1 hd (br_f tc_10 (tc_cell0 z (br_t rfl (h _ _ _ _ _ _ (if_pos (Or.inr (tc_fX0 z))).symm hR))))
    · have hb : ¬ (tc_fC (nI d) = 0 ∨ tc_fX (nI i) = 0) := by
        rw [tc_fC1 d hd, tc_fX1 i hi]
        exact fun g => g.elim tc_10 tc_10
      rw [if_neg hb] at h
      refine tc_core1 hd (br_f tc_10 (tc_cell1 hi (br_f tc_10 (tc_rv0G hk hd hj hi (tc_wsG hj h5 h7) ?_))))
      by_cases g : d ≠ k ∧ i = j
      · rw [if_pos g]
        refine br_f ?_ (h _ _ _ _ _ _ (if_pos ⟨fun t => g.1 ((nI_eq (by omega) (by omega)).mp t), by rw [g.2]⟩).symm hR)
        exact (show ∀ k, k < 4 → ¬ (1 : Int32) <<< (nI k &&& 31) = 0 by decide +kernel) k hk
      · rw [if_neg g]
        have hr : ¬ (nI d ≠ nI k ∧ nI i = nI j) := fun t => g ⟨fun e => t.1 (by rw [e]), (nI_eq (by omega) (by omega)).mp t.2⟩
        rw [if_neg hr] at h
        have hl3 : a3 (k * 4 + j % 4) = 3 := (h3 _).trans (if_pos rfl)
        refine br_t rfl (tc_fetch hd hi (fun e he hed t => ?_) (fun _ => ?_) (fun _ n3 => ?_) (fun _ y3 => ?_))
        · have hl : e * 4 + i % 4 = k * 4 + j % 4 := tc_G3 h3 t.1
          have t2 := t.2
          rw [hl, h2] at t2
          have hij := (nI_eq (by omega) (by omega)).mp t2
          exact g ⟨by omega, hij.symm⟩
        · exact tc_note hd (tc_G5 h5 d) (fun b => h _ _ _ _ _ b rfl hR)
        · have hne : k * 4 + j % 4 ≠ d * 4 + i % 4 := fun e => n3 (e ▸ hl3)
          refine tc_note hd (tc_G5 h5 d) (fun b => h _ _ _ _ _ b rfl ⟨fun t ht => ?_, Or.inl ⟨?_, ?_, ?_⟩⟩)
          · by_cases f : t = d * 4 + i % 4
            · rw [f, pk_us]
              decide
            · rw [pk_un f]
              exact hR.1 t ht
          · rw [pk_un hne]
            exact hl3
          · rw [pk_un hne]
            exact h2
          · rw [pk_un hne]
            exact h4
        · have hl : d * 4 + i % 4 = k * 4 + j % 4 := tc_G3 h3 (by rw [y3]; decide)
          rw [hl]
          refine ⟨j, hj, h2, tc_note hd (tc_G5 h5 d) (fun b => h _ _ _ _ _ b rfl ⟨fun t ht => ?_, Or.inr ⟨?_, ?_⟩⟩)⟩
          · rw [pk_un ht]
            exact hR.1 t ht
          · rw [pk_us]
            decide
          · rw [pk_us]
            exact h4
theorem tc_comG {post : Int32 → Prop} {k j : Nat} {v : Int32} (hk : k < 4) (hj : j < 16) (hR : tc_R k j v a1 a2 a3 a4) (h5 : ∀ e, a5 e = 0) (h : post v) : wpX_committed post (a1, a2, a3, a4, a5, a6, a7, a8, a9, a10) (nI j) := by
  unfold wpX_committed
  refine tc_cell1 hj (br_f tc_10 ?_)
  unfold wpX_committedIn
  refine tc_wrN (tc_wsl h5) (fun _ _ => tc_z j hj) (br_f (by decide) ?_)
  obtain ⟨hn, ⟨e3, e2, e4⟩ | ⟨e3, e1⟩⟩ := hR
  · refine tc_newH hj hk (fun e he g => hn _ (by omega) g.1) e3 e2 ?_
    rw [e4]
    exact h
  · refine tc_newM hj (fun e he g => ?_) ?_
    · by_cases f : e * 4 + j % 4 = k * 4 + j % 4
      · exact e3 (f ▸ g.1)
      · exact hn _ f g.1
    · rw [e1]
      exact h
end
end
section
section
/-! the law's flags -/
def tc_fG (c x : Int32) : Int32 := if c = 0 then 0 else if x = 0 then 0 else 1
def tc_fS (g d x4 x1 : Int32) : Int32 := if g = 0 then 0 else if d = 0 then 0 else if x4 = x1 then 1 else 0
def tc_fO (s x3 x0 : Int32) : Int32 := if s = 0 then 0 else if x3 = x0 then 0 else 1
/-! the checks, the last one first -/
theorem tc_t319 {post : Int32 → St0 → Prop} {mc ms : Nat} {z0 : Int32} {z1 : Int32} {kc : Nat} {ks : Nat} (hz : z1 = z0) (hp : post 1 ()) : wL_lawOf_319 post mc ms z0 z1 kc ks :=
  br_t hz hp
theorem tc_t300 {post : Int32 → St0 → Prop} {mc ms : Nat} {x1 : Int32} {x2 : Int32} {x16 : Int32} {z0 : Int32} {z1 : Int32} {kc : Nat} {ks : Nat} {am611 : Nat → Int32} {am612 : Nat → Int32} {am613 : Nat → Int32} {am614 : Nat → Int32} {am615 : Nat → Int32} {am616 : Nat → Int32} {am617 : Nat → Int32} {am618 : Nat → Int32} {am619 : Nat → Int32} {am6110 : Nat → Int32} (hz : z1 = z0) (hc : ∀ Q : Int32 → Prop, Q (if x16 = 0 then 0 else x2) → wpX_committed Q (am611, am612, am613, am614, am615, am616, am617, am618, am619, am6110) x1) (hp : post 1 ()) : wL_lawOf_300 post mc ms x1 x2 x16 z0 z1 kc ks am611 am612 am613 am614 am615 am616 am617 am618 am619 am6110 :=
  br_t hz (hc _ (br_c (fun z => tc_t319 (if_pos z) hp) (fun z => tc_t319 (if_neg z) hp)))
theorem tc_t285 {post : Int32 → St0 → Prop} {mc ms : Nat} {x1 : Int32} {x2 : Int32} {x11 : Int32} {x12 : Int32} {x16 : Int32} {z0 : Int32} {z1 : Int32} {kc : Nat} {ks : Nat} {am611 : Nat → Int32} {am612 : Nat → Int32} {am613 : Nat → Int32} {am614 : Nat → Int32} {am615 : Nat → Int32} {am616 : Nat → Int32} {am617 : Nat → Int32} {am618 : Nat → Int32} {am619 : Nat → Int32} {am6110 : Nat → Int32} (hz : z1 = z0) (h11 : x11 = if x12 = 0 then -1 else 0) (hc : ∀ Q : Int32 → Prop, Q (if x16 = 0 then 0 else x2) → wpX_committed Q (am611, am612, am613, am614, am615, am616, am617, am618, am619, am6110) x1) (hp : post 1 ()) : wL_lawOf_285 post mc ms x1 x2 x11 x12 x16 z0 z1 kc ks am611 am612 am613 am614 am615 am616 am617 am618 am619 am6110 :=
  br_t hz (br_c (fun z => tc_t300 (h11.trans (if_pos z)) hc hp) (fun z => tc_t300 (h11.trans (if_neg z)) hc hp))
theorem tc_t255 {post : Int32 → St0 → Prop} {mc ms : Nat} {x1 : Int32} {x2 : Int32} {x10 : Int32} {x11 : Int32} {x12 : Int32} {x14 : Int32} {x15 : Int32} {x16 : Int32} {x18 : Int32} {z0 : Int32} {z1 : Int32} {kc : Nat} {ks : Nat} {am611 : Nat → Int32} {am612 : Nat → Int32} {am613 : Nat → Int32} {am614 : Nat → Int32} {am615 : Nat → Int32} {am616 : Nat → Int32} {am617 : Nat → Int32} {am618 : Nat → Int32} {am619 : Nat → Int32} {am6110 : Nat → Int32} (hz : z1 = z0) (h10 : x10 = if x14 = 0 then -1 else if x15 = 0 then -1 else if x18 = 0 then 0 else -2) (h11 : x11 = if x12 = 0 then -1 else 0) (hc : ∀ Q : Int32 → Prop, Q (if x16 = 0 then 0 else x2) → wpX_committed Q (am611, am612, am613, am614, am615, am616, am617, am618, am619, am6110) x1) (hp : post 1 ()) : wL_lawOf_255 post mc ms x1 x2 x10 x11 x12 x14 x15 x16 x18 z0 z1 kc ks am611 am612 am613 am614 am615 am616 am617 am618 am619 am6110 :=
  br_t hz (br_c (fun z => tc_t285 (h10.trans (if_pos z)) h11 hc hp) (fun z => br_c (fun y => tc_t285 ((h10.trans (if_neg z)).trans (if_pos y)) h11 hc hp) (fun y =>
    br_c (fun w => tc_t285 (((h10.trans (if_neg z)).trans (if_neg y)).trans (if_pos w)) h11 hc hp) (fun w => tc_t285 (((h10.trans (if_neg z)).trans (if_neg y)).trans (if_neg w)) h11 hc hp))))
theorem tc_t238 {post : Int32 → St0 → Prop} {mc ms : Nat} {x0 : Int32} {x1 : Int32} {x2 : Int32} {x9 : Int32} {x10 : Int32} {x11 : Int32} {x12 : Int32} {x14 : Int32} {x15 : Int32} {x16 : Int32} {x18 : Int32} {z0 : Int32} {z1 : Int32} {kc : Nat} {ks : Nat} {am611 : Nat → Int32} {am612 : Nat → Int32} {am613 : Nat → Int32} {am614 : Nat → Int32} {am615 : Nat → Int32} {am616 : Nat → Int32} {am617 : Nat → Int32} {am618 : Nat → Int32} {am619 : Nat → Int32} {am6110 : Nat → Int32} (hz : z1 = z0) (h9 : x9 = if x18 = 0 then 0 else (1 : Int32) <<< (x0 &&& 31)) (h10 : x10 = if x14 = 0 then -1 else if x15 = 0 then -1 else if x18 = 0 then 0 else -2) (h11 : x11 = if x12 = 0 then -1 else 0) (hc : ∀ Q : Int32 → Prop, Q (if x16 = 0 then 0 else x2) → wpX_committed Q (am611, am612, am613, am614, am615, am616, am617, am618, am619, am6110) x1) (hp : post 1 ()) : wL_lawOf_238 post mc ms x0 x1 x2 x9 x10 x11 x12 x14 x15 x16 x18 z0 z1 kc ks am611 am612 am613 am614 am615 am616 am617 am618 am619 am6110 :=
  br_t hz (br_c (fun z => tc_t255 (h9.trans (if_pos z)) h10 h11 hc hp) (fun z => tc_t255 (h9.trans (if_neg z)) h10 h11 hc hp))
theorem tc_t218 {post : Int32 → St0 → Prop} {mc ms : Nat} {x0 : Int32} {x1 : Int32} {x2 : Int32} {x3 : Int32} {x8 : Int32} {x9 : Int32} {x10 : Int32} {x11 : Int32} {x12 : Int32} {x14 : Int32} {x15 : Int32} {x16 : Int32} {x17 : Int32} {x18 : Int32} {z0 : Int32} {z1 : Int32} {kc : Nat} {ks : Nat} {am611 : Nat → Int32} {am612 : Nat → Int32} {am613 : Nat → Int32} {am614 : Nat → Int32} {am615 : Nat → Int32} {am616 : Nat → Int32} {am617 : Nat → Int32} {am618 : Nat → Int32} {am619 : Nat → Int32} {am6110 : Nat → Int32} (hz : z1 = z0) (h8 : x8 = if x17 = 0 then 0 else if x3 = x0 then x2 else 0) (h9 : x9 = if x18 = 0 then 0 else (1 : Int32) <<< (x0 &&& 31)) (h10 : x10 = if x14 = 0 then -1 else if x15 = 0 then -1 else if x18 = 0 then 0 else -2) (h11 : x11 = if x12 = 0 then -1 else 0) (hc : ∀ Q : Int32 → Prop, Q (if x16 = 0 then 0 else x2) → wpX_committed Q (am611, am612, am613, am614, am615, am616, am617, am618, am619, am6110) x1) (hp : post 1 ()) : wL_lawOf_218 post mc ms x0 x1 x2 x3 x8 x9 x10 x11 x12 x14 x15 x16 x17 x18 z0 z1 kc ks am611 am612 am613 am614 am615 am616 am617 am618 am619 am6110 :=
  br_t hz (br_c (fun z => tc_t238 (h8.trans (if_pos z)) h9 h10 h11 hc hp) (fun z =>
    br_c (fun y => tc_t238 ((h8.trans (if_neg z)).trans (if_pos y)) h9 h10 h11 hc hp) (fun y => tc_t238 ((h8.trans (if_neg z)).trans (if_neg y)) h9 h10 h11 hc hp)))
theorem tc_t203 {post : Int32 → St0 → Prop} {mc ms : Nat} {x0 : Int32} {x1 : Int32} {x2 : Int32} {x3 : Int32} {x7 : Int32} {x8 : Int32} {x9 : Int32} {x10 : Int32} {x11 : Int32} {x12 : Int32} {x14 : Int32} {x15 : Int32} {x16 : Int32} {x17 : Int32} {x18 : Int32} {z0 : Int32} {z1 : Int32} {kc : Nat} {ks : Nat} {am611 : Nat → Int32} {am612 : Nat → Int32} {am613 : Nat → Int32} {am614 : Nat → Int32} {am615 : Nat → Int32} {am616 : Nat → Int32} {am617 : Nat → Int32} {am618 : Nat → Int32} {am619 : Nat → Int32} {am6110 : Nat → Int32} (hz : z1 = z0) (h7 : x7 = if x16 = 0 then -1 else 0) (h8 : x8 = if x17 = 0 then 0 else if x3 = x0 then x2 else 0) (h9 : x9 = if x18 = 0 then 0 else (1 : Int32) <<< (x0 &&& 31)) (h10 : x10 = if x14 = 0 then -1 else if x15 = 0 then -1 else if x18 = 0 then 0 else -2) (h11 : x11 = if x12 = 0 then -1 else 0) (hc : ∀ Q : Int32 → Prop, Q (if x16 = 0 then 0 else x2) → wpX_committed Q (am611, am612, am613, am614, am615, am616, am617, am618, am619, am6110) x1) (hp : post 1 ()) : wL_lawOf_203 post mc ms x0 x1 x2 x3 x7 x8 x9 x10 x11 x12 x14 x15 x16 x17 x18 z0 z1 kc ks am611 am612 am613 am614 am615 am616 am617 am618 am619 am6110 :=
  br_t hz (br_c (fun z => tc_t218 (h7.trans (if_pos z)) h8 h9 h10 h11 hc hp) (fun z => tc_t218 (h7.trans (if_neg z)) h8 h9 h10 h11 hc hp))
theorem tc_t189 {post : Int32 → St0 → Prop} {mc ms : Nat} {x0 : Int32} {x1 : Int32} {x2 : Int32} {x3 : Int32} {x6 : Int32} {x7 : Int32} {x8 : Int32} {x9 : Int32} {x10 : Int32} {x11 : Int32} {x12 : Int32} {x14 : Int32} {x15 : Int32} {x16 : Int32} {x17 : Int32} {z0 : Int32} {kc : Nat} {ks : Nat} {am611 : Nat → Int32} {am612 : Nat → Int32} {am613 : Nat → Int32} {am614 : Nat → Int32} {am615 : Nat → Int32} {am616 : Nat → Int32} {am617 : Nat → Int32} {am618 : Nat → Int32} {am619 : Nat → Int32} {am6110 : Nat → Int32} (h6 : x6 = if x12 = 0 then -1 else 1) (h7 : x7 = if x16 = 0 then -1 else 0) (h8 : x8 = if x17 = 0 then 0 else if x3 = x0 then x2 else 0) (h9 : x9 = if z0 = 0 then 0 else (1 : Int32) <<< (x0 &&& 31)) (h10 : x10 = if x14 = 0 then -1 else if x15 = 0 then -1 else if z0 = 0 then 0 else -2) (h11 : x11 = if x12 = 0 then -1 else 0) (hc : ∀ Q : Int32 → Prop, Q (if x16 = 0 then 0 else x2) → wpX_committed Q (am611, am612, am613, am614, am615, am616, am617, am618, am619, am6110) x1) (hp : post 1 ()) : wL_lawOf_189 post mc ms x0 x1 x2 x3 x6 x7 x8 x9 x10 x11 x12 x14 x15 x16 x17 z0 kc ks am611 am612 am613 am614 am615 am616 am617 am618 am619 am6110 :=
  br_c (fun z => tc_t203 (h6.trans (if_pos z)) h7 h8 h9 h10 h11 hc hp) (fun z => tc_t203 (h6.trans (if_neg z)) h7 h8 h9 h10 h11 hc hp)
/-! the flags, one behind another -/
theorem tc_s172 {post : Int32 → St0 → Prop} {mc ms : Nat} {x0 : Int32} {x1 : Int32} {x2 : Int32} {x3 : Int32} {x6 : Int32} {x7 : Int32} {x8 : Int32} {x9 : Int32} {x10 : Int32} {x11 : Int32} {x12 : Int32} {x14 : Int32} {x15 : Int32} {x16 : Int32} {z0 : Int32} {kc : Nat} {ks : Nat} {am611 : Nat → Int32} {am612 : Nat → Int32} {am613 : Nat → Int32} {am614 : Nat → Int32} {am615 : Nat → Int32} {am616 : Nat → Int32} {am617 : Nat → Int32} {am618 : Nat → Int32} {am619 : Nat → Int32} {am6110 : Nat → Int32} (h : wL_lawOf_189 post mc ms x0 x1 x2 x3 x6 x7 x8 x9 x10 x11 x12 x14 x15 x16 z0 (tc_fO z0 x3 x0) kc ks am611 am612 am613 am614 am615 am616 am617 am618 am619 am6110) : wL_lawOf_172 post mc ms x0 x1 x2 x3 x6 x7 x8 x9 x10 x11 x12 x14 x15 x16 z0 kc ks am611 am612 am613 am614 am615 am616 am617 am618 am619 am6110 := by
  unfold tc_fO at h
  refine br_c (fun z => ?_) (fun z => br_c (fun g => ?_) (fun g => ?_))
  · rw [if_pos z] at h
    exact h
  · rw [if_neg z, if_pos g] at h
    exact h
  · rw [if_neg z, if_neg g] at h
    exact h
theorem tc_s149 {post : Int32 → St0 → Prop} {mc ms : Nat} {x0 : Int32} {x1 : Int32} {x2 : Int32} {x3 : Int32} {x4 : Int32} {x6 : Int32} {x7 : Int32} {x8 : Int32} {x9 : Int32} {x10 : Int32} {x11 : Int32} {x12 : Int32} {x14 : Int32} {x15 : Int32} {z0 : Int32} {kc : Nat} {ks : Nat} {am611 : Nat → Int32} {am612 : Nat → Int32} {am613 : Nat → Int32} {am614 : Nat → Int32} {am615 : Nat → Int32} {am616 : Nat → Int32} {am617 : Nat → Int32} {am618 : Nat → Int32} {am619 : Nat → Int32} {am6110 : Nat → Int32} (h : wL_lawOf_172 post mc ms x0 x1 x2 x3 x6 x7 x8 x9 x10 x11 x12 x14 x15 z0 (tc_fS z0 x14 x4 x1) kc ks am611 am612 am613 am614 am615 am616 am617 am618 am619 am6110) : wL_lawOf_149 post mc ms x0 x1 x2 x3 x4 x6 x7 x8 x9 x10 x11 x12 x14 x15 z0 kc ks am611 am612 am613 am614 am615 am616 am617 am618 am619 am6110 := by
  unfold tc_fS at h
  refine br_c (fun z => ?_) (fun z => br_c (fun g => ?_) (fun g => br_c (fun w => ?_) (fun w => ?_)))
  · rw [if_pos z] at h
    exact h
  · rw [if_neg z, if_pos g] at h
    exact h
  · rw [if_neg z, if_neg g, if_pos w] at h
    exact h
  · rw [if_neg z, if_neg g, if_neg w] at h
    exact h
theorem tc_s132 {post : Int32 → St0 → Prop} {mc ms : Nat} {x0 : Int32} {x1 : Int32} {x2 : Int32} {x3 : Int32} {x4 : Int32} {x6 : Int32} {x7 : Int32} {x8 : Int32} {x9 : Int32} {x10 : Int32} {x11 : Int32} {x12 : Int32} {x13 : Int32} {x14 : Int32} {z0 : Int32} {kc : Nat} {ks : Nat} {am611 : Nat → Int32} {am612 : Nat → Int32} {am613 : Nat → Int32} {am614 : Nat → Int32} {am615 : Nat → Int32} {am616 : Nat → Int32} {am617 : Nat → Int32} {am618 : Nat → Int32} {am619 : Nat → Int32} {am6110 : Nat → Int32} (h : wL_lawOf_149 post mc ms x0 x1 x2 x3 x4 x6 x7 x8 x9 x10 x11 x12 x14 z0 (tc_fG x12 x13) kc ks am611 am612 am613 am614 am615 am616 am617 am618 am619 am6110) : wL_lawOf_132 post mc ms x0 x1 x2 x3 x4 x6 x7 x8 x9 x10 x11 x12 x13 x14 z0 kc ks am611 am612 am613 am614 am615 am616 am617 am618 am619 am6110 := by
  unfold tc_fG at h
  refine br_c (fun z => ?_) (fun z => br_c (fun g => ?_) (fun g => ?_))
  · rw [if_pos z] at h
    exact h
  · rw [if_neg z, if_pos g] at h
    exact h
  · rw [if_neg z, if_neg g] at h
    exact h
theorem tc_s113 {post : Int32 → St0 → Prop} {mc ms : Nat} {x0 : Int32} {x1 : Int32} {x2 : Int32} {x3 : Int32} {x4 : Int32} {x6 : Int32} {x7 : Int32} {x8 : Int32} {x9 : Int32} {x10 : Int32} {x11 : Int32} {x12 : Int32} {x13 : Int32} {z0 : Int32} {kc : Nat} {ks : Nat} {am611 : Nat → Int32} {am612 : Nat → Int32} {am613 : Nat → Int32} {am614 : Nat → Int32} {am615 : Nat → Int32} {am616 : Nat → Int32} {am617 : Nat → Int32} {am618 : Nat → Int32} {am619 : Nat → Int32} {am6110 : Nat → Int32} (h : wL_lawOf_132 post mc ms x0 x1 x2 x3 x4 x6 x7 x8 x9 x10 x11 x12 x13 z0 (tc_fX x4) kc ks am611 am612 am613 am614 am615 am616 am617 am618 am619 am6110) : wL_lawOf_113 post mc ms x0 x1 x2 x3 x4 x6 x7 x8 x9 x10 x11 x12 x13 z0 kc ks am611 am612 am613 am614 am615 am616 am617 am618 am619 am6110 := by
  unfold tc_fX at h
  refine br_c (fun z => ?_) (fun z => br_c (fun g => ?_) (fun g => ?_))
  · rw [if_pos z] at h
    exact h
  · rw [if_neg z, if_pos g] at h
    exact h
  · rw [if_neg z, if_neg g] at h
    exact h
theorem tc_s97 {post : Int32 → St0 → Prop} {mc ms : Nat} {x0 : Int32} {x1 : Int32} {x2 : Int32} {x3 : Int32} {x4 : Int32} {x6 : Int32} {x7 : Int32} {x8 : Int32} {x9 : Int32} {x10 : Int32} {x11 : Int32} {x12 : Int32} {z0 : Int32} {kc : Nat} {ks : Nat} {am611 : Nat → Int32} {am612 : Nat → Int32} {am613 : Nat → Int32} {am614 : Nat → Int32} {am615 : Nat → Int32} {am616 : Nat → Int32} {am617 : Nat → Int32} {am618 : Nat → Int32} {am619 : Nat → Int32} {am6110 : Nat → Int32} (h : wL_lawOf_113 post mc ms x0 x1 x2 x3 x4 x6 x7 x8 x9 x10 x11 x12 z0 (tc_fC x3) kc ks am611 am612 am613 am614 am615 am616 am617 am618 am619 am6110) : wL_lawOf_97 post mc ms x0 x1 x2 x3 x4 x6 x7 x8 x9 x10 x11 x12 z0 kc ks am611 am612 am613 am614 am615 am616 am617 am618 am619 am6110 := by
  unfold tc_fC at h
  refine br_c (fun z => ?_) (fun z => br_c (fun g => ?_) (fun g => ?_))
  · rw [if_pos z] at h
    exact h
  · rw [if_neg z, if_pos g] at h
    exact h
  · rw [if_neg z, if_neg g] at h
    exact h
theorem tc_s80 {post : Int32 → St0 → Prop} {mc ms : Nat} {x0 : Int32} {x1 : Int32} {x2 : Int32} {x3 : Int32} {x4 : Int32} {x6 : Int32} {x7 : Int32} {x8 : Int32} {x9 : Int32} {x10 : Int32} {x11 : Int32} {z0 : Int32} {kc : Nat} {ks : Nat} {am611 : Nat → Int32} {am612 : Nat → Int32} {am613 : Nat → Int32} {am614 : Nat → Int32} {am615 : Nat → Int32} {am616 : Nat → Int32} {am617 : Nat → Int32} {am618 : Nat → Int32} {am619 : Nat → Int32} {am6110 : Nat → Int32} (h : wL_lawOf_97 post mc ms x0 x1 x2 x3 x4 x6 x7 x8 x9 x10 x11 z0 (tc_fX x1) kc ks am611 am612 am613 am614 am615 am616 am617 am618 am619 am6110) : wL_lawOf_80 post mc ms x0 x1 x2 x3 x4 x6 x7 x8 x9 x10 x11 z0 kc ks am611 am612 am613 am614 am615 am616 am617 am618 am619 am6110 := by
  unfold tc_fX at h
  refine br_c (fun z => ?_) (fun z => br_c (fun g => ?_) (fun g => ?_))
  · rw [if_pos z] at h
    exact h
  · rw [if_neg z, if_pos g] at h
    exact h
  · rw [if_neg z, if_neg g] at h
    exact h
theorem tc_tail {post : Int32 → St0 → Prop} {mc ms : Nat} {x0 : Int32} {x1 : Int32} {x2 : Int32} {x3 : Int32} {x4 : Int32} {x6 : Int32} {x7 : Int32} {x8 : Int32} {x9 : Int32} {x10 : Int32} {x11 : Int32} {z0 : Int32} {kc : Nat} {ks : Nat} {am611 : Nat → Int32} {am612 : Nat → Int32} {am613 : Nat → Int32} {am614 : Nat → Int32} {am615 : Nat → Int32} {am616 : Nat → Int32} {am617 : Nat → Int32} {am618 : Nat → Int32} {am619 : Nat → Int32} {am6110 : Nat → Int32} (h6 : x6 = if z0 = 0 then -1 else 1) (h7 : x7 = if (tc_fG z0 (tc_fX x1)) = 0 then -1 else 0) (h8 : x8 = if (tc_fS (tc_fG z0 (tc_fX x1)) (tc_fC x3) x4 x1) = 0 then 0 else if x3 = x0 then x2 else 0) (h9 : x9 = if (tc_fO (tc_fS (tc_fG z0 (tc_fX x1)) (tc_fC x3) x4 x1) x3 x0) = 0 then 0 else (1 : Int32) <<< (x0 &&& 31)) (h10 : x10 = if (tc_fC x3) = 0 then -1 else if (tc_fX x4) = 0 then -1 else if (tc_fO (tc_fS (tc_fG z0 (tc_fX x1)) (tc_fC x3) x4 x1) x3 x0) = 0 then 0 else -2) (h11 : x11 = if z0 = 0 then -1 else 0) (hc : ∀ Q : Int32 → Prop, Q (if (tc_fG z0 (tc_fX x1)) = 0 then 0 else x2) → wpX_committed Q (am611, am612, am613, am614, am615, am616, am617, am618, am619, am6110) x1) (hp : post 1 ()) : wL_lawOf_80 post mc ms x0 x1 x2 x3 x4 x6 x7 x8 x9 x10 x11 z0 kc ks am611 am612 am613 am614 am615 am616 am617 am618 am619 am6110 :=
  tc_s80 (tc_s97 (tc_s113 (tc_s132 (tc_s149 (tc_s172 (tc_t189 h6 h7 h8 h9 h10 h11 hc hp))))))
theorem tc_top {post : Int32 → St0 → Prop} {mc ms : Nat} {x0 : Int32} {x1 : Int32} {x2 : Int32} {x3 : Int32} {x4 : Int32} {x6 : Int32} {x7 : Int32} {x8 : Int32} {x9 : Int32} {x10 : Int32} {x11 : Int32} {kc : Nat} {ks : Nat} {am611 : Nat → Int32} {am612 : Nat → Int32} {am613 : Nat → Int32} {am614 : Nat → Int32} {am615 : Nat → Int32} {am616 : Nat → Int32} {am617 : Nat → Int32} {am618 : Nat → Int32} {am619 : Nat → Int32} {am6110 : Nat → Int32} (h : wL_lawOf_80 post mc ms x0 x1 x2 x3 x4 x6 x7 x8 x9 x10 x11 (tc_fC x0) kc ks am611 am612 am613 am614 am615 am616 am617 am618 am619 am6110) : (x0 < 0 → wL_lawOf_79 post mc ms x0 x1 x2 x3 x4 x6 x7 x8 x9 x10 x11 kc ks am611 am612 am613 am614 am615 am616 am617 am618 am619 am6110) ∧ (¬ x0 < 0 → ((3 < x0 → wL_lawOf_79 post mc ms x0 x1 x2 x3 x4 x6 x7 x8 x9 x10 x11 kc ks am611 am612 am613 am614 am615 am616 am617 am618 am619 am6110) ∧ (¬ 3 < x0 → wL_lawOf_80 post mc ms x0 x1 x2 x3 x4 x6 x7 x8 x9 x10 x11 1 kc ks am611 am612 am613 am614 am615 am616 am617 am618 am619 am6110))) := by
  unfold tc_fC at h
  refine br_c (fun z => ?_) (fun z => br_c (fun g => ?_) (fun g => ?_))
  · rw [if_pos z] at h
    exact h
  · rw [if_neg z, if_pos g] at h
    exact h
  · rw [if_neg z, if_neg g] at h
    exact h
end
end
section
section
/-! what the flags come to -/
theorem tc_fG0 {x : Int32} : tc_fG 0 x = 0 := if_pos rfl
theorem tc_fG1 {c : Int32} : tc_fG c 0 = 0 := by
  unfold tc_fG
  by_cases z : c = 0
  · rw [if_pos z]
  · rw [if_neg z, if_pos rfl]
theorem tc_fG2 : tc_fG 1 1 = 1 := by decide
theorem tc_fS0 {d x4 x1 : Int32} : tc_fS 0 d x4 x1 = 0 := if_pos rfl
theorem tc_fO0 {x3 x0 : Int32} : tc_fO 0 x3 x0 = 0 := if_pos rfl
theorem tc_fC01 (p : Int32) : tc_fC p = 0 ∨ tc_fC p = 1 := by
  rcases tc_ixC p with z | ⟨k, hk, rfl⟩
  · exact Or.inl (tc_fC0 z)
  · exact Or.inr (tc_fC1 k hk)
theorem tc_fX01 (p : Int32) : tc_fX p = 0 ∨ tc_fX p = 1 := by
  rcases tc_ixX p with z | ⟨k, hk, rfl⟩
  · exact Or.inl (tc_fX0 z)
  · exact Or.inr (tc_fX1 k hk)
/-- the read's answer with nothing written -/
theorem tc_rd0 {r a b : Int32} (h : r = if a = 0 ∨ b = 0 then -1 else 0) : r = if a = 0 then -1 else if b = 0 then -1 else if (0 : Int32) = 0 then 0 else -2 := by
  by_cases z : a = 0
  · rw [h, if_pos (Or.inl z), if_pos z]
  · by_cases y : b = 0
    · rw [h, if_pos (Or.inr y), if_neg z, if_pos y]
    · rw [h, if_neg (fun t => t.elim z y), if_neg z, if_neg y, if_pos rfl]
/-- sees, rivals and read where core c wrote cell x -/
theorem tc_se1 {v d y c x : Int32} (hc : tc_fC c = 1) : (if d = c ∧ y = x then v else 0) = if tc_fS 1 (tc_fC d) y x = 0 then 0 else if d = c then v else 0 := by
  unfold tc_fS
  rw [if_neg tc_10]
  by_cases e : d = c
  · rw [e, hc, if_neg tc_10]
    by_cases g : y = x
    · rw [if_pos ⟨rfl, g⟩, if_pos g, if_neg tc_10, if_pos rfl]
    · rw [if_neg (fun t => g t.2), if_neg g, if_pos rfl]
  · rw [if_neg (fun t => e t.1), if_neg e]
    by_cases g : (if tc_fC d = 0 then (0 : Int32) else if y = x then 1 else 0) = 0
    · rw [if_pos g]
    · rw [if_neg g]
theorem tc_ri1 {w d y c x : Int32} : (if tc_fC d = 1 ∧ d ≠ c ∧ y = x then w else 0) = if tc_fO (tc_fS 1 (tc_fC d) y x) d c = 0 then 0 else w := by
  unfold tc_fO tc_fS
  rw [if_neg tc_10]
  rcases tc_fC01 d with f | f
  · rw [f, if_neg (fun t => tc_10 t.1.symm), if_pos rfl, if_pos rfl, if_pos rfl]
  · rw [f, if_neg tc_10]
    by_cases g : y = x
    · rw [if_pos g, if_neg tc_10]
      by_cases e : d = c
      · rw [if_neg (fun t => t.2.1 e), if_pos e, if_pos rfl]
      · rw [if_pos ⟨rfl, e, g⟩, if_neg e, if_neg tc_10]
    · rw [if_neg (fun t => g t.2.2), if_neg g, if_pos rfl, if_pos rfl]
theorem tc_rd1 {r d y c x : Int32} (h : r = if tc_fC d = 0 ∨ tc_fX y = 0 then -1 else if d ≠ c ∧ y = x then -2 else 0) : r = if tc_fC d = 0 then -1 else if tc_fX y = 0 then -1 else if tc_fO (tc_fS 1 (tc_fC d) y x) d c = 0 then 0 else -2 := by
  by_cases z : tc_fC d = 0
  · rw [h, if_pos (Or.inl z), if_pos z]
  · by_cases y0 : tc_fX y = 0
    · rw [h, if_pos (Or.inr y0), if_neg z, if_pos y0]
    · rw [h, if_neg (fun t => t.elim z y0), if_neg z, if_neg y0]
      unfold tc_fO tc_fS
      rw [if_neg tc_10, if_neg z]
      by_cases g : y = x
      · rw [if_pos g, if_neg tc_10]
        by_cases e : d = c
        · rw [if_neg (fun t => t.1 e), if_pos e, if_pos rfl]
        · rw [if_pos ⟨e, g⟩, if_neg e, if_neg tc_10]
      · rw [if_neg (fun t => g t.2), if_neg g, if_pos rfl, if_pos rfl]
/-! the law -/
theorem tc_law {post : Int32 → St0 → Prop} {p0 p1 p2 p3 p4 : Int32} (hp : post 1 ()) : wpL_lawOf post 11 498 () p0 p1 p2 p3 p4 := by
  refine ⟨by decide, by decide, 10, 488, by decide, by decide, ?_⟩
  refine ⟨by decide, by decide, by decide, by decide, by decide, by decide, by decide, by decide, by decide, by decide, by decide, by decide, by decide, by decide, by decide, by decide, by decide, by decide, by decide, by decide, ?_⟩
  have n3 : ∀ i : Nat, ¬ (fun _ : Nat => (0 : Int32)) i = 3 := fun _ => tc_30 rfl
  have z0 : ∀ i : Nat, (fun _ : Nat => (0 : Int32)) i = 0 := fun _ => rfl
  have l0 : ∀ i : Nat, (fun _ : Nat => (0 : Int32)) i = 0 ∨ (fun _ : Nat => (0 : Int32)) i = 1 := fun _ => Or.inl rfl
  rcases tc_ixC p0 with z | ⟨k, hk, rfl⟩
  · refine tc_begin0 z (tc_write0 (Or.inl z) (tc_seesZ z0 n3 l0 z0 (tc_rivZ l0 z0 (tc_readZ z0 l0 z0 (fun r b2 b3 b4 b6 hr hb => tc_end0 z (tc_top ?_))))))
    rw [tc_fC0 z]
    refine tc_tail (if_pos rfl).symm ?_ ?_ ?_ ?_ (if_pos rfl).symm (fun Q hQ => ?_) hp
    · rw [tc_fG0, if_pos rfl]
    · rw [tc_fG0, tc_fS0, if_pos rfl]
    · rw [tc_fG0, tc_fS0, tc_fO0, if_pos rfl]
    · rw [tc_fG0, tc_fS0, tc_fO0]
      exact tc_rd0 hr
    · rw [tc_fG0, if_pos rfl] at hQ
      exact tc_comZ z0 hb l0 z0 hQ
  · have u0 : ∀ i, upd (fun _ => 0) (k * 3) 0 i = 0 := fun i => by
      by_cases g : i = k * 3
      · rw [g, pk_us]
      · rw [pk_un g]
    have u1 : ∀ e, upd (fun _ => 0) k 1 e = if e = k then 1 else 0 := fun e => rfl
    have u2 := tc_G5 u1
    refine tc_begin1 hk rfl ?_
    rcases tc_ixX p1 with z | ⟨j, hj, rfl⟩
    · refine tc_write0 (Or.inr z) (tc_seesZ z0 n3 u2 u0 (tc_rivZ u2 u0 (tc_readZ z0 u2 u0 (fun r b2 b3 b4 b6 hr hb => tc_end1 hk pk_us (tc_top ?_)))))
      rw [tc_fC1 k hk]
      refine tc_tail (if_neg tc_10).symm ?_ ?_ ?_ ?_ (if_neg tc_10).symm (fun Q hQ => ?_) hp
      · rw [tc_fX0 z, tc_fG1, if_pos rfl]
      · rw [tc_fX0 z, tc_fG1, tc_fS0, if_pos rfl]
      · rw [tc_fX0 z, tc_fG1, tc_fS0, tc_fO0, if_pos rfl]
      · rw [tc_fX0 z, tc_fG1, tc_fS0, tc_fO0]
        exact tc_rd0 hr
      · rw [tc_fX0 z, tc_fG1, if_pos rfl] at hQ
        refine tc_comZ z0 hb (fun e => Or.inl ?_) u0 hQ
        by_cases g : e = k
        · rw [g, pk_us]
        · rw [pk_un g, pk_un g]
    · refine tc_write1 hk hj z0 z0 u1 u0 u0 u0 (fun c2 c3 c4 c7 c8 c9 c10 hG => tc_seesG hk hj hG (tc_rivG hk hj hG (tc_readG hk hj hG (fun r b1 b2 b3 b4 b6 hr hR => tc_end1 hk pk_us (tc_top ?_)))))
      rw [tc_fC1 k hk]
      refine tc_tail (if_neg tc_10).symm ?_ ?_ ?_ ?_ (if_neg tc_10).symm (fun Q hQ => ?_) hp
      · rw [tc_fX1 j hj, tc_fG2, if_neg tc_10]
      · rw [tc_fX1 j hj, tc_fG2]
        exact tc_se1 (tc_fC1 k hk)
      · rw [tc_fX1 j hj, tc_fG2]
        exact tc_ri1
      · rw [tc_fX1 j hj, tc_fG2]
        exact tc_rd1 hr
      · rw [tc_fX1 j hj, tc_fG2, if_neg tc_10] at hQ
        refine tc_comG hk hj hR (fun e => ?_) hQ
        by_cases g : e = k
        · rw [g, pk_us]
        · rw [pk_un g, pk_un g]
theorem tc_cellAt {post : Int32 → Prop} {L : Nat} {xs : Nat → Int32} {u : St0} (i : Nat) (hi : i < 5) (hL : L ≤ 5) (h : ∀ r, post r) : wpL_cellAt post L xs u (nI i) :=
  pk_le L i (fun _ => h 0) (fun z => ⟨vp_in_nI z (by omega), h _⟩)
theorem i_vc (xs : Nat → Int32) (L : Nat) (hL : L ≤ 5) : wpL_law (fun r => r = 1) L xs := by
  unfold wpL_law
  exact tc_cellAt 0 (by decide) hL (fun _ => tc_cellAt 1 (by decide) hL (fun _ => tc_cellAt 2 (by decide) hL (fun _ => tc_cellAt 3 (by decide) hL (fun _ => tc_cellAt 4 (by decide) hL (fun _ => ⟨11, 498, by decide, by decide, tc_law rfl⟩)))))
end
end
