section
/-! the script's ints are taken to 0, 1, 2: leaf symbols -/
def rw_sm (x : Int32) : Prop := x = 0 ∨ x = 1 ∨ x = 2
theorem rw_lt0 {x : Int32} (h : rw_sm x) : ¬ x < 0 := by rcases h with rfl | rfl | rfl <;> decide
theorem rw_le9 {x : Int32} (h : rw_sm x) : x ≤ 9 := by rcases h with rfl | rfl | rfl <;> decide
theorem rw_lt7 {x : Int32} (h : rw_sm x) : x < 7 := by rcases h with rfl | rfl | rfl <;> decide
theorem rw_nle7 {x : Int32} (h : rw_sm x) : ¬ 7 ≤ x := by rcases h with rfl | rfl | rfl <;> decide
theorem rw_ne3 {x : Int32} (h : rw_sm x) : ¬ x = 3 := by rcases h with rfl | rfl | rfl <;> decide
theorem rw_smN : ∀ j, j < 3 → rw_sm (nI j)
  | 0, _ => Or.inl rfl
  | 1, _ => Or.inr (Or.inl rfl)
  | 2, _ => Or.inr (Or.inr rfl)
theorem rw_smx (p : Int32) : rw_sm ((p &&& 15) - (p &&& 15) / 3 * 3) := by
  obtain ⟨j, hj, e⟩ := pk_andE p (m := 15) 4 (by decide)
  rw [e]
  have h : nI j - nI j / nI 3 * nI 3 = nI (j % 3) := pk_rem (by omega) (by decide) (by decide)
  have g : nI j - nI j / 3 * 3 = nI (j % 3) := h
  rw [g]
  exact rw_smN _ (Nat.mod_lt _ (by decide))
theorem rw_s0 (a : Nat) : nI a - 0 = nI a := Int32.sub_zero _
theorem rw_parts0 {post : Int32 → Prop} {fw fh fr fp ft fl : Int32} {a1 a2 a3 a4 a5 a6 a7 a8 a9 a10 a11 a12 a13 a14 a15 a16 : Nat → Int32} {a17 : Nat → Int64} {a18 a19 a20 a21 : Nat → Int32} {x : Int32} (hx : rw_sm x) (hp : post 0) : wpX_parts post (fw, fh, fr, fp, ft, fl, a1, a2, a3, a4, a5, a6, a7, a8, a9, a10, a11, a12, a13, a14, a15, a16, a17, a18, a19, a20, a21) x := by
  rcases hx with rfl | rfl | rfl <;> exact br_f (by decide) (br_f (by decide) (br_f (by decide) (br_f (by decide) hp)))
theorem rw_parts3 {post : Int32 → Prop} {fw fh fr fp ft fl : Int32} {a1 a2 a3 a4 a5 a6 a7 a8 a9 a10 a11 a12 a13 a14 a15 a16 : Nat → Int32} {a17 : Nat → Int64} {a18 a19 a20 a21 : Nat → Int32} (hp : post 1) : wpX_parts post (fw, fh, fr, fp, ft, fl, a1, a2, a3, a4, a5, a6, a7, a8, a9, a10, a11, a12, a13, a14, a15, a16, a17, a18, a19, a20, a21) 3 := br_t rfl hp
/-! freshNode: the least free node -/
theorem rw_fn {post : Int32 → St2 → Prop} {fw fh fr fp ft fl : Int32} {a1 a2 a3 a4 a5 a6 a7 a8 a9 a10 a11 a12 a13 a14 a15 a16 : Nat → Int32} {a17 : Nat → Int64} {a18 a19 a20 a21 : Nat → Int32} {k : Nat} (h1 : 1 ≤ k) (hk : k < 64) (h0 : a11 k = 0) (hu : ∀ j, 1 ≤ j → j < k → ¬ a11 j = 0) (hp : post (nI k) (fw, fh, fr, fp, ft, fl, a1, a2, a3, a4, a5, a6, a7, a8, a9, a10, upd a11 k 1, a12, a13, a14, a15, a16, a17, a18, a19, a20, a21)) :
    ∀ (m : Nat) (x1 : Int32), m < 64 → (m < k → x1 = nI k) → wX_freshNode_5 post fw fh fr fp ft fl a1 a2 a3 a4 a5 a6 a7 a8 a9 a10 a11 a12 a13 a14 a15 a16 a17 a18 a19 a20 a21 (m + 1) x1 (nI m)
  | 0, x1, _, hx => by
    rw [hx (by omega)]
    exact br_t (nI_le (Nat.le_refl 0) (by decide)) ⟨vp_in_nI hk (by decide), nm_r (e' := upd a11 k 1) (by rw [nI_clamp (by omega)]) hp⟩
  | m + 1, x1, hm, hx => by
    refine br_f (nI_nle (by omega) (by omega)) ⟨vp_in_nI hm (by decide), ?_⟩
    have hc : (nI (m + 1)).toNatClampNeg = m + 1 := nI_clamp (by omega)
    refine br_c (fun e => nm_r (pk_m1 m) (rw_fn h1 hk h0 hu hp m (nI (m + 1)) (by omega) (fun z => ?_))) (fun e => nm_r (pk_m1 m) (rw_fn h1 hk h0 hu hp m x1 (by omega) (fun z => ?_)))
    · rw [hc] at e
      rcases Nat.lt_or_ge (m + 1) k with q | q
      · exact absurd e (hu _ (by omega) q)
      · rw [show m + 1 = k by omega]
    · rw [hc] at e
      rcases Nat.lt_or_ge (m + 1) k with q | q
      · exact hx q
      · rw [show m + 1 = k by omega] at e
        exact absurd h0 e
theorem rw_fresh {post : Int32 → St2 → Prop} {fw fh fr fp ft fl : Int32} {a1 a2 a3 a4 a5 a6 a7 a8 a9 a10 a11 a12 a13 a14 a15 a16 : Nat → Int32} {a17 : Nat → Int64} {a18 a19 a20 a21 : Nat → Int32} {k : Nat} (h1 : 1 ≤ k) (hk : k < 64) (h0 : a11 k = 0) (hu : ∀ j, 1 ≤ j → j < k → ¬ a11 j = 0) (hp : post (nI k) (fw, fh, fr, fp, ft, fl, a1, a2, a3, a4, a5, a6, a7, a8, a9, a10, upd a11 k 1, a12, a13, a14, a15, a16, a17, a18, a19, a20, a21)) : wpX_freshNode post (fw, fh, fr, fp, ft, fl, a1, a2, a3, a4, a5, a6, a7, a8, a9, a10, a11, a12, a13, a14, a15, a16, a17, a18, a19, a20, a21) :=
  ⟨64, rw_fn h1 hk h0 hu hp 63 1 (by decide) (fun z => absurd z (by omega))⟩
/-! workOut: with no pattern but 0, and with one more -/
theorem rw_wo1 {post : St2 → Prop} {fw fh fr ft fl : Int32} {a1 a2 a3 a4 a5 a6 a7 a8 a9 a10 a11 a12 a13 a14 a15 a16 : Nat → Int32} {a17 : Nat → Int64} {a18 a19 a20 a21 : Nat → Int32} {k c d : Nat} (hk : k < 64) (hc : c < 64) (hd : d < 64) (h13 : a13 k = nI c) (h14 : a14 k = nI d)
    (hp : post (fw, fh, fr, 1, ft, fl, a1, a2, a3, a4, a5, a6, a7, a8, a9, a10, a11, a12, a13, a14, a15, upd a16 k (1 + a16 c + a16 d), vp_updL a17 k 1, a18, a19, a20, a21)) : wpX_workOut post (fw, fh, fr, 1, ft, fl, a1, a2, a3, a4, a5, a6, a7, a8, a9, a10, a11, a12, a13, a14, a15, a16, a17, a18, a19, a20, a21) (nI k) := by
  unfold wpX_workOut
  dsimp only
  rw [nI_clamp (show k < 2 ^ 31 by omega), h13, h14, nI_clamp (show c < 2 ^ 31 by omega), nI_clamp (show d < 2 ^ 31 by omega)]
  refine ⟨vp_in_nI hk (by decide), vp_in_nI hc (by decide), vp_in_nI hk (by decide), vp_in_nI hd (by decide), vp_in_nI hk (by decide), nm_e ⟨1, ?_⟩⟩
  exact br_t (by decide) ⟨vp_in_nI hk (by decide), nm_r (e' := vp_updL a17 k 1) (by rw [nI_clamp (by omega)]) hp⟩
theorem rw_wo2 {post : St2 → Prop} {fw fh fr ft fl : Int32} {a1 a2 a3 a4 a5 a6 a7 a8 a9 a10 a11 a12 a13 a14 a15 a16 : Nat → Int32} {a17 : Nat → Int64} {a18 a19 a20 a21 : Nat → Int32} {k c d : Nat} {v : Int64} (hk : k < 64) (hc : c < 64) (hd : d < 64) (h13 : a13 k = nI c) (h14 : a14 k = nI d)
    (hv1 : a7 1 = a12 k → c = 0 ∧ d = 0 ∧ v = 3) (hv0 : ¬ a7 1 = a12 k → v = 1)
    (hp : post (fw, fh, fr, 2, ft, fl, a1, a2, a3, a4, a5, a6, a7, a8, a9, a10, a11, a12, a13, a14, a15, upd a16 k (1 + a16 c + a16 d), vp_updL a17 k v, a18, a19, a20, a21)) : wpX_workOut post (fw, fh, fr, 2, ft, fl, a1, a2, a3, a4, a5, a6, a7, a8, a9, a10, a11, a12, a13, a14, a15, a16, a17, a18, a19, a20, a21) (nI k) := by
  have E : ∀ w, w = v → wX_workOut_36 post (nI k) fw fh fr 2 ft fl a1 a2 a3 a4 a5 a6 a7 a8 a9 a10 a11 a12 a13 a14 a15 (upd a16 k (1 + a16 c + a16 d)) a17 a18 a19 a20 a21 1 w 2 := by
    intro w ew
    rw [ew]
    exact br_t (by decide) ⟨vp_in_nI hk (by decide), nm_r (e' := vp_updL a17 k v) (by rw [nI_clamp (by omega)]) hp⟩
  have hck : (nI k).toNatClampNeg = k := nI_clamp (by omega)
  unfold wpX_workOut
  dsimp only
  rw [hck, h13, h14, nI_clamp (show c < 2 ^ 31 by omega), nI_clamp (show d < 2 ^ 31 by omega)]
  refine ⟨vp_in_nI hk (by decide), vp_in_nI hc (by decide), vp_in_nI hk (by decide), vp_in_nI hd (by decide), vp_in_nI hk (by decide), nm_e ⟨2, ?_⟩⟩
  refine br_f (by decide) ⟨pk_in 1 48 (by decide), vp_in_nI hk (by decide), br_c (fun e => ?_) (fun e => ?_)⟩
  · rw [hck] at e
    have e1 : a7 1 = a12 k := e
    obtain ⟨c0, d0, v3⟩ := hv1 e1
    refine br_f (by decide) ⟨vp_in_nI hk (by decide), br_t ?_ (br_f (by decide) ⟨vp_in_nI hk (by decide), br_t ?_ (br_f (by decide) (nm_r (e' := 3) (by decide) (nm_r (e' := 2) (by decide) (E 3 v3.symm))))⟩)⟩
    · rw [hck, h13, c0]
      rfl
    · rw [hck, h14, d0]
      rfl
  · rw [hck] at e
    have e1 : ¬ a7 1 = a12 k := e
    exact br_t rfl (br_t rfl (br_t rfl (nm_r (e' := 2) (by decide) (E 1 (hv0 e1).symm))))
theorem rw_wo2L {post : St2 → Prop} {fw fh fr ft fl : Int32} {a1 a2 a3 a4 a5 a6 a7 a8 a9 a10 a11 a12 a13 a14 a15 a16 : Nat → Int32} {a17 : Nat → Int64} {a18 a19 a20 a21 : Nat → Int32} {k : Nat} (hk : k < 64) (h13 : a13 k = 0) (h14 : a14 k = 0)
    (hp : post (fw, fh, fr, 2, ft, fl, a1, a2, a3, a4, a5, a6, a7, a8, a9, a10, a11, a12, a13, a14, a15, upd a16 k (1 + a16 0 + a16 0), vp_updL a17 k (if a7 1 = a12 k then 3 else 1), a18, a19, a20, a21)) : wpX_workOut post (fw, fh, fr, 2, ft, fl, a1, a2, a3, a4, a5, a6, a7, a8, a9, a10, a11, a12, a13, a14, a15, a16, a17, a18, a19, a20, a21) (nI k) :=
  rw_wo2 (c := 0) (d := 0) hk (by decide) (by decide) h13 h14 (fun e => ⟨rfl, rfl, if_pos e⟩) (fun e => if_neg e) hp
end
section
/-! listPlaces -/
theorem rw_lpE {post : Int32 → St2 → Prop} {fw fh fr fp ft fl : Int32} {a1 a2 a3 a4 a5 a6 a7 a8 a9 a10 a11 a12 a13 a14 a15 a16 : Nat → Int32} {a17 : Nat → Int64} {a18 a19 a20 a21 : Nat → Int32} {n i : Nat} {x2 : Int32} (hi : i < 31) (hp : post x2 (fw, fh, fr, fp, ft, fl, a1, a2, a3, a4, a5, a6, a7, a8, a9, a10, a11, a12, a13, a14, a15, a16, a17, a18, a19, a20, a21)) : wX_listPlaces_14 post fw fh fr fp ft fl (n + 1) x2 0 (nI i) a1 a2 a3 a4 a5 a6 a7 a8 a9 a10 a11 a12 a13 a14 a15 a16 a17 a18 a19 a20 a21 :=
  br_f (nI_ge hi (by decide)) (br_t (by decide) hp)
theorem rw_lpL {post : Int32 → St2 → Prop} {fw fh fr fp ft fl : Int32} {a1 a2 a3 a4 a5 a6 a7 a8 a9 a10 a11 a12 a13 a14 a15 a16 : Nat → Int32} {a17 : Nat → Int64} {a18 a19 a20 a21 : Nat → Int32} {n m q i k : Nat} (hi : i < 31) (hm : m < 32) (hq : q < 64) (hk : k < 64) (h20 : a20 q = nI k) (h13 : a13 k = 0) (h14 : a14 k = 0)
    (H : wX_listPlaces_14 post fw fh fr fp ft fl n (nI (m + 1)) (nI q) (nI (i + 1)) a1 a2 a3 a4 a5 a6 a7 a8 a9 a10 a11 a12 a13 a14 a15 a16 a17 a18 (upd a19 m (nI k)) a20 a21) : wX_listPlaces_14 post fw fh fr fp ft fl (n + 1) (nI m) (nI (q + 1)) (nI i) a1 a2 a3 a4 a5 a6 a7 a8 a9 a10 a11 a12 a13 a14 a15 a16 a17 a18 a19 a20 a21 := by
  have ck : (nI k).toNatClampNeg = k := nI_clamp (by omega)
  have cq : (nI q).toNatClampNeg = q := nI_clamp (by omega)
  have cm : (nI m).toNatClampNeg = m := nI_clamp (by omega)
  exact br_f (nI_ge hi (by decide)) (br_f (nI_nle (by omega) (by omega)) (nm_r (pk_m1 q) ⟨vp_in_nI hq (by decide), nm_r (e' := nI k) (by rw [cq, h20]) ⟨vp_in_nI hm (by decide), nm_r (e' := upd a19 m (nI k)) (by rw [cm]) (nm_r (nI_1 m) ⟨vp_in_nI hk (by decide), br_t (by rw [ck, h14]) ⟨vp_in_nI hk (by decide), br_t (by rw [ck, h13]) (nm_r (nI_1 i) H)⟩⟩)⟩⟩))
theorem rw_lpU {post : Int32 → St2 → Prop} {fw fh fr fp ft fl : Int32} {a1 a2 a3 a4 a5 a6 a7 a8 a9 a10 a11 a12 a13 a14 a15 a16 : Nat → Int32} {a17 : Nat → Int64} {a18 a19 a20 a21 : Nat → Int32} {n m q i k c : Nat} (hi : i < 31) (hm : m < 32) (hq : q < 64) (hk : k < 64) (hc0 : 0 < c) (hc : c < 64) (h20 : a20 q = nI k) (h13 : a13 k = nI c) (h14 : a14 k = 0)
    (H : wX_listPlaces_14 post fw fh fr fp ft fl n (nI (m + 1)) (nI (q + 1)) (nI (i + 1)) a1 a2 a3 a4 a5 a6 a7 a8 a9 a10 a11 a12 a13 a14 a15 a16 a17 a18 (upd a19 m (nI k)) (upd a20 q (nI c)) a21) : wX_listPlaces_14 post fw fh fr fp ft fl (n + 1) (nI m) (nI (q + 1)) (nI i) a1 a2 a3 a4 a5 a6 a7 a8 a9 a10 a11 a12 a13 a14 a15 a16 a17 a18 a19 a20 a21 := by
  have ck : (nI k).toNatClampNeg = k := nI_clamp (by omega)
  have cq : (nI q).toNatClampNeg = q := nI_clamp (by omega)
  have cm : (nI m).toNatClampNeg = m := nI_clamp (by omega)
  exact br_f (nI_ge hi (by decide)) (br_f (nI_nle (by omega) (by omega)) (nm_r (pk_m1 q) ⟨vp_in_nI hq (by decide), nm_r (e' := nI k) (by rw [cq, h20]) ⟨vp_in_nI hm (by decide), nm_r (e' := upd a19 m (nI k)) (by rw [cm]) (nm_r (nI_1 m) ⟨vp_in_nI hk (by decide), br_t (by rw [ck, h14]) ⟨vp_in_nI hk (by decide), br_f (by rw [ck, h13]; exact nI_ne0 hc0 (by omega)) ⟨vp_in_nI hk (by decide), vp_in_nI hq (by decide), nm_r (e' := upd a20 q (nI c)) (by rw [cq, ck, h13]) (nm_r (nI_1 q) (nm_r (nI_1 i) H))⟩⟩⟩)⟩⟩))
theorem rw_lp1 {post : Int32 → St2 → Prop} {fw fh fr fp ft fl : Int32} {a1 a2 a3 a4 a5 a6 a7 a8 a9 a10 a11 a12 a13 a14 a15 a16 : Nat → Int32} {a17 : Nat → Int64} {a18 a19 a20 a21 : Nat → Int32} {k : Nat} (hk : k < 64) (h13 : a13 k = 0) (h14 : a14 k = 0)
    (hp : post 1 (fw, fh, fr, fp, ft, fl, a1, a2, a3, a4, a5, a6, a7, a8, a9, a10, a11, a12, a13, a14, a15, a16, a17, a18, upd a19 0 (nI k), upd a20 0 (nI k), a21)) : wpX_listPlaces post (fw, fh, fr, fp, ft, fl, a1, a2, a3, a4, a5, a6, a7, a8, a9, a10, a11, a12, a13, a14, a15, a16, a17, a18, a19, a20, a21) (nI k) :=
  nm_e ⟨2, rw_lpL (n := 1) (m := 0) (q := 0) (i := 0) (by decide) (by decide) (by decide) hk pk_us h13 h14 (rw_lpE (n := 0) (i := 1) (by decide) hp)⟩
theorem rw_lp2 {post : Int32 → St2 → Prop} {fw fh fr fp ft fl : Int32} {a1 a2 a3 a4 a5 a6 a7 a8 a9 a10 a11 a12 a13 a14 a15 a16 : Nat → Int32} {a17 : Nat → Int64} {a18 a19 a20 a21 : Nat → Int32} {k c : Nat} (hk : k < 64) (hc0 : 0 < c) (hc : c < 64) (h13 : a13 k = nI c) (h14 : a14 k = 0) (g13 : a13 c = 0) (g14 : a14 c = 0)
    (hp : post 2 (fw, fh, fr, fp, ft, fl, a1, a2, a3, a4, a5, a6, a7, a8, a9, a10, a11, a12, a13, a14, a15, a16, a17, a18, upd (upd a19 0 (nI k)) 1 (nI c), upd (upd a20 0 (nI k)) 0 (nI c), a21)) : wpX_listPlaces post (fw, fh, fr, fp, ft, fl, a1, a2, a3, a4, a5, a6, a7, a8, a9, a10, a11, a12, a13, a14, a15, a16, a17, a18, a19, a20, a21) (nI k) :=
  nm_e ⟨3, rw_lpU (n := 2) (m := 0) (q := 0) (i := 0) (by decide) (by decide) (by decide) hk hc0 hc pk_us h13 h14 (rw_lpL (n := 1) (m := 1) (q := 0) (i := 1) (by decide) (by decide) (by decide) hc pk_us g13 g14 (rw_lpE (n := 0) (i := 2) (by decide) hp))⟩
/-! ruleAt, with one rule whose pattern is 1 -/
theorem rw_raH {post : Int32 → Prop} {fw fh fp ft fl : Int32} {a1 a2 a3 a4 a5 a6 a7 a8 a9 a10 a11 a12 a13 a14 a15 a16 : Nat → Int32} {a17 : Nat → Int64} {a18 a19 a20 a21 : Nat → Int32} {k : Nat} (hk : k < 64) (h10 : a10 0 = 1) (h17 : a17 k = 3) (hp : post 0) : wpX_ruleAt post (fw, fh, 1, fp, ft, fl, a1, a2, a3, a4, a5, a6, a7, a8, a9, a10, a11, a12, a13, a14, a15, a16, a17, a18, a19, a20, a21) (nI k) := by
  have ck : (nI k).toNatClampNeg = k := nI_clamp (by omega)
  have c0 : (0 : Int32).toNatClampNeg = 0 := by decide
  exact ⟨1, br_f (by decide) ⟨vp_in_nI hk (by decide), pk_in 0 6 (by decide), br_t (by rw [ck, c0, h17, h10]; decide) hp⟩⟩
theorem rw_raM {post : Int32 → Prop} {fw fh fp ft fl : Int32} {a1 a2 a3 a4 a5 a6 a7 a8 a9 a10 a11 a12 a13 a14 a15 a16 : Nat → Int32} {a17 : Nat → Int64} {a18 a19 a20 a21 : Nat → Int32} {k : Nat} (hk : k < 64) (h10 : a10 0 = 1) (h17 : a17 k = 1) (hp : post (-4)) : wpX_ruleAt post (fw, fh, 1, fp, ft, fl, a1, a2, a3, a4, a5, a6, a7, a8, a9, a10, a11, a12, a13, a14, a15, a16, a17, a18, a19, a20, a21) (nI k) := by
  have ck : (nI k).toNatClampNeg = k := nI_clamp (by omega)
  have c0 : (0 : Int32).toNatClampNeg = 0 := by decide
  exact ⟨2, br_f (by decide) ⟨vp_in_nI hk (by decide), pk_in 0 6 (by decide), br_f (by rw [ck, c0, h17, h10]; decide) (nm_r (e' := 1) (by decide) (br_t (by decide) hp))⟩⟩
/-! build: a leaf; the symbol 3 -/
theorem rw_build0 {post : Int32 → St2 → Prop} {fr fp ft fl : Int32} {a1 a2 a3 a4 a5 a6 a7 a8 a9 a10 a11 a12 a13 a14 a15 a16 : Nat → Int32} {a17 : Nat → Int64} {a18 a19 a20 a21 : Nat → Int32} {x : Int32} (wn hn : Nat) (hx : rw_sm x) (hw : wn < 31) (hh : hn < 6)
    (hp : post (nI (hn + 1)) (nI (wn + 1), nI (hn + 1), fr, fp, ft, fl, upd a1 wn x, upd a2 hn (nI wn), a3, a4, a5, a6, a7, a8, a9, a10, a11, a12, a13, a14, a15, a16, a17, a18, a19, a20, a21)) : wpX_build post (nI wn, nI hn, fr, fp, ft, fl, a1, a2, a3, a4, a5, a6, a7, a8, a9, a10, a11, a12, a13, a14, a15, a16, a17, a18, a19, a20, a21) x := by
  refine br_f (rw_lt0 hx) (br_t (rw_le9 hx) (rw_parts0 hx (pk_eq wn 31 (fun z => absurd z (by omega)) (fun _ => br_t rfl (pk_eq hn 6 (fun z => absurd z (by omega)) (fun _ => ?_))))))
  refine br_t (nI_pos' (by omega)) (br_t rfl ⟨vp_in_nI hh (by decide), nm_r (e' := upd a2 hn (nI wn)) (by rw [nI_clamp (by omega)]) ?_⟩)
  exact nm_r (e' := nI (hn + 1)) (by rw [nI_1, rw_s0]) ⟨vp_in_nI hw (by decide), nm_r (e' := upd a1 wn x) (by rw [nI_clamp (by omega)]) (nm_r (nI_1 wn) hp)⟩
theorem rw_build3 {post : Int32 → St2 → Prop} {fr fp ft fl : Int32} {a1 a2 a3 a4 a5 a6 a7 a8 a9 a10 a11 a12 a13 a14 a15 a16 : Nat → Int32} {a17 : Nat → Int64} {a18 a19 a20 a21 : Nat → Int32} (hp : post 1 (2, 1, fr, fp, ft, fl, upd a1 1 3, a2, a3, a4, a5, a6, a7, a8, a9, a10, a11, a12, a13, a14, a15, a16, a17, a18, a19, a20, a21)) : wpX_build post (1, 1, fr, fp, ft, fl, a1, a2, a3, a4, a5, a6, a7, a8, a9, a10, a11, a12, a13, a14, a15, a16, a17, a18, a19, a20, a21) 3 := by
  refine br_f (by decide) (br_t (by decide) (rw_parts3 (br_f (by decide) (br_f (by decide) ?_))))
  refine br_t (by decide) (br_f (by decide) ?_)
  exact nm_r (e' := 1) (by decide) ⟨pk_in 1 31 (by decide), nm_e (nm_r (e' := 2) (by decide) hp)⟩
/-! variablesOf, repeated: no variables -/
theorem rw_vars {post : Int32 → Prop} {fw fh fr fp ft fl : Int32} {a1 a2 a3 a4 a5 a6 a7 a8 a9 a10 a11 a12 a13 a14 a15 a16 : Nat → Int32} {a17 : Nat → Int64} {a18 a19 a20 a21 : Nat → Int32} (i0 e : Nat) (hi : i0 ≤ e) (he : e ≤ 31) (h : ∀ j, i0 ≤ j → j < e → a1 j < 7) (hp : post 0) : wpX_variablesOf post (fw, fh, fr, fp, ft, fl, a1, a2, a3, a4, a5, a6, a7, a8, a9, a10, a11, a12, a13, a14, a15, a16, a17, a18, a19, a20, a21) (nI i0) (nI e) :=
  pk_loop (fun n i (_ : Unit) => wX_variablesOf_5 post (nI e) fw fh fr fp ft fl a1 a2 a3 a4 a5 a6 a7 a8 a9 a10 a11 a12 a13 a14 a15 a16 a17 a18 a19 a20 a21 n 0 (nI i)) (fun i _ => i0 ≤ i) e i0 () hi (Nat.le_refl i0)
    (fun n _ _ => pk_le e e (fun _ => hp) (fun z => absurd z (by omega)))
    (fun n i _ hie hii hw => pk_le e i (fun z => absurd z (by omega)) (fun _ => ⟨pk_in i 31 (by omega), br_t (by rw [nI_clamp (by omega)]; exact h i hii hie) (nm_r (nI_1 i) (hw () (by omega)))⟩))
theorem rw_rep {post : Int32 → Prop} {fw fh fr fp ft fl : Int32} {a1 a2 a3 a4 a5 a6 a7 a8 a9 a10 a11 a12 a13 a14 a15 a16 : Nat → Int32} {a17 : Nat → Int64} {a18 a19 a20 a21 : Nat → Int32} (i0 e : Nat) (hi : i0 ≤ e) (he : e ≤ 31) (h : ∀ j, i0 ≤ j → j < e → a1 j < 7) (hp : post 0) : wpX_repeated post (fw, fh, fr, fp, ft, fl, a1, a2, a3, a4, a5, a6, a7, a8, a9, a10, a11, a12, a13, a14, a15, a16, a17, a18, a19, a20, a21) (nI i0) (nI e) :=
  pk_loop (fun n i (_ : Unit) => wX_repeated_5 post (nI e) fw fh fr fp ft fl a1 a2 a3 a4 a5 a6 a7 a8 a9 a10 a11 a12 a13 a14 a15 a16 a17 a18 a19 a20 a21 n 0 (nI i)) (fun i _ => i0 ≤ i) e i0 () hi (Nat.le_refl i0)
    (fun n _ _ => pk_le e e (fun _ => hp) (fun z => absurd z (by omega)))
    (fun n i _ hie hii hw => pk_le e i (fun z => absurd z (by omega)) (fun _ => ⟨pk_in i 31 (by omega), br_t (by rw [nI_clamp (by omega)]; exact h i hii hie) (br_t (by decide) (nm_r (e' := 0) (by decide) (nm_r (nI_1 i) (hw () (by omega)))))⟩))
/-! lineUp -/
theorem rw_luE {post : St2 → Prop} {fw fh fr fp ft fl : Int32} {a1 a2 a3 a4 a5 a6 a7 a8 a9 a10 a11 a12 a13 a14 a15 a16 : Nat → Int32} {a17 : Nat → Int64} {a18 a19 a20 a21 : Nat → Int32} {n e : Nat} {x3 : Int32} (hp : post (fw, fh, fr, fp, ft, fl, a1, a2, a3, a4, a5, a6, a7, a8, a9, a10, a11, a12, a13, a14, a15, a16, a17, a18, a19, a20, a21)) (he : e < 2 ^ 31 := by omega) : wX_lineUp_10 post (nI e) fw fh fr fp ft (n + 1) x3 (nI e) fl a1 a2 a3 a4 a5 a6 a7 a8 a9 a10 a11 a12 a13 a14 a15 a16 a17 a18 a19 a20 a21 :=
  br_t (nI_le (Nat.le_refl e) he) hp
theorem rw_luL {post : St2 → Prop} {fw fh fr fp ft : Int32} {a1 a2 a3 a4 a5 a6 a7 a8 a9 a10 a11 a12 a13 a14 a15 a16 : Nat → Int32} {a17 : Nat → Int64} {a18 a19 a20 a21 : Nat → Int32} {n e t i l : Nat} {s : Int32} (hie : i < e) (he : e ≤ 31) (ht : t < 64) (hl : l < 32) (hs : rw_sm s) (h1 : a1 i = s)
    (H : wX_lineUp_10 post (nI e) fw fh fr fp ft n (nI (t + 1)) (nI (i + 1)) (nI (l + 1)) a1 a2 a3 a4 a5 a6 a7 a8 a9 a10 a11 a12 a13 a14 a15 a16 a17 (upd a18 l s) a19 (upd a20 t (nI l)) a21) : wX_lineUp_10 post (nI e) fw fh fr fp ft (n + 1) (nI t) (nI i) (nI l) a1 a2 a3 a4 a5 a6 a7 a8 a9 a10 a11 a12 a13 a14 a15 a16 a17 a18 a19 a20 a21 := by
  have ci : (nI i).toNatClampNeg = i := nI_clamp (by omega)
  have cl : (nI l).toNatClampNeg = l := nI_clamp (by omega)
  have ct : (nI t).toNatClampNeg = t := nI_clamp (by omega)
  refine br_f (nI_ge hie (by omega)) ⟨vp_in_nI (by omega) (by decide), ?_⟩
  rw [ci, h1]
  refine rw_parts0 hs (nm_r (rw_s0 t) (br_t rfl ⟨1, br_t (nI_le (Nat.le_refl l) (by omega)) ⟨vp_in_nI (by omega) (by decide), vp_in_nI hl (by decide), ?_⟩⟩))
  exact nm_r (e' := upd a18 l s) (by rw [cl, ci, h1]) (nm_r (nI_1 l) ⟨vp_in_nI ht (by decide), nm_r (e' := upd a20 t (nI l)) (by rw [ct]) (nm_r (nI_1 t) (nm_r (nI_1 i) H))⟩)
theorem rw_lineUp1 {post : St2 → Prop} {fw fh fr fp ft fl : Int32} {a1 a2 a3 a4 a5 a6 a7 a8 a9 a10 a11 a12 a13 a14 a15 a16 : Nat → Int32} {a17 : Nat → Int64} {a18 a19 a20 a21 : Nat → Int32} {s : Int32} (f : Nat) (hf : f < 31) (hs : rw_sm s) (h1 : a1 f = s)
    (hp : post (fw, fh, fr, fp, ft, 1, a1, a2, a3, a4, a5, a6, a7, a8, a9, a10, a11, a12, a13, a14, a15, a16, a17, upd a18 0 s, a19, upd a20 0 0, a21)) : wpX_lineUp post (fw, fh, fr, fp, ft, fl, a1, a2, a3, a4, a5, a6, a7, a8, a9, a10, a11, a12, a13, a14, a15, a16, a17, a18, a19, a20, a21) (nI f) (nI (f + 1)) :=
  ⟨2, rw_luL (n := 1) (t := 0) (l := 0) (by omega) (by omega) (by decide) (by decide) hs h1 (rw_luE (n := 0) hp)⟩
theorem rw_lineUp2 {post : St2 → Prop} {fw fh fr fp ft fl : Int32} {a1 a2 a3 a4 a5 a6 a7 a8 a9 a10 a11 a12 a13 a14 a15 a16 : Nat → Int32} {a17 : Nat → Int64} {a18 a19 a20 a21 : Nat → Int32} {s : Int32} (hs : rw_sm s) (h1 : a1 0 = s) (h2 : a1 1 = 3)
    (hp : ∀ b18 b20 : Nat → Int32, b18 0 = 3 → b18 1 = s → post (fw, fh, fr, fp, ft, 2, a1, a2, a3, a4, a5, a6, a7, a8, a9, a10, a11, a12, a13, a14, a15, a16, a17, b18, a19, b20, a21)) : wpX_lineUp post (fw, fh, fr, fp, ft, fl, a1, a2, a3, a4, a5, a6, a7, a8, a9, a10, a11, a12, a13, a14, a15, a16, a17, a18, a19, a20, a21) 0 2 := by
  refine ⟨3, rw_luL (n := 2) (e := 2) (t := 0) (i := 0) (l := 0) (by decide) (by decide) (by decide) (by decide) hs h1 ?_⟩
  have c1 : (nI (0 + 1)).toNatClampNeg = 1 := by decide
  refine br_f (by decide) ⟨pk_in 1 31 (by decide), ?_⟩
  rw [c1, h2]
  refine rw_parts3 (nm_r (e' := 0) (by decide) (br_f (by decide) ⟨pk_in 0 64 (by decide), nm_r (e' := 0) rfl ⟨2, ?_⟩⟩))
  refine br_f (by decide) ⟨pk_in 0 32 (by decide), pk_in 1 32 (by decide), nm_e (nm_r (e' := 0) (by decide) ?_)⟩
  refine br_t (by decide) ⟨pk_in 1 31 (by decide), pk_in 0 32 (by decide), nm_e (nm_r (e' := 2) (by decide) ⟨pk_in 0 64 (by decide), nm_e (nm_r (e' := 1) (by decide) (nm_r (e' := 2) (by decide) ?_))⟩)⟩
  exact br_t (by decide) (hp _ _ h2 rfl)
end
section
/-! the patterns of one rule whose left term is a leaf -/
theorem rw_pf {post : Int32 → St2 → Prop} {fw fh fr ft fl : Int32} {a1 a2 a3 a4 a5 a6 a7 a8 a9 a10 a11 a12 a13 a14 a15 a16 : Nat → Int32} {a17 : Nat → Int64} {a18 a19 a20 a21 : Nat → Int32} {s a b : Int32} (hp : post 1 (fw, fh, fr, 2, ft, fl, a1, a2, a3, a4, a5, a6, upd a7 1 s, upd a8 1 a, upd a9 1 b, a10, a11, a12, a13, a14, a15, a16, a17, a18, a19, a20, a21)) : wpX_patternFor post (fw, fh, fr, 1, ft, fl, a1, a2, a3, a4, a5, a6, a7, a8, a9, a10, a11, a12, a13, a14, a15, a16, a17, a18, a19, a20, a21) s a b := by
  have e : (2 : Int32) - 1 = 1 := by decide
  refine ⟨1, br_t (by decide) ⟨pk_in 1 48 (by decide), nm_e ⟨pk_in 1 48 (by decide), nm_e ⟨pk_in 1 48 (by decide), nm_e (nm_r (e' := 2) (by decide) ?_)⟩⟩⟩⟩
  rw [e]
  exact hp
theorem rw_po {post : Int32 → St2 → Prop} {fw fh fr ft fl : Int32} {a1 a2 a3 a4 a5 a6 a7 a8 a9 a10 a11 a12 a13 a14 a15 a16 : Nat → Int32} {a17 : Nat → Int64} {a18 a19 a20 a21 : Nat → Int32} {s : Int32} (hs : rw_sm s) (h3 : a3 0 = 1) (h4 : a4 0 = s)
    (hp : post 1 (fw, fh, fr, 2, ft, fl, a1, a2, a3, a4, a5, a6, upd a7 1 s, upd a8 1 0, upd a9 1 0, a10, a11, a12, a13, a14, a15, a16, a17, a18, a19, upd a20 0 1, a21)) : wpX_patternOf post (fw, fh, fr, 1, ft, fl, a1, a2, a3, a4, a5, a6, a7, a8, a9, a10, a11, a12, a13, a14, a15, a16, a17, a18, a19, a20, a21) 0 := by
  have c0 : (0 : Int32).toNatClampNeg = 0 := by decide
  refine ⟨pk_in 0 6 (by decide), nm_r (e' := 0) (by rw [c0, h3]; decide) ⟨2, br_f (by decide) ⟨pk_in 0 42 (by decide), nm_r (e' := s) h4 (rw_parts0 hs (br_t (by decide) ?_))⟩⟩⟩
  refine br_t (by decide) (nm_r (e' := 0) (by decide) (br_t (rw_lt7 hs) (rw_pf ?_)))
  exact ⟨pk_in 0 64 (by decide), nm_e (nm_r (e' := 1) (by decide) (nm_r (e' := -1) (by decide) (br_t (by decide) hp)))⟩
/-! prepare, the subject being a leaf -/
theorem rw_prep {post : St2 → Prop} {fw fh fp fl : Int32} {a1 a2 a3 a4 a5 a6 a7 a8 a9 a10 a11 a12 a13 a14 a15 a16 : Nat → Int32} {a17 : Nat → Int64} {a18 a19 a20 a21 : Nat → Int32} {s : Int32} {k : Nat} (hk : k < 64) (hs : rw_sm s) (h3 : a3 0 = 1) (h4 : a4 0 = s) (h13 : a13 k = 0) (h14 : a14 k = 0)
    (hp : ∀ (b17 : Nat → Int64), post (fw, fh, 1, 2, nI k, fl, a1, a2, a3, a4, a5, a6, upd a7 1 s, upd a8 1 0, upd a9 1 0, upd a10 0 1, a11, a12, a13, a14, a15, upd a16 k (1 + a16 0 + a16 0), b17, a18, upd a19 0 (nI k), upd (upd a20 0 1) 0 (nI k), a21)) : wpX_prepare post (fw, fh, 1, fp, nI k, fl, a1, a2, a3, a4, a5, a6, a7, a8, a9, a10, a11, a12, a13, a14, a15, a16, a17, a18, a19, a20, a21) := by
  refine ⟨2, br_f (by decide) (rw_po hs h3 h4 ⟨pk_in 0 6 (by decide), nm_e (nm_r (e' := 1) (by decide) (br_t (by decide) (rw_lp1 hk h13 h14 (nm_r (e' := 0) (by decide) ⟨2, ?_⟩))))⟩)⟩
  exact br_f (by decide) ⟨pk_in 0 32 (by decide), rw_wo2L hk h13 h14 (nm_r (e' := -1) (by decide) (br_t (by decide) (hp _)))⟩
/-! rule: two leaves on the stack -/
theorem rw_rule {post : Int32 → St2 → Prop} {fp fl : Int32} {a1 a2 a3 a4 a5 a6 a7 a8 a9 a10 a11 a12 a13 a14 a15 a16 : Nat → Int32} {a17 : Nat → Int64} {a18 a19 a20 a21 : Nat → Int32} {x y : Int32} (hx : rw_sm x) (hy : rw_sm y) (h1 : a1 0 = x) (h1' : a1 1 = y) (h2 : a2 0 = 0) (h2' : a2 1 = 1) (h13 : a13 1 = 0) (h14 : a14 1 = 0)
    (hp : ∀ (b3 b4 b5 b6 b7 b8 b9 b10 b16 : Nat → Int32) (b17 : Nat → Int64) (b18 b19 b20 : Nat → Int32), b3 0 = 1 → b4 0 = x → b5 0 = 1 → b6 0 = y → b7 1 = x → b10 0 = 1 → b16 0 = a16 0 →
      post 0 (0, 0, 1, 2, 1, 1, a1, a2, b3, b4, b5, b6, b7, b8, b9, b10, a11, a12, a13, a14, a15, b16, b17, b18, b19, b20, a21)) : wpX_rule post (2, 2, 0, fp, 1, fl, a1, a2, a3, a4, a5, a6, a7, a8, a9, a10, a11, a12, a13, a14, a15, a16, a17, a18, a19, a20, a21) := by
  have V0 : ∀ j, 0 ≤ j → j < 1 → a1 j < 7 := by
    intro j _ hj
    rw [show j = 0 by omega, h1]
    exact rw_lt7 hx
  have V1 : ∀ j, 1 ≤ j → j < 2 → a1 j < 7 := by
    intro j hj hj2
    rw [show j = 1 by omega, h1']
    exact rw_lt7 hy
  refine br_f (by decide) (br_t (by decide) ⟨pk_in 0 6 (by decide), nm_r (e' := 0) h2 ⟨pk_in 1 6 (by decide), nm_r (e' := 1) h2' (br_t (by decide) ⟨pk_in 0 31 (by decide), br_t (V0 0 (by decide) (by decide)) ?_⟩)⟩⟩)
  refine br_t rfl (br_f (by decide) (rw_rep 0 1 (by decide) (by decide) V0 (br_t rfl ?_)))
  refine rw_vars 0 1 (by decide) (by decide) V0 (rw_vars 1 2 (by decide) (by decide) V1 (br_t rfl (br_t (by decide) ?_)))
  refine rw_lineUp1 0 (by decide) hx h1 ⟨pk_in 0 6 (by decide), nm_e ⟨2, ?_⟩⟩
  refine br_f (by decide) ⟨pk_in 0 32 (by decide), pk_in 0 42 (by decide), nm_e (nm_r (e' := 1) (by decide) (br_t (by decide) ?_))⟩
  refine rw_lineUp1 1 (by decide) hy h1' ⟨pk_in 0 6 (by decide), nm_e ⟨2, ?_⟩⟩
  refine br_f (by decide) ⟨pk_in 0 32 (by decide), pk_in 0 186 (by decide), nm_e (nm_r (e' := 1) (by decide) (br_t (by decide) (nm_r (e' := 1) (by decide) (nm_r (e' := 0) (by decide) ?_))))⟩
  exact rw_prep (k := 1) (s := x) (by decide) hx rfl rfl h13 h14 (fun b17 => hp _ _ _ _ _ _ _ _ _ b17 _ _ _ rfl rfl rfl rfl rfl rfl rfl)
end
section
/-! grow: a leaf, a node over one part, the end -/
theorem rw_grL {post : Int32 → St2 → Prop} {fw fh fr fp ft fl : Int32} {a1 a2 a3 a4 a5 a6 a7 a8 a9 a10 a11 a12 a13 a14 a15 a16 : Nat → Int32} {a17 : Nat → Int64} {a18 a19 a20 a21 : Nat → Int32} {n q i k : Nat} {s x2' : Int32} {m : Nat → Int32} {f : Nat → Int64} (hi : i < 32) (hq : q < 64) (hs : rw_sm s) (h18 : a18 i = s) (h1 : 1 ≤ k) (hk : k < 64) (h0 : a11 k = 0) (hu : ∀ j, 1 ≤ j → j < k → ¬ a11 j = 0) (hx2 : nI i + (-1) = x2')
    (hw : ∀ ψ : St2 → Prop, ψ (fw, fh, fr, fp, ft, fl, a1, a2, a3, a4, a5, a6, a7, a8, a9, a10, upd a11 k 1, upd a12 k s, upd a13 k 0, upd a14 k 0, upd (upd (upd a15 k 0) 0 (nI k)) 0 (nI k), m, f, a18, a19, a20, a21) → wpX_workOut ψ (fw, fh, fr, fp, ft, fl, a1, a2, a3, a4, a5, a6, a7, a8, a9, a10, upd a11 k 1, upd a12 k s, upd a13 k 0, upd a14 k 0, upd (upd (upd a15 k 0) 0 (nI k)) 0 (nI k), a16, a17, a18, a19, a20, a21) (nI k))
    (H : wX_grow_9 post n (nI (q + 1)) x2' fw fh fr fp ft fl a1 a2 a3 a4 a5 a6 a7 a8 a9 a10 (upd a11 k 1) (upd a12 k s) (upd a13 k 0) (upd a14 k 0) (upd (upd (upd a15 k 0) 0 (nI k)) 0 (nI k)) m f a18 a19 (upd a20 q (nI k)) a21) : wX_grow_9 post (n + 1) (nI q) (nI i) fw fh fr fp ft fl a1 a2 a3 a4 a5 a6 a7 a8 a9 a10 a11 a12 a13 a14 a15 a16 a17 a18 a19 a20 a21 := by
  have ci : (nI i).toNatClampNeg = i := nI_clamp (by omega)
  have ck : (nI k).toNatClampNeg = k := nI_clamp (by omega)
  have cq : (nI q).toNatClampNeg = q := nI_clamp (by omega)
  have c0 : (0 : Int32).toNatClampNeg = 0 := by decide
  refine br_f (nI_pos (by omega)) ⟨vp_in_nI hi (by decide), ?_⟩
  rw [ci, h18]
  refine rw_parts0 hs (rw_fresh h1 hk h0 hu ⟨vp_in_nI hi (by decide), vp_in_nI hk (by decide), nm_r (e' := upd a12 k s) (by rw [ck, h18]) (br_t (by decide) ?_)⟩)
  refine ⟨vp_in_nI hk (by decide), nm_r (e' := upd a13 k 0) (by rw [ck]) (br_t (by decide) ?_)⟩
  refine ⟨vp_in_nI hk (by decide), nm_r (e' := upd a14 k 0) (by rw [ck]) ⟨vp_in_nI hk (by decide), nm_r (e' := upd a15 k 0) (by rw [ck]) ⟨vp_in_nI hk (by decide), ?_, nm_r (e' := upd (upd a15 k 0) 0 (nI k)) (by rw [ck, pk_us, c0]) ⟨vp_in_nI hk (by decide), ?_, nm_r (e' := upd (upd (upd a15 k 0) 0 (nI k)) 0 (nI k)) (by rw [ck, pk_us, c0]) (hw _ ?_)⟩⟩⟩⟩
  · rw [ck, pk_us]
    exact pk_in 0 64 (by decide)
  · rw [ck, pk_us]
    exact pk_in 0 64 (by decide)
  · exact nm_r (rw_s0 q) ⟨vp_in_nI hq (by decide), nm_r (e' := upd a20 q (nI k)) (by rw [cq]) (nm_r (nI_1 q) (nm_r hx2 H))⟩
theorem rw_grU {post : Int32 → St2 → Prop} {fw fh fr fp ft fl : Int32} {a1 a2 a3 a4 a5 a6 a7 a8 a9 a10 a11 a12 a13 a14 a15 a16 : Nat → Int32} {a17 : Nat → Int64} {a18 a19 a20 a21 : Nat → Int32} {n q i k c : Nat} {x2' : Int32} {m : Nat → Int32} {f : Nat → Int64} (hi : i < 32) (hq : q < 64) (h18 : a18 i = 3) (hc : c < 64) (h20 : a20 q = nI c) (h1 : 1 ≤ k) (hk : k < 64) (h0 : a11 k = 0) (hu : ∀ j, 1 ≤ j → j < k → ¬ a11 j = 0) (hx2 : nI i + (-1) = x2')
    (hw : ∀ ψ : St2 → Prop, ψ (fw, fh, fr, fp, ft, fl, a1, a2, a3, a4, a5, a6, a7, a8, a9, a10, upd a11 k 1, upd a12 k 3, upd a13 k (nI c), upd a14 k 0, upd (upd (upd a15 k 0) c (nI k)) 0 (nI k), m, f, a18, a19, a20, a21) → wpX_workOut ψ (fw, fh, fr, fp, ft, fl, a1, a2, a3, a4, a5, a6, a7, a8, a9, a10, upd a11 k 1, upd a12 k 3, upd a13 k (nI c), upd a14 k 0, upd (upd (upd a15 k 0) c (nI k)) 0 (nI k), a16, a17, a18, a19, a20, a21) (nI k))
    (H : wX_grow_9 post n (nI (q + 1)) x2' fw fh fr fp ft fl a1 a2 a3 a4 a5 a6 a7 a8 a9 a10 (upd a11 k 1) (upd a12 k 3) (upd a13 k (nI c)) (upd a14 k 0) (upd (upd (upd a15 k 0) c (nI k)) 0 (nI k)) m f a18 a19 (upd a20 q (nI k)) a21) : wX_grow_9 post (n + 1) (nI (q + 1)) (nI i) fw fh fr fp ft fl a1 a2 a3 a4 a5 a6 a7 a8 a9 a10 a11 a12 a13 a14 a15 a16 a17 a18 a19 a20 a21 := by
  have ci : (nI i).toNatClampNeg = i := nI_clamp (by omega)
  have ck : (nI k).toNatClampNeg = k := nI_clamp (by omega)
  have cq : (nI q).toNatClampNeg = q := nI_clamp (by omega)
  have cc : (nI c).toNatClampNeg = c := nI_clamp (by omega)
  have c0 : (0 : Int32).toNatClampNeg = 0 := by decide
  refine br_f (nI_pos (by omega)) ⟨vp_in_nI hi (by decide), ?_⟩
  rw [ci, h18]
  refine rw_parts3 (rw_fresh h1 hk h0 hu ⟨vp_in_nI hi (by decide), vp_in_nI hk (by decide), nm_r (e' := upd a12 k 3) (by rw [ck, h18]) (br_f (by decide) ?_)⟩)
  rw [nI_pred, cq, h20]
  refine ⟨vp_in_nI hq (by decide), ?_⟩
  refine ⟨vp_in_nI hk (by decide), nm_r (e' := upd a13 k (nI c)) (by rw [ck]) (br_t (by decide) ?_)⟩
  refine ⟨vp_in_nI hk (by decide), nm_r (e' := upd a14 k 0) (by rw [ck]) ⟨vp_in_nI hk (by decide), nm_r (e' := upd a15 k 0) (by rw [ck]) ⟨vp_in_nI hk (by decide), ?_, nm_r (e' := upd (upd a15 k 0) c (nI k)) (by rw [ck, pk_us, cc]) ⟨vp_in_nI hk (by decide), ?_, nm_r (e' := upd (upd (upd a15 k 0) c (nI k)) 0 (nI k)) (by rw [ck, pk_us, c0]) (hw _ ?_)⟩⟩⟩⟩
  · rw [ck, pk_us]
    exact vp_in_nI hc (by decide)
  · rw [ck, pk_us]
    exact pk_in 0 64 (by decide)
  · exact nm_r (nI_pred q) ⟨vp_in_nI hq (by decide), nm_r (e' := upd a20 q (nI k)) (by rw [cq]) (nm_r (nI_1 q) (nm_r hx2 H))⟩
theorem rw_grE {post : Int32 → St2 → Prop} {fw fh fr fp ft fl : Int32} {a1 a2 a3 a4 a5 a6 a7 a8 a9 a10 a11 a12 a13 a14 a15 a16 : Nat → Int32} {a17 : Nat → Int64} {a18 a19 a20 a21 : Nat → Int32} {n : Nat} {x1 : Int32} (hp : post (a20 0) (fw, fh, fr, fp, ft, fl, a1, a2, a3, a4, a5, a6, a7, a8, a9, a10, a11, a12, a13, a14, upd a15 0 0, a16, a17, a18, a19, a20, a21)) : wX_grow_9 post (n + 1) x1 (-1) fw fh fr fp ft fl a1 a2 a3 a4 a5 a6 a7 a8 a9 a10 a11 a12 a13 a14 a15 a16 a17 a18 a19 a20 a21 :=
  br_t (by decide) (nm_e hp)
/-- one leaf lined up -/
theorem rw_grow1 {post : Int32 → St2 → Prop} {fw fh fr fp ft : Int32} {a1 a2 a3 a4 a5 a6 a7 a8 a9 a10 a11 a12 a13 a14 a15 a16 : Nat → Int32} {a17 : Nat → Int64} {a18 a19 a20 a21 : Nat → Int32} {k : Nat} {s : Int32} {m : Nat → Int32} {f : Nat → Int64} (hs : rw_sm s) (h18 : a18 0 = s) (h1 : 1 ≤ k) (hk : k < 64) (h0 : a11 k = 0) (hu : ∀ j, 1 ≤ j → j < k → ¬ a11 j = 0)
    (hw : ∀ ψ : St2 → Prop, ψ (fw, fh, fr, fp, ft, 1, a1, a2, a3, a4, a5, a6, a7, a8, a9, a10, upd a11 k 1, upd a12 k s, upd a13 k 0, upd a14 k 0, upd (upd (upd a15 k 0) 0 (nI k)) 0 (nI k), m, f, a18, a19, a20, a21) → wpX_workOut ψ (fw, fh, fr, fp, ft, 1, a1, a2, a3, a4, a5, a6, a7, a8, a9, a10, upd a11 k 1, upd a12 k s, upd a13 k 0, upd a14 k 0, upd (upd (upd a15 k 0) 0 (nI k)) 0 (nI k), a16, a17, a18, a19, a20, a21) (nI k))
    (hp : post (nI k) (fw, fh, fr, fp, ft, 1, a1, a2, a3, a4, a5, a6, a7, a8, a9, a10, upd a11 k 1, upd a12 k s, upd a13 k 0, upd a14 k 0, upd (upd (upd (upd a15 k 0) 0 (nI k)) 0 (nI k)) 0 0, m, f, a18, a19, upd a20 0 (nI k), a21)) : wpX_grow post (fw, fh, fr, fp, ft, 1, a1, a2, a3, a4, a5, a6, a7, a8, a9, a10, a11, a12, a13, a14, a15, a16, a17, a18, a19, a20, a21) :=
  nm_r (e' := 0) (by decide) ⟨2, rw_grL (n := 1) (q := 0) (i := 0) (x2' := -1) (by decide) (by decide) hs h18 h1 hk h0 hu (by decide) hw (rw_grE (n := 0) hp)⟩
/-! release of a leaf -/
theorem rw_rel {post : St2 → Prop} {fw fh fr fp ft fl : Int32} {a1 a2 a3 a4 a5 a6 a7 a8 a9 a10 a11 a12 a13 a14 a15 a16 : Nat → Int32} {a17 : Nat → Int64} {a18 a19 a20 a21 : Nat → Int32} {k : Nat} (hk : k < 64) (h13 : a13 k = 0) (h14 : a14 k = 0)
    (hp : post (fw, fh, fr, fp, ft, fl, a1, a2, a3, a4, a5, a6, a7, a8, a9, a10, upd a11 k 0, a12, a13, a14, a15, a16, a17, a18, upd a19 0 (nI k), upd a20 0 (nI k), a21)) : wpX_release post (fw, fh, fr, fp, ft, fl, a1, a2, a3, a4, a5, a6, a7, a8, a9, a10, a11, a12, a13, a14, a15, a16, a17, a18, a19, a20, a21) (nI k) := by
  have ck : (nI k).toNatClampNeg = k := nI_clamp (by omega)
  have e : upd a19 0 (nI k) (0 : Int32).toNatClampNeg = nI k := pk_us
  refine rw_lp1 hk h13 h14 ⟨2, br_f (by decide) ⟨pk_in 0 32 (by decide), ?_, nm_r (e' := upd a11 k 0) (by rw [e, ck]) (nm_r (e' := 1) (by decide) (br_t (by decide) hp))⟩⟩
  rw [e]
  exact vp_in_nI hk (by decide)
/-! subject: a leaf z under the symbol 3; the old subject is the leaf at 1 -/
theorem rw_subj {post : Int32 → St2 → Prop} {fr fl : Int32} {a1 a2 a3 a4 a5 a6 a7 a8 a9 a10 a11 a12 a13 a14 a15 a16 : Nat → Int32} {a17 : Nat → Int64} {a18 a19 a20 a21 : Nat → Int32} {x z : Int32} (hx : rw_sm x) (hz : rw_sm z) (h1 : a1 0 = z) (h1' : a1 1 = 3) (h2 : a2 0 = 0) (h7 : a7 1 = x) (h11 : a11 2 = 0) (h13 : a13 1 = 0) (h14 : a14 1 = 0) (h16 : a16 0 = 0)
    (hp : ∀ (r : Int32) (b11 b12 b13 b14 b15 b16 : Nat → Int32) (b17 : Nat → Int64) (b18 b19 b20 : Nat → Int32), r = 2 → b11 1 = 1 → b11 2 = 1 → b11 3 = a11 3 → b12 1 = z → b12 2 = 3 → b13 1 = 0 → b13 2 = 1 → b14 1 = 0 → b14 2 = 0 → b15 1 = 2 → b15 2 = 0 → b16 0 = 0 → b16 1 = 1 → b16 2 = 2 → b17 1 = (if x = z then 3 else 1) → b17 2 = 1 →
      post r (0, 0, fr, 2, 2, 2, a1, a2, a3, a4, a5, a6, a7, a8, a9, a10, b11, b12, b13, b14, b15, b16, b17, b18, b19, b20, a21)) : wpX_subject post (2, 1, fr, 2, 1, fl, a1, a2, a3, a4, a5, a6, a7, a8, a9, a10, a11, a12, a13, a14, a15, a16, a17, a18, a19, a20, a21) := by
  have V0 : ∀ j, 0 ≤ j → j < 2 → a1 j < 7 := by
    intro j _ hj
    rcases (show j = 0 ∨ j = 1 by omega) with e | e
    · rw [e, h1]
      exact rw_lt7 hz
    · rw [e, h1']
      decide
  have hn : ¬ x = 3 := rw_ne3 hx
  refine br_f (by decide) ⟨pk_in 0 6 (by decide), nm_r (e' := 0) h2 (rw_vars 0 2 (by decide) (by decide) V0 (br_t rfl (rw_lineUp2 hz h1 h1' (fun b18 b20 g0 g1 => nm_r (e' := 0) (by decide) (rw_rel (k := 1) (by decide) h13 h14 ?_)))))⟩
  refine nm_r (e' := 1) (by decide) ⟨3, ?_⟩
  refine rw_grL (n := 2) (q := 0) (i := 1) (k := 1) (x2' := 0) (by decide) (by decide) hz g1 (by decide) (by decide) pk_us (fun j a b => absurd a (by omega)) (by decide) (fun ψ h => rw_wo2L (k := 1) (by decide) pk_us pk_us h) ?_
  refine rw_grU (n := 1) (q := 0) (i := 0) (k := 2) (c := 1) (x2' := -1) (by decide) (by decide) g0 (by decide) rfl (by decide) (by decide) h11 (fun j a b => ?_) (by decide) (fun ψ h => rw_wo2 (k := 2) (c := 1) (d := 0) (v := 1) (by decide) (by decide) (by decide) rfl rfl (fun e => absurd (h7.symm.trans e) hn) (fun _ => rfl) h) ?_
  · rw [show j = 1 by omega, pk_us]
    decide
  · have E1 : (1 : Int32) + a16 0 + a16 0 = 1 := by rw [h16]; decide
    have E2 : (1 : Int32) + (1 + a16 0 + a16 0) + a16 0 = 2 := by rw [h16]; decide
    have G : (if a7 1 = z then (3 : Int64) else 1) = (if x = z then 3 else 1) := by rw [h7]
    exact rw_grE (n := 0) ⟨pk_in 2 64 (by decide), hp _ _ _ _ _ _ _ _ _ _ _ E2 rfl rfl rfl rfl rfl rfl rfl rfl rfl rfl rfl h16 E1 E2 G rfl⟩
end
section
/-! the subject: node 2 over node c -/
theorem rw_node {post : Int32 → St2 → Prop} {fw fh fr fp fl : Int32} {a1 a2 a3 a4 a5 a6 a7 a8 a9 a10 a11 a12 a13 a14 a15 a16 : Nat → Int32} {a17 : Nat → Int64} {a18 a19 a20 a21 : Nat → Int32} {c : Nat} (hc0 : 0 < c) (hc : c < 64) (h13 : a13 2 = nI c) (h14 : a14 2 = 0) (g13 : a13 c = 0) (g14 : a14 c = 0) (h16 : a16 2 = 2)
    (hp : ∀ b19 b20 : Nat → Int32, post (nI c) (fw, fh, fr, fp, 2, fl, a1, a2, a3, a4, a5, a6, a7, a8, a9, a10, a11, a12, a13, a14, a15, a16, a17, a18, b19, b20, a21)) : wpX_nodeAt post (fw, fh, fr, fp, 2, fl, a1, a2, a3, a4, a5, a6, a7, a8, a9, a10, a11, a12, a13, a14, a15, a16, a17, a18, a19, a20, a21) 1 := by
  have c2 : (2 : Int32).toNatClampNeg = 2 := by decide
  exact br_f (by decide) ⟨pk_in 2 64 (by decide), br_t (by rw [c2, h16]; decide) (rw_lp2 (k := 2) (by decide) hc0 hc h13 h14 g13 g14 ⟨pk_in 1 32 (by decide), hp _ _⟩)⟩
theorem rw_fits {post : Int32 → St2 → Prop} {fw fh fp fl : Int32} {a1 a2 a3 a4 a5 a6 a7 a8 a9 a10 a11 a12 a13 a14 a15 a16 : Nat → Int32} {a17 : Nat → Int64} {a18 a19 a20 a21 : Nat → Int32} {c : Nat} (hc0 : 0 < c) (hc : c < 64) (h13 : a13 2 = nI c) (h14 : a14 2 = 0) (g13 : a13 c = 0) (g14 : a14 c = 0) (h16 : a16 2 = 2) (h10 : a10 0 = 1)
    {v : Int64} (h17 : a17 c = v) (h3 : v = 3 → ∀ b19 b20 : Nat → Int32, post 0 (fw, fh, 1, fp, 2, fl, a1, a2, a3, a4, a5, a6, a7, a8, a9, a10, a11, a12, a13, a14, a15, a16, a17, a18, b19, b20, a21)) (h1 : v = 1 → ∀ b19 b20 : Nat → Int32, post (-4) (fw, fh, 1, fp, 2, fl, a1, a2, a3, a4, a5, a6, a7, a8, a9, a10, a11, a12, a13, a14, a15, a16, a17, a18, b19, b20, a21)) (hv : v = 3 ∨ v = 1) : wpX_fits post (fw, fh, 1, fp, 2, fl, a1, a2, a3, a4, a5, a6, a7, a8, a9, a10, a11, a12, a13, a14, a15, a16, a17, a18, a19, a20, a21) 1 := by
  unfold wpX_fits
  refine rw_node hc0 hc h13 h14 g13 g14 h16 (fun b19 b20 => br_f (nI_ne0 hc0 (by omega)) ?_)
  rcases hv with e | e
  · exact rw_raH hc h10 (h17.trans e) (h3 e _ _)
  · exact rw_raM hc h10 (h17.trans e) (h1 e _ _)
theorem rw_symbol {post : Int32 → St2 → Prop} {fw fh fr fp fl : Int32} {a1 a2 a3 a4 a5 a6 a7 a8 a9 a10 a11 a12 a13 a14 a15 a16 : Nat → Int32} {a17 : Nat → Int64} {a18 a19 a20 a21 : Nat → Int32} {c : Nat} (hc0 : 0 < c) (hc : c < 64) (h13 : a13 2 = nI c) (h14 : a14 2 = 0) (g13 : a13 c = 0) (g14 : a14 c = 0) (h16 : a16 2 = 2)
    (hp : ∀ b19 b20 : Nat → Int32, post (a12 c) (fw, fh, fr, fp, 2, fl, a1, a2, a3, a4, a5, a6, a7, a8, a9, a10, a11, a12, a13, a14, a15, a16, a17, a18, b19, b20, a21)) : wpX_symbol post (fw, fh, fr, fp, 2, fl, a1, a2, a3, a4, a5, a6, a7, a8, a9, a10, a11, a12, a13, a14, a15, a16, a17, a18, a19, a20, a21) 1 := by
  have cc : (nI c).toNatClampNeg = c := nI_clamp (by omega)
  unfold wpX_symbol
  refine rw_node hc0 hc h13 h14 g13 g14 h16 (fun b19 b20 => br_f (nI_ne0 hc0 (by omega)) ⟨vp_in_nI hc (by decide), ?_⟩)
  rw [cc]
  exact hp _ _
theorem rw_npH {post : Int32 → St2 → Prop} {fw fh fp fl : Int32} {a1 a2 a3 a4 a5 a6 a7 a8 a9 a10 a11 a12 a13 a14 a15 a16 : Nat → Int32} {a17 : Nat → Int64} {a18 a19 a20 a21 : Nat → Int32} {c : Nat} (hc0 : 0 < c) (hc : c < 64) (h13 : a13 2 = nI c) (h14 : a14 2 = 0) (g13 : a13 c = 0) (g14 : a14 c = 0) (h10 : a10 0 = 1) (h17 : a17 2 = 1) (g17 : a17 c = 3)
    (hp : ∀ b19 b20 : Nat → Int32, b19 1 = nI c → post 1 (fw, fh, 1, fp, 2, fl, a1, a2, a3, a4, a5, a6, a7, a8, a9, a10, a11, a12, a13, a14, a15, a16, a17, a18, b19, b20, a21)) : wpX_nextPlace post (fw, fh, 1, fp, 2, fl, a1, a2, a3, a4, a5, a6, a7, a8, a9, a10, a11, a12, a13, a14, a15, a16, a17, a18, a19, a20, a21) := by
  refine rw_lp2 (k := 2) (by decide) hc0 hc h13 h14 g13 g14 ⟨2, br_f (by decide) ⟨pk_in 0 32 (by decide), rw_raM (k := 2) (by decide) h10 h17 (br_t (by decide) (nm_r (e' := 1) (by decide) ?_))⟩⟩
  exact br_f (by decide) ⟨pk_in 1 32 (by decide), rw_raH (k := c) hc h10 g17 (br_f (by decide) (hp _ _ rfl))⟩
theorem rw_npM {post : Int32 → St2 → Prop} {fw fh fp fl : Int32} {a1 a2 a3 a4 a5 a6 a7 a8 a9 a10 a11 a12 a13 a14 a15 a16 : Nat → Int32} {a17 : Nat → Int64} {a18 a19 a20 a21 : Nat → Int32} {c : Nat} (hc0 : 0 < c) (hc : c < 64) (h13 : a13 2 = nI c) (h14 : a14 2 = 0) (g13 : a13 c = 0) (g14 : a14 c = 0) (h10 : a10 0 = 1) (h17 : a17 2 = 1) (g17 : a17 c = 1)
    (hp : ∀ b19 b20 : Nat → Int32, post (-4) (fw, fh, 1, fp, 2, fl, a1, a2, a3, a4, a5, a6, a7, a8, a9, a10, a11, a12, a13, a14, a15, a16, a17, a18, b19, b20, a21)) : wpX_nextPlace post (fw, fh, 1, fp, 2, fl, a1, a2, a3, a4, a5, a6, a7, a8, a9, a10, a11, a12, a13, a14, a15, a16, a17, a18, a19, a20, a21) := by
  refine rw_lp2 (k := 2) (by decide) hc0 hc h13 h14 g13 g14 ⟨3, br_f (by decide) ⟨pk_in 0 32 (by decide), rw_raM (k := 2) (by decide) h10 h17 (br_t (by decide) (nm_r (e' := 1) (by decide) ?_))⟩⟩
  exact br_f (by decide) ⟨pk_in 1 32 (by decide), rw_raM (k := c) hc h10 g17 (br_t (by decide) (nm_r (e' := 2) (by decide) (br_t (by decide) (hp _ _))))⟩
theorem rw_redex {post : Int32 → St2 → Prop} {fw fh fp fl : Int32} {a1 a2 a3 a4 a5 a6 a7 a8 a9 a10 a11 a12 a13 a14 a15 a16 : Nat → Int32} {a17 : Nat → Int64} {a18 a19 a20 a21 : Nat → Int32} {c : Nat} {r : Int32} (hc0 : 0 < c) (hc : c < 64) (h13 : a13 2 = nI c) (h14 : a14 2 = 0) (g13 : a13 c = 0) (g14 : a14 c = 0) (h10 : a10 0 = 1) (h17 : a17 2 = 1) (g17 : (a17 c = 3 ∧ r = 1) ∨ (a17 c = 1 ∧ r = 0))
    (hp : ∀ b19 b20 : Nat → Int32, post r (fw, fh, 1, fp, 2, fl, a1, a2, a3, a4, a5, a6, a7, a8, a9, a10, a11, a12, a13, a14, a15, a16, a17, a18, b19, b20, a21)) : wpX_redexes post (fw, fh, 1, fp, 2, fl, a1, a2, a3, a4, a5, a6, a7, a8, a9, a10, a11, a12, a13, a14, a15, a16, a17, a18, a19, a20, a21) := by
  refine rw_lp2 (k := 2) (by decide) hc0 hc h13 h14 g13 g14 ⟨3, br_f (by decide) ⟨pk_in 0 32 (by decide), rw_raM (k := 2) (by decide) h10 h17 (br_t (by decide) (nm_r (e' := 1) (by decide) ?_))⟩⟩
  rcases g17 with ⟨g, e⟩ | ⟨g, e⟩
  · subst e
    exact br_f (by decide) ⟨pk_in 1 32 (by decide), rw_raH (k := c) hc h10 g (br_f (by decide) (nm_r (e' := 1) (by decide) (nm_r (e' := 2) (by decide) (br_t (by decide) (hp _ _)))))⟩
  · subst e
    exact br_f (by decide) ⟨pk_in 1 32 (by decide), rw_raM (k := c) hc h10 g (br_t (by decide) (nm_r (e' := 2) (by decide) (br_t (by decide) (hp _ _))))⟩
/-! the parts of step -/
theorem rw_bind {post : St2 → Prop} {fw fh fr fp ft fl : Int32} {a1 a2 a3 a4 a5 a6 a7 a8 a9 a10 a11 a12 a13 a14 a15 a16 : Nat → Int32} {a17 : Nat → Int64} {a18 a19 a20 a21 : Nat → Int32} {k : Nat} {s : Int32} (hs : rw_sm s) (h3 : a3 0 = 1) (h4 : a4 0 = s) (hp : post (fw, fh, fr, fp, ft, fl, a1, a2, a3, a4, a5, a6, a7, a8, a9, a10, a11, a12, a13, a14, a15, a16, a17, a18, a19, upd a20 0 (nI k), a21)) : wpX_bind post (fw, fh, fr, fp, ft, fl, a1, a2, a3, a4, a5, a6, a7, a8, a9, a10, a11, a12, a13, a14, a15, a16, a17, a18, a19, a20, a21) 0 (nI k) := by
  have c0 : (0 : Int32).toNatClampNeg = 0 := by decide
  refine nm_e ⟨2, ⟨pk_in 0 6 (by decide), br_f (by rw [c0, h3]; decide) ⟨pk_in 0 42 (by decide), nm_r (e' := s) h4 (nm_r (e' := 0) (by decide) ⟨pk_in 0 64 (by decide), nm_e (br_t (rw_lt7 hs) (rw_parts0 hs (br_t (by decide) (br_t (by decide) (nm_r (e' := 1) (by decide) ?_)))))⟩)⟩⟩⟩
  exact ⟨pk_in 0 6 (by decide), br_t (by rw [c0, h3]; decide) hp⟩
theorem rw_sor {post : Int32 → Prop} {fw fh fr fp ft fl : Int32} {a1 a2 a3 a4 a5 a6 a7 a8 a9 a10 a11 a12 a13 a14 a15 a16 : Nat → Int32} {a17 : Nat → Int64} {a18 a19 a20 a21 : Nat → Int32} {s : Int32} (hs : rw_sm s) (h5 : a5 0 = 1) (h6 : a6 0 = s) (hp : post 1) : wpX_sizeOfRight post (fw, fh, fr, fp, ft, fl, a1, a2, a3, a4, a5, a6, a7, a8, a9, a10, a11, a12, a13, a14, a15, a16, a17, a18, a19, a20, a21) 0 := by
  have c0 : (0 : Int32).toNatClampNeg = 0 := by decide
  refine ⟨2, ⟨pk_in 0 6 (by decide), br_f (by rw [c0, h5]; decide) ⟨pk_in 0 186 (by decide), nm_r (e' := s) h6 (br_t (rw_lt7 hs) (nm_r (e' := 1) (by decide) (nm_r (e' := 1) (by decide) ?_)))⟩⟩⟩
  exact ⟨pk_in 0 6 (by decide), br_t (by rw [c0, h5]; decide) hp⟩
theorem rw_lur {post : St2 → Prop} {fw fh fr fp ft fl : Int32} {a1 a2 a3 a4 a5 a6 a7 a8 a9 a10 a11 a12 a13 a14 a15 a16 : Nat → Int32} {a17 : Nat → Int64} {a18 a19 a20 a21 : Nat → Int32} {s : Int32} (hs : rw_sm s) (h5 : a5 0 = 1) (h6 : a6 0 = s) (hp : post (fw, fh, fr, fp, ft, 1, a1, a2, a3, a4, a5, a6, a7, a8, a9, a10, a11, a12, a13, a14, a15, a16, a17, upd a18 0 s, a19, a20, a21)) : wpX_lineUpRight post (fw, fh, fr, fp, ft, fl, a1, a2, a3, a4, a5, a6, a7, a8, a9, a10, a11, a12, a13, a14, a15, a16, a17, a18, a19, a20, a21) 0 := by
  have c0 : (0 : Int32).toNatClampNeg = 0 := by decide
  refine ⟨2, ⟨pk_in 0 6 (by decide), br_f (by rw [c0, h5]; decide) ⟨pk_in 0 186 (by decide), nm_r (e' := s) h6 (br_f (rw_nle7 hs) ⟨pk_in 0 32 (by decide), nm_e (nm_r (e' := 1) (by decide) (nm_r (e' := 1) (by decide) ?_))⟩)⟩⟩⟩
  exact ⟨pk_in 0 6 (by decide), br_t (by rw [c0, h5]; decide) hp⟩
/-- node 3, a leaf, put where node 1 was, under node 2 -/
theorem rw_repl {post : St2 → Prop} {fw fh fr ft fl : Int32} {a1 a2 a3 a4 a5 a6 a7 a8 a9 a10 a11 a12 a13 a14 a15 a16 : Nat → Int32} {a17 : Nat → Int64} {a18 a19 a20 a21 : Nat → Int32} {x : Int32} (hx : rw_sm x) (h7 : a7 1 = x) (h12 : a12 2 = 3) (h13 : a13 2 = 1) (h14 : a14 2 = 0) (h15 : a15 1 = 2) (g15 : a15 2 = 0)
    (hp : post (fw, fh, fr, 2, ft, fl, a1, a2, a3, a4, a5, a6, a7, a8, a9, a10, a11, a12, upd a13 2 3, a14, upd a15 3 2, upd a16 2 (1 + a16 3 + a16 0), vp_updL a17 2 1, a18, a19, a20, a21)) : wpX_replace post (fw, fh, fr, 2, ft, fl, a1, a2, a3, a4, a5, a6, a7, a8, a9, a10, a11, a12, a13, a14, a15, a16, a17, a18, a19, a20, a21) 1 3 := by
  have hn : ¬ x = 3 := rw_ne3 hx
  refine ⟨pk_in 1 64 (by decide), nm_r (e' := 2) h15 ⟨pk_in 3 64 (by decide), nm_e (br_f (by decide) ⟨pk_in 2 64 (by decide), br_t h13 ⟨pk_in 2 64 (by decide), nm_e ⟨2, ?_⟩⟩⟩)⟩⟩
  refine br_f (by decide) (br_f (by decide) (rw_wo2 (k := 2) (c := 3) (d := 0) (v := 1) (by decide) (by decide) (by decide) rfl h14 (fun e => absurd ((h7.symm.trans e).trans h12) hn) (fun _ => rfl) ?_))
  exact ⟨pk_in 2 64 (by decide), nm_r (e' := 0) g15 (nm_r (e' := 1) (by decide) (br_f (by decide) (br_t rfl hp)))⟩
theorem rw_stepH {post : Int32 → St2 → Prop} {fw fh fl : Int32} {a1 a2 a3 a4 a5 a6 a7 a8 a9 a10 a11 a12 a13 a14 a15 a16 : Nat → Int32} {a17 : Nat → Int64} {a18 a19 a20 a21 : Nat → Int32} {x y : Int32} (hx : rw_sm x) (hy : rw_sm y) (h3 : a3 0 = 1) (h4 : a4 0 = x) (h5 : a5 0 = 1) (h6 : a6 0 = y) (h7 : a7 1 = x) (h10 : a10 0 = 1) (h11 : a11 1 = 1) (g11 : a11 2 = 1) (f11 : a11 3 = 0) (h12 : a12 2 = 3) (h13 : a13 2 = 1) (g13 : a13 1 = 0) (h14 : a14 2 = 0) (g14 : a14 1 = 0) (h15 : a15 1 = 2) (g15 : a15 2 = 0) (f16 : a16 0 = 0) (h16 : a16 1 = 1) (g16 : a16 2 = 2) (h17 : a17 1 = 3) (g17 : a17 2 = 1)
    (hp : ∀ (b11 b12 b13 b14 b15 b16 : Nat → Int32) (b17 : Nat → Int64) (b18 b19 b20 : Nat → Int32), b12 3 = y → b13 2 = 3 → b13 3 = 0 → b14 2 = 0 → b14 3 = 0 → b16 2 = 2 → b17 3 = (if x = y then 3 else 1) → b17 2 = 1 →
      post 1 (fw, fh, 1, 2, 2, 1, a1, a2, a3, a4, a5, a6, a7, a8, a9, a10, b11, b12, b13, b14, b15, b16, b17, b18, b19, b20, a21)) : wpX_step post (fw, fh, 1, 2, 2, fl, a1, a2, a3, a4, a5, a6, a7, a8, a9, a10, a11, a12, a13, a14, a15, a16, a17, a18, a19, a20, a21) := by
  have c1 : (1 : Int32).toNatClampNeg = 1 := by decide
  have c2 : (2 : Int32).toNatClampNeg = 2 := by decide
  refine rw_npH (c := 1) (by decide) (by decide) h13 h14 g13 g14 h10 g17 h17 (fun b19 b20 e19 => br_t (by decide) ⟨pk_in 1 32 (by decide), nm_r (e' := 1) e19 ?_⟩)
  refine rw_raH (k := 1) (by decide) h10 h17 (rw_bind (k := 1) hx h3 h4 (rw_sor hy h5 h6 ⟨pk_in 2 64 (by decide), pk_in 1 64 (by decide), br_t (by rw [c1, c2, h16, g16]; decide) ?_⟩))
  refine rw_lur hy h5 h6 (rw_grow1 (k := 3) hy rfl (by decide) (by decide) f11 (fun j a b => ?_) (fun ψ h => rw_wo2L (k := 3) (by decide) pk_us pk_us h) ?_)
  · rcases (show j = 1 ∨ j = 2 by omega) with e | e
    · rw [e, h11]
      decide
    · rw [e, g11]
      decide
  · have E : (1 : Int32) + (1 + a16 0 + a16 0) + a16 0 = 2 := by rw [f16]; decide
    have G : (if a7 1 = y then (3 : Int64) else 1) = (if x = y then 3 else 1) := by rw [h7]
    exact rw_repl hx h7 h12 h13 h14 h15 g15 (rw_rel (k := 1) (by decide) g13 g14 (hp _ _ _ _ _ _ _ _ _ _ rfl rfl rfl h14 rfl E G rfl))
theorem rw_stepM {post : Int32 → St2 → Prop} {fw fh fp fl : Int32} {a1 a2 a3 a4 a5 a6 a7 a8 a9 a10 a11 a12 a13 a14 a15 a16 : Nat → Int32} {a17 : Nat → Int64} {a18 a19 a20 a21 : Nat → Int32} (h10 : a10 0 = 1) (h13 : a13 2 = 1) (g13 : a13 1 = 0) (h14 : a14 2 = 0) (g14 : a14 1 = 0) (h17 : a17 1 = 1) (g17 : a17 2 = 1)
    (hp : ∀ (b19 b20 : Nat → Int32), post (-4) (fw, fh, 1, fp, 2, fl, a1, a2, a3, a4, a5, a6, a7, a8, a9, a10, a11, a12, a13, a14, a15, a16, a17, a18, b19, b20, a21)) : wpX_step post (fw, fh, 1, fp, 2, fl, a1, a2, a3, a4, a5, a6, a7, a8, a9, a10, a11, a12, a13, a14, a15, a16, a17, a18, a19, a20, a21) :=
  rw_npM (c := 1) (by decide) (by decide) h13 h14 g13 g14 h10 g17 h17 (fun b19 b20 => br_f (by decide) (hp _ _))
end
section
theorem rw_init {post : St2 → Prop} (mc ms : Nat) (hc : 21 ≤ mc) (hs : 1006 ≤ ms)
    (hp : ∀ (b11 b12 b13 b14 b15 b16 : Nat → Int32) (b17 : Nat → Int64) (b18 b20 : Nat → Int32), b11 2 = 0 → b11 3 = 0 → b13 1 = 0 → b14 1 = 0 → b16 0 = 0 →
      post (0, 0, 0, 1, 1, 1, fun _ => 0, fun _ => 0, fun _ => 0, fun _ => 0, fun _ => 0, fun _ => 0, fun _ => 0, fun _ => 0, fun _ => 0, fun _ => 0, b11, b12, b13, b14, b15, b16, b17, b18, fun _ => 0, b20, fun _ => 0)) : wpX_init post mc ms (0, 0, 0, 0, 0, 0) := by
  refine ⟨by omega, by omega, by omega, by omega, by omega, by omega, by omega, by omega, by omega, by omega, by omega, by omega, by omega, by omega, by omega, by omega, by omega, by omega, by omega, by omega, by omega, by omega, by omega, by omega, by omega, by omega, by omega, by omega, by omega, by omega, by omega, by omega, by omega, by omega, by omega, by omega, by omega, by omega, by omega, by omega, by omega, by omega, nm_e ?_⟩
  exact rw_grow1 (k := 1) (s := 0) (Or.inl rfl) rfl (by decide) (by decide) rfl (fun j a b => absurd a (by omega)) (fun ψ h => rw_wo1 (k := 1) (c := 0) (d := 0) (by decide) (by decide) (by decide) rfl rfl h) (hp _ _ _ _ _ _ _ _ _ rfl rfl rfl rfl rfl)
/-! the law's last lines: hit, and not -/
theorem rw_endH {mc ms kc ks : Nat} {x y z r1 r2 r3 r4 r5 r6 : Int32} (e1 : r1 = 0) (e2 : r2 = 2) (e3 : r3 = 0) (e4 : r4 = 1) (e5 : r5 = y) (e6 : (x = y ∧ r6 = 1) ∨ (¬ x = y ∧ r6 = 0)) : wL_lawOf_109 (fun r _ => r = 1) mc ms x y z r1 r2 r3 r4 r5 r6 1 kc ks := by
  refine br_t e1 (br_t e2 (br_f (by decide) (br_t e3 (br_f (by decide) (br_t e4 (br_f (by decide) (br_t e5 (br_f (by decide) ?_))))))))
  rcases e6 with ⟨a, b⟩ | ⟨a, b⟩
  · exact br_t a (br_t b rfl)
  · exact br_f a (br_t b rfl)
theorem rw_endM {mc ms kc ks : Nat} {x y z r1 r2 r3 r4 r5 r6 : Int32} (e1 : r1 = 0) (e2 : r2 = 2) (e3 : r3 = -4) (e4 : r4 = -4) (e5 : r5 = z) (e6 : r6 = 0) : wL_lawOf_109 (fun r _ => r = 1) mc ms x y z r1 r2 r3 r4 r5 r6 0 kc ks :=
  br_t e1 (br_t e2 (br_t rfl (br_t e3 (br_t rfl (br_t e4 (br_t rfl (br_t e5 (br_t rfl (br_t e6 rfl)))))))))
theorem rw_lawOf (p0 p1 p2 : Int32) : wpL_lawOf (fun r _ => r = 1) 22 1033 () p0 p1 p2 := by
  refine ⟨by decide, by decide, 21, 1006, by decide, by decide, rw_init 21 1006 (by decide) (by decide) (fun b11 b12 b13 b14 b15 b16 b17 b18 b20 k1 k2 k3 k4 k5 => ⟨by decide, fun x ex => ⟨by decide, fun y ey => ⟨by decide, fun z ez => ?_⟩⟩⟩)⟩
  have hx : rw_sm x := by rw [ex]; exact rw_smx p0
  have hy : rw_sm y := by rw [ey]; exact rw_smx p1
  have hz : rw_sm z := by rw [ez]; exact rw_smx p2
  refine rw_build0 0 0 hx (by decide) (by decide) (rw_build0 1 1 hy (by decide) (by decide) ?_)
  refine rw_rule hx hy rfl rfl rfl rfl k3 k4 (fun c3 c4 c5 c6 c7 c8 c9 c10 c16 c17 c18 c19 c20 m3 m4 m5 m6 m7 m10 m16 => ?_)
  refine rw_build0 0 0 hz (by decide) (by decide) (rw_build3 ?_)
  refine rw_subj hx hz rfl rfl rfl m7 k1 k3 k4 (m16.trans k5) (fun r2 d11 d12 d13 d14 d15 d16 d17 d18 d19 d20 er2 o1 o2 o3 o4 o5 o6 o7 o8 o9 o10 o11 o12 o13 o14 o15 o16 => ?_)
  by_cases hh : x = z
  · have q17 : d17 1 = 3 := by rw [o15, if_pos hh]
    refine rw_fits (c := 1) (by decide) (by decide) o7 o9 o6 o8 o14 m10 q17 (fun _ e19 e20 => ?_) (fun e => absurd e (by decide)) (Or.inl rfl)
    refine rw_stepH hx hy m3 m4 m5 m6 m7 m10 o1 o2 (o3.trans k2) o5 o7 o6 o9 o8 o10 o11 o12 o13 o14 q17 o16 (fun f11 f12 f13 f14 f15 f16 f17 f18 f19 f20 s1 s2 s3 s4 s5 s6 s7 s8 => ?_)
    refine rw_symbol (c := 3) (by decide) (by decide) s2 s4 s3 s5 s6 (fun g19 g20 => ?_)
    by_cases hxy : x = y
    · exact rw_redex (c := 3) (r := 1) (by decide) (by decide) s2 s4 s3 s5 m10 s8 (Or.inl ⟨by rw [s7, if_pos hxy], rfl⟩) (fun _ _ => br_t hh (rw_endH rfl er2 rfl rfl s1 (Or.inl ⟨hxy, rfl⟩)))
    · exact rw_redex (c := 3) (r := 0) (by decide) (by decide) s2 s4 s3 s5 m10 s8 (Or.inr ⟨by rw [s7, if_neg hxy], rfl⟩) (fun _ _ => br_t hh (rw_endH rfl er2 rfl rfl s1 (Or.inr ⟨hxy, rfl⟩)))
  · have q17 : d17 1 = 1 := by rw [o15, if_neg hh]
    refine rw_fits (c := 1) (by decide) (by decide) o7 o9 o6 o8 o14 m10 q17 (fun e => absurd e (by decide)) (fun _ e19 e20 => ?_) (Or.inr rfl)
    refine rw_stepM m10 o7 o6 o9 o8 q17 o16 (fun f19 f20 => ?_)
    refine rw_symbol (c := 1) (by decide) (by decide) o7 o9 o6 o8 o14 (fun g19 g20 => ?_)
    exact rw_redex (c := 1) (r := 0) (by decide) (by decide) o7 o9 o6 o8 m10 o16 (Or.inr ⟨q17, rfl⟩) (fun _ _ => br_f hh (rw_endM rfl er2 rfl rfl o4 rfl))
theorem rw_cell {post : Int32 → Prop} {L : Nat} {xs : Nat → Int32} (k : Nat) (hL : L ≤ 3) (hk : k < 3) (H : ∀ v, post v) : wpL_cellAt post L xs () (nI k) :=
  pk_le L k (fun _ => H _) (fun h => ⟨pk_in k L h, H _⟩)
theorem i_vc (xs : Nat → Int32) (L : Nat) (hL : L ≤ 3) : wpL_law (fun r => r = 1) L xs :=
  rw_cell 0 hL (by decide) (fun v0 => rw_cell 1 hL (by decide) (fun v1 => rw_cell 2 hL (by decide) (fun v2 => ⟨22, 1033, by decide, by decide, rw_lawOf v0 v1 v2⟩)))
end
