section
/-- a closed range check -/
theorem bf_in {x : Int32} {n : Nat} (h : ¬ (x < 0 ∨ n ≤ x.toNatClampNeg)) : vp_in x n := h
section
variable {post : Int32 → Prop} {n fa gr v p : Int32} {a1 a2 a3 a4 a5 a7 : Nat → Int32} {a6 : Nat → Int64}
theorem bf_good (h0 : ¬ v < 0) (h1 : ¬ n ≤ v) (h : post 1) : wpX_isGood post (n, fa, gr, a1, a2, a3, a4, a5, a6, a7) v :=
  br_f h0 (br_f h1 h)
/-- ones: the sum of seven bits -/
def bf_onL (x0 : Int32) : Nat → Int32 → Int32 → Int32
  | 0 => fun x1 _ => x1
  | n + 1 => fun x1 x2 => bf_onL x0 n (x1 + ((x0 >>> (x2 &&& 31)) &&& 1)) (x2 + 1)
def bf_on (x0 : Int32) : Int32 := bf_onL x0 7 0 0
theorem bf_onS {x0 : Int32} : ∀ (n i : Nat) (x1 x2 : Int32), i + n = 7 → x2 = nI i → post (bf_onL x0 n x1 x2) → wX_ones_4 post x0 (n + 1) x1 x2
  | 0, i, x1, x2, hi, hx, h => br_t (by rw [hx]; exact nI_le (a := 7) (by omega) (by omega)) h
  | n + 1, i, x1, x2, hi, hx, h =>
    br_f (by rw [hx]; exact nI_ge (b := 7) (by omega) (by decide)) (nm_e (nm_e (bf_onS n (i + 1) _ _ (by omega) (by rw [hx, nI_1]) h)))
theorem bf_ones (h : post (bf_on p)) : wpX_ones post () p := ⟨8, bf_onS 7 0 0 0 rfl rfl h⟩
/-- packed: the bits of x0 at the members of x1, moved together -/
def bf_pkL (x0 x1 : Int32) : Nat → Int32 → Int32 → Int32 → Int32
  | 0 => fun x2 _ _ => x2
  | n + 1 => fun x2 x3 x4 => if ((x1 >>> (x4 &&& 31)) &&& 1) = 1 then bf_pkL x0 x1 n (x2 ||| (((x0 >>> (x4 &&& 31)) &&& 1) <<< (x3 &&& 31))) (x3 + 1) (x4 + 1) else bf_pkL x0 x1 n x2 x3 (x4 + 1)
def bf_pk (x0 x1 : Int32) : Int32 := bf_pkL x0 x1 7 0 0 0
theorem bf_pkS {x0 x1 : Int32} : ∀ (n i : Nat) (x2 x3 x4 : Int32), i + n = 7 → x4 = nI i → post (bf_pkL x0 x1 n x2 x3 x4) → wX_packed_7 post x0 x1 (n + 1) x2 x3 x4
  | 0, i, x2, x3, x4, hi, hx, h => br_t (by rw [hx]; exact nI_le (a := 7) (by omega) (by omega)) h
  | n + 1, i, x2, x3, x4, hi, hx, h => by
    have hs : x4 + 1 = nI (i + 1) := by rw [hx, nI_1]
    refine br_f (by rw [hx]; exact nI_ge (b := 7) (by omega) (by decide)) (br_c (fun hc => ?_) (fun hc => ?_))
    · simp only [bf_pkL, if_pos hc] at h
      exact nm_e (nm_e (nm_e (bf_pkS n (i + 1) _ _ _ (by omega) hs h)))
    · simp only [bf_pkL, if_neg hc] at h
      exact nm_e (bf_pkS n (i + 1) _ _ _ (by omega) hs h)
theorem bf_packed {x0 x1 : Int32} (h : post (bf_pk x0 x1)) : wpX_packed post () x0 x1 := ⟨8, bf_pkS 7 0 0 0 0 rfl rfl h⟩
/-- entryFor: one read of the entries -/
theorem bf_entry (k : Nat) (s : Int32) (i : Nat) (hc : v = nI k ∧ k < 7 ∧ ((16 * v) + (2 * bf_pk p s)) + ((p >>> (v &&& 31)) &&& 1) = nI i ∧ i < 112) (h1 : a1 k = s) (h : post (a2 i)) :
    wpX_entryFor post (n, fa, gr, a1, a2, a3, a4, a5, a6, a7) v p := by
  obtain ⟨hk, hk7, hi, hi2⟩ := hc
  have hcl : v.toNatClampNeg = k := by rw [hk]; exact nI_clamp (by omega)
  unfold wpX_entryFor
  dsimp only
  rw [hcl, h1]
  refine ⟨pk_in k 7 hk7 hk, bf_packed ?_⟩
  rw [hi, nI_clamp (by omega)]
  exact ⟨vp_in_nI hi2 (by decide), h⟩
end
end
section
section
variable {post : St2 → Prop} {n fa gr v op st sc x5 x6 : Int32} {a1 a2 a3 a4 a5 a7 : Nat → Int32} {a6 : Nat → Int64} {m : Nat}
/-- makeTable's loop, a turn that isn't the last -/
theorem bf_mtS (k : Nat) (s : Int32) (i j : Nat) (x5' x6' : Int32)
    (hc : v = nI k ∧ k < 7 ∧ ¬ 128 ≤ x6 ∧ ((16 * v) + (2 * bf_pk (x5 ||| st) s)) + (((x5 ||| st) >>> (v &&& 31)) &&& 1) = nI i ∧ i < 112 ∧ (128 * fa) + bf_pk x5 sc = nI j ∧ j < 1920 ∧ ¬ x5 = sc ∧ (x5 - sc) &&& sc = x5' ∧ x6 + 1 = x6')
    (h1 : a1 k = s) (H : wX_makeTable_41 post v st sc n fa gr m x5' x6' a1 a2 a3 a4 a5 (vp_updL a6 j (a2 i).toInt64) a7) :
    wX_makeTable_41 post v st sc n fa gr (m + 1) x5 x6 a1 a2 a3 a4 a5 a6 a7 := by
  obtain ⟨c1, c2, c3, c4, c5, c6, c7, c8, c9, c10⟩ := hc
  refine br_f c3 (bf_packed (bf_entry k s i ⟨c1, c2, c4, c5⟩ h1 ?_))
  rw [c6, nI_clamp (by omega)]
  exact ⟨vp_in_nI c7 (by decide), nm_e (br_f c8 (nm_r c9 (nm_r c10 H)))⟩
/-- its last turn -/
theorem bf_mtL (k : Nat) (s : Int32) (i j : Nat) (fa' : Int32)
    (hc : v = nI k ∧ k < 7 ∧ ¬ 128 ≤ x6 ∧ ((16 * v) + (2 * bf_pk (x5 ||| st) s)) + (((x5 ||| st) >>> (v &&& 31)) &&& 1) = nI i ∧ i < 112 ∧ (128 * fa) + bf_pk x5 sc = nI j ∧ j < 1920 ∧ x5 = sc ∧ fa + 1 = fa')
    (h1 : a1 k = s) (H : post (n, fa', gr, a1, a2, a3, a4, a5, vp_updL a6 j (a2 i).toInt64, a7)) :
    wX_makeTable_41 post v st sc n fa gr (m + 1) x5 x6 a1 a2 a3 a4 a5 a6 a7 := by
  obtain ⟨c1, c2, c3, c4, c5, c6, c7, c8, c9⟩ := hc
  refine br_f c3 (bf_packed (bf_entry k s i ⟨c1, c2, c4, c5⟩ h1 ?_))
  rw [c6, nI_clamp (by omega)]
  exact ⟨vp_in_nI c7 (by decide), nm_e (br_t c8 (nm_r c9 H))⟩
theorem bf_mk (k q : Nat) (s sc : Int32) (hc : v = nI k ∧ k < 7 ∧ (s ||| ((1 : Int32) <<< (v &&& 31))) &&& op = sc ∧ fa = nI q ∧ q < 15) (h1 : a1 k = s)
    (H : ∃ m, wX_makeTable_41 post v st sc n fa gr m 0 0 a1 a2 a3 a4 (upd a5 q sc) a6 (upd a7 q 1)) :
    wpX_makeTable post (n, fa, gr, a1, a2, a3, a4, a5, a6, a7) v op st := by
  obtain ⟨c1, c2, c3, c4, c5⟩ := hc
  have hcl : v.toNatClampNeg = k := by rw [c1]; exact nI_clamp (by omega)
  have hq : fa.toNatClampNeg = q := by rw [c4]; exact nI_clamp (by omega)
  unfold wpX_makeTable
  dsimp only
  rw [hcl, h1, hq]
  exact ⟨pk_in k 7 c2 c1, nm_r c3 ⟨pk_in q 15 c5 c4, nm_e ⟨pk_in q 15 c5 c4, nm_e H⟩⟩⟩
end
section
variable {post : St2 → Prop} {n gr : Int32} {a1 a2 a3 a4 a5 a7 : Nat → Int32} {a6 : Nat → Int64}
/-- table 0, variable 0 held fast -/
theorem bf_t0c (op st : Int32) (hc : (op = 2 ∧ st = 0) ∨ (op = 0 ∧ st = 0) ∨ (op = 0 ∧ st = 2)) (p0 : a1 0 = 0)
    (H : post (n, 1, gr, a1, a2, a3, a4, upd a5 0 0, vp_updL a6 0 (a2 0).toInt64, upd a7 0 1)) :
    wpX_makeTable post (n, 0, gr, a1, a2, a3, a4, a5, a6, a7) 0 op st := by
  rcases hc with ⟨rfl, rfl⟩ | ⟨rfl, rfl⟩ | ⟨rfl, rfl⟩
  · exact bf_mk 0 0 0 0 (by decide +kernel) p0 ⟨1, bf_mtL 0 0 0 0 1 (by decide +kernel) p0 H⟩
  · exact bf_mk 0 0 0 0 (by decide +kernel) p0 ⟨1, bf_mtL 0 0 0 0 1 (by decide +kernel) p0 H⟩
  · exact bf_mk 0 0 0 0 (by decide +kernel) p0 ⟨1, bf_mtL 0 0 0 0 1 (by decide +kernel) p0 H⟩
/-- table 0, variable 0 free -/
theorem bf_t0o (op st : Int32) (hc : (op = 3 ∧ st = 0) ∨ (op = 1 ∧ st = 0) ∨ (op = 1 ∧ st = 2)) (p0 : a1 0 = 0)
    (H : post (n, 1, gr, a1, a2, a3, a4, upd a5 0 1, vp_updL (vp_updL a6 0 (a2 0).toInt64) 1 (a2 1).toInt64, upd a7 0 1)) :
    wpX_makeTable post (n, 0, gr, a1, a2, a3, a4, a5, a6, a7) 0 op st := by
  rcases hc with ⟨rfl, rfl⟩ | ⟨rfl, rfl⟩ | ⟨rfl, rfl⟩
  · exact bf_mk 0 0 0 1 (by decide +kernel) p0 ⟨2, bf_mtS 0 0 0 0 1 1 (by decide +kernel) p0 (bf_mtL 0 0 1 1 1 (by decide +kernel) p0 H)⟩
  · exact bf_mk 0 0 0 1 (by decide +kernel) p0 ⟨2, bf_mtS 0 0 0 0 1 1 (by decide +kernel) p0 (bf_mtL 0 0 1 1 1 (by decide +kernel) p0 H)⟩
  · exact bf_mk 0 0 0 1 (by decide +kernel) p0 ⟨2, bf_mtS 0 0 0 0 1 1 (by decide +kernel) p0 (bf_mtL 0 0 1 1 1 (by decide +kernel) p0 H)⟩
/-- table 1 by its two masks -/
theorem bf_t1_20 (p1 : a1 1 = 1)
    (H : post (n, 2, gr, a1, a2, a3, a4, upd a5 1 2, vp_updL (vp_updL a6 128 (a2 16).toInt64) 129 (a2 17).toInt64, upd a7 1 1)) :
    wpX_makeTable post (n, 1, gr, a1, a2, a3, a4, a5, a6, a7) 1 2 0 :=
  bf_mk 1 1 1 2 (by decide +kernel) p1 ⟨2, bf_mtS 1 1 16 128 2 1 (by decide +kernel) p1 (bf_mtL 1 1 17 129 2 (by decide +kernel) p1 H)⟩
theorem bf_t1_00 (p1 : a1 1 = 1)
    (H : post (n, 2, gr, a1, a2, a3, a4, upd a5 1 0, vp_updL a6 128 (a2 16).toInt64, upd a7 1 1)) :
    wpX_makeTable post (n, 1, gr, a1, a2, a3, a4, a5, a6, a7) 1 0 0 :=
  bf_mk 1 1 1 0 (by decide +kernel) p1 ⟨1, bf_mtL 1 1 16 128 2 (by decide +kernel) p1 H⟩
theorem bf_t1_02 (p1 : a1 1 = 1)
    (H : post (n, 2, gr, a1, a2, a3, a4, upd a5 1 0, vp_updL a6 128 (a2 17).toInt64, upd a7 1 1)) :
    wpX_makeTable post (n, 1, gr, a1, a2, a3, a4, a5, a6, a7) 1 0 2 :=
  bf_mk 1 1 1 0 (by decide +kernel) p1 ⟨1, bf_mtL 1 1 17 128 2 (by decide +kernel) p1 H⟩
theorem bf_t1_30 (p1 : a1 1 = 1)
    (H : post (n, 2, gr, a1, a2, a3, a4, upd a5 1 3, vp_updL (vp_updL (vp_updL (vp_updL a6 128 (a2 16).toInt64) 129 (a2 18).toInt64) 130 (a2 17).toInt64) 131 (a2 19).toInt64, upd a7 1 1)) :
    wpX_makeTable post (n, 1, gr, a1, a2, a3, a4, a5, a6, a7) 1 3 0 :=
  bf_mk 1 1 1 3 (by decide +kernel) p1 ⟨4, bf_mtS 1 1 16 128 1 1 (by decide +kernel) p1 (bf_mtS 1 1 18 129 2 2 (by decide +kernel) p1 (bf_mtS 1 1 17 130 3 3 (by decide +kernel) p1 (bf_mtL 1 1 19 131 2 (by decide +kernel) p1 H)))⟩
theorem bf_t1_10 (p1 : a1 1 = 1)
    (H : post (n, 2, gr, a1, a2, a3, a4, upd a5 1 1, vp_updL (vp_updL a6 128 (a2 16).toInt64) 129 (a2 18).toInt64, upd a7 1 1)) :
    wpX_makeTable post (n, 1, gr, a1, a2, a3, a4, a5, a6, a7) 1 1 0 :=
  bf_mk 1 1 1 1 (by decide +kernel) p1 ⟨2, bf_mtS 1 1 16 128 1 1 (by decide +kernel) p1 (bf_mtL 1 1 18 129 2 (by decide +kernel) p1 H)⟩
theorem bf_t1_12 (p1 : a1 1 = 1)
    (H : post (n, 2, gr, a1, a2, a3, a4, upd a5 1 1, vp_updL (vp_updL a6 128 (a2 17).toInt64) 129 (a2 19).toInt64, upd a7 1 1)) :
    wpX_makeTable post (n, 1, gr, a1, a2, a3, a4, a5, a6, a7) 1 1 2 :=
  bf_mk 1 1 1 1 (by decide +kernel) p1 ⟨2, bf_mtS 1 1 17 128 1 1 (by decide +kernel) p1 (bf_mtL 1 1 19 129 2 (by decide +kernel) p1 H)⟩
end
end
section
section
variable {post : Int32 → Prop} {n fa gr v x2 x3 : Int32} {a1 a2 a3 a4 a5 a7 : Nat → Int32} {a6 : Nat → Int64} {m : Nat}
/-- jointScope's loop: a factor in use that has the variable; one that hasn't; one not in use; the end -/
theorem bf_jsT (f : Nat) (s x2' x3' : Int32) (hc : ¬ fa ≤ x3 ∧ x3 = nI f ∧ f < 15 ∧ ((s >>> (v &&& 31)) &&& 1) = 1 ∧ x2 ||| s = x2' ∧ x3 + 1 = x3') (h7 : a7 f = 1) (h5 : a5 f = s)
    (H : wX_jointScope_4 post v n fa gr a1 a2 a3 a4 a5 a6 a7 m x2' x3') : wX_jointScope_4 post v n fa gr a1 a2 a3 a4 a5 a6 a7 (m + 1) x2 x3 := by
  obtain ⟨c1, c2, c3, c4, c5, c6⟩ := hc
  have hcl : x3.toNatClampNeg = f := by rw [c2]; exact nI_clamp (by omega)
  unfold wX_jointScope_4
  rw [hcl, h7, h5]
  exact br_f c1 ⟨pk_in f 15 c3 c2, br_f (by decide) ⟨pk_in f 15 c3 c2, br_t c4 ⟨pk_in f 15 c3 c2, nm_r c5 (nm_r c6 H)⟩⟩⟩
theorem bf_jsS (f : Nat) (s x3' : Int32) (hc : ¬ fa ≤ x3 ∧ x3 = nI f ∧ f < 15 ∧ ¬ ((s >>> (v &&& 31)) &&& 1) = 1 ∧ x3 + 1 = x3') (h7 : a7 f = 1) (h5 : a5 f = s)
    (H : wX_jointScope_4 post v n fa gr a1 a2 a3 a4 a5 a6 a7 m x2 x3') : wX_jointScope_4 post v n fa gr a1 a2 a3 a4 a5 a6 a7 (m + 1) x2 x3 := by
  obtain ⟨c1, c2, c3, c4, c6⟩ := hc
  have hcl : x3.toNatClampNeg = f := by rw [c2]; exact nI_clamp (by omega)
  unfold wX_jointScope_4
  rw [hcl, h7, h5]
  exact br_f c1 ⟨pk_in f 15 c3 c2, br_f (by decide) ⟨pk_in f 15 c3 c2, br_f c4 (nm_r c6 H)⟩⟩
theorem bf_jsU (f : Nat) (x3' : Int32) (hc : ¬ fa ≤ x3 ∧ x3 = nI f ∧ f < 15 ∧ x3 + 1 = x3') (h7 : a7 f = 0)
    (H : wX_jointScope_4 post v n fa gr a1 a2 a3 a4 a5 a6 a7 m x2 x3') : wX_jointScope_4 post v n fa gr a1 a2 a3 a4 a5 a6 a7 (m + 1) x2 x3 := by
  obtain ⟨c1, c2, c3, c6⟩ := hc
  have hcl : x3.toNatClampNeg = f := by rw [c2]; exact nI_clamp (by omega)
  unfold wX_jointScope_4
  rw [hcl, h7]
  exact br_f c1 ⟨pk_in f 15 c3 c2, br_t rfl (nm_r c6 H)⟩
theorem bf_jsE (hc : fa ≤ x3) (H : post x2) : wX_jointScope_4 post v n fa gr a1 a2 a3 a4 a5 a6 a7 (m + 1) x2 x3 := br_t hc H
theorem bf_js (H : ∃ m, wX_jointScope_4 post v n fa gr a1 a2 a3 a4 a5 a6 a7 m 0 0) : wpX_jointScope post (n, fa, gr, a1, a2, a3, a4, a5, a6, a7) v := H
end
section
variable {post : Int32 → Prop} {n fa gr op x2 x3 x4 : Int32} {a1 a2 a3 a4 a5 a7 : Nat → Int32} {a6 : Nat → Int64} {m : Nat}
/-- cheapest's loop: the first candidate; a later one that isn't smaller; not a candidate; the end -/
theorem bf_chF (js x3' x4' : Int32) (hc : ¬ n ≤ x4 ∧ ((op >>> (x4 &&& 31)) &&& 1) = 1 ∧ x2 < 0 ∧ bf_on js = x3' ∧ x4 + 1 = x4')
    (J : ∀ ψ : Int32 → Prop, ψ js → wpX_jointScope ψ (n, fa, gr, a1, a2, a3, a4, a5, a6, a7) x4)
    (H : wX_cheapest_7 post op n fa gr a1 a2 a3 a4 a5 a6 a7 m x4 x3' x4') : wX_cheapest_7 post op n fa gr a1 a2 a3 a4 a5 a6 a7 (m + 1) x2 x3 x4 := by
  obtain ⟨c1, c2, c3, c4, c5⟩ := hc
  refine br_f c1 (br_t c2 (J _ (bf_ones ?_)))
  rw [c4]
  exact br_t c3 (nm_r c5 H)
theorem bf_chK (js x4' : Int32) (hc : ¬ n ≤ x4 ∧ ((op >>> (x4 &&& 31)) &&& 1) = 1 ∧ ¬ x2 < 0 ∧ x3 ≤ bf_on js ∧ x4 + 1 = x4')
    (J : ∀ ψ : Int32 → Prop, ψ js → wpX_jointScope ψ (n, fa, gr, a1, a2, a3, a4, a5, a6, a7) x4)
    (H : wX_cheapest_7 post op n fa gr a1 a2 a3 a4 a5 a6 a7 m x2 x3 x4') : wX_cheapest_7 post op n fa gr a1 a2 a3 a4 a5 a6 a7 (m + 1) x2 x3 x4 := by
  obtain ⟨c1, c2, c3, c4, c5⟩ := hc
  exact br_f c1 (br_t c2 (J _ (bf_ones (br_f c3 (br_t c4 (nm_r c5 H))))))
theorem bf_chN (x4' : Int32) (hc : ¬ n ≤ x4 ∧ ¬ ((op >>> (x4 &&& 31)) &&& 1) = 1 ∧ x4 + 1 = x4')
    (H : wX_cheapest_7 post op n fa gr a1 a2 a3 a4 a5 a6 a7 m x2 x3 x4') : wX_cheapest_7 post op n fa gr a1 a2 a3 a4 a5 a6 a7 (m + 1) x2 x3 x4 :=
  br_f hc.1 (br_f hc.2.1 (nm_r hc.2.2 H))
theorem bf_chE (hc : n ≤ x4) (H : post x2) : wX_cheapest_7 post op n fa gr a1 a2 a3 a4 a5 a6 a7 (m + 1) x2 x3 x4 := br_t hc H
theorem bf_ch (H : ∃ m, wX_cheapest_7 post op n fa gr a1 a2 a3 a4 a5 a6 a7 m (-1) 0 0) : wpX_cheapest post (n, fa, gr, a1, a2, a3, a4, a5, a6, a7) op := H
end
section
variable {post : Int64 → Prop} {n fa gr v nu x5 : Int32} {x : Int64} {a1 a2 a3 a4 a5 a7 : Nat → Int32} {a6 : Nat → Int64} {m : Nat}
/-- joined's loop -/
theorem bf_jT (f : Nat) (s : Int32) (r : Nat) (y : Int64) (x5' : Int32) (hc : ¬ fa ≤ x5 ∧ x5 = nI f ∧ f < 15 ∧ ((s >>> (v &&& 31)) &&& 1) = 1 ∧ (128 * x5) + bf_pk nu s = nI r ∧ r < 1920 ∧ x5 + 1 = x5') (h7 : a7 f = 1) (h5 : a5 f = s) (h6 : a6 r = y)
    (H : wX_joined_5 post v nu n fa gr a1 a2 a3 a4 a5 a6 a7 m (x * y) x5') : wX_joined_5 post v nu n fa gr a1 a2 a3 a4 a5 a6 a7 (m + 1) x x5 := by
  obtain ⟨c1, c2, c3, c4, c5, c6, c7⟩ := hc
  have hcl : x5.toNatClampNeg = f := by rw [c2]; exact nI_clamp (by omega)
  unfold wX_joined_5
  rw [hcl, h7, h5]
  refine br_f c1 ⟨pk_in f 15 c3 c2, br_f (by decide) ⟨pk_in f 15 c3 c2, br_t c4 ⟨pk_in f 15 c3 c2, bf_packed ?_⟩⟩⟩
  rw [c5, nI_clamp (by omega), h6]
  exact ⟨vp_in_nI c6 (by decide), nm_e (nm_r c7 H)⟩
theorem bf_jS (f : Nat) (s x5' : Int32) (hc : ¬ fa ≤ x5 ∧ x5 = nI f ∧ f < 15 ∧ ¬ ((s >>> (v &&& 31)) &&& 1) = 1 ∧ x5 + 1 = x5') (h7 : a7 f = 1) (h5 : a5 f = s)
    (H : wX_joined_5 post v nu n fa gr a1 a2 a3 a4 a5 a6 a7 m x x5') : wX_joined_5 post v nu n fa gr a1 a2 a3 a4 a5 a6 a7 (m + 1) x x5 := by
  obtain ⟨c1, c2, c3, c4, c7⟩ := hc
  have hcl : x5.toNatClampNeg = f := by rw [c2]; exact nI_clamp (by omega)
  unfold wX_joined_5
  rw [hcl, h7, h5]
  exact br_f c1 ⟨pk_in f 15 c3 c2, br_f (by decide) ⟨pk_in f 15 c3 c2, br_f c4 (nm_r c7 H)⟩⟩
theorem bf_jU (f : Nat) (x5' : Int32) (hc : ¬ fa ≤ x5 ∧ x5 = nI f ∧ f < 15 ∧ x5 + 1 = x5') (h7 : a7 f = 0)
    (H : wX_joined_5 post v nu n fa gr a1 a2 a3 a4 a5 a6 a7 m x x5') : wX_joined_5 post v nu n fa gr a1 a2 a3 a4 a5 a6 a7 (m + 1) x x5 := by
  obtain ⟨c1, c2, c3, c7⟩ := hc
  have hcl : x5.toNatClampNeg = f := by rw [c2]; exact nI_clamp (by omega)
  unfold wX_joined_5
  rw [hcl, h7]
  exact br_f c1 ⟨pk_in f 15 c3 c2, br_t rfl (nm_r c7 H)⟩
theorem bf_jE (hc : fa ≤ x5) (H : post x) : wX_joined_5 post v nu n fa gr a1 a2 a3 a4 a5 a6 a7 (m + 1) x x5 := br_t hc H
theorem bf_jn (H : ∃ m, wX_joined_5 post v nu n fa gr a1 a2 a3 a4 a5 a6 a7 m 1 0) : wpX_joined post (n, fa, gr, a1, a2, a3, a4, a5, a6, a7) v nu := H
end
section
variable {post : St2 → Prop} {n fa gr v sc bit x4 x5 : Int32} {a1 a2 a3 a4 a5 a7 : Nat → Int32} {a6 : Nat → Int64} {m : Nat}
/-- takeOut's second loop: the factors with the variable go out of use -/
theorem bf_ooT (f : Nat) (s x5' : Int32) (hc : ¬ fa ≤ x5 ∧ x5 = nI f ∧ f < 15 ∧ ((s >>> (v &&& 31)) &&& 1) = 1 ∧ x5 + 1 = x5') (h5 : a5 f = s)
    (H : wX_takeOut_131 post v sc n fa gr m x5' a1 a2 a3 a4 a5 a6 (upd a7 f 0)) : wX_takeOut_131 post v sc n fa gr (m + 1) x5 a1 a2 a3 a4 a5 a6 a7 := by
  obtain ⟨c1, c2, c3, c4, c5⟩ := hc
  have hcl : x5.toNatClampNeg = f := by rw [c2]; exact nI_clamp (by omega)
  unfold wX_takeOut_131
  rw [hcl, h5]
  exact br_f c1 ⟨pk_in f 15 c3 c2, br_t c4 ⟨pk_in f 15 c3 c2, nm_e (nm_r c5 H)⟩⟩
theorem bf_ooS (f : Nat) (s x5' : Int32) (hc : ¬ fa ≤ x5 ∧ x5 = nI f ∧ f < 15 ∧ ¬ ((s >>> (v &&& 31)) &&& 1) = 1 ∧ x5 + 1 = x5') (h5 : a5 f = s)
    (H : wX_takeOut_131 post v sc n fa gr m x5' a1 a2 a3 a4 a5 a6 a7) : wX_takeOut_131 post v sc n fa gr (m + 1) x5 a1 a2 a3 a4 a5 a6 a7 := by
  obtain ⟨c1, c2, c3, c4, c5⟩ := hc
  have hcl : x5.toNatClampNeg = f := by rw [c2]; exact nI_clamp (by omega)
  unfold wX_takeOut_131
  rw [hcl, h5]
  exact br_f c1 ⟨pk_in f 15 c3 c2, br_f c4 (nm_r c5 H)⟩
theorem bf_ooE (q : Nat) (fa' : Int32) (hc : fa ≤ x5 ∧ fa = nI q ∧ q < 15 ∧ fa + 1 = fa')
    (H : post (n, fa', gr, a1, a2, a3, a4, upd a5 q sc, a6, upd a7 q 1)) : wX_takeOut_131 post v sc n fa gr (m + 1) x5 a1 a2 a3 a4 a5 a6 a7 := by
  obtain ⟨c1, c2, c3, c4⟩ := hc
  have hcl : fa.toNatClampNeg = q := by rw [c2]; exact nI_clamp (by omega)
  unfold wX_takeOut_131
  rw [hcl]
  exact br_t c1 ⟨pk_in q 15 c3 c2, nm_e ⟨pk_in q 15 c3 c2, nm_e (nm_r c4 H)⟩⟩
/-- takeOut's first loop: a turn, the last turn -/
theorem bf_toS (y1 y2 : Int64) (j : Nat) (x4' x5' : Int32) (hc : ¬ 128 ≤ x5 ∧ (128 * fa) + bf_pk x4 sc = nI j ∧ j < 1920 ∧ ¬ x4 = sc ∧ (x4 - sc) &&& sc = x4' ∧ x5 + 1 = x5')
    (J1 : ∀ ψ : Int64 → Prop, ψ y1 → wpX_joined ψ (n, fa, 0, a1, a2, a3, a4, a5, a6, a7) v x4)
    (J2 : ∀ ψ : Int64 → Prop, ψ y2 → wpX_joined ψ (n, fa, 0, a1, a2, a3, a4, a5, a6, a7) v (x4 ||| bit))
    (H : wX_takeOut_20 post v bit sc n fa 0 m x4' x5' a1 a2 a3 a4 a5 (vp_updL a6 j (y1 + y2)) a7) :
    wX_takeOut_20 post v bit sc n fa 0 (m + 1) x4 x5 a1 a2 a3 a4 a5 a6 a7 := by
  obtain ⟨c1, c2, c3, c4, c5, c6⟩ := hc
  refine br_f c1 (J1 _ (J2 _ (nm_e (br_t rfl ?_))))
  unfold wX_takeOut_79
  refine bf_packed ?_
  rw [c2, nI_clamp (by omega)]
  exact ⟨vp_in_nI c3 (by decide), nm_e (br_f c4 (nm_r c5 (nm_r c6 H)))⟩
theorem bf_toL (y1 y2 : Int64) (j : Nat) (hc : ¬ 128 ≤ x5 ∧ (128 * fa) + bf_pk x4 sc = nI j ∧ j < 1920 ∧ x4 = sc)
    (J1 : ∀ ψ : Int64 → Prop, ψ y1 → wpX_joined ψ (n, fa, 0, a1, a2, a3, a4, a5, a6, a7) v x4)
    (J2 : ∀ ψ : Int64 → Prop, ψ y2 → wpX_joined ψ (n, fa, 0, a1, a2, a3, a4, a5, a6, a7) v (x4 ||| bit))
    (H : ∃ k, wX_takeOut_131 post v sc n fa 0 k 0 a1 a2 a3 a4 a5 (vp_updL a6 j (y1 + y2)) a7) :
    wX_takeOut_20 post v bit sc n fa 0 (m + 1) x4 x5 a1 a2 a3 a4 a5 a6 a7 := by
  obtain ⟨c1, c2, c3, c4⟩ := hc
  refine br_f c1 (J1 _ (J2 _ (nm_e (br_t rfl ?_))))
  unfold wX_takeOut_79
  refine bf_packed ?_
  rw [c2, nI_clamp (by omega)]
  exact ⟨vp_in_nI c3 (by decide), nm_e (br_t c4 H)⟩
theorem bf_to (bit js sc : Int32) (hc : (1 : Int32) <<< (v &&& 31) = bit ∧ js &&& (bit ^^^ (-1)) = sc)
    (J : ∀ ψ : Int32 → Prop, ψ js → wpX_jointScope ψ (n, fa, gr, a1, a2, a3, a4, a5, a6, a7) v)
    (H : ∃ m, wX_takeOut_20 post v bit sc n fa gr m 0 0 a1 a2 a3 a4 a5 a6 a7) : wpX_takeOut post (n, fa, gr, a1, a2, a3, a4, a5, a6, a7) v :=
  nm_r hc.1 (J _ (nm_r hc.2 H))
end
end
section
section
variable {ψ : Int32 → Prop} {n gr : Int32} {a1 a2 a3 a4 a5 a7 : Nat → Int32} {a6 : Nat → Int64}
/-- jointScope in the states that occur -/
theorem bf_jsA (q0 : a5 0 = 0) (q1 : a5 1 = 2) (u0 : a7 0 = 1) (u1 : a7 1 = 1) (h : ψ 2) : wpX_jointScope ψ (n, 2, gr, a1, a2, a3, a4, a5, a6, a7) 1 :=
  bf_js ⟨3, bf_jsS 0 0 1 (by decide +kernel) u0 q0 (bf_jsT 1 2 2 2 (by decide +kernel) u1 q1 (bf_jsE (by decide) h))⟩
theorem bf_jsB0 (q0 : a5 0 = 1) (q1 : a5 1 = 3) (u0 : a7 0 = 1) (u1 : a7 1 = 1) (h : ψ 3) : wpX_jointScope ψ (n, 2, gr, a1, a2, a3, a4, a5, a6, a7) 0 :=
  bf_js ⟨3, bf_jsT 0 1 1 1 (by decide +kernel) u0 q0 (bf_jsT 1 3 3 2 (by decide +kernel) u1 q1 (bf_jsE (by decide) h))⟩
theorem bf_jsB1 (q0 : a5 0 = 1) (q1 : a5 1 = 3) (u0 : a7 0 = 1) (u1 : a7 1 = 1) (h : ψ 3) : wpX_jointScope ψ (n, 2, gr, a1, a2, a3, a4, a5, a6, a7) 1 :=
  bf_js ⟨3, bf_jsS 0 1 1 (by decide +kernel) u0 q0 (bf_jsT 1 3 3 2 (by decide +kernel) u1 q1 (bf_jsE (by decide) h))⟩
theorem bf_jsC (q2 : a5 2 = 2) (u0 : a7 0 = 0) (u1 : a7 1 = 0) (u2 : a7 2 = 1) (h : ψ 2) : wpX_jointScope ψ (n, 3, gr, a1, a2, a3, a4, a5, a6, a7) 1 :=
  bf_js ⟨4, bf_jsU 0 1 (by decide +kernel) u0 (bf_jsU 1 2 (by decide +kernel) u1 (bf_jsT 2 2 2 3 (by decide +kernel) u2 q2 (bf_jsE (by decide) h)))⟩
theorem bf_jsD (q0 : a5 0 = 1) (q1 : a5 1 = 1) (u0 : a7 0 = 1) (u1 : a7 1 = 1) (h : ψ 1) : wpX_jointScope ψ (n, 2, gr, a1, a2, a3, a4, a5, a6, a7) 0 :=
  bf_js ⟨3, bf_jsT 0 1 1 1 (by decide +kernel) u0 q0 (bf_jsT 1 1 1 2 (by decide +kernel) u1 q1 (bf_jsE (by decide) h))⟩
/-- cheapest in the states that occur -/
theorem bf_chA (q0 : a5 0 = 0) (q1 : a5 1 = 2) (u0 : a7 0 = 1) (u1 : a7 1 = 1) (h : ψ 1) : wpX_cheapest ψ (2, 2, gr, a1, a2, a3, a4, a5, a6, a7) 2 :=
  bf_ch ⟨3, bf_chN 1 (by decide +kernel) (bf_chF 2 1 2 (by decide +kernel) (fun _ h => bf_jsA q0 q1 u0 u1 h) (bf_chE (by decide) h))⟩
theorem bf_chB (q0 : a5 0 = 1) (q1 : a5 1 = 3) (u0 : a7 0 = 1) (u1 : a7 1 = 1) (h : ψ 0) : wpX_cheapest ψ (2, 2, gr, a1, a2, a3, a4, a5, a6, a7) 3 :=
  bf_ch ⟨3, bf_chF 3 2 1 (by decide +kernel) (fun _ h => bf_jsB0 q0 q1 u0 u1 h) (bf_chK 3 2 (by decide +kernel) (fun _ h => bf_jsB1 q0 q1 u0 u1 h) (bf_chE (by decide) h))⟩
theorem bf_chC (q2 : a5 2 = 2) (u0 : a7 0 = 0) (u1 : a7 1 = 0) (u2 : a7 2 = 1) (h : ψ 1) : wpX_cheapest ψ (2, 3, gr, a1, a2, a3, a4, a5, a6, a7) 2 :=
  bf_ch ⟨3, bf_chN 1 (by decide +kernel) (bf_chF 2 1 2 (by decide +kernel) (fun _ h => bf_jsC q2 u0 u1 u2 h) (bf_chE (by decide) h))⟩
theorem bf_chD (q0 : a5 0 = 1) (q1 : a5 1 = 1) (u0 : a7 0 = 1) (u1 : a7 1 = 1) (h : ψ 0) : wpX_cheapest ψ (2, 2, gr, a1, a2, a3, a4, a5, a6, a7) 1 :=
  bf_ch ⟨3, bf_chF 1 1 1 (by decide +kernel) (fun _ h => bf_jsD q0 q1 u0 u1 h) (bf_chN 2 (by decide +kernel) (bf_chE (by decide) h))⟩
end
section
variable {post : St2 → Prop} {n : Int32} {a1 a2 a3 a4 a5 a7 : Nat → Int32} {a6 : Nat → Int64}
/-- takeOut in the states that occur -/
theorem bf_oA (y1 y2 : Int64) (q0 : a5 0 = 0) (q1 : a5 1 = 2) (u0 : a7 0 = 1) (u1 : a7 1 = 1) (e1 : a6 128 = y1) (e2 : a6 129 = y2)
    (H : post (n, 3, 0, a1, a2, a3, a4, upd a5 2 0, vp_updL a6 256 (1 * y1 + 1 * y2), upd (upd a7 1 0) 2 1)) :
    wpX_takeOut post (n, 2, 0, a1, a2, a3, a4, a5, a6, a7) 1 :=
  bf_to 2 2 0 (by decide +kernel) (fun _ h => bf_jsA q0 q1 u0 u1 h)
    ⟨1, bf_toL (1 * y1) (1 * y2) 256 (by decide +kernel)
      (fun _ h => bf_jn ⟨3, bf_jS 0 0 1 (by decide +kernel) u0 q0 (bf_jT 1 2 128 y1 2 (by decide +kernel) u1 q1 e1 (bf_jE (by decide) h))⟩)
      (fun _ h => bf_jn ⟨3, bf_jS 0 0 1 (by decide +kernel) u0 q0 (bf_jT 1 2 129 y2 2 (by decide +kernel) u1 q1 e2 (bf_jE (by decide) h))⟩)
      ⟨3, bf_ooS 0 0 1 (by decide +kernel) q0 (bf_ooT 1 2 2 (by decide +kernel) q1 (bf_ooE 2 3 (by decide +kernel) H))⟩⟩
theorem bf_oB (A B C D E F : Int64) (q0 : a5 0 = 1) (q1 : a5 1 = 3) (u0 : a7 0 = 1) (u1 : a7 1 = 1)
    (eA : a6 0 = A) (eB : a6 1 = B) (eC : a6 128 = C) (eE : a6 129 = E) (eD : a6 130 = D) (eF : a6 131 = F)
    (H : post (n, 3, 0, a1, a2, a3, a4, upd a5 2 2, vp_updL (vp_updL a6 256 (1 * A * C + 1 * B * E)) 257 (1 * A * D + 1 * B * F), upd (upd (upd a7 0 0) 1 0) 2 1)) :
    wpX_takeOut post (n, 2, 0, a1, a2, a3, a4, a5, a6, a7) 0 :=
  bf_to 1 3 2 (by decide +kernel) (fun _ h => bf_jsB0 q0 q1 u0 u1 h)
    ⟨2, bf_toS (1 * A * C) (1 * B * E) 256 2 1 (by decide +kernel)
      (fun _ h => bf_jn ⟨3, bf_jT 0 1 0 A 1 (by decide +kernel) u0 q0 eA (bf_jT 1 3 128 C 2 (by decide +kernel) u1 q1 eC (bf_jE (by decide) h))⟩)
      (fun _ h => bf_jn ⟨3, bf_jT 0 1 1 B 1 (by decide +kernel) u0 q0 eB (bf_jT 1 3 129 E 2 (by decide +kernel) u1 q1 eE (bf_jE (by decide) h))⟩)
      (bf_toL (1 * A * D) (1 * B * F) 257 (by decide +kernel)
        (fun _ h => bf_jn ⟨3, bf_jT 0 1 0 A 1 (by decide +kernel) u0 q0 ((pk_uLn (by decide)).trans eA) (bf_jT 1 3 130 D 2 (by decide +kernel) u1 q1 ((pk_uLn (by decide)).trans eD) (bf_jE (by decide) h))⟩)
        (fun _ h => bf_jn ⟨3, bf_jT 0 1 1 B 1 (by decide +kernel) u0 q0 ((pk_uLn (by decide)).trans eB) (bf_jT 1 3 131 F 2 (by decide +kernel) u1 q1 ((pk_uLn (by decide)).trans eF) (bf_jE (by decide) h))⟩)
        ⟨3, bf_ooT 0 1 1 (by decide +kernel) q0 (bf_ooT 1 3 2 (by decide +kernel) q1 (bf_ooE 2 3 (by decide +kernel) H))⟩)⟩
theorem bf_oC (y1 y2 : Int64) (q0 : a5 0 = 1) (q1 : a5 1 = 3) (q2 : a5 2 = 2) (u0 : a7 0 = 0) (u1 : a7 1 = 0) (u2 : a7 2 = 1) (e1 : a6 256 = y1) (e2 : a6 257 = y2)
    (H : post (n, 4, 0, a1, a2, a3, a4, upd a5 3 0, vp_updL a6 384 (1 * y1 + 1 * y2), upd (upd (upd a7 1 0) 2 0) 3 1)) :
    wpX_takeOut post (n, 3, 0, a1, a2, a3, a4, a5, a6, a7) 1 :=
  bf_to 2 2 0 (by decide +kernel) (fun _ h => bf_jsC q2 u0 u1 u2 h)
    ⟨1, bf_toL (1 * y1) (1 * y2) 384 (by decide +kernel)
      (fun _ h => bf_jn ⟨4, bf_jU 0 1 (by decide +kernel) u0 (bf_jU 1 2 (by decide +kernel) u1 (bf_jT 2 2 256 y1 3 (by decide +kernel) u2 q2 e1 (bf_jE (by decide) h)))⟩)
      (fun _ h => bf_jn ⟨4, bf_jU 0 1 (by decide +kernel) u0 (bf_jU 1 2 (by decide +kernel) u1 (bf_jT 2 2 257 y2 3 (by decide +kernel) u2 q2 e2 (bf_jE (by decide) h)))⟩)
      ⟨4, bf_ooS 0 1 1 (by decide +kernel) q0 (bf_ooT 1 3 2 (by decide +kernel) q1 (bf_ooT 2 2 3 (by decide +kernel) q2 (bf_ooE 3 4 (by decide +kernel) H)))⟩⟩
theorem bf_oD (A B Y Z : Int64) (q0 : a5 0 = 1) (q1 : a5 1 = 1) (u0 : a7 0 = 1) (u1 : a7 1 = 1) (eA : a6 0 = A) (eB : a6 1 = B) (eY : a6 128 = Y) (eZ : a6 129 = Z)
    (H : post (n, 3, 0, a1, a2, a3, a4, upd a5 2 0, vp_updL a6 256 (1 * A * Y + 1 * B * Z), upd (upd (upd a7 0 0) 1 0) 2 1)) :
    wpX_takeOut post (n, 2, 0, a1, a2, a3, a4, a5, a6, a7) 0 :=
  bf_to 1 1 0 (by decide +kernel) (fun _ h => bf_jsD q0 q1 u0 u1 h)
    ⟨1, bf_toL (1 * A * Y) (1 * B * Z) 256 (by decide +kernel)
      (fun _ h => bf_jn ⟨3, bf_jT 0 1 0 A 1 (by decide +kernel) u0 q0 eA (bf_jT 1 1 128 Y 2 (by decide +kernel) u1 q1 eY (bf_jE (by decide) h))⟩)
      (fun _ h => bf_jn ⟨3, bf_jT 0 1 1 B 1 (by decide +kernel) u0 q0 eB (bf_jT 1 1 129 Z 2 (by decide +kernel) u1 q1 eZ (bf_jE (by decide) h))⟩)
      ⟨3, bf_ooT 0 1 1 (by decide +kernel) q0 (bf_ooT 1 1 2 (by decide +kernel) q1 (bf_ooE 2 3 (by decide +kernel) H))⟩⟩
end
section
variable {post : Int64 → St2 → Prop} {n fa gr x2 x3 x4 x6 : Int32} {x : Int64} {a1 a2 a3 a4 a5 a7 : Nat → Int32} {a6 : Nat → Int64} {m : Nat}
/-- solve's last loop: the product -/
theorem bf_pT (f r : Nat) (y : Int64) (x6' : Int32) (hc : ¬ fa ≤ x6 ∧ x6 = nI f ∧ f < 15 ∧ 128 * x6 = nI r ∧ r < 1920 ∧ x6 + 1 = x6') (h7 : a7 f = 1) (h6 : a6 r = y)
    (H : wX_solve_140 post n fa gr a1 a2 a3 a4 a5 a6 a7 m (x * y) x6') : wX_solve_140 post n fa gr a1 a2 a3 a4 a5 a6 a7 (m + 1) x x6 := by
  obtain ⟨c1, c2, c3, c4, c5, c6⟩ := hc
  have hcl : x6.toNatClampNeg = f := by rw [c2]; exact nI_clamp (by omega)
  have hcr : (128 * x6).toNatClampNeg = r := by rw [c4]; exact nI_clamp (by omega)
  unfold wX_solve_140
  rw [hcl, hcr, h7, h6]
  exact br_f c1 ⟨pk_in f 15 c3 c2, br_f (by decide) ⟨pk_in r 1920 c5 c4, nm_e (nm_r c6 H)⟩⟩
theorem bf_pU (f : Nat) (x6' : Int32) (hc : ¬ fa ≤ x6 ∧ x6 = nI f ∧ f < 15 ∧ x6 + 1 = x6') (h7 : a7 f = 0)
    (H : wX_solve_140 post n fa gr a1 a2 a3 a4 a5 a6 a7 m x x6') : wX_solve_140 post n fa gr a1 a2 a3 a4 a5 a6 a7 (m + 1) x x6 := by
  obtain ⟨c1, c2, c3, c6⟩ := hc
  have hcl : x6.toNatClampNeg = f := by rw [c2]; exact nI_clamp (by omega)
  unfold wX_solve_140
  rw [hcl, h7]
  exact br_f c1 ⟨pk_in f 15 c3 c2, br_t rfl (nm_r c6 H)⟩
theorem bf_pE (hc : fa ≤ x6) (H : post x (n, fa, gr, a1, a2, a3, a4, a5, a6, a7)) : wX_solve_140 post n fa gr a1 a2 a3 a4 a5 a6 a7 (m + 1) x x6 := br_t hc H
/-- solve's first loop: a free variable, a fixed one, the end -/
theorem bf_s12N (k : Nat) (x2' x4' : Int32) (hc : ¬ n ≤ x4 ∧ x4 = nI k ∧ k < 7 ∧ x2 ||| ((1 : Int32) <<< (x4 &&& 31)) = x2' ∧ x4 + 1 = x4') (h4 : a4 k = 2)
    (H : wX_solve_12 post n fa gr a1 a2 a3 a4 a5 a6 a7 m x2' x3 x4') : wX_solve_12 post n fa gr a1 a2 a3 a4 a5 a6 a7 (m + 1) x2 x3 x4 := by
  obtain ⟨c1, c2, c3, c4, c5⟩ := hc
  have hcl : x4.toNatClampNeg = k := by rw [c2]; exact nI_clamp (by omega)
  unfold wX_solve_12
  rw [hcl, h4]
  exact br_f c1 ⟨pk_in k 7 c3 c2, br_t rfl (nm_r c4 (nm_r c5 H))⟩
theorem bf_s12F (k : Nat) (y x3' x4' : Int32) (hc : ¬ n ≤ x4 ∧ x4 = nI k ∧ k < 7 ∧ ¬ y = 2 ∧ x3 ||| (y <<< (x4 &&& 31)) = x3' ∧ x4 + 1 = x4') (h4 : a4 k = y)
    (H : wX_solve_12 post n fa gr a1 a2 a3 a4 a5 a6 a7 m x2 x3' x4') : wX_solve_12 post n fa gr a1 a2 a3 a4 a5 a6 a7 (m + 1) x2 x3 x4 := by
  obtain ⟨c1, c2, c3, c4, c5, c6⟩ := hc
  have hcl : x4.toNatClampNeg = k := by rw [c2]; exact nI_clamp (by omega)
  unfold wX_solve_12
  rw [hcl, h4]
  exact br_f c1 ⟨pk_in k 7 c3 c2, br_f c4 ⟨pk_in k 7 c3 c2, nm_r c5 (nm_r c6 H)⟩⟩
theorem bf_s12E (hc : n ≤ x4) (H : ∃ k, wX_solve_69 post x2 x3 k 0 n 0 gr a1 a2 a3 a4 a5 a6 a7) : wX_solve_12 post n fa gr a1 a2 a3 a4 a5 a6 a7 (m + 1) x2 x3 x4 := br_t hc H
end
section
variable {post : Int64 → St2 → Prop} {fa gr : Int32} {a1 a2 a3 a4 a5 a7 : Nat → Int32} {a6 : Nat → Int64}
/-- solve, by what is fixed -/
theorem bf_s02 (p0 : a1 0 = 0) (p1 : a1 1 = 1) (f0 : a4 0 = 0) (f1 : a4 1 = 2)
    (H : ∀ fa a5 a6 a7, post (1 * (a2 0).toInt64 * (1 * (a2 16).toInt64 + 1 * (a2 17).toInt64)) (2, fa, 0, a1, a2, a3, a4, a5, a6, a7)) :
    wpX_solve post (2, fa, gr, a1, a2, a3, a4, a5, a6, a7) 0 := by
  refine ⟨rfl, rfl, 3, bf_s12F 0 0 0 1 (by decide +kernel) f0 (bf_s12N 1 2 2 (by decide +kernel) f1 (bf_s12E (by decide) ⟨3, ?_⟩))⟩
  refine br_f (by decide) (bf_t0c 2 0 (.inl ⟨rfl, rfl⟩) p0 (nm_r (e' := 1) (by decide) (br_f (by decide) (bf_t1_20 p1 (nm_r (e' := 2) (by decide) (br_t (by decide) ⟨2, ?_⟩))))))
  refine br_f (by decide) (br_f (by decide) (bf_chA (by rfl) (by rfl) (by rfl) (by rfl) (bf_oA (a2 16).toInt64 (a2 17).toInt64 (by rfl) (by rfl) (by rfl) (by rfl) (by rfl) (by rfl) (nm_r (e' := 0) (by decide) (nm_r (e' := 1) (by decide) (br_f (by decide) (br_t rfl ⟨4, ?_⟩)))))))
  exact bf_pT 0 0 (a2 0).toInt64 1 (by decide +kernel) (by rfl) (by rfl) (bf_pU 1 2 (by decide +kernel) (by rfl) (bf_pT 2 256 (1 * (a2 16).toInt64 + 1 * (a2 17).toInt64) 3 (by decide +kernel) (by rfl) (by rfl) (bf_pE (by decide) (H _ _ _ _))))
theorem bf_s00 (p0 : a1 0 = 0) (p1 : a1 1 = 1) (f0 : a4 0 = 0) (f1 : a4 1 = 0)
    (H : ∀ fa a5 a6 a7, post (1 * (a2 0).toInt64 * (a2 16).toInt64) (2, fa, 0, a1, a2, a3, a4, a5, a6, a7)) :
    wpX_solve post (2, fa, gr, a1, a2, a3, a4, a5, a6, a7) 0 := by
  refine ⟨rfl, rfl, 3, bf_s12F 0 0 0 1 (by decide +kernel) f0 (bf_s12F 1 0 0 2 (by decide +kernel) f1 (bf_s12E (by decide) ⟨3, ?_⟩))⟩
  refine br_f (by decide) (bf_t0c 0 0 (.inr (.inl ⟨rfl, rfl⟩)) p0 (nm_r (e' := 1) (by decide) (br_f (by decide) (bf_t1_00 p1 (nm_r (e' := 2) (by decide) (br_t (by decide) ⟨1, ?_⟩))))))
  refine br_f (by decide) (br_t rfl ⟨3, ?_⟩)
  exact bf_pT 0 0 (a2 0).toInt64 1 (by decide +kernel) (by rfl) (by rfl) (bf_pT 1 128 (a2 16).toInt64 2 (by decide +kernel) (by rfl) (by rfl) (bf_pE (by decide) (H _ _ _ _)))
theorem bf_s01 (p0 : a1 0 = 0) (p1 : a1 1 = 1) (f0 : a4 0 = 0) (f1 : a4 1 = 1)
    (H : ∀ fa a5 a6 a7, post (1 * (a2 0).toInt64 * (a2 17).toInt64) (2, fa, 0, a1, a2, a3, a4, a5, a6, a7)) :
    wpX_solve post (2, fa, gr, a1, a2, a3, a4, a5, a6, a7) 0 := by
  refine ⟨rfl, rfl, 3, bf_s12F 0 0 0 1 (by decide +kernel) f0 (bf_s12F 1 1 2 2 (by decide +kernel) f1 (bf_s12E (by decide) ⟨3, ?_⟩))⟩
  refine br_f (by decide) (bf_t0c 0 2 (.inr (.inr ⟨rfl, rfl⟩)) p0 (nm_r (e' := 1) (by decide) (br_f (by decide) (bf_t1_02 p1 (nm_r (e' := 2) (by decide) (br_t (by decide) ⟨1, ?_⟩))))))
  refine br_f (by decide) (br_t rfl ⟨3, ?_⟩)
  exact bf_pT 0 0 (a2 0).toInt64 1 (by decide +kernel) (by rfl) (by rfl) (bf_pT 1 128 (a2 17).toInt64 2 (by decide +kernel) (by rfl) (by rfl) (bf_pE (by decide) (H _ _ _ _)))
theorem bf_s22 (p0 : a1 0 = 0) (p1 : a1 1 = 1) (f0 : a4 0 = 2) (f1 : a4 1 = 2)
    (H : ∀ fa a5 a6 a7, post (1 * (1 * (1 * (a2 0).toInt64 * (a2 16).toInt64 + 1 * (a2 1).toInt64 * (a2 18).toInt64) + 1 * (1 * (a2 0).toInt64 * (a2 17).toInt64 + 1 * (a2 1).toInt64 * (a2 19).toInt64))) (2, fa, 0, a1, a2, a3, a4, a5, a6, a7)) :
    wpX_solve post (2, fa, gr, a1, a2, a3, a4, a5, a6, a7) 0 := by
  refine ⟨rfl, rfl, 3, bf_s12N 0 1 1 (by decide +kernel) f0 (bf_s12N 1 3 2 (by decide +kernel) f1 (bf_s12E (by decide) ⟨3, ?_⟩))⟩
  refine br_f (by decide) (bf_t0o 3 0 (.inl ⟨rfl, rfl⟩) p0 (nm_r (e' := 1) (by decide) (br_f (by decide) (bf_t1_30 p1 (nm_r (e' := 2) (by decide) (br_t (by decide) ⟨3, ?_⟩))))))
  refine br_f (by decide) (br_f (by decide) (bf_chB (by rfl) (by rfl) (by rfl) (by rfl) (bf_oB (a2 0).toInt64 (a2 1).toInt64 (a2 16).toInt64 (a2 17).toInt64 (a2 18).toInt64 (a2 19).toInt64 (by rfl) (by rfl) (by rfl) (by rfl) (by rfl) (by rfl) (by rfl) (by rfl) (by rfl) (by rfl) (nm_r (e' := 2) (by decide) (nm_r (e' := 1) (by decide) ?_)))))
  refine br_f (by decide) (br_f (by decide) (bf_chC (by rfl) (by rfl) (by rfl) (by rfl) (bf_oC (1 * (a2 0).toInt64 * (a2 16).toInt64 + 1 * (a2 1).toInt64 * (a2 18).toInt64) (1 * (a2 0).toInt64 * (a2 17).toInt64 + 1 * (a2 1).toInt64 * (a2 19).toInt64) (by rfl) (by rfl) (by rfl) (by rfl) (by rfl) (by rfl) (by rfl) (by rfl) (nm_r (e' := 0) (by decide) (nm_r (e' := 2) (by decide) (br_f (by decide) (br_t rfl ⟨5, ?_⟩)))))))
  exact bf_pU 0 1 (by decide +kernel) (by rfl) (bf_pU 1 2 (by decide +kernel) (by rfl) (bf_pU 2 3 (by decide +kernel) (by rfl) (bf_pT 3 384 (1 * (1 * (a2 0).toInt64 * (a2 16).toInt64 + 1 * (a2 1).toInt64 * (a2 18).toInt64) + 1 * (1 * (a2 0).toInt64 * (a2 17).toInt64 + 1 * (a2 1).toInt64 * (a2 19).toInt64)) 4 (by decide +kernel) (by rfl) (by rfl) (bf_pE (by decide) (H _ _ _ _)))))
theorem bf_s20 (p0 : a1 0 = 0) (p1 : a1 1 = 1) (f0 : a4 0 = 2) (f1 : a4 1 = 0)
    (H : ∀ fa a5 a6 a7, post (1 * (1 * (a2 0).toInt64 * (a2 16).toInt64 + 1 * (a2 1).toInt64 * (a2 18).toInt64)) (2, fa, 0, a1, a2, a3, a4, a5, a6, a7)) :
    wpX_solve post (2, fa, gr, a1, a2, a3, a4, a5, a6, a7) 0 := by
  refine ⟨rfl, rfl, 3, bf_s12N 0 1 1 (by decide +kernel) f0 (bf_s12F 1 0 0 2 (by decide +kernel) f1 (bf_s12E (by decide) ⟨3, ?_⟩))⟩
  refine br_f (by decide) (bf_t0o 1 0 (.inr (.inl ⟨rfl, rfl⟩)) p0 (nm_r (e' := 1) (by decide) (br_f (by decide) (bf_t1_10 p1 (nm_r (e' := 2) (by decide) (br_t (by decide) ⟨2, ?_⟩))))))
  refine br_f (by decide) (br_f (by decide) (bf_chD (by rfl) (by rfl) (by rfl) (by rfl) (bf_oD (a2 0).toInt64 (a2 1).toInt64 (a2 16).toInt64 (a2 18).toInt64 (by rfl) (by rfl) (by rfl) (by rfl) (by rfl) (by rfl) (by rfl) (by rfl) (nm_r (e' := 0) (by decide) (nm_r (e' := 1) (by decide) (br_f (by decide) (br_t rfl ⟨4, ?_⟩)))))))
  exact bf_pU 0 1 (by decide +kernel) (by rfl) (bf_pU 1 2 (by decide +kernel) (by rfl) (bf_pT 2 256 (1 * (a2 0).toInt64 * (a2 16).toInt64 + 1 * (a2 1).toInt64 * (a2 18).toInt64) 3 (by decide +kernel) (by rfl) (by rfl) (bf_pE (by decide) (H _ _ _ _))))
theorem bf_s21 (p0 : a1 0 = 0) (p1 : a1 1 = 1) (f0 : a4 0 = 2) (f1 : a4 1 = 1)
    (H : ∀ fa a5 a6 a7, post (1 * (1 * (a2 0).toInt64 * (a2 17).toInt64 + 1 * (a2 1).toInt64 * (a2 19).toInt64)) (2, fa, 0, a1, a2, a3, a4, a5, a6, a7)) :
    wpX_solve post (2, fa, gr, a1, a2, a3, a4, a5, a6, a7) 0 := by
  refine ⟨rfl, rfl, 3, bf_s12N 0 1 1 (by decide +kernel) f0 (bf_s12F 1 1 2 2 (by decide +kernel) f1 (bf_s12E (by decide) ⟨3, ?_⟩))⟩
  refine br_f (by decide) (bf_t0o 1 2 (.inr (.inr ⟨rfl, rfl⟩)) p0 (nm_r (e' := 1) (by decide) (br_f (by decide) (bf_t1_12 p1 (nm_r (e' := 2) (by decide) (br_t (by decide) ⟨2, ?_⟩))))))
  refine br_f (by decide) (br_f (by decide) (bf_chD (by rfl) (by rfl) (by rfl) (by rfl) (bf_oD (a2 0).toInt64 (a2 1).toInt64 (a2 17).toInt64 (a2 19).toInt64 (by rfl) (by rfl) (by rfl) (by rfl) (by rfl) (by rfl) (by rfl) (by rfl) (nm_r (e' := 0) (by decide) (nm_r (e' := 1) (by decide) (br_f (by decide) (br_t rfl ⟨4, ?_⟩)))))))
  exact bf_pU 0 1 (by decide +kernel) (by rfl) (bf_pU 1 2 (by decide +kernel) (by rfl) (bf_pT 2 256 (1 * (a2 0).toInt64 * (a2 17).toInt64 + 1 * (a2 1).toInt64 * (a2 19).toInt64) 3 (by decide +kernel) (by rfl) (by rfl) (bf_pE (by decide) (H _ _ _ _))))
end
end
section
theorem bf_c0 : (0 : Int32).toNatClampNeg = 0 := by decide
theorem bf_c1 : (1 : Int32).toNatClampNeg = 1 := by decide
section
variable {post : St2 → Prop} {fa gr : Int32} {a1 a2 a3 a4 a5 a7 : Nat → Int32} {a6 : Nat → Int64}
theorem bf_ts (H : post (2, fa, gr, a1, a2, a3, upd (upd a4 0 (a3 0)) 1 (a3 1), a5, a6, a7)) : wpX_takeSeen post (2, fa, gr, a1, a2, a3, a4, a5, a6, a7) :=
  ⟨3, br_f (by decide) ⟨bf_in (by decide), bf_in (by decide), nm_r (e' := upd a4 0 (a3 0)) (by rw [bf_c0]) (nm_r (e' := 1) (by decide)
    (br_f (by decide) ⟨bf_in (by decide), bf_in (by decide), nm_r (e' := upd (upd a4 0 (a3 0)) 1 (a3 1)) (by rw [bf_c1]) (nm_r (e' := 2) (by decide)
      (br_t (by decide) H))⟩))⟩⟩
end
section
variable {post : Int32 → St2 → Prop} {n fa gr : Int32} {a1 a2 a3 a4 a5 a7 : Nat → Int32} {a6 : Nat → Int64}
theorem bf_fix (h : a4 0 = 2) (H : post 1 (n, fa, gr, a1, a2, a3, upd a4 0 0, a5, a6, a7)) : wpX_fix post (n, fa, gr, a1, a2, a3, a4, a5, a6, a7) 0 0 :=
  ⟨bf_in (by decide), br_f (by rw [bf_c0, h]; decide) ⟨bf_in (by decide), nm_r (e' := upd a4 0 0) (by rw [bf_c0]) H⟩⟩
end
section
variable {post : Int64 → St2 → Prop} {fa gr : Int32} {a1 a2 a3 a4 a5 a7 : Nat → Int32} {a6 : Nat → Int64}
theorem bf_tw (R : Int64) (h : a3 0 = 2)
    (S : ∀ ψ : Int64 → St2 → Prop, (∀ fa a5 a6 a7, ψ R (2, fa, 0, a1, a2, a3, upd (upd (upd a4 0 (a3 0)) 1 (a3 1)) 0 0, a5, a6, a7)) → wpX_solve ψ (2, fa, gr, a1, a2, a3, upd (upd (upd a4 0 (a3 0)) 1 (a3 1)) 0 0, a5, a6, a7) 0)
    (H : ∀ fa a4 a5 a6 a7, post R (2, fa, 0, a1, a2, a3, a4, a5, a6, a7)) : wpX_totalWith post (2, fa, gr, a1, a2, a3, a4, a5, a6, a7) 0 0 := by
  unfold wpX_totalWith
  refine bf_good (by decide) (by decide) (br_f (by decide) (br_t rfl ?_))
  unfold wX_totalWith_25
  refine bf_ts (bf_fix ?_ (br_f (by decide) (S _ (fun _ _ _ _ => H _ _ _ _ _))))
  rw [pk_un (by decide), pk_us, h]
theorem bf_tl (R : Int64)
    (S : ∀ ψ : Int64 → St2 → Prop, (∀ fa a5 a6 a7, ψ R (2, fa, 0, a1, a2, a3, upd (upd a4 0 (a3 0)) 1 (a3 1), a5, a6, a7)) → wpX_solve ψ (2, fa, gr, a1, a2, a3, upd (upd a4 0 (a3 0)) 1 (a3 1), a5, a6, a7) 0)
    (H : ∀ fa a4 a5 a6 a7, post R (2, fa, 0, a1, a2, a3, a4, a5, a6, a7)) : wpX_total post (2, fa, gr, a1, a2, a3, a4, a5, a6, a7) :=
  bf_ts (S _ (fun _ _ _ _ => H _ _ _ _ _))
/-- totalWith(0, 0) and total(), by what is seen at 1 -/
theorem bf_tw2 (p0 : a1 0 = 0) (p1 : a1 1 = 1) (s0 : a3 0 = 2) (s1 : a3 1 = 2)
    (H : ∀ fa a4 a5 a6 a7, post (1 * (a2 0).toInt64 * (1 * (a2 16).toInt64 + 1 * (a2 17).toInt64)) (2, fa, 0, a1, a2, a3, a4, a5, a6, a7)) :
    wpX_totalWith post (2, fa, gr, a1, a2, a3, a4, a5, a6, a7) 0 0 :=
  bf_tw _ s0 (fun _ h => bf_s02 p0 p1 pk_us (by rw [pk_un (by decide), pk_us, s1]) h) H
theorem bf_tw0 (p0 : a1 0 = 0) (p1 : a1 1 = 1) (s0 : a3 0 = 2) (s1 : a3 1 = 0)
    (H : ∀ fa a4 a5 a6 a7, post (1 * (a2 0).toInt64 * (a2 16).toInt64) (2, fa, 0, a1, a2, a3, a4, a5, a6, a7)) :
    wpX_totalWith post (2, fa, gr, a1, a2, a3, a4, a5, a6, a7) 0 0 :=
  bf_tw _ s0 (fun _ h => bf_s00 p0 p1 pk_us (by rw [pk_un (by decide), pk_us, s1]) h) H
theorem bf_tw1 (p0 : a1 0 = 0) (p1 : a1 1 = 1) (s0 : a3 0 = 2) (s1 : a3 1 = 1)
    (H : ∀ fa a4 a5 a6 a7, post (1 * (a2 0).toInt64 * (a2 17).toInt64) (2, fa, 0, a1, a2, a3, a4, a5, a6, a7)) :
    wpX_totalWith post (2, fa, gr, a1, a2, a3, a4, a5, a6, a7) 0 0 :=
  bf_tw _ s0 (fun _ h => bf_s01 p0 p1 pk_us (by rw [pk_un (by decide), pk_us, s1]) h) H
theorem bf_tl2 (p0 : a1 0 = 0) (p1 : a1 1 = 1) (s0 : a3 0 = 2) (s1 : a3 1 = 2)
    (H : ∀ fa a4 a5 a6 a7, post (1 * (1 * (1 * (a2 0).toInt64 * (a2 16).toInt64 + 1 * (a2 1).toInt64 * (a2 18).toInt64) + 1 * (1 * (a2 0).toInt64 * (a2 17).toInt64 + 1 * (a2 1).toInt64 * (a2 19).toInt64))) (2, fa, 0, a1, a2, a3, a4, a5, a6, a7)) :
    wpX_total post (2, fa, gr, a1, a2, a3, a4, a5, a6, a7) :=
  bf_tl _ (fun _ h => bf_s22 p0 p1 (by rw [pk_un (by decide), pk_us, s0]) (by rw [pk_us, s1]) h) H
theorem bf_tl0 (p0 : a1 0 = 0) (p1 : a1 1 = 1) (s0 : a3 0 = 2) (s1 : a3 1 = 0)
    (H : ∀ fa a4 a5 a6 a7, post (1 * (1 * (a2 0).toInt64 * (a2 16).toInt64 + 1 * (a2 1).toInt64 * (a2 18).toInt64)) (2, fa, 0, a1, a2, a3, a4, a5, a6, a7)) :
    wpX_total post (2, fa, gr, a1, a2, a3, a4, a5, a6, a7) :=
  bf_tl _ (fun _ h => bf_s20 p0 p1 (by rw [pk_un (by decide), pk_us, s0]) (by rw [pk_us, s1]) h) H
theorem bf_tl1 (p0 : a1 0 = 0) (p1 : a1 1 = 1) (s0 : a3 0 = 2) (s1 : a3 1 = 1)
    (H : ∀ fa a4 a5 a6 a7, post (1 * (1 * (a2 0).toInt64 * (a2 17).toInt64 + 1 * (a2 1).toInt64 * (a2 19).toInt64)) (2, fa, 0, a1, a2, a3, a4, a5, a6, a7)) :
    wpX_total post (2, fa, gr, a1, a2, a3, a4, a5, a6, a7) :=
  bf_tl _ (fun _ h => bf_s21 p0 p1 (by rw [pk_un (by decide), pk_us, s0]) (by rw [pk_us, s1]) h) H
end
section
variable {post : Int32 → Prop} {fa gr : Int32} {a1 a2 a3 a4 a5 a7 : Nat → Int32} {a6 : Nat → Int64}
theorem bf_kids0 (p0 : a1 0 = 0) (p1 : a1 1 = 1) (h : post 2) : wpX_childrenOf post (2, fa, gr, a1, a2, a3, a4, a5, a6, a7) 0 :=
  ⟨3, br_f (by decide) ⟨bf_in (by decide), br_f (by rw [bf_c0, p0]; decide) (nm_r (e' := 1) (by decide)
    (br_f (by decide) ⟨bf_in (by decide), br_t (by rw [bf_c1, p1]; decide) (nm_r (e' := 2) (by decide) (nm_r (e' := 2) (by decide)
      (br_t (by decide) h)))⟩))⟩⟩
theorem bf_kids1 (p0 : a1 0 = 0) (p1 : a1 1 = 1) (h : post 0) : wpX_childrenOf post (2, fa, gr, a1, a2, a3, a4, a5, a6, a7) 1 :=
  ⟨3, br_f (by decide) ⟨bf_in (by decide), br_f (by rw [bf_c0, p0]; decide) (nm_r (e' := 1) (by decide)
    (br_f (by decide) ⟨bf_in (by decide), br_f (by rw [bf_c1, p1]; decide) (nm_r (e' := 2) (by decide)
      (br_t (by decide) h))⟩))⟩⟩
/-- one round of the ball: from (1, 0) or (1, 2) to (1, 2) -/
theorem bf_round (J9 : Int32 → Int32 → Int32 → Prop) (x4 x4' t : Int32) (ht : t = 0 ∨ t = 2) (e4 : x4 + 1 = x4') (p0 : a1 0 = 0) (p1 : a1 1 = 1) (s0 : a3 0 = 2) (s1 : a3 1 = 2) (H : J9 1 2 x4') :
    ∃ m, wX_bounce_19 post J9 x4 2 fa gr a1 a2 a3 a4 a5 a6 a7 m 1 t 0 := by
  have hk : t ||| 2 = 2 := by rcases ht with rfl | rfl <;> decide
  have hb : ¬ ((t >>> ((0 : Int32) &&& 31)) &&& 1) = 1 := by rcases ht with rfl | rfl <;> decide
  refine ⟨3, br_f (by decide) ⟨bf_in (by decide), br_t (by rw [bf_c0, s0]) ?_⟩⟩
  unfold wX_bounce_44
  refine br_t (by decide) ?_
  unfold wX_bounce_61
  refine br_f hb ?_
  unfold wX_bounce_78
  refine br_f (by decide) (br_t rfl ?_)
  unfold wX_bounce_100
  refine ⟨bf_in (by decide), nm_r (e' := 1) (by rw [bf_c0, p0]; decide) ?_⟩
  unfold wX_bounce_110
  refine br_f (by decide) ?_
  unfold wX_bounce_120
  refine br_t rfl (bf_kids0 p0 p1 (nm_r hk (nm_r (e' := 1) (by decide) ?_)))
  refine br_f (by decide) ⟨bf_in (by decide), br_t (by rw [bf_c1, s1]) ?_⟩
  unfold wX_bounce_44
  refine br_f (by decide) ?_
  unfold wX_bounce_61
  refine br_t (by decide) ?_
  unfold wX_bounce_78
  refine br_t rfl ?_
  unfold wX_bounce_90
  refine br_f (by decide) (br_t rfl ?_)
  unfold wX_bounce_110
  refine br_t rfl (br_f (by decide) ?_)
  unfold wX_bounce_120
  refine br_t rfl (bf_kids1 p0 p1 (nm_r (e' := 2) (by decide) (nm_r (e' := 2) (by decide) ?_)))
  exact br_t (by decide) (nm_r e4 H)
theorem bf_rounds (p0 : a1 0 = 0) (p1 : a1 1 = 1) (s0 : a3 0 = 2) (s1 : a3 1 = 2) (h : post 3) :
    ∀ (k i : Nat) (t : Int32), i + k = 14 → (t = 2 ∨ (t = 0 ∧ i < 14)) → wX_bounce_9 post 2 fa gr a1 a2 a3 a4 a5 a6 a7 (k + 1) 1 t (nI i)
  | 0, i, t, hi, ht => by
    have ht2 : t = 2 := by
      rcases ht with h | h
      · exact h
      · omega
    rw [ht2]
    exact br_t (nI_le (a := 14) (by omega) (by omega)) (ek_v (P := post) (show (1 : Int32) ||| 2 = 3 by decide) h)
  | k + 1, i, t, hi, ht => by
    refine br_f (nI_ge (b := 14) (by omega) (by decide)) ?_
    exact bf_round _ (nI i) (nI (i + 1)) t (by rcases ht with h | h; exact .inr h; exact .inl h.1) (nI_1 i) p0 p1 s0 s1 (bf_rounds p0 p1 s0 s1 h k (i + 1) 2 (by omega) (.inl rfl))
theorem bf_bounce (p0 : a1 0 = 0) (p1 : a1 1 = 1) (s0 : a3 0 = 2) (s1 : a3 1 = 2) (h : post 3) : wpX_bounce post (2, fa, gr, a1, a2, a3, a4, a5, a6, a7) 0 :=
  nm_r (e' := 1) (by decide) ⟨15, bf_rounds p0 p1 s0 s1 h 14 0 0 (by omega) (.inr ⟨rfl, by omega⟩)⟩
theorem bf_sep2 (p0 : a1 0 = 0) (p1 : a1 1 = 1) (s0 : a3 0 = 2) (s1 : a3 1 = 2) (h : post 0) : wpX_separated post (2, fa, gr, a1, a2, a3, a4, a5, a6, a7) 0 1 := by
  unfold wpX_separated
  refine bf_good (by decide) (by decide) (br_f (by decide) (bf_good (by decide) (by decide) (br_f (by decide) (br_f (by decide) ?_))))
  exact ⟨bf_in (by decide), br_t (by rw [bf_c0, s0]) ⟨bf_in (by decide), br_t (by rw [bf_c1, s1]) (bf_bounce p0 p1 s0 s1 (br_t (by decide) h))⟩⟩
theorem bf_sepN (s0 : a3 0 = 2) (s1 : ¬ a3 1 = 2) (h : post (-3)) : wpX_separated post (2, fa, gr, a1, a2, a3, a4, a5, a6, a7) 0 1 := by
  unfold wpX_separated
  refine bf_good (by decide) (by decide) (br_f (by decide) (bf_good (by decide) (by decide) (br_f (by decide) (br_f (by decide) ?_))))
  exact ⟨bf_in (by decide), br_t (by rw [bf_c0, s0]) ⟨bf_in (by decide), br_f (by rw [bf_c1]; exact s1) h⟩⟩
end
end
section
theorem bf_fill {s : Nat → Int32} {i k : Nat} {x : Int32} (hk : k = i) (h : ∀ j, j < i → s j = x) : ∀ j, j < i + 1 → upd s k x j = x := by
  intro j hj
  rw [hk]
  by_cases e : j = i
  · rw [e, pk_us]
  · rw [pk_un e]
    exact h j (by omega)
theorem bf_same {s : Nat → Int32} {k N : Nat} {x : Int32} (h : ∀ j, j < N → s j = x) : ∀ j, j < N → upd s k x j = x := by
  intro j hj
  by_cases e : j = k
  · rw [e, pk_us]
  · rw [pk_un e]
    exact h j hj
section
variable {post : St2 → Prop} {mc ms : Nat}
theorem bf_init113 {a3 : Nat → Int32} (h3 : ∀ j, j < 7 → a3 j = 2)
    (H : ∀ a2 a3 : Nat → Int32, (∀ j, j < 112 → a2 j = 1) → (∀ j, j < 7 → a3 j = 2) → post (2, 0, 0, (fun _ => 0), a2, a3, (fun _ => 0), (fun _ => 0), (fun _ => 0), (fun _ => 0))) :
    ∃ n, wX_init_113 post mc ms 7 2083 2 0 0 n 0 (fun _ => 0) (fun _ => 0) a3 (fun _ => 0) (fun _ => 0) (fun _ => 0) (fun _ => 0) :=
  pk_loop (fun n i s => wX_init_113 post mc ms 7 2083 2 0 0 n (nI i) (fun _ => 0) s a3 (fun _ => 0) (fun _ => 0) (fun _ => 0) (fun _ => 0)) (fun i s => ∀ j, j < i → s j = 1) 112 0 (fun _ => 0) (by omega) (fun j hj => absurd hj (by omega))
    (fun n s h => pk_le 112 112 (fun _ => H s a3 h h3) (fun z => absurd z (by omega)))
    (fun n i s hi h hw => pk_le 112 i (fun z => absurd z (by omega)) (fun _ => ⟨pk_in i 112 hi, nm_e (nm_r (nI_1 i) (hw _ (bf_fill (nI_clamp (by omega)) h)))⟩))
theorem bf_init (hm : 7 ≤ mc) (hs : 2083 ≤ ms)
    (H : ∀ a2 a3 : Nat → Int32, (∀ j, j < 112 → a2 j = 1) → (∀ j, j < 7 → a3 j = 2) → post (2, 0, 0, (fun _ => 0), a2, a3, (fun _ => 0), (fun _ => 0), (fun _ => 0), (fun _ => 0))) :
    wpX_init post mc ms (0, 0, 0) 2 := by
  refine ⟨by omega, by omega, by omega, by omega, by omega, by omega, by omega, by omega, by omega, by omega, by omega, by omega, by omega, by omega, br_t (by decide) ?_⟩
  unfold wX_init_72
  refine br_t (by decide) ?_
  exact pk_loop (fun n i s => wX_init_92 post mc ms 7 2083 2 0 0 n (nI i) (fun _ => 0) (fun _ => 0) s (fun _ => 0) (fun _ => 0) (fun _ => 0) (fun _ => 0)) (fun i s => ∀ j, j < i → s j = 2) 7 0 (fun _ => 0) (by omega) (fun j hj => absurd hj (by omega))
    (fun n s h => pk_le 7 7 (fun _ => bf_init113 h H) (fun z => absurd z (by omega)))
    (fun n i s hi h hw => pk_le 7 i (fun z => absurd z (by omega)) (fun _ => ⟨pk_in i 7 hi, nm_e (nm_r (nI_1 i) (hw _ (bf_fill (nI_clamp (by omega)) h)))⟩))
end
section
variable {post : Int32 → St2 → Prop} {fa gr : Int32} {a1 a2 a3 a4 a5 a7 : Nat → Int32} {a6 : Nat → Int64}
theorem bf_par49 {x3 : Int32} (h2 : ∀ j, j < 112 → a2 j = 1) (H : ∀ r b2, (∀ j, j < 112 → b2 j = 1) → post r (2, fa, gr, a1, b2, a3, a4, a5, a6, a7)) :
    ∃ n, wX_parents_49 post 1 x3 2 fa gr n 0 a1 a2 a3 a4 a5 a6 a7 := by
  refine pk_loop (fun n i s => wX_parents_49 post 1 x3 2 fa gr n (nI i) a1 s a3 a4 a5 a6 a7) (fun _ s => ∀ j, j < 112 → s j = 1) 16 0 a2 (by omega) h2
    (fun n s h => pk_le 16 16 (fun _ => H _ s h) (fun z => absurd z (by omega))) (fun n i s hi h hw => pk_le 16 i (fun z => absurd z (by omega)) (fun _ => ?_))
  have e : (16 * 1 : Int32) + nI i = nI (16 + i) := by rw [show (16 * 1 : Int32) = nI 16 by decide, nI_add]
  exact ⟨pk_in (16 + i) 112 (by omega) e, nm_e (nm_r (nI_1 i) (hw _ (bf_same h)))⟩
theorem bf_parents (h2 : ∀ j, j < 112 → a2 j = 1) (H : ∀ r b2, (∀ j, j < 112 → b2 j = 1) → post r (2, fa, gr, upd a1 1 1, b2, a3, a4, a5, a6, a7)) :
    wpX_parents post (2, fa, gr, a1, a2, a3, a4, a5, a6, a7) 1 1 := by
  unfold wpX_parents
  refine bf_good (by decide) (by decide) (br_f (by decide) (br_f (by decide) (br_f (by decide) (bf_ones (br_t (by decide +kernel) ?_)))))
  exact ⟨bf_in (by decide), nm_e ⟨bf_in (by decide), nm_r (e' := upd a1 1 1) (by rw [bf_c1]) (bf_par49 h2 H)⟩⟩
theorem bf_enter {p0 p1 p2 p3 : Int32} (k : Nat) (s : Int32) (i : Nat)
    (hc : ¬ p0 < 0 ∧ ¬ 2 ≤ p0 ∧ p0 = nI k ∧ k < 7 ∧ ¬ p1 < 0 ∧ p1 < (1 : Int32) <<< (bf_on s &&& 31) ∧ (p2 = 0 ∨ p2 = 1) ∧ ((16 * p0) + (2 * p1)) + p2 = nI i ∧ i < 112)
    (h1 : a1 k = s) (e0 : ¬ p3 < 0) (e9 : p3 ≤ 9) (H : post (a2 i) (2, fa, gr, a1, upd a2 i p3, a3, a4, a5, a6, a7)) :
    wpX_enter post (2, fa, gr, a1, a2, a3, a4, a5, a6, a7) p0 p1 p2 p3 := by
  obtain ⟨c1, c2, c3, c4, c5, c6, c7, c8, c9⟩ := hc
  have hcl : p0.toNatClampNeg = k := by rw [c3]; exact nI_clamp (by omega)
  have hci : (((16 * p0) + (2 * p1)) + p2).toNatClampNeg = i := by rw [c8]; exact nI_clamp (by omega)
  have E : wX_enter_48 post p0 p1 p2 p3 2 fa gr a1 a2 a3 a4 a5 a6 a7 := by
    unfold wX_enter_48
    rw [hci]
    exact br_f e0 (br_t e9 ⟨pk_in i 112 c9 c8, nm_e ⟨pk_in i 112 c9 c8, nm_e H⟩⟩)
  unfold wpX_enter
  refine bf_good c1 c2 (br_f (by decide) ⟨pk_in k 7 c4 c3, ?_⟩)
  rw [hcl, h1]
  refine bf_ones (nm_e (br_f c5 (br_t c6 ?_)))
  rcases c7 with z | z
  · exact br_t z E
  · exact br_f (by rw [z]; decide) (br_t z E)
theorem bf_obsN {x : Int32} (hx : x < 0 ∨ 2 < x) (H : post (-2) (2, fa, gr, a1, a2, a3, a4, a5, a6, a7)) : wpX_observe post (2, fa, gr, a1, a2, a3, a4, a5, a6, a7) 1 x := by
  unfold wpX_observe
  refine bf_good (by decide) (by decide) (br_f (by decide) (br_c (fun _ => H) (fun z => br_f ?_ H)))
  rcases hx with h | h
  · exact absurd h z
  · exact Int32.not_le.mpr h
theorem bf_obsK {x : Int32} (h0 : ¬ x < 0) (h2 : x ≤ 2) (H : post (a3 1) (2, fa, gr, a1, a2, upd a3 1 x, a4, a5, a6, a7)) : wpX_observe post (2, fa, gr, a1, a2, a3, a4, a5, a6, a7) 1 x := by
  unfold wpX_observe
  refine bf_good (by decide) (by decide) (br_f (by decide) (br_f h0 (br_t h2 ?_)))
  exact ⟨bf_in (by decide), nm_r (e' := a3 1) (by rw [bf_c1]) ⟨bf_in (by decide), nm_r (e' := upd a3 1 x) (by rw [bf_c1]) H⟩⟩
end
/-- the arithmetic: ints and longs agree on such small numbers -/
theorem bf_p {a b : Nat} (ha : a ≤ 9) (hb : b ≤ 9) : a * b ≤ 81 := Nat.mul_le_mul ha hb
theorem bf_dig (x : Int32) : ∃ k : Nat, k ≤ 9 ∧ (x &&& 15) - (x &&& 15) / 10 * 10 = nI k := by
  obtain ⟨j, hj, e⟩ := pk_andE x (m := 15) 4 (by decide)
  refine ⟨j % 10, by omega, ?_⟩
  rw [e]
  exact pk_rem (d := 10) (by omega) (by omega) (by omega)
theorem bf_a1 {a c : Nat} (ha : a ≤ 9) (hc : c ≤ 9) : 1 * (nI a).toInt64 * (nI c).toInt64 = (nI a * nI c).toInt64 := by
  have h1 := bf_p ha hc
  rw [nI_l (by omega), nI_l (by omega), pk_mul, nI_l (by omega), Int64.one_mul, lN_mul]
theorem bf_a2 {a b c d : Nat} (ha : a ≤ 9) (hb : b ≤ 9) (hc : c ≤ 9) (hd : d ≤ 9) : 1 * (nI a).toInt64 * (nI c).toInt64 + 1 * (nI b).toInt64 * (nI d).toInt64 = (nI a * nI c + nI b * nI d).toInt64 := by
  have h1 := bf_p ha hc
  have h2 := bf_p hb hd
  rw [bf_a1 ha hc, bf_a1 hb hd, pk_mul, pk_mul, nI_add, nI_l (by omega), nI_l (by omega), nI_l (by omega), lN_add]
theorem bf_a3 {a c d : Nat} (ha : a ≤ 9) (hc : c ≤ 9) (hd : d ≤ 9) : 1 * (nI a).toInt64 * (1 * (nI c).toInt64 + 1 * (nI d).toInt64) = (nI a * nI c + nI a * nI d).toInt64 := by
  have h1 := bf_p ha hc
  have h2 := bf_p ha hd
  rw [nI_l (show a < 2 ^ 31 by omega), nI_l (show c < 2 ^ 31 by omega), nI_l (show d < 2 ^ 31 by omega), pk_mul, pk_mul, nI_add, nI_l (by omega), Int64.one_mul, Int64.one_mul, Int64.one_mul, lN_add, lN_mul, Nat.mul_add]
theorem bf_a4 {a b c d e f : Nat} (ha : a ≤ 9) (hb : b ≤ 9) (hc : c ≤ 9) (hd : d ≤ 9) (he : e ≤ 9) (hf : f ≤ 9) :
    1 * (1 * (1 * (nI a).toInt64 * (nI c).toInt64 + 1 * (nI b).toInt64 * (nI e).toInt64) + 1 * (1 * (nI a).toInt64 * (nI d).toInt64 + 1 * (nI b).toInt64 * (nI f).toInt64)) = ((nI a * nI c + nI a * nI d) + (nI b * nI e + nI b * nI f)).toInt64 := by
  have h1 := bf_p ha hc
  have h2 := bf_p ha hd
  have h3 := bf_p hb he
  have h4 := bf_p hb hf
  rw [bf_a2 ha hb hc he, bf_a2 ha hb hd hf, Int64.one_mul, Int64.one_mul, Int64.one_mul, pk_mul, pk_mul, pk_mul, pk_mul, nI_add, nI_add, nI_add, nI_add, nI_add, nI_l (by omega), nI_l (by omega), nI_l (by omega), lN_add]
  exact congrArg lN (by omega)
end
section
section
variable {post : Int32 → St0 → Prop} {mc ms kc ks : Nat} {fa gr x3 x11 x14 z0 z1 : Int32} {a1 a2 a3 a4 a5 a7 : Nat → Int32} {a6 : Nat → Int64}
/-- the law's three last checks -/
theorem bf_280 (R0 R1 : Int64) (rs : Int32)
    (TW : ∀ ψ : Int64 → St2 → Prop, (∀ fa a4 a5 a6 a7, ψ R0 (2, fa, 0, a1, a2, a3, a4, a5, a6, a7)) → wpX_totalWith ψ (2, fa, gr, a1, a2, a3, a4, a5, a6, a7) 0 0)
    (TL : ∀ (fa : Int32) (a4 a5 : Nat → Int32) (a6 : Nat → Int64) (a7 : Nat → Int32) (ψ : Int64 → St2 → Prop), (∀ fa a4 a5 a6 a7, ψ R1 (2, fa, 0, a1, a2, a3, a4, a5, a6, a7)) → wpX_total ψ (2, fa, 0, a1, a2, a3, a4, a5, a6, a7))
    (SP : ∀ (fa : Int32) (a4 a5 : Nat → Int32) (a6 : Nat → Int64) (a7 : Nat → Int32) (ψ : Int32 → Prop), ψ rs → wpX_separated ψ (2, fa, 0, a1, a2, a3, a4, a5, a6, a7) 0 1)
    (D : (x11 = 0 ∧ rs = 0) ∨ (¬ x11 = 0 ∧ 2 ≤ x3 ∧ rs = 0) ∨ (¬ x11 = 0 ∧ ¬ 2 ≤ x3 ∧ rs = -3))
    (e0 : R0 = x14.toInt64) (e1 : R1 = (x14 + (z1 + z0)).toInt64) (h : post 1 ()) :
    wL_lawOf_280 post mc ms x3 x11 x14 z0 z1 kc ks 2 fa gr a1 a2 a3 a4 a5 a6 a7 := by
  unfold wL_lawOf_280
  refine nm_e (TW _ (fun fa a4 a5 a6 a7 => br_t e0 (TL _ _ _ _ _ _ (fun fa a4 a5 a6 a7 => br_t e1 (SP _ _ _ _ _ _ ?_)))))
  rcases D with ⟨d1, d2⟩ | ⟨d1, d2, d3⟩ | ⟨d1, d2, d3⟩
  · exact br_t d1 (br_t d2 h)
  · exact br_f d1 (br_t d2 (br_t d3 h))
  · exact br_f d1 (br_f d2 (br_t d3 h))
end
section
variable {post : Int32 → St0 → Prop} {mc ms kc ks a b c d e f : Nat} {fa gr x3 : Int32} {a1 a2 a3 a4 a5 a7 : Nat → Int32} {a6 : Nat → Int64}
/-- nothing known of the second variable: both values count -/
theorem bf_280two (x11 : Int32) (ha : a ≤ 9) (hb : b ≤ 9) (hc : c ≤ 9) (hd : d ≤ 9) (he : e ≤ 9) (hf : f ≤ 9) (p0 : a1 0 = 0) (p1 : a1 1 = 1)
    (F0 : a2 0 = nI a) (F1 : a2 1 = nI b) (F16 : a2 16 = nI c) (F17 : a2 17 = nI d) (F18 : a2 18 = nI e) (F19 : a2 19 = nI f) (s0 : a3 0 = 2) (s1 : a3 1 = 2)
    (D : x11 = 0 ∨ (¬ x11 = 0 ∧ 2 ≤ x3)) (h : post 1 ()) :
    wL_lawOf_280 post mc ms x3 x11 (nI a * nI c + nI a * nI d) (nI b * nI f) (nI b * nI e) kc ks 2 fa gr a1 a2 a3 a4 a5 a6 a7 := by
  refine bf_280 _ _ 0 (fun _ h => bf_tw2 p0 p1 s0 s1 h) (fun _ _ _ _ _ _ h => bf_tl2 p0 p1 s0 s1 h) (fun _ _ _ _ _ _ h => bf_sep2 p0 p1 s0 s1 h) ?_ ?_ ?_ h
  · rcases D with z | z
    · exact .inl ⟨z, rfl⟩
    · exact .inr (.inl ⟨z.1, z.2, rfl⟩)
  · rw [F0, F16, F17]
    exact bf_a3 ha hc hd
  · rw [F0, F1, F16, F17, F18, F19]
    exact bf_a4 ha hb hc hd he hf
theorem bf_unk (hx : x3 < 0 ∨ 2 < x3) (ha : a ≤ 9) (hb : b ≤ 9) (hc : c ≤ 9) (hd : d ≤ 9) (he : e ≤ 9) (hf : f ≤ 9) (p0 : a1 0 = 0) (p1 : a1 1 = 1)
    (F0 : a2 0 = nI a) (F1 : a2 1 = nI b) (F16 : a2 16 = nI c) (F17 : a2 17 = nI d) (F18 : a2 18 = nI e) (F19 : a2 19 = nI f) (s0 : a3 0 = 2) (s1 : a3 1 = 2) (h : post 1 ()) :
    wL_lawOf_163 post mc ms x3 (nI a) (nI b) (nI c) (nI d) (nI e) (nI f) 0 kc ks 2 fa gr a1 a2 a3 a4 a5 a6 a7 := by
  unfold wL_lawOf_163
  refine bf_obsN hx (br_t rfl ?_)
  unfold wL_lawOf_183
  refine br_t rfl (br_t rfl ?_)
  unfold wL_lawOf_198 wL_lawOf_203
  refine br_t rfl ?_
  unfold wL_lawOf_214 wL_lawOf_219
  refine br_f (by decide) ?_
  unfold wL_lawOf_235
  refine br_f (by decide) ?_
  unfold wL_lawOf_249
  refine nm_e (br_f (by decide) ?_)
  unfold wL_lawOf_266
  refine br_f (by decide) ?_
  exact bf_280two 0 ha hb hc hd he hf p0 p1 F0 F1 F16 F17 F18 F19 s0 s1 (.inl rfl) h
theorem bf_k2 (ha : a ≤ 9) (hb : b ≤ 9) (hc : c ≤ 9) (hd : d ≤ 9) (he : e ≤ 9) (hf : f ≤ 9) (p0 : a1 0 = 0) (p1 : a1 1 = 1)
    (F0 : a2 0 = nI a) (F1 : a2 1 = nI b) (F16 : a2 16 = nI c) (F17 : a2 17 = nI d) (F18 : a2 18 = nI e) (F19 : a2 19 = nI f) (s0 : a3 0 = 2) (s1 : a3 1 = 2) (h : post 1 ()) :
    wL_lawOf_163 post mc ms 2 (nI a) (nI b) (nI c) (nI d) (nI e) (nI f) 1 kc ks 2 fa gr a1 a2 a3 a4 a5 a6 a7 := by
  unfold wL_lawOf_163
  refine bf_obsK (by decide) (by decide) (br_f (by decide) ?_)
  unfold wL_lawOf_183
  refine br_t s1 (br_f (by decide) (br_f (by decide) ?_))
  unfold wL_lawOf_198 wL_lawOf_203
  refine br_f (by decide) (br_f (by decide) ?_)
  unfold wL_lawOf_214 wL_lawOf_219
  refine br_f (by decide) ?_
  unfold wL_lawOf_235
  refine br_f (by decide) ?_
  unfold wL_lawOf_249
  refine nm_e (br_f (by decide) ?_)
  unfold wL_lawOf_266
  refine br_f (by decide) ?_
  exact bf_280two 1 ha hb hc hd he hf p0 p1 F0 F1 F16 F17 F18 F19 (by rw [pk_un (by decide)]; exact s0) pk_us (.inr (by decide)) h
theorem bf_k0 (ha : a ≤ 9) (hb : b ≤ 9) (hc : c ≤ 9) (he : e ≤ 9) (p0 : a1 0 = 0) (p1 : a1 1 = 1)
    (F0 : a2 0 = nI a) (F1 : a2 1 = nI b) (F16 : a2 16 = nI c) (F18 : a2 18 = nI e) (s0 : a3 0 = 2) (s1 : a3 1 = 2) (h : post 1 ()) :
    wL_lawOf_163 post mc ms 0 (nI a) (nI b) (nI c) (nI d) (nI e) (nI f) 1 kc ks 2 fa gr a1 a2 a3 a4 a5 a6 a7 := by
  have t0 : upd a3 1 0 0 = 2 := by rw [pk_un (by decide)]; exact s0
  unfold wL_lawOf_163
  refine bf_obsK (by decide) (by decide) (br_f (by decide) ?_)
  unfold wL_lawOf_183
  refine br_t s1 (br_f (by decide) (br_f (by decide) ?_))
  unfold wL_lawOf_198 wL_lawOf_203
  refine br_f (by decide) (br_t rfl ?_)
  unfold wL_lawOf_219
  refine br_f (by decide) ?_
  unfold wL_lawOf_235
  refine br_t rfl ?_
  unfold wL_lawOf_249
  refine nm_r (Int32.add_zero _) (br_f (by decide) ?_)
  unfold wL_lawOf_266
  refine br_t rfl ?_
  refine bf_280 _ _ (-3) (fun _ h => bf_tw0 p0 p1 t0 pk_us h) (fun _ _ _ _ _ _ h => bf_tl0 p0 p1 t0 pk_us h) (fun _ _ _ _ _ _ h => bf_sepN t0 (by rw [pk_us]; decide) h) (.inr (.inr (by decide))) ?_ ?_ h
  · rw [F0, F16]
    exact bf_a1 ha hc
  · rw [F0, F1, F16, F18, Int32.add_zero, Int64.one_mul]
    exact bf_a2 ha hb hc he
theorem bf_k1 (ha : a ≤ 9) (hb : b ≤ 9) (hd : d ≤ 9) (hf : f ≤ 9) (p0 : a1 0 = 0) (p1 : a1 1 = 1)
    (F0 : a2 0 = nI a) (F1 : a2 1 = nI b) (F17 : a2 17 = nI d) (F19 : a2 19 = nI f) (s0 : a3 0 = 2) (s1 : a3 1 = 2) (h : post 1 ()) :
    wL_lawOf_163 post mc ms 1 (nI a) (nI b) (nI c) (nI d) (nI e) (nI f) 1 kc ks 2 fa gr a1 a2 a3 a4 a5 a6 a7 := by
  have t0 : upd a3 1 1 0 = 2 := by rw [pk_un (by decide)]; exact s0
  unfold wL_lawOf_163
  refine bf_obsK (by decide) (by decide) (br_f (by decide) ?_)
  unfold wL_lawOf_183
  refine br_t s1 (br_f (by decide) (br_t rfl ?_))
  unfold wL_lawOf_203
  refine br_f (by decide) (br_f (by decide) ?_)
  unfold wL_lawOf_214 wL_lawOf_219
  refine br_t rfl ?_
  unfold wL_lawOf_235
  refine br_f (by decide) ?_
  unfold wL_lawOf_249
  refine nm_r (Int32.zero_add _) (br_t rfl ?_)
  unfold wL_lawOf_266
  refine br_f (by decide) ?_
  refine bf_280 _ _ (-3) (fun _ h => bf_tw1 p0 p1 t0 pk_us h) (fun _ _ _ _ _ _ h => bf_tl1 p0 p1 t0 pk_us h) (fun _ _ _ _ _ _ h => bf_sepN t0 (by rw [pk_us]; decide) h) (.inr (.inr (by decide))) ?_ ?_ h
  · rw [F0, F17]
    exact bf_a1 ha hd
  · rw [F0, F1, F17, F19, Int32.zero_add, Int64.one_mul]
    exact bf_a2 ha hb hd hf
theorem bf_known (h0 : ¬ x3 < 0) (h2 : ¬ 2 < x3) (ha : a ≤ 9) (hb : b ≤ 9) (hc : c ≤ 9) (hd : d ≤ 9) (he : e ≤ 9) (hf : f ≤ 9) (p0 : a1 0 = 0) (p1 : a1 1 = 1)
    (F0 : a2 0 = nI a) (F1 : a2 1 = nI b) (F16 : a2 16 = nI c) (F17 : a2 17 = nI d) (F18 : a2 18 = nI e) (F19 : a2 19 = nI f) (s0 : a3 0 = 2) (s1 : a3 1 = 2) (h : post 1 ()) :
    wL_lawOf_163 post mc ms x3 (nI a) (nI b) (nI c) (nI d) (nI e) (nI f) 1 kc ks 2 fa gr a1 a2 a3 a4 a5 a6 a7 := by
  obtain ⟨j, hj, rfl⟩ := nI_of2 (M := 2) (n := 2) (by decide) h0 (Int32.not_lt.mp h2)
  match j, hj with
  | 0, _ => exact bf_k0 ha hb hc he p0 p1 F0 F1 F16 F18 s0 s1 h
  | 1, _ => exact bf_k1 ha hb hd hf p0 p1 F0 F1 F17 F19 s0 s1 h
  | 2, _ => exact bf_k2 ha hb hc hd he hf p0 p1 F0 F1 F16 F17 F18 F19 s0 s1 h
end
theorem bf_lo {k : Nat} (h : k ≤ 9) : ¬ nI k < 0 := nI_pos (by omega)
theorem bf_hi {k : Nat} (h : k ≤ 9) : nI k ≤ 9 := nI_le (b := 9) h (by decide)
theorem bf_lawOf {post : Int32 → St0 → Prop} (x y z v : Int32) (h : post 1 ()) : wpL_lawOf post 8 2093 () x y z v := by
  obtain ⟨a, ha, ea⟩ := bf_dig x
  obtain ⟨b, hb, eb⟩ := bf_dig (x >>> ((4 : Int32) &&& 31))
  obtain ⟨c, hc, ec⟩ := bf_dig y
  obtain ⟨d, hd, ed⟩ := bf_dig (y >>> ((4 : Int32) &&& 31))
  obtain ⟨e, he, ee⟩ := bf_dig z
  obtain ⟨f, hf, ef⟩ := bf_dig (z >>> ((4 : Int32) &&& 31))
  refine ⟨by omega, by omega, 7, 2083, by omega, by omega, bf_init (by omega) (by omega) (fun b2 b3 h2 h3 => ?_)⟩
  refine ⟨by decide, nm_r ea ⟨by decide, nm_r eb ⟨by decide, nm_r ec ⟨by decide, nm_r ed ⟨by decide, nm_r ee ⟨by decide, nm_r ef ?_⟩⟩⟩⟩⟩⟩
  refine bf_parents h2 (fun r c2 g2 => ?_)
  refine bf_enter 0 0 0 (by decide +kernel) (by rfl) (bf_lo ha) (bf_hi ha) ?_
  refine bf_enter 0 0 1 (by decide +kernel) (by rfl) (bf_lo hb) (bf_hi hb) ?_
  refine bf_enter 1 1 16 (by decide +kernel) (by rfl) (bf_lo hc) (bf_hi hc) ?_
  refine bf_enter 1 1 17 (by decide +kernel) (by rfl) (bf_lo hd) (bf_hi hd) ?_
  refine bf_enter 1 1 18 (by decide +kernel) (by rfl) (bf_lo he) (bf_hi he) ?_
  refine bf_enter 1 1 19 (by decide +kernel) (by rfl) (bf_lo hf) (bf_hi hf) ?_
  refine br_t ?_ (br_c (fun z => ?_) (fun z => br_c (fun w => ?_) (fun w => ?_)))
  · rw [pk_un (by decide), pk_un (by decide), pk_un (by decide), pk_un (by decide), pk_un (by decide)]
    exact g2 19 (by decide)
  · exact bf_unk (.inl z) ha hb hc hd he hf (by rfl) (by rfl) (by rfl) (by rfl) (by rfl) (by rfl) (by rfl) (by rfl) (h3 0 (by decide)) (h3 1 (by decide)) h
  · exact bf_unk (.inr w) ha hb hc hd he hf (by rfl) (by rfl) (by rfl) (by rfl) (by rfl) (by rfl) (by rfl) (by rfl) (h3 0 (by decide)) (h3 1 (by decide)) h
  · exact bf_known z w ha hb hc hd he hf (by rfl) (by rfl) (by rfl) (by rfl) (by rfl) (by rfl) (by rfl) (by rfl) (h3 0 (by decide)) (h3 1 (by decide)) h
theorem bf_cell {post : Int32 → Prop} {xs : Nat → Int32} {L : Nat} (hL : L ≤ 4) (k : Nat) {p : Int32} (hp : p = nI k) (hk : k < 4) (h : ∀ r, post r) : wpL_cellAt post L xs () p := by
  subst hp
  exact pk_le L k (fun _ => h _) (fun z => ⟨vp_in_nI z (by omega), h _⟩)
theorem i_vc (xs : Nat → Int32) (L : Nat) (hL : L ≤ 4) : wpL_law (fun r => r = 1) L xs := by
  unfold wpL_law
  refine bf_cell hL 0 rfl (by decide) (fun r1 => bf_cell hL 1 rfl (by decide) (fun r2 => bf_cell hL 2 rfl (by decide) (fun r3 => bf_cell hL 3 rfl (by decide) (fun r4 => ?_))))
  exact ⟨8, 2093, by omega, by omega, bf_lawOf r1 r2 r3 r4 rfl⟩
end
