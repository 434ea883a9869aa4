section
/-! part 1: cells. A cell of the three tables (greatest, waysBest, waysAll) as one thing: none where no way is counted -/
abbrev sd_C : Type := Option (Int32 × Int32 × Int32)
def sd_mk (g w n : Int32) : sd_C := if n = 0 then none else some (g, w, n)
def sd_pic (a4 a5 a6 : Nat → Int32) : Nat → sd_C := fun j => sd_mk (a4 j) (a5 j) (a6 j)
def sd_up (P : Nat → sd_C) (k : Nat) (v : sd_C) : Nat → sd_C := fun j => if j = k then v else P j
/-- what join does to its cell -/
def sd_jc (c a b : sd_C) (m : Int32) : sd_C :=
  match a, b with
  | some (g, w, n), some (g', w', n') =>
    match c with
    | none => sd_mk (g + g' + m) (w * w') (0 + n * n')
    | some (g0, w0, n0) =>
      if g + g' + m ≤ g0 then
        (if g + g' + m = g0 then sd_mk g0 (w0 + w * w') (n0 + n * n') else sd_mk g0 w0 (n0 + n * n'))
      else sd_mk (g + g' + m) (w * w') (n0 + n * n')
  | _, _ => c
def sd_jn (P : Nat → sd_C) (c a b : Nat) (m : Int32) : Nat → sd_C := sd_up P c (sd_jc (P c) (P a) (P b) m)
def sd_cj (B : Bool) (P : Nat → sd_C) (c a b : Nat) (m : Int32) : Nat → sd_C := bif B then sd_jn P c a b m else P
theorem sd_mk0 {g w n : Int32} (h : n = 0) : sd_mk g w n = none := if_pos h
theorem sd_mkS {g w n : Int32} (h : ¬ n = 0) : sd_mk g w n = some (g, w, n) := if_neg h
theorem sd_up_s {P : Nat → sd_C} {k : Nat} {v : sd_C} : sd_up P k v k = v := if_pos rfl
theorem sd_up_n {P : Nat → sd_C} {k j : Nat} {v : sd_C} (h : j ≠ k) : sd_up P k v j = P j := if_neg h
theorem sd_up_id (P : Nat → sd_C) (k : Nat) : sd_up P k (P k) = P := by
  funext j
  by_cases h : j = k
  · rw [h, sd_up_s]
  · rw [sd_up_n h]
theorem sd_pu {a4 a5 a6 b4 b5 b6 : Nat → Int32} {c : Nat} {X : sd_C} (h4 : ∀ j, j ≠ c → b4 j = a4 j) (h5 : ∀ j, j ≠ c → b5 j = a5 j) (h6 : ∀ j, j ≠ c → b6 j = a6 j)
    (hc : sd_mk (b4 c) (b5 c) (b6 c) = X) : sd_pic b4 b5 b6 = sd_up (sd_pic a4 a5 a6) c X := by
  funext j
  by_cases h : j = c
  · rw [h, sd_up_s]
    exact hc
  · rw [sd_up_n h]
    show sd_mk (b4 j) (b5 j) (b6 j) = sd_mk (a4 j) (a5 j) (a6 j)
    rw [h4 j h, h5 j h, h6 j h]
theorem sd_jc_a {c b : sd_C} {m : Int32} : sd_jc c none b m = c := by
  cases b <;> rfl
theorem sd_jc_b {c a : sd_C} {m : Int32} : sd_jc c a none m = c := by
  cases a <;> rfl
theorem sd_jc_n {g w n g' w' n' m : Int32} : sd_jc none (some (g, w, n)) (some (g', w', n')) m = sd_mk (g + g' + m) (w * w') (0 + n * n') := rfl
theorem sd_jc_s {g0 w0 n0 g w n g' w' n' m : Int32} : sd_jc (some (g0, w0, n0)) (some (g, w, n)) (some (g', w', n')) m =
    if g + g' + m ≤ g0 then
      (if g + g' + m = g0 then sd_mk g0 (w0 + w * w') (n0 + n * n') else sd_mk g0 w0 (n0 + n * n'))
    else sd_mk (g + g' + m) (w * w') (n0 + n * n') := rfl
theorem sd_cj_t {B : Bool} {P : Nat → sd_C} {c a b : Nat} {m : Int32} (h : B = true) : sd_jn P c a b m = sd_cj B P c a b m := by
  rw [h]
  rfl
theorem sd_cj_f {B : Bool} {P : Nat → sd_C} {c a b : Nat} {m : Int32} (h : B = false) : P = sd_cj B P c a b m := by
  rw [h]
  rfl
theorem sd_up_at (P : Nat → sd_C) (k : Nat) (v : sd_C) (j : Nat) : sd_up P k v j = if j = k then v else P j := rfl
theorem sd_jn_at (P : Nat → sd_C) (c a b : Nat) (m : Int32) (j : Nat) : sd_jn P c a b m j = if j = c then sd_jc (P c) (P a) (P b) m else P j := rfl
theorem sd_cj_at (B : Bool) (P : Nat → sd_C) (c a b : Nat) (m : Int32) (j : Nat) :
    sd_cj B P c a b m j = if j = c then (bif B then sd_jc (P c) (P a) (P b) m else P c) else P j := by
  cases B
  · by_cases h : j = c
    · rw [if_pos h, h]
      rfl
    · rw [if_neg h]
      rfl
  · rfl
/-! the picture of a whole calculation for two words -/
def sd_b : sd_C := some (0, 1, 1)
def sd_Pb (P : Nat → sd_C) : Nat → sd_C := sd_up (sd_up (sd_up (sd_up (sd_up (sd_up P 0 sd_b) 36 sd_b) 7 sd_b) 43 sd_b) 14 sd_b) 50 sd_b
def sd_S01 (B01 : Bool) (s1 : Int32) (P : Nat → sd_C) : Nat → sd_C := sd_jn (sd_jn (sd_cj B01 P 73 0 43 s1) 1 73 7 0) 37 36 109 0
def sd_S12 (B12 B21 : Bool) (s8 s13 : Int32) (P : Nat → sd_C) : Nat → sd_C := sd_jn (sd_jn (sd_cj B21 (sd_cj B12 P 80 7 50 s8) 116 7 50 s13) 8 80 14 0) 44 43 116 0
def sd_S02 (B02 : Bool) (s2 : Int32) (P : Nat → sd_C) : Nat → sd_C :=
  sd_jn (sd_jn (sd_jn (sd_jn (sd_cj B02 (sd_cj B02 P 74 0 44 s2) 74 1 50 s2) 2 73 8 0) 2 74 14 0) 38 36 110 0) 38 37 116 0
def sd_Gl (o B01 B02 : Bool) (s1 s2 : Int32) (P : Nat → sd_C) : Nat → sd_C := bif o then sd_jn P 144 2 0 0 else sd_cj B02 (sd_cj B01 P 144 43 8 s1) 144 44 14 s2
/-- an arc's cell -/
def sd_arc (B : Bool) (s : Int32) : sd_C := bif B then sd_jc none sd_b sd_b s else none
def sd_V1 (B01 : Bool) (s1 : Int32) : sd_C := sd_jc none (sd_arc B01 s1) sd_b 0
def sd_V44 (B21 : Bool) (s13 : Int32) : sd_C := sd_jc none sd_b (sd_arc B21 s13) 0
def sd_V74a (B02 B21 : Bool) (s2 s13 : Int32) : sd_C := bif B02 then sd_jc none sd_b (sd_V44 B21 s13) s2 else none
def sd_V74 (B01 B02 B21 : Bool) (s1 s2 s13 : Int32) : sd_C := bif B02 then sd_jc (sd_V74a B02 B21 s2 s13) (sd_V1 B01 s1) sd_b s2 else sd_V74a B02 B21 s2 s13
def sd_V2 (B01 B02 B12 B21 : Bool) (s1 s2 s8 s13 : Int32) : sd_C := sd_jc (sd_jc none (sd_arc B01 s1) (sd_V1 B12 s8) 0) (sd_V74 B01 B02 B21 s1 s2 s13) sd_b 0
def sd_g1 (B01 B12 : Bool) (s1 s8 : Int32) : sd_C := bif B01 then sd_jc none sd_b (sd_V1 B12 s8) s1 else none
/-- the goal's cell: o: any number of words under the root -/
def sd_G (o B01 B02 B12 B21 : Bool) (s1 s2 s8 s13 : Int32) : sd_C :=
  bif o then sd_jc none (sd_V2 B01 B02 B12 B21 s1 s2 s8 s13) sd_b 0
  else bif B02 then sd_jc (sd_g1 B01 B12 s1 s8) (sd_V44 B21 s13) sd_b s2 else sd_g1 B01 B12 s1 s8
theorem sd_eval (P : Nat → sd_C) (h : ∀ j, j < 145 → P j = none) (o B01 B02 B12 B21 : Bool) (s1 s2 s8 s13 : Int32) :
    sd_Gl o B01 B02 s1 s2 (sd_S02 B02 s2 (sd_S12 B12 B21 s8 s13 (sd_S01 B01 s1 (sd_Pb P)))) 144 = sd_G o B01 B02 B12 B21 s1 s2 s8 s13 := by
  have h1 := h 1 (by decide)
  have h2 := h 2 (by decide)
  have h8 := h 8 (by decide)
  have h44 := h 44 (by decide)
  have h73 := h 73 (by decide)
  have h74 := h 74 (by decide)
  have h80 := h 80 (by decide)
  have h116 := h 116 (by decide)
  have h144 := h 144 (by decide)
  cases o
  · simp [sd_Gl, sd_S02, sd_S12, sd_S01, sd_Pb, sd_jn_at, sd_cj_at, sd_up_at, h1, h2, h8, h44, h73, h74, h80, h116, h144, sd_G, sd_g1, sd_V1, sd_V44, sd_arc]
  · simp [sd_Gl, sd_S02, sd_S12, sd_S01, sd_Pb, sd_jn_at, sd_cj_at, sd_up_at, h1, h2, h8, h44, h73, h74, h80, h116, h144, sd_G, sd_V2, sd_V74, sd_V74a, sd_V1, sd_V44, sd_arc]
end
section
/-! part 2: the small methods -/
section
variable {post : St2 → Prop} {f1 f2 f3 f4 : Int32} {a1 a2 a3 a4 a5 a6 a7 : Nat → Int32}
theorem sd_j113 {c a b : Nat} (hc : c < 145) (ha : a < 145) (hb : b < 145) (h : post (f1, f2, f3, f4, a1, a2, a3, a4, a5, upd a6 c (a6 c + a6 a * a6 b), a7)) :
    wX_join_113 post (nI c) (nI a) (nI b) f1 f2 f3 f4 a1 a2 a3 a4 a5 a6 a7 := by
  unfold wX_join_113
  rw [nI_clamp (show c < 2 ^ 31 by omega), nI_clamp (show a < 2 ^ 31 by omega), nI_clamp (show b < 2 ^ 31 by omega)]
  exact ⟨vp_in_nI hc (by decide), vp_in_nI ha (by decide), vp_in_nI hb (by decide), vp_in_nI hc (by decide), nm_e h⟩
theorem sd_j72 {x5 x6 : Int32} {c a b : Nat} (hc : c < 145) (ha : a < 145) (hb : b < 145)
    (h : post (f1, f2, f3, f4, a1, a2, a3, upd a4 c x5, upd a5 c x6, upd a6 c (a6 c + a6 a * a6 b), a7)) :
    wX_join_72 post (nI c) (nI a) (nI b) x5 x6 f1 f2 f3 f4 a1 a2 a3 a4 a5 a6 a7 := by
  unfold wX_join_72
  rw [nI_clamp (show c < 2 ^ 31 by omega)]
  exact ⟨vp_in_nI hc (by decide), nm_e ⟨vp_in_nI hc (by decide), nm_e (sd_j113 hc ha hb h)⟩⟩
theorem sd_join {x y z m : Int32} (c a b : Nat) (m' : Int32)
    (H : ∀ b4 b5 b6 : Nat → Int32, sd_pic b4 b5 b6 = sd_jn (sd_pic a4 a5 a6) c a b m' → post (f1, f2, f3, f4, a1, a2, a3, b4, b5, b6, a7))
    (ex : x = nI c := by rfl) (ey : y = nI a := by rfl) (ez : z = nI b := by rfl) (em : m = m' := by rfl)
    (hc : c < 145 := by omega) (ha : a < 145 := by omega) (hb : b < 145 := by omega) :
    wpX_join post (f1, f2, f3, f4, a1, a2, a3, a4, a5, a6, a7) x y z m := by
  subst ex ey ez em
  have ec : (nI c).toNatClampNeg = c := nI_clamp (by omega)
  have ea : (nI a).toNatClampNeg = a := nI_clamp (by omega)
  have eb : (nI b).toNatClampNeg = b := nI_clamp (by omega)
  have ic : vp_in (nI c) 145 := vp_in_nI hc (by decide)
  have ia : vp_in (nI a) 145 := vp_in_nI ha (by decide)
  have ib : vp_in (nI b) 145 := vp_in_nI hb (by decide)
  unfold wpX_join
  dsimp only
  rw [ec, ea, eb]
  refine ⟨ia, br_c (fun z1 => ?_) (fun z1 => ⟨ib, br_c (fun z2 => ?_) (fun z2 => ⟨ia, ib, nm_e ⟨ia, ib, nm_e ⟨ic, br_c (fun z3 => ?_) (fun z3 => ⟨ic, br_c (fun z4 => ⟨ic, br_c (fun z5 => ⟨ic, ic, nm_e ?_⟩) (fun z5 => ?_)⟩) (fun z4 => ?_)⟩)⟩⟩⟩)⟩)⟩
  · refine H a4 a5 a6 ?_
    unfold sd_jn
    rw [show sd_pic a4 a5 a6 a = none from sd_mk0 z1, sd_jc_a, sd_up_id]
  · refine H a4 a5 a6 ?_
    unfold sd_jn
    rw [show sd_pic a4 a5 a6 b = none from sd_mk0 z2, sd_jc_b, sd_up_id]
  · refine sd_j72 hc ha hb (H _ _ _ (sd_pu (fun j h => pk_un h) (fun j h => pk_un h) (fun j h => pk_un h) ?_))
    rw [pk_us, pk_us, pk_us, show sd_pic a4 a5 a6 c = none from sd_mk0 z3, show sd_pic a4 a5 a6 a = some (a4 a, a5 a, a6 a) from sd_mkS z1, show sd_pic a4 a5 a6 b = some (a4 b, a5 b, a6 b) from sd_mkS z2, sd_jc_n, z3]
  · refine sd_j113 hc ha hb (H _ _ _ (sd_pu (fun j h => rfl) (fun j h => pk_un h) (fun j h => pk_un h) ?_))
    rw [pk_us, pk_us, show sd_pic a4 a5 a6 c = some (a4 c, a5 c, a6 c) from sd_mkS z3, show sd_pic a4 a5 a6 a = some (a4 a, a5 a, a6 a) from sd_mkS z1, show sd_pic a4 a5 a6 b = some (a4 b, a5 b, a6 b) from sd_mkS z2, sd_jc_s, if_pos z4, if_pos z5]
  · refine sd_j113 hc ha hb (H _ _ _ (sd_pu (fun j h => rfl) (fun j h => rfl) (fun j h => pk_un h) ?_))
    rw [pk_us, show sd_pic a4 a5 a6 c = some (a4 c, a5 c, a6 c) from sd_mkS z3, show sd_pic a4 a5 a6 a = some (a4 a, a5 a, a6 a) from sd_mkS z1, show sd_pic a4 a5 a6 b = some (a4 b, a5 b, a6 b) from sd_mkS z2, sd_jc_s, if_pos z4, if_neg z5]
  · refine sd_j72 hc ha hb (H _ _ _ (sd_pu (fun j h => pk_un h) (fun j h => pk_un h) (fun j h => pk_un h) ?_))
    rw [pk_us, pk_us, pk_us, show sd_pic a4 a5 a6 c = some (a4 c, a5 c, a6 c) from sd_mkS z3, show sd_pic a4 a5 a6 a = some (a4 a, a5 a, a6 a) from sd_mkS z1, show sd_pic a4 a5 a6 b = some (a4 b, a5 b, a6 b) from sd_mkS z2, sd_jc_s, if_neg z4]
theorem sd_begin {x : Int32} (c : Nat) (H : ∀ b4 b5 b6 : Nat → Int32, sd_pic b4 b5 b6 = sd_up (sd_pic a4 a5 a6) c sd_b → post (f1, f2, f3, f4, a1, a2, a3, b4, b5, b6, a7))
    (ex : x = nI c := by rfl) (hc : c < 145 := by omega) : wpX_begin post (f1, f2, f3, f4, a1, a2, a3, a4, a5, a6, a7) x := by
  subst ex
  have ic : vp_in (nI c) 145 := vp_in_nI hc (by decide)
  unfold wpX_begin
  dsimp only
  rw [nI_clamp (show c < 2 ^ 31 by omega)]
  refine ⟨ic, nm_e ⟨ic, nm_e ⟨ic, nm_e (H _ _ _ (sd_pu (fun j h => pk_un h) (fun j h => pk_un h) (fun j h => pk_un h) ?_))⟩⟩⟩
  rw [pk_us, pk_us, pk_us]
  exact sd_mkS (by decide)
theorem sd_put {s : Nat → Int32} {i k : Nat} {x : Int32} (hk : k = i) (h : ∀ j, j < i → s j = x) : ∀ j, j < i + 1 → upd s k x j = x := by
  intro j hj
  rw [hk]
  by_cases e : j = i
  · rw [e, pk_us]
  · rw [pk_un e]
    exact h j (by omega)
theorem sd_lift (H : ∀ b3 : Nat → Int32, (∀ j, j < 6 → b3 j = -1) → post (f1, f2, -1, f4, a1, a2, b3, a4, a5, a6, a7)) : wpX_lift post (f1, f2, f3, f4, a1, a2, a3, a4, a5, a6, a7) :=
  pk_loop (fun n i s => wX_lift_2 post f1 f2 f3 f4 n (nI i) a1 a2 s a4 a5 a6 a7) (fun i s => ∀ j, j < i → s j = -1) 6 0 a3 (by omega) (fun j hj => absurd hj (by omega))
    (fun n s h => pk_le 6 6 (fun _ => H s h) (fun z => absurd z (by omega)))
    (fun n i s hi h hw => pk_le 6 i (fun z => absurd z (by omega)) (fun _ => ⟨pk_in i 6 hi, nm_e (nm_r (nI_1 i) (hw _ (sd_put (nI_clamp (by omega)) h)))⟩))
end
/-- is the arc at place k (from head h to word d) allowed -/
def sd_al (lo : Int32) (a2 a3 : Nat → Int32) (k d : Nat) (h : Int32) : Bool := decide (a2 k = 0 ∧ ¬ nI k = lo ∧ (a3 d < 0 ∨ a3 d = h))
section
variable {post : Int32 → Prop} {f1 f2 f3 f4 : Int32} {a1 a2 a3 a4 a5 a6 a7 : Nat → Int32}
theorem sd_allowed {x y : Int32} (k d : Nat) (h1 : sd_al f3 a2 a3 k d x = true → post 1) (h0 : sd_al f3 a2 a3 k d x = false → post 0)
    (ek : 6 * x + y = nI k := by rfl) (ey : y = nI d := by rfl) (hk : k < 36 := by omega) (hd : d < 6 := by omega) :
    wpX_allowed post (f1, f2, f3, f4, a1, a2, a3, a4, a5, a6, a7) x y := by
  have ed : y.toNatClampNeg = d := pk_cl d ey (by omega)
  have iy : vp_in y 6 := pk_in d 6 hd ey
  unfold wpX_allowed
  dsimp only
  intro x3 e3
  rw [ek] at e3
  subst e3
  rw [nI_clamp (show k < 2 ^ 31 by omega), ed]
  exact ⟨vp_in_nI hk (by decide), br_c
    (fun z1 => br_c (fun z2 => h0 (decide_eq_false (fun t => t.2.1 z2)))
      (fun z2 => ⟨iy, br_c (fun z3 => h1 (decide_eq_true ⟨z1, z2, Or.inl z3⟩))
        (fun z3 => ⟨iy, br_c (fun z4 => h1 (decide_eq_true ⟨z1, z2, Or.inr z4⟩)) (fun z4 => h0 (decide_eq_false (fun t => t.2.2.elim z3 z4)))⟩)⟩))
    (fun z1 => h0 (decide_eq_false (fun t => z1 t.1)))⟩
theorem sd_isArc {x y : Int32} (h : ¬ x < 0 ∧ ¬ f1 < x ∧ ¬ y < 1 ∧ ¬ f1 < y ∧ ¬ x = y) (H : post 1) : wpX_isArc post (f1, f2, f3, f4, a1, a2, a3, a4, a5, a6, a7) x y :=
  br_f h.1 (br_f h.2.1 (br_f h.2.2.1 (br_f h.2.2.2.1 (br_f h.2.2.2.2 H))))
/-- the three observations of the goal's cell -/
def sd_bs (g : sd_C) : Int32 := match g with
  | none => -1000000
  | some (s, _, _) => s
def sd_bt (g : sd_C) : Int32 := match g with
  | none => 0
  | some (_, w, _) => w
def sd_tr (g : sd_C) : Int32 := match g with
  | none => 0
  | some (_, _, n) => n
theorem sd_bestScore {g : sd_C} (hg : sd_pic a4 a5 a6 144 = g) (H : post (sd_bs g)) : wpX_bestScore post (f1, f2, f3, f4, a1, a2, a3, a4, a5, a6, a7) := by
  subst hg
  unfold wpX_bestScore
  dsimp only
  refine br_c (fun h => ?_) (fun h => ?_)
  · rw [show sd_pic a4 a5 a6 144 = none from sd_mk0 h] at H
    exact H
  · rw [show sd_pic a4 a5 a6 144 = some (a4 144, a5 144, a6 144) from sd_mkS h] at H
    exact H
theorem sd_waysBest {g : sd_C} (hg : sd_pic a4 a5 a6 144 = g) (H : post (sd_bt g)) : (a6 144 = 0 → post 0) ∧ (¬ a6 144 = 0 → post (a5 144)) := by
  subst hg
  refine br_c (fun h => ?_) (fun h => ?_)
  · rw [show sd_pic a4 a5 a6 144 = none from sd_mk0 h] at H
    exact H
  · rw [show sd_pic a4 a5 a6 144 = some (a4 144, a5 144, a6 144) from sd_mkS h] at H
    exact H
theorem sd_waysAll {g : sd_C} (hg : sd_pic a4 a5 a6 144 = g) : a6 144 = sd_tr g := by
  subst hg
  by_cases h : a6 144 = 0
  · rw [show sd_pic a4 a5 a6 144 = none from sd_mk0 h]
    exact h
  · rw [show sd_pic a4 a5 a6 144 = some (a4 144, a5 144, a6 144) from sd_mkS h]
    rfl
end
end
section
/-! part 3: the spans of a parser of two words, the goal, and the whole calculation -/
section
variable {post : St2 → Prop} {f2 f3 f4 : Int32} {a1 a2 a3 a4 a5 a6 a7 : Nat → Int32}
theorem sd_span01 {f1 x y : Int32} (H : ∀ b4 b5 b6 : Nat → Int32, sd_pic b4 b5 b6 = sd_S01 (sd_al f3 a2 a3 1 1 0) (a1 1) (sd_pic a4 a5 a6) → post (f1, f2, f3, f4, a1, a2, a3, b4, b5, b6, a7))
    (ex : x = 0 := by rfl) (ey : y = 1 := by rfl) : wpX_fillSpan post (f1, f2, f3, f4, a1, a2, a3, a4, a5, a6, a7) x y := by
  subst ex ey
  unfold wpX_fillSpan
  dsimp only
  refine nm_r (e' := 1) (by decide) ⟨2, ?_⟩
  have C : ∀ b4 b5 b6 : Nat → Int32, sd_pic b4 b5 b6 = sd_cj (sd_al f3 a2 a3 1 1 0) (sd_pic a4 a5 a6) 73 0 43 (a1 1) →
      wX_fillSpan_68 post (wX_fillSpan_10 post 0 1 1 1) 0 1 1 0 (nI 0) (nI 43) f1 f2 f3 f4 a1 a2 a3 b4 b5 b6 a7 := by
    intro b4 b5 b6 e
    refine br_t (by decide) (nm_r (e' := 1) (by decide) ?_)
    refine br_t (by decide) (nm_r (e' := 1) (by decide) ⟨2, ?_⟩)
    refine br_f (by decide) (sd_join 1 73 7 0 (fun c4 c5 c6 e2 => nm_r (e' := 2) (by decide) ?_))
    refine br_t (by decide) ⟨2, ?_⟩
    refine br_f (by decide) (sd_join 37 36 109 0 (fun d4 d5 d6 e3 => nm_r (e' := 1) (by decide) ?_))
    refine br_t (by decide) (H d4 d5 d6 ?_)
    rw [e3, e2, e]
    rfl
  refine br_f (by decide) (nm_r (e' := nI 0) (by decide) (nm_r (e' := nI 43) (by decide) ?_))
  exact sd_allowed 1 1 (fun hB => br_f (by decide) ⟨pk_in 1 36 (by omega), sd_join 73 0 43 (a1 1) (fun b4 b5 b6 e => C b4 b5 b6 (e.trans (sd_cj_t hB)))⟩)
    (fun hB => br_t rfl (C a4 a5 a6 (sd_cj_f hB)))
theorem sd_span12 {f1 x y : Int32} (H : ∀ b4 b5 b6 : Nat → Int32, sd_pic b4 b5 b6 = sd_S12 (sd_al f3 a2 a3 8 2 1) (sd_al f3 a2 a3 13 1 2) (a1 8) (a1 13) (sd_pic a4 a5 a6) → post (f1, f2, f3, f4, a1, a2, a3, b4, b5, b6, a7))
    (ex : x = 1 := by rfl) (ey : y = 2 := by rfl) : wpX_fillSpan post (f1, f2, f3, f4, a1, a2, a3, a4, a5, a6, a7) x y := by
  subst ex ey
  unfold wpX_fillSpan
  dsimp only
  refine nm_r (e' := 8) (by decide) ⟨2, ?_⟩
  have D : ∀ b4 b5 b6 : Nat → Int32, sd_pic b4 b5 b6 = sd_cj (sd_al f3 a2 a3 13 1 2) (sd_cj (sd_al f3 a2 a3 8 2 1) (sd_pic a4 a5 a6) 80 7 50 (a1 8)) 116 7 50 (a1 13) →
      wX_fillSpan_10 post 1 2 8 1 2 f1 f2 f3 f4 a1 a2 a3 b4 b5 b6 a7 := by
    intro b4 b5 b6 e
    refine br_t (by decide) (nm_r (e' := 2) (by decide) ⟨2, ?_⟩)
    refine br_f (by decide) (sd_join 8 80 14 0 (fun c4 c5 c6 e2 => nm_r (e' := 3) (by decide) ?_))
    refine br_t (by decide) ⟨2, ?_⟩
    refine br_f (by decide) (sd_join 44 43 116 0 (fun d4 d5 d6 e3 => nm_r (e' := 2) (by decide) ?_))
    refine br_t (by decide) (H d4 d5 d6 ?_)
    rw [e3, e2, e]
    rfl
  have C : ∀ b4 b5 b6 : Nat → Int32, sd_pic b4 b5 b6 = sd_cj (sd_al f3 a2 a3 8 2 1) (sd_pic a4 a5 a6) 80 7 50 (a1 8) →
      wX_fillSpan_68 post (wX_fillSpan_10 post 1 2 8 1) 1 2 8 1 (nI 7) (nI 50) f1 f2 f3 f4 a1 a2 a3 b4 b5 b6 a7 := by
    intro b4 b5 b6 e
    refine br_f (by decide) ?_
    refine sd_allowed 13 1 (fun hB => br_f (by decide) ⟨pk_in 13 36 (by omega), sd_join 116 7 50 (a1 13) (fun c4 c5 c6 e2 => nm_r (e' := 2) (by decide) (D c4 c5 c6 ?_))⟩)
      (fun hB => br_t rfl (nm_r (e' := 2) (by decide) (D b4 b5 b6 ?_)))
    · rw [e2, e]
      exact sd_cj_t hB
    · rw [e]
      exact sd_cj_f hB
  refine br_f (by decide) (nm_r (e' := nI 7) (by decide) (nm_r (e' := nI 50) (by decide) ?_))
  exact sd_allowed 8 2 (fun hB => br_f (by decide) ⟨pk_in 8 36 (by omega), sd_join 80 7 50 (a1 8) (fun b4 b5 b6 e => C b4 b5 b6 (e.trans (sd_cj_t hB)))⟩)
    (fun hB => br_t rfl (C a4 a5 a6 (sd_cj_f hB)))
theorem sd_span02 {f1 x y : Int32} (H : ∀ b4 b5 b6 : Nat → Int32, sd_pic b4 b5 b6 = sd_S02 (sd_al f3 a2 a3 2 2 0) (a1 2) (sd_pic a4 a5 a6) → post (f1, f2, f3, f4, a1, a2, a3, b4, b5, b6, a7))
    (ex : x = 0 := by rfl) (ey : y = 2 := by rfl) : wpX_fillSpan post (f1, f2, f3, f4, a1, a2, a3, a4, a5, a6, a7) x y := by
  subst ex ey
  unfold wpX_fillSpan
  dsimp only
  refine nm_r (e' := 2) (by decide) ⟨3, ?_⟩
  have D : ∀ b4 b5 b6 : Nat → Int32, sd_pic b4 b5 b6 = sd_cj (sd_al f3 a2 a3 2 2 0) (sd_cj (sd_al f3 a2 a3 2 2 0) (sd_pic a4 a5 a6) 74 0 44 (a1 2)) 74 1 50 (a1 2) →
      wX_fillSpan_68 post (wX_fillSpan_10 post 0 2 2 1) 0 2 2 1 (nI 1) (nI 50) f1 f2 f3 f4 a1 a2 a3 b4 b5 b6 a7 := by
    intro b4 b5 b6 e
    refine br_t (by decide) (nm_r (e' := 2) (by decide) ?_)
    refine br_t (by decide) (nm_r (e' := 1) (by decide) ⟨3, ?_⟩)
    refine br_f (by decide) (sd_join 2 73 8 0 (fun c4 c5 c6 e2 => nm_r (e' := 2) (by decide) ?_))
    refine br_f (by decide) (sd_join 2 74 14 0 (fun d4 d5 d6 e3 => nm_r (e' := 3) (by decide) ?_))
    refine br_t (by decide) ⟨3, ?_⟩
    refine br_f (by decide) (sd_join 38 36 110 0 (fun g4 g5 g6 e4 => nm_r (e' := 1) (by decide) ?_))
    refine br_f (by decide) (sd_join 38 37 116 0 (fun k4 k5 k6 e5 => nm_r (e' := 2) (by decide) ?_))
    refine br_t (by decide) (H k4 k5 k6 ?_)
    rw [e5, e4, e3, e2, e]
    rfl
  have C : ∀ b4 b5 b6 : Nat → Int32, sd_pic b4 b5 b6 = sd_cj (sd_al f3 a2 a3 2 2 0) (sd_pic a4 a5 a6) 74 0 44 (a1 2) →
      wX_fillSpan_68 post (wX_fillSpan_10 post 0 2 2 2) 0 2 2 0 (nI 0) (nI 44) f1 f2 f3 f4 a1 a2 a3 b4 b5 b6 a7 := by
    intro b4 b5 b6 e
    refine br_t (by decide) (nm_r (e' := 1) (by decide) ?_)
    refine br_f (by decide) (nm_r (e' := nI 1) (by decide) (nm_r (e' := nI 50) (by decide) ?_))
    refine sd_allowed 2 2 (fun hB => br_f (by decide) ⟨pk_in 2 36 (by omega), sd_join 74 1 50 (a1 2) (fun c4 c5 c6 e2 => D c4 c5 c6 ?_)⟩)
      (fun hB => br_t rfl (D b4 b5 b6 ?_))
    · rw [e2, e]
      exact sd_cj_t hB
    · rw [e]
      exact sd_cj_f hB
  refine br_f (by decide) (nm_r (e' := nI 0) (by decide) (nm_r (e' := nI 44) (by decide) ?_))
  exact sd_allowed 2 2 (fun hB => br_f (by decide) ⟨pk_in 2 36 (by omega), sd_join 74 0 44 (a1 2) (fun b4 b5 b6 e => C b4 b5 b6 (e.trans (sd_cj_t hB)))⟩)
    (fun hB => br_t rfl (C a4 a5 a6 (sd_cj_f hB)))
theorem sd_goal (H : ∀ b4 b5 b6 : Nat → Int32, sd_pic b4 b5 b6 = sd_Gl (decide (f2 = 0)) (sd_al f3 a2 a3 1 1 0) (sd_al f3 a2 a3 2 2 0) (a1 1) (a1 2) (sd_pic a4 a5 a6) → post (2, f2, f3, f4, a1, a2, a3, b4, b5, b6, a7)) :
    wpX_fillGoal post (2, f2, f3, f4, a1, a2, a3, a4, a5, a6, a7) := by
  unfold wpX_fillGoal
  dsimp only
  refine br_c (fun h => sd_join 144 2 0 0 (fun b4 b5 b6 e => H b4 b5 b6 ?_)) (fun h => ⟨3, ?_⟩)
  · rw [decide_eq_true h]
    exact e
  · rw [decide_eq_false h] at H
    have D : ∀ b4 b5 b6 : Nat → Int32, sd_pic b4 b5 b6 = sd_cj (sd_al f3 a2 a3 2 2 0) (sd_cj (sd_al f3 a2 a3 1 1 0) (sd_pic a4 a5 a6) 144 43 8 (a1 1)) 144 44 14 (a1 2) →
        wX_fillGoal_25 post 1 3 2 f2 f3 f4 a1 a2 a3 b4 b5 b6 a7 := by
      intro b4 b5 b6 e
      exact br_t (by decide) (H b4 b5 b6 e)
    have C : ∀ b4 b5 b6 : Nat → Int32, sd_pic b4 b5 b6 = sd_cj (sd_al f3 a2 a3 1 1 0) (sd_pic a4 a5 a6) 144 43 8 (a1 1) →
        wX_fillGoal_25 post 2 2 2 f2 f3 f4 a1 a2 a3 b4 b5 b6 a7 := by
      intro b4 b5 b6 e
      refine br_f (by decide) (sd_allowed 2 2 (fun hB => br_f (by decide) ⟨pk_in 2 36 (by omega), sd_join 144 44 14 (a1 2) (fun c4 c5 c6 e2 => nm_r (e' := 3) (by decide) (D c4 c5 c6 ?_))⟩)
        (fun hB => br_t rfl (nm_r (e' := 3) (by decide) (D b4 b5 b6 ?_))))
      · rw [e2, e]
        exact sd_cj_t hB
      · rw [e]
        exact sd_cj_f hB
    exact br_f (by decide) (sd_allowed 1 1 (fun hB => br_f (by decide) ⟨pk_in 1 36 (by omega), sd_join 144 43 8 (a1 1) (fun b4 b5 b6 e => nm_r (e' := 2) (by decide) (C b4 b5 b6 (e.trans (sd_cj_t hB))))⟩)
      (fun hB => br_t rfl (nm_r (e' := 2) (by decide) (C a4 a5 a6 (sd_cj_f hB)))))
/-- behind the loop that sets the counts to 0 -/
theorem sd_fill24 (hz : ∀ j, j < 145 → a6 j = 0)
    (H : ∀ b4 b5 b6 : Nat → Int32, sd_pic b4 b5 b6 144 = sd_G (decide (f2 = 0)) (sd_al f3 a2 a3 1 1 0) (sd_al f3 a2 a3 2 2 0) (sd_al f3 a2 a3 8 2 1) (sd_al f3 a2 a3 13 1 2) (a1 1) (a1 2) (a1 8) (a1 13) → post (2, f2, f3, f4, a1, a2, a3, b4, b5, b6, a7)) :
    ∃ n, wX_fill_24 post n 0 2 f2 f3 f4 a1 a2 a3 a4 a5 a6 a7 := by
  refine ⟨4, ?_⟩
  refine br_f (by decide) (sd_begin 0 (fun b4 b5 b6 u1 => sd_begin 36 (fun c4 c5 c6 u2 => nm_r (e' := 1) (by decide) ?_)))
  refine br_f (by decide) (sd_begin 7 (fun d4 d5 d6 u3 => sd_begin 43 (fun e4 e5 e6 u4 => nm_r (e' := 2) (by decide) ?_)))
  refine br_f (by decide) (sd_begin 14 (fun g4 g5 g6 u5 => sd_begin 50 (fun h4 h5 h6 u6 => nm_r (e' := 3) (by decide) ?_)))
  refine br_t (by decide) ⟨3, ?_⟩
  refine br_f (by decide) ⟨3, ?_⟩
  refine br_f (by decide) (sd_span01 (fun k4 k5 k6 u7 => nm_r (e' := 1) (by decide) ?_))
  refine br_f (by decide) (sd_span12 (fun l4 l5 l6 u8 => nm_r (e' := 2) (by decide) ?_))
  refine br_t (by decide) (nm_r (e' := 2) (by decide) ?_)
  refine br_f (by decide) ⟨2, ?_⟩
  refine br_f (by decide) (sd_span02 (fun m4 m5 m6 u9 => nm_r (e' := 1) (by decide) ?_))
  refine br_t (by decide) (nm_r (e' := 3) (by decide) ?_)
  refine br_t (by decide) (sd_goal (fun p4 p5 p6 u10 => H p4 p5 p6 ?_))
  have e : sd_pic p4 p5 p6 = sd_Gl (decide (f2 = 0)) (sd_al f3 a2 a3 1 1 0) (sd_al f3 a2 a3 2 2 0) (a1 1) (a1 2) (sd_S02 (sd_al f3 a2 a3 2 2 0) (a1 2) (sd_S12 (sd_al f3 a2 a3 8 2 1) (sd_al f3 a2 a3 13 1 2) (a1 8) (a1 13) (sd_S01 (sd_al f3 a2 a3 1 1 0) (a1 1) (sd_Pb (sd_pic a4 a5 a6))))) := by
    rw [u10, u9, u8, u7, u6, u5, u4, u3, u2, u1]
    rfl
  rw [e]
  exact sd_eval _ (fun j hj => sd_mk0 (hz j hj)) _ _ _ _ _ _ _ _ _
theorem sd_fill
    (H : ∀ b4 b5 b6 : Nat → Int32, sd_pic b4 b5 b6 144 = sd_G (decide (f2 = 0)) (sd_al f3 a2 a3 1 1 0) (sd_al f3 a2 a3 2 2 0) (sd_al f3 a2 a3 8 2 1) (sd_al f3 a2 a3 13 1 2) (a1 1) (a1 2) (a1 8) (a1 13) → post (2, f2, f3, f4, a1, a2, a3, b4, b5, b6, a7)) :
    wpX_fill post (2, f2, f3, f4, a1, a2, a3, a4, a5, a6, a7) :=
  pk_loop (fun n i s => wX_fill_2 post 2 f2 f3 f4 n (nI i) a1 a2 a3 a4 a5 s a7) (fun i s => ∀ j, j < i → s j = 0) 145 0 a6 (by omega) (fun j hj => absurd hj (by omega))
    (fun n s h => pk_le 145 145 (fun _ => sd_fill24 h H) (fun z => absurd z (by omega)))
    (fun n i s hi h hw => pk_le 145 i (fun z => absurd z (by omega)) (fun _ => ⟨pk_in i 145 hi, nm_e (nm_r (nI_1 i) (hw _ (sd_put (nI_clamp (by omega)) h)))⟩))
end
end
section
/-! part 4: the plain law of the goal's cell -/
def sd_lg (a b : Int32) : Int32 := if a ≤ b then b else a
/-- the score of the flat tree, of the tree with word 2 under word 1 -/
def sd_fl (o : Bool) (p : Int32) : Int32 := bif o then p + 5 else -1000000
def sd_un (B : Bool) (p q : Int32) : Int32 := bif B then p + q else -1000000
def sd_be (o B : Bool) (p q r : Int32) : Int32 := sd_lg (sd_lg (sd_fl o p) (sd_un B p q)) (r + 5)
theorem sd_mk1 {g w : Int32} : sd_mk g w 1 = some (g, w, 1) := sd_mkS (by decide)
theorem sd_mk2 {g w : Int32} : sd_mk g w 2 = some (g, w, 2) := sd_mkS (by decide)
theorem sd_mk3 {g w : Int32} : sd_mk g w 3 = some (g, w, 3) := sd_mkS (by decide)
theorem sd_arc_t (s : Int32) : sd_arc true s = some (s, 1, 1) := by
  show sd_mk (0 + 0 + s) (1 * 1) (0 + 1 * 1) = _
  rw [show (0 : Int32) + 0 + s = s by simp]
  rfl
theorem sd_arc_f (s : Int32) : sd_arc false s = none := rfl
/-- joined with a span of one word, at nothing -/
theorem sd_jb {g w n : Int32} (hn : ¬ n = 0) : sd_jc none (some (g, w, n)) sd_b 0 = some (g, w, n) := by
  show sd_mk (g + 0 + 0) (w * 1) (0 + n * 1) = _
  rw [show g + 0 + 0 = g by simp, show w * 1 = w by simp, show (0 : Int32) + n * 1 = n by simp]
  exact sd_mkS hn
theorem sd_bj {g w n m : Int32} (hn : ¬ n = 0) : sd_jc none sd_b (some (g, w, n)) m = some (g + m, w, n) := by
  show sd_mk (0 + g + m) (1 * w) (0 + 1 * n) = _
  rw [show 0 + g + m = g + m by simp, show 1 * w = w by simp, show (0 : Int32) + 1 * n = n by simp]
  exact sd_mkS hn
theorem sd_V1_t (s : Int32) : sd_V1 true s = some (s, 1, 1) := by
  unfold sd_V1
  rw [sd_arc_t]
  exact sd_jb (by decide)
theorem sd_V1_f (s : Int32) : sd_V1 false s = none := rfl
theorem sd_V44_t (s : Int32) : sd_V44 true s = some (s, 1, 1) := by
  unfold sd_V44
  rw [sd_arc_t, sd_bj (by decide), show s + 0 = s by simp]
theorem sd_V44_f (s : Int32) : sd_V44 false s = none := rfl
/-- one more tree of score t at a cell -/
def sd_ad (c : sd_C) (t : Int32) : sd_C := match c with
  | none => some (t, 1, 1)
  | some (g, w, n) => if t ≤ g then (if t = g then sd_mk g (w + 1) (n + 1) else sd_mk g w (n + 1)) else sd_mk t 1 (n + 1)
theorem sd_ad_j {c : sd_C} {g t m : Int32} (h : g + m = t) : sd_jc c (some (g, 1, 1)) sd_b m = sd_ad c t := by
  subst h
  cases c with
  | none =>
    show sd_mk (g + 0 + m) (1 * 1) (0 + 1 * 1) = _
    rw [show g + 0 + m = g + m by simp]
    rfl
  | some z =>
    obtain ⟨g0, w0, n0⟩ := z
    unfold sd_b
    rw [sd_jc_s]
    rw [show g + 0 + m = g + m by simp, show (1 : Int32) * 1 = 1 by decide]
    rfl
theorem sd_ad_g {c : sd_C} {g t m : Int32} (h : g + m = t) : sd_jc c sd_b (some (g, 1, 1)) m = sd_ad c t := by
  subst h
  cases c with
  | none =>
    show sd_mk (0 + g + m) (1 * 1) (0 + 1 * 1) = _
    rw [show 0 + g + m = g + m by simp]
    rfl
  | some z =>
    obtain ⟨g0, w0, n0⟩ := z
    unfold sd_b
    rw [sd_jc_s]
    rw [show 0 + g + m = g + m by simp, show (1 : Int32) * 1 = 1 by decide]
    rfl
theorem sd_2 (s1 s8 : Int32) : sd_jc none (some (s1, 1, 1)) (some (s8, 1, 1)) 0 = some (s1 + s8, 1, 1) := by
  show sd_mk (s1 + s8 + 0) (1 * 1) (0 + 1 * 1) = _
  rw [show s1 + s8 + 0 = s1 + s8 by simp]
  rfl
/-- the two trees with word 2 under the root -/
def sd_W (c21 c01 : Bool) (y z : Int32) : sd_C := bif c01 then sd_ad (bif c21 then some (y, 1, 1) else none) z else (bif c21 then some (y, 1, 1) else none)
theorem sd_V74_e (B01 B21 : Bool) (s1 s2 s13 : Int32) : sd_V74 B01 true B21 s1 s2 s13 = sd_W B21 B01 (s13 + s2) (s1 + s2) := by
  cases B01 <;> cases B21
  · rfl
  · show sd_jc (sd_jc none sd_b (sd_V44 true s13) s2) none sd_b s2 = some (s13 + s2, 1, 1)
    rw [sd_jc_a, sd_V44_t, sd_bj (by decide)]
  · show sd_jc none (sd_V1 true s1) sd_b s2 = sd_ad none (s1 + s2)
    rw [sd_V1_t, sd_ad_j rfl]
  · show sd_jc (sd_jc none sd_b (sd_V44 true s13) s2) (sd_V1 true s1) sd_b s2 = sd_ad (some (s13 + s2, 1, 1)) (s1 + s2)
    rw [sd_V44_t, sd_V1_t, sd_bj (by decide), sd_ad_j rfl]
theorem sd_V74_f (B01 B21 : Bool) (s1 s2 s13 : Int32) : sd_V74 B01 false B21 s1 s2 s13 = none := rfl
def sd_X (c : Bool) (x : Int32) : sd_C := bif c then some (x, 1, 1) else none
theorem sd_X_e (B01 B12 : Bool) (s1 s8 : Int32) : sd_jc none (sd_arc B01 s1) (sd_V1 B12 s8) 0 = sd_X (B01 && B12) (s1 + s8) := by
  cases B01 <;> cases B12
  · rfl
  · rfl
  · rw [sd_V1_f, sd_jc_b]
    rfl
  · rw [sd_V1_t, sd_arc_t, sd_2]
    rfl
theorem sd_g1_e (B01 B12 : Bool) (s1 s8 : Int32) : sd_g1 B01 B12 s1 s8 = sd_X (B01 && B12) (s1 + s8) := by
  cases B01 <;> cases B12
  · rfl
  · rfl
  · rfl
  · show sd_jc none sd_b (sd_V1 true s8) s1 = some (s1 + s8, 1, 1)
    rw [sd_V1_t, sd_bj (by decide), Int32.add_comm s8 s1]
/-- one word under the root alone -/
theorem sd_G1 (B01 B02 B12 B21 : Bool) (s1 s2 s8 s13 : Int32) : sd_G false B01 B02 B12 B21 s1 s2 s8 s13 =
    bif B02 && B21 then sd_ad (sd_X (B01 && B12) (s1 + s8)) (s13 + s2) else sd_X (B01 && B12) (s1 + s8) := by
  show (bif B02 then sd_jc (sd_g1 B01 B12 s1 s8) (sd_V44 B21 s13) sd_b s2 else sd_g1 B01 B12 s1 s8) = _
  rw [sd_g1_e]
  cases B02
  · rfl
  · cases B21
    · show sd_jc _ (sd_V44 false s13) sd_b s2 = _
      rw [sd_V44_f, sd_jc_a]
      rfl
    · show sd_jc _ (sd_V44 true s13) sd_b s2 = _
      rw [sd_V44_t, sd_ad_j rfl]
      rfl
/-- any number of words under the root -/
theorem sd_G0 (B01 B02 B12 B21 : Bool) (s1 s2 s8 s13 : Int32) : sd_G true B01 B02 B12 B21 s1 s2 s8 s13 =
    sd_jc none (sd_jc (sd_X (B01 && B12) (s1 + s8)) (sd_V74 B01 B02 B21 s1 s2 s13) sd_b 0) sd_b 0 := by
  show sd_jc none (sd_jc (sd_jc none (sd_arc B01 s1) (sd_V1 B12 s8) 0) (sd_V74 B01 B02 B21 s1 s2 s13) sd_b 0) sd_b 0 = _
  rw [sd_X_e]
end
section
/-! part 5: what each question finds at the goal -/
theorem sd_N : (-1000000 : Int32).toInt = -1000000 := by decide
theorem sd_if {a b : Int32} : (if a = b then (1 : Int32) else 0) = if a.toInt = b.toInt then 1 else 0 := by
  by_cases h : a = b
  · rw [if_pos h, if_pos (congrArg Int32.toInt h)]
  · rw [if_neg h, if_neg (fun e => h (Int32.toInt_inj.mp e))]
theorem sd_lgI (a b : Int32) : a.toInt ≤ (sd_lg a b).toInt ∧ b.toInt ≤ (sd_lg a b).toInt ∧ (sd_lg a b = a ∨ sd_lg a b = b) := by
  unfold sd_lg
  by_cases h : a ≤ b
  · rw [if_pos h]
    exact ⟨Int32.le_iff_toInt_le.mp h, Int.le_refl _, Or.inr rfl⟩
  · rw [if_neg h]
    have h' := mt Int32.le_iff_toInt_le.mpr h
    exact ⟨Int.le_refl _, by omega, Or.inl rfl⟩
theorem sd_lg_N {a : Int32} (h : -1000000 < a.toInt) : sd_lg (-1000000) a = a := by
  unfold sd_lg
  rw [if_pos (Int32.le_iff_toInt_le.mpr (by rw [sd_N]; omega))]
theorem sd_lg_N' {a : Int32} (h : -1000000 < a.toInt) : sd_lg a (-1000000) = a := by
  unfold sd_lg
  rw [if_neg (mt Int32.le_iff_toInt_le.mp (by rw [sd_N]; omega))]
theorem sd_ad_c (g t w n : Int32) : (t.toInt < g.toInt ∧ sd_ad (some (g, w, n)) t = sd_mk g w (n + 1)) ∨ (t.toInt = g.toInt ∧ sd_ad (some (g, w, n)) t = sd_mk g (w + 1) (n + 1)) ∨ (g.toInt < t.toInt ∧ sd_ad (some (g, w, n)) t = sd_mk t 1 (n + 1)) := by
  show (_ ∧ (if t ≤ g then (if t = g then sd_mk g (w + 1) (n + 1) else sd_mk g w (n + 1)) else sd_mk t 1 (n + 1)) = _) ∨ (_ ∧ (if t ≤ g then (if t = g then sd_mk g (w + 1) (n + 1) else sd_mk g w (n + 1)) else sd_mk t 1 (n + 1)) = _) ∨ (_ ∧ (if t ≤ g then (if t = g then sd_mk g (w + 1) (n + 1) else sd_mk g w (n + 1)) else sd_mk t 1 (n + 1)) = _)
  by_cases h : t ≤ g
  · have h' := Int32.le_iff_toInt_le.mp h
    by_cases e : t = g
    · exact Or.inr (Or.inl ⟨congrArg Int32.toInt e, by rw [if_pos h, if_pos e]⟩)
    · have e' := mt Int32.toInt_inj.mp e
      exact Or.inl ⟨by omega, by rw [if_pos h, if_neg e]⟩
  · have h' := mt Int32.le_iff_toInt_le.mpr h
    exact Or.inr (Or.inr ⟨by omega, by rw [if_neg h]⟩)
theorem sd_jX_c (x g w : Int32) : (g.toInt < x.toInt ∧ sd_jc (some (x, 1, 1)) (some (g, w, 2)) sd_b 0 = some (x, 1, 3)) ∨ (g.toInt = x.toInt ∧ sd_jc (some (x, 1, 1)) (some (g, w, 2)) sd_b 0 = some (x, 1 + w, 3)) ∨ (x.toInt < g.toInt ∧ sd_jc (some (x, 1, 1)) (some (g, w, 2)) sd_b 0 = some (g, w, 3)) := by
  have E : sd_jc (some (x, 1, 1)) (some (g, w, 2)) sd_b 0 = if g ≤ x then (if g = x then some (x, 1 + w, 3) else some (x, 1, 3)) else some (g, w, 3) := by
    unfold sd_b
    rw [sd_jc_s, show g + 0 + 0 = g by simp, show w * 1 = w by simp, show (1 : Int32) + 2 * 1 = 3 by decide, sd_mk3, sd_mk3, sd_mk3]
  rw [E]
  by_cases h : g ≤ x
  · have h' := Int32.le_iff_toInt_le.mp h
    by_cases e : g = x
    · exact Or.inr (Or.inl ⟨congrArg Int32.toInt e, by rw [if_pos h, if_pos e]⟩)
    · have e' := mt Int32.toInt_inj.mp e
      exact Or.inl ⟨by omega, by rw [if_pos h, if_neg e]⟩
  · have h' := mt Int32.le_iff_toInt_le.mpr h
    exact Or.inr (Or.inr ⟨by omega, by rw [if_neg h]⟩)
theorem sd_be_c (o B : Bool) (p q r : Int32) : (sd_fl o p).toInt ≤ (sd_be o B p q r).toInt ∧ (sd_un B p q).toInt ≤ (sd_be o B p q r).toInt ∧ (r + 5).toInt ≤ (sd_be o B p q r).toInt ∧
    (sd_be o B p q r = sd_fl o p ∨ sd_be o B p q r = sd_un B p q ∨ sd_be o B p q r = r + 5) := by
  have h1 := sd_lgI (sd_fl o p) (sd_un B p q)
  have h2 := sd_lgI (sd_lg (sd_fl o p) (sd_un B p q)) (r + 5)
  have e : sd_be o B p q r = sd_lg (sd_lg (sd_fl o p) (sd_un B p q)) (r + 5) := rfl
  rw [e]
  refine ⟨by omega, by omega, by omega, ?_⟩
  rcases h2.2.2 with h | h
  · rw [h]
    exact h1.2.2.elim Or.inl (fun z => Or.inr (Or.inl z))
  · exact Or.inr (Or.inr h)
/-- the greatest is one of the three and no less than each: the count follows -/
theorem sd_close {F U Y M g w : Int32} (h : F.toInt ≤ M.toInt ∧ U.toInt ≤ M.toInt ∧ Y.toInt ≤ M.toInt ∧ (M = F ∨ M = U ∨ M = Y))
    (g1 : F.toInt ≤ g.toInt) (g2 : U.toInt ≤ g.toInt) (g3 : Y.toInt ≤ g.toInt) (g4 : g.toInt = F.toInt ∨ g.toInt = U.toInt ∨ g.toInt = Y.toInt)
    (hw : w = ((if F.toInt = g.toInt then (1 : Int32) else 0) + (if U.toInt = g.toInt then 1 else 0)) + (if Y.toInt = g.toInt then 1 else 0)) :
    g = M ∧ w = ((if F = M then (1 : Int32) else 0) + (if U = M then 1 else 0)) + (if Y = M then 1 else 0) := by
  have h4 : M.toInt = F.toInt ∨ M.toInt = U.toInt ∨ M.toInt = Y.toInt := by
    rcases h.2.2.2 with e | e | e
    · exact Or.inl (congrArg Int32.toInt e)
    · exact Or.inr (Or.inl (congrArg Int32.toInt e))
    · exact Or.inr (Or.inr (congrArg Int32.toInt e))
  have e : g = M := Int32.toInt_inj.mp (by omega)
  refine ⟨e, ?_⟩
  rw [← e, sd_if, sd_if, sd_if]
  exact hw
theorem sd_C1 {o B : Bool} {p q r : Int32} (hx : -1000000 < (p + q).toInt) (hy : -1000000 < (r + 5).toInt) (hz : -1000000 < (p + 5).toInt) :
    sd_bs (sd_G o true true B true p 5 q r) = sd_be o B p q r ∧
    sd_bt (sd_G o true true B true p 5 q r) = ((if sd_fl o p = sd_be o B p q r then (1 : Int32) else 0) + (if sd_un B p q = sd_be o B p q r then 1 else 0)) + (if r + 5 = sd_be o B p q r then 1 else 0) := by
  have M := sd_be_c o B p q r
  generalize sd_be o B p q r = m at M ⊢
  have n := sd_N
  cases o <;> cases B
  · rw [sd_G1]
    rw [show sd_fl false p = -1000000 from rfl, show sd_un false p q = -1000000 from rfl] at M ⊢
    show r + 5 = m ∧ (1 : Int32) = _
    refine sd_close M ?_ ?_ ?_ ?_ ?_
    · omega
    · omega
    · omega
    · omega
    · (repeat' split) <;> first | rfl | (exfalso; omega)
  · rw [sd_G1]
    rw [show sd_fl false p = -1000000 from rfl, show sd_un true p q = p + q from rfl] at M ⊢
    show sd_bs (sd_ad (some (p + q, 1, 1)) (r + 5)) = m ∧ sd_bt (sd_ad (some (p + q, 1, 1)) (r + 5)) = _
    rcases sd_ad_c (p + q) (r + 5) 1 1 with ⟨c, e⟩ | ⟨c, e⟩ | ⟨c, e⟩
    · rw [e]
      refine sd_close (g := p + q) (w := 1) M ?_ ?_ ?_ ?_ ?_
      · omega
      · omega
      · omega
      · omega
      · (repeat' split) <;> first | rfl | (exfalso; omega)
    · rw [e]
      refine sd_close (g := p + q) (w := 2) M ?_ ?_ ?_ ?_ ?_
      · omega
      · omega
      · omega
      · omega
      · (repeat' split) <;> first | rfl | (exfalso; omega)
    · rw [e]
      refine sd_close (g := r + 5) (w := 1) M ?_ ?_ ?_ ?_ ?_
      · omega
      · omega
      · omega
      · omega
      · (repeat' split) <;> first | rfl | (exfalso; omega)
  · rw [sd_G0, sd_V74_e]
    rw [show sd_fl true p = p + 5 from rfl, show sd_un false p q = -1000000 from rfl] at M ⊢
    show sd_bs (sd_jc none (sd_jc none (sd_ad (some (r + 5, 1, 1)) (p + 5)) sd_b 0) sd_b 0) = m ∧ sd_bt (sd_jc none (sd_jc none (sd_ad (some (r + 5, 1, 1)) (p + 5)) sd_b 0) sd_b 0) = _
    rcases sd_ad_c (r + 5) (p + 5) 1 1 with ⟨c, e⟩ | ⟨c, e⟩ | ⟨c, e⟩
    · rw [e, show (1 : Int32) + 1 = 2 by decide, sd_mk2, sd_jb (by decide), sd_jb (by decide)]
      refine sd_close (g := r + 5) (w := 1) M ?_ ?_ ?_ ?_ ?_
      · omega
      · omega
      · omega
      · omega
      · (repeat' split) <;> first | rfl | (exfalso; omega)
    · rw [e, show (1 : Int32) + 1 = 2 by decide, sd_mk2, sd_jb (by decide), sd_jb (by decide)]
      refine sd_close (g := r + 5) (w := 2) M ?_ ?_ ?_ ?_ ?_
      · omega
      · omega
      · omega
      · omega
      · (repeat' split) <;> first | rfl | (exfalso; omega)
    · rw [e, show (1 : Int32) + 1 = 2 by decide, sd_mk2, sd_jb (by decide), sd_jb (by decide)]
      refine sd_close (g := p + 5) (w := 1) M ?_ ?_ ?_ ?_ ?_
      · omega
      · omega
      · omega
      · omega
      · (repeat' split) <;> first | rfl | (exfalso; omega)
  · rw [sd_G0, sd_V74_e]
    rw [show sd_fl true p = p + 5 from rfl, show sd_un true p q = p + q from rfl] at M ⊢
    show sd_bs (sd_jc none (sd_jc (some (p + q, 1, 1)) (sd_ad (some (r + 5, 1, 1)) (p + 5)) sd_b 0) sd_b 0) = m ∧ sd_bt (sd_jc none (sd_jc (some (p + q, 1, 1)) (sd_ad (some (r + 5, 1, 1)) (p + 5)) sd_b 0) sd_b 0) = _
    rcases sd_ad_c (r + 5) (p + 5) 1 1 with ⟨c, e⟩ | ⟨c, e⟩ | ⟨c, e⟩
    · rw [e, show (1 : Int32) + 1 = 2 by decide, sd_mk2]
      rcases sd_jX_c (p + q) (r + 5) 1 with ⟨d, u⟩ | ⟨d, u⟩ | ⟨d, u⟩
      · rw [u, sd_jb (by decide)]
        refine sd_close (g := p + q) (w := 1) M ?_ ?_ ?_ ?_ ?_
        · omega
        · omega
        · omega
        · omega
        · (repeat' split) <;> first | rfl | (exfalso; omega)
      · rw [u, sd_jb (by decide)]
        refine sd_close (g := p + q) (w := 1 + 1) M ?_ ?_ ?_ ?_ ?_
        · omega
        · omega
        · omega
        · omega
        · (repeat' split) <;> first | rfl | (exfalso; omega)
      · rw [u, sd_jb (by decide)]
        refine sd_close (g := r + 5) (w := 1) M ?_ ?_ ?_ ?_ ?_
        · omega
        · omega
        · omega
        · omega
        · (repeat' split) <;> first | rfl | (exfalso; omega)
    · rw [e, show (1 : Int32) + 1 = 2 by decide, sd_mk2]
      rcases sd_jX_c (p + q) (r + 5) 2 with ⟨d, u⟩ | ⟨d, u⟩ | ⟨d, u⟩
      · rw [u, sd_jb (by decide)]
        refine sd_close (g := p + q) (w := 1) M ?_ ?_ ?_ ?_ ?_
        · omega
        · omega
        · omega
        · omega
        · (repeat' split) <;> first | rfl | (exfalso; omega)
      · rw [u, sd_jb (by decide)]
        refine sd_close (g := p + q) (w := 1 + 2) M ?_ ?_ ?_ ?_ ?_
        · omega
        · omega
        · omega
        · omega
        · (repeat' split) <;> first | rfl | (exfalso; omega)
      · rw [u, sd_jb (by decide)]
        refine sd_close (g := r + 5) (w := 2) M ?_ ?_ ?_ ?_ ?_
        · omega
        · omega
        · omega
        · omega
        · (repeat' split) <;> first | rfl | (exfalso; omega)
    · rw [e, show (1 : Int32) + 1 = 2 by decide, sd_mk2]
      rcases sd_jX_c (p + q) (p + 5) 1 with ⟨d, u⟩ | ⟨d, u⟩ | ⟨d, u⟩
      · rw [u, sd_jb (by decide)]
        refine sd_close (g := p + q) (w := 1) M ?_ ?_ ?_ ?_ ?_
        · omega
        · omega
        · omega
        · omega
        · (repeat' split) <;> first | rfl | (exfalso; omega)
      · rw [u, sd_jb (by decide)]
        refine sd_close (g := p + q) (w := 1 + 1) M ?_ ?_ ?_ ?_ ?_
        · omega
        · omega
        · omega
        · omega
        · (repeat' split) <;> first | rfl | (exfalso; omega)
      · rw [u, sd_jb (by decide)]
        refine sd_close (g := p + 5) (w := 1) M ?_ ?_ ?_ ?_ ?_
        · omega
        · omega
        · omega
        · omega
        · (repeat' split) <;> first | rfl | (exfalso; omega)
/-- word 1 under the root -/
theorem sd_C2 {o B : Bool} {p q r : Int32} (hx : -1000000 < (p + q).toInt) (hz : -1000000 < (p + 5).toInt) :
    sd_bs (sd_G o true true B false p 5 q r) = sd_lg (sd_fl o p) (sd_un B p q) ∧
    sd_tr (sd_G o true true B false p 5 q r) = (bif o then 1 else 0) + (bif B then 1 else 0) := by
  cases o <;> cases B
  · rw [sd_G1]
    exact ⟨by rfl, by rfl⟩
  · rw [sd_G1]
    exact ⟨(sd_lg_N hx).symm, by rfl⟩
  · rw [sd_G0, sd_V74_e]
    show sd_bs (sd_jc none (sd_jc none (some (p + 5, 1, 1)) sd_b 0) sd_b 0) = _ ∧ sd_tr (sd_jc none (sd_jc none (some (p + 5, 1, 1)) sd_b 0) sd_b 0) = _
    rw [sd_jb (by decide), sd_jb (by decide)]
    exact ⟨(sd_lg_N' hz).symm, by rfl⟩
  · rw [sd_G0, sd_V74_e]
    show sd_bs (sd_jc none (sd_jc (some (p + q, 1, 1)) (some (p + 5, 1, 1)) sd_b 0) sd_b 0) = sd_lg (p + 5) (p + q) ∧ sd_tr (sd_jc none (sd_jc (some (p + q, 1, 1)) (some (p + 5, 1, 1)) sd_b 0) sd_b 0) = 1 + 1
    rw [sd_ad_j (t := p + 5) (by simp)]
    unfold sd_lg
    rcases sd_ad_c (p + q) (p + 5) 1 1 with ⟨c, e⟩ | ⟨c, e⟩ | ⟨c, e⟩
    · rw [e, show (1 : Int32) + 1 = 2 by decide, sd_mk2, sd_jb (by decide), if_pos (Int32.le_iff_toInt_le.mpr (by omega))]
      exact ⟨rfl, rfl⟩
    · rw [e, show (1 : Int32) + 1 = 2 by decide, sd_mk2, sd_jb (by decide), if_pos (Int32.le_iff_toInt_le.mpr (by omega))]
      exact ⟨rfl, rfl⟩
    · rw [e, show (1 : Int32) + 1 = 2 by decide, sd_mk2, sd_jb (by decide), if_neg (mt Int32.le_iff_toInt_le.mp (by omega))]
      exact ⟨rfl, rfl⟩
/-- word 1 under word 2 -/
theorem sd_C3 {o B : Bool} {p q r : Int32} : sd_bs (sd_G o false true B true p 5 q r) = r + 5 := by
  cases o
  · rw [sd_G1]
    rfl
  · rw [sd_G0, sd_V74_e]
    show sd_bs (sd_jc none (sd_jc none (some (r + 5, 1, 1)) sd_b 0) sd_b 0) = _
    rw [sd_jb (by decide), sd_jb (by decide)]
    rfl
/-- both words under the root -/
theorem sd_C4 {o : Bool} {p q r : Int32} : sd_bs (sd_G o true true false false p 5 q r) = sd_fl o p := by
  cases o
  · rw [sd_G1]
    rfl
  · rw [sd_G0, sd_V74_e]
    show sd_bs (sd_jc none (sd_jc none (some (p + 5, 1, 1)) sd_b 0) sd_b 0) = _
    rw [sd_jb (by decide), sd_jb (by decide)]
    rfl
/-- word 2 not under the root -/
theorem sd_C5 {o B B21 : Bool} {p q r : Int32} : sd_bs (sd_G o true false B B21 p 5 q r) = sd_un B p q := by
  cases o <;> cases B
  · rw [sd_G1]
    rfl
  · rw [sd_G1]
    rfl
  · rw [sd_G0, sd_V74_f]
    rfl
  · rw [sd_G0, sd_V74_f]
    show sd_bs (sd_jc none (sd_jc (some (p + q, 1, 1)) none sd_b 0) sd_b 0) = _
    rw [sd_jc_a, sd_jb (by decide)]
    rfl
/-- which of the three the greatest is -/
theorem sd_M1 {o B : Bool} {p q r : Int32} (h : sd_lg (sd_fl o p) (sd_un B p q) = sd_be o B p q r) : sd_fl o p = sd_be o B p q r ∨ sd_un B p q = sd_be o B p q r := by
  rcases (sd_lgI (sd_fl o p) (sd_un B p q)).2.2 with e | e
  · exact Or.inl (e.symm.trans h)
  · exact Or.inr (e.symm.trans h)
theorem sd_M2 {o B : Bool} {p q r : Int32} (h : ¬ sd_lg (sd_fl o p) (sd_un B p q) = sd_be o B p q r) : ¬ sd_fl o p = sd_be o B p q r ∧ ¬ sd_un B p q = sd_be o B p q r ∧ r + 5 = sd_be o B p q r := by
  have h1 := sd_lgI (sd_fl o p) (sd_un B p q)
  have h2 := sd_lgI (sd_lg (sd_fl o p) (sd_un B p q)) (r + 5)
  have e : sd_be o B p q r = sd_lg (sd_lg (sd_fl o p) (sd_un B p q)) (r + 5) := rfl
  rw [← e] at h2
  have h3 := mt Int32.toInt_inj.mp h
  refine ⟨fun z => ?_, fun z => ?_, ?_⟩
  · have z' := congrArg Int32.toInt z
    omega
  · have z' := congrArg Int32.toInt z
    omega
  · rcases h2.2.2 with u | u
    · exact absurd u.symm h
    · exact u.symm
theorem sd_M3 {o B : Bool} {p q r : Int32} (hy : -1000000 < (r + 5).toInt) : ¬ sd_be o B p q r = -1000000 := by
  intro z
  have h := (sd_be_c o B p q r).2.2.1
  rw [z, sd_N] at h
  omega
end
section
/-! part 6: the questions -/
/-- the arcs as the law sets them: B: the arc from 1 to 2 is not banned -/
def sd_K (a1 a2 : Nat → Int32) (p q r : Int32) (B : Bool) : Prop := a1 1 = p ∧ a1 2 = 5 ∧ a1 8 = q ∧ a1 13 = r ∧ a2 1 = 0 ∧ a2 2 = 0 ∧ B = decide (a2 8 = 0) ∧ a2 13 = 0
section
variable {lo : Int32} {a2 a3 : Nat → Int32} {k d : Nat} {h : Int32}
theorem sd_al_t (h2 : a2 k = 0) (hl : ¬ nI k = lo) (h3 : a3 d < 0 ∨ a3 d = h) : sd_al lo a2 a3 k d h = true := decide_eq_true ⟨h2, hl, h3⟩
theorem sd_al_l (hl : nI k = lo) : sd_al lo a2 a3 k d h = false := decide_eq_false (fun t => t.2.1 hl)
theorem sd_al_h (h3 : ¬ (a3 d < 0 ∨ a3 d = h)) : sd_al lo a2 a3 k d h = false := decide_eq_false (fun t => h3 t.2.2)
theorem sd_al_B {B : Bool} (hB : B = decide (a2 k = 0)) (hl : ¬ nI k = lo) (h3 : a3 d < 0 ∨ a3 d = h) : sd_al lo a2 a3 k d h = B := by
  rw [hB]
  exact decide_eq_decide.mpr ⟨fun t => t.1, fun t => ⟨t, hl, h3⟩⟩
theorem sd_m1 {b : Nat → Int32} {j : Nat} (hb : ∀ j, j < 6 → b j = -1) (hj : j < 6) : b j < 0 ∨ b j = h := by
  rw [hb j hj]
  exact Or.inl (by decide)
end
section
variable {f2 f3 f4 : Int32} {a1 a2 a3 a4 a5 a6 a7 : Nat → Int32} {p q r : Int32} {o B : Bool}
theorem sd_fillK {post : St2 → Prop} (B01 B02 B12 B21 : Bool) (k : sd_K a1 a2 p q r B) (ho : o = decide (f2 = 0))
    (h01 : sd_al f3 a2 a3 1 1 0 = B01) (h02 : sd_al f3 a2 a3 2 2 0 = B02) (h12 : sd_al f3 a2 a3 8 2 1 = B12) (h21 : sd_al f3 a2 a3 13 1 2 = B21)
    (H : ∀ b4 b5 b6 : Nat → Int32, sd_pic b4 b5 b6 144 = sd_G o B01 B02 B12 B21 p 5 q r → post (2, f2, f3, f4, a1, a2, a3, b4, b5, b6, a7)) :
    wpX_fill post (2, f2, f3, f4, a1, a2, a3, a4, a5, a6, a7) :=
  sd_fill (fun b4 b5 b6 e => H b4 b5 b6 (by
    rw [← ho, h01, h02, h12, h21, k.1, k.2.1, k.2.2.1, k.2.2.2.1] at e
    exact e))
theorem sd_best {post : Int32 → St2 → Prop} (k : sd_K a1 a2 p q r B) (ho : o = decide (f2 = 0))
    (H : ∀ b3 b4 b5 b6 : Nat → Int32, post (sd_bs (sd_G o true true B true p 5 q r)) (2, f2, -1, f4, a1, a2, b3, b4, b5, b6, a7)) :
    wpX_best post (2, f2, f3, f4, a1, a2, a3, a4, a5, a6, a7) := by
  unfold wpX_best
  dsimp only
  refine sd_lift (fun b3 h3 => ?_)
  dsimp only
  refine sd_fillK true true B true k ho (sd_al_t k.2.2.2.2.1 (by decide) (sd_m1 h3 (by decide))) (sd_al_t k.2.2.2.2.2.1 (by decide) (sd_m1 h3 (by decide)))
    (sd_al_B k.2.2.2.2.2.2.1 (by decide) (sd_m1 h3 (by decide))) (sd_al_t k.2.2.2.2.2.2.2 (by decide) (sd_m1 h3 (by decide))) (fun b4 b5 b6 e => ?_)
  exact sd_bestScore e (H b3 b4 b5 b6)
theorem sd_bestTrees {post : Int32 → St2 → Prop} (k : sd_K a1 a2 p q r B) (ho : o = decide (f2 = 0))
    (H : ∀ b3 b4 b5 b6 : Nat → Int32, post (sd_bt (sd_G o true true B true p 5 q r)) (2, f2, -1, f4, a1, a2, b3, b4, b5, b6, a7)) :
    wpX_bestTrees post (2, f2, f3, f4, a1, a2, a3, a4, a5, a6, a7) := by
  unfold wpX_bestTrees
  dsimp only
  refine sd_lift (fun b3 h3 => ?_)
  dsimp only
  refine sd_fillK true true B true k ho (sd_al_t k.2.2.2.2.1 (by decide) (sd_m1 h3 (by decide))) (sd_al_t k.2.2.2.2.2.1 (by decide) (sd_m1 h3 (by decide)))
    (sd_al_B k.2.2.2.2.2.2.1 (by decide) (sd_m1 h3 (by decide))) (sd_al_t k.2.2.2.2.2.2.2 (by decide) (sd_m1 h3 (by decide))) (fun b4 b5 b6 e => ?_)
  exact sd_waysBest (post := fun v => post v (2, f2, -1, f4, a1, a2, b3, b4, b5, b6, a7)) e (H b3 b4 b5 b6)
theorem sd_bestWithout {post : Int32 → St2 → Prop} (k : sd_K a1 a2 p q r B) (ho : o = decide (f2 = 0))
    (H : ∀ b3 b4 b5 b6 : Nat → Int32, post (sd_bs (sd_G o true false B true p 5 q r)) (2, f2, 2, f4, a1, a2, b3, b4, b5, b6, a7)) :
    wpX_bestWithout post (2, f2, f3, f4, a1, a2, a3, a4, a5, a6, a7) 0 2 := by
  unfold wpX_bestWithout
  dsimp only
  refine sd_isArc (by decide) (br_f (by decide) ?_)
  refine sd_lift (fun b3 h3 => nm_r (e' := 2) (by decide) ?_)
  dsimp only
  refine sd_fillK true false B true k ho (sd_al_t k.2.2.2.2.1 (by decide) (sd_m1 h3 (by decide))) (sd_al_l (by decide))
    (sd_al_B k.2.2.2.2.2.2.1 (by decide) (sd_m1 h3 (by decide))) (sd_al_t k.2.2.2.2.2.2.2 (by decide) (sd_m1 h3 (by decide))) (fun b4 b5 b6 e => ?_)
  exact sd_bestScore e (H b3 b4 b5 b6)
theorem sd_treesWith {post : Int32 → St2 → Prop} (k : sd_K a1 a2 p q r B) (ho : o = decide (f2 = 0))
    (H : ∀ b3 b4 b5 b6 : Nat → Int32, post (sd_tr (sd_G o true true B false p 5 q r)) (2, f2, -1, f4, a1, a2, b3, b4, b5, b6, a7)) :
    wpX_treesWith post (2, f2, f3, f4, a1, a2, a3, a4, a5, a6, a7) 0 1 := by
  unfold wpX_treesWith
  dsimp only
  refine sd_isArc (by decide) (br_f (by decide) ?_)
  refine sd_lift (fun b3 h3 => ⟨pk_in 1 6 (by decide), nm_r (e' := upd b3 1 0) (by rw [pk_cl 1]; rfl) ?_⟩)
  dsimp only
  have h2 : upd b3 1 0 2 < 0 := by
    rw [pk_un (by decide), h3 2 (by decide)]
    decide
  refine sd_fillK true true B false k ho (sd_al_t k.2.2.2.2.1 (by decide) (Or.inr pk_us)) (sd_al_t k.2.2.2.2.2.1 (by decide) (Or.inl h2))
    (sd_al_B k.2.2.2.2.2.2.1 (by decide) (Or.inl h2)) (sd_al_h (by rw [pk_us]; decide)) (fun b4 b5 b6 e => ?_)
  have e' := sd_waysAll e
  have H' := H (upd b3 1 0) b4 b5 b6
  rw [← e'] at H'
  exact H'
end
/-! the first best tree -/
section
variable {post : St2 → Prop} {J : Int32 → Int32 → Int32 → Int32 → Int32 → (Nat → Int32) → (Nat → Int32) → (Nat → Int32) → (Nat → Int32) → (Nat → Int32) → (Nat → Int32) → (Nat → Int32) → Prop}
  {f2 : Int32} {a1 a2 a3 a4 a5 a6 a7 : Nat → Int32} {p q r : Int32} {o B : Bool}
theorem sd_118 {x1 x2 x3 : Int32} (d : Nat) (v : Int32) (hv : a3 d = v) (H : J x3 2 f2 (-1) 1 a1 a2 a3 a4 a5 a6 (upd a7 d v))
    (hn : vp_nar .byte v = v := by rfl) (e3 : x2 + 1 = x3 := by rfl) (ex : x2 = nI d := by rfl) (hd : d < 6 := by omega) :
    wX_findHeads_118 post J x1 x2 2 f2 (-1) 1 a1 a2 a3 a4 a5 a6 a7 := by
  unfold wX_findHeads_118
  rw [pk_cl d ex (by omega), hv, hn]
  exact ⟨pk_in d 6 hd ex, pk_in d 6 hd ex, nm_e (nm_r e3 H)⟩
theorem sd_try {x1 x2 x4 : Int32} {n : Nat} (x5 : Int32) (d : Nat) (B01 B02 B12 B21 : Bool) (k : sd_K a1 a2 p q r B) (ho : o = decide (f2 = 0))
    (h01 : sd_al (-1) a2 (upd a3 d x4) 1 1 0 = B01) (h02 : sd_al (-1) a2 (upd a3 d x4) 2 2 0 = B02) (h12 : sd_al (-1) a2 (upd a3 d x4) 8 2 1 = B12) (h21 : sd_al (-1) a2 (upd a3 d x4) 13 1 2 = B21)
    (Ht : sd_bs (sd_G o B01 B02 B12 B21 p 5 q r) = x1 → ∀ b4 b5 b6 : Nat → Int32, wX_findHeads_63 post J x1 x2 n 1 x5 2 f2 (-1) 1 a1 a2 (upd a3 d x4) b4 b5 b6 a7)
    (Hf : ¬ sd_bs (sd_G o B01 B02 B12 B21 p 5 q r) = x1 → ∀ b4 b5 b6 : Nat → Int32, wX_findHeads_63 post J x1 x2 n 0 x5 2 f2 (-1) 1 a1 a2 (upd a3 d x4) b4 b5 b6 a7)
    (hx : ¬ 2 < x4) (hne : ¬ x4 = x2) (eh : x4.toInt8.toInt32 = x4) (e5 : x4 + 1 = x5) (ex : x2 = nI d) (hd : d < 6) :
    wX_findHeads_63 post J x1 x2 (n + 1) 0 x4 2 f2 (-1) 1 a1 a2 a3 a4 a5 a6 a7 := by
  refine br_f hx (br_t rfl (br_f hne ⟨pk_in d 6 hd ex, ?_⟩))
  rw [pk_cl d ex (by omega), eh]
  refine nm_e ?_
  refine sd_fillK B01 B02 B12 B21 k ho h01 h02 h12 h21 (fun b4 b5 b6 e => ?_)
  exact sd_bestScore e (br_c (fun h => nm_r e5 (Ht h b4 b5 b6)) (fun h => nm_r e5 (Hf h b4 b5 b6)))
/-- word 2, word 1 being under the root -/
theorem sd_d2a (k : sd_K a1 a2 p q r B) (ho : o = decide (f2 = 0)) (h1 : a3 1 = 0) (hc : sd_fl o p = sd_be o B p q r ∨ sd_un B p q = sd_be o B p q r)
    (H : ∀ b3 b4 b5 b6 b7 : Nat → Int32, b7 2 = (if sd_fl o p = sd_be o B p q r then 0 else if sd_un B p q = sd_be o B p q r then 1 else 0) → post (2, f2, -1, 1, a1, a2, b3, b4, b5, b6, b7)) :
    wX_findHeads_50 post (sd_be o B p q r) 2 2 2 f2 (-1) 1 a1 a2 a3 a4 a5 a6 a7 := by
  have g1 : ∀ v : Int32, upd a3 2 v 1 = 0 := fun v => (pk_un (by decide)).trans h1
  have g2 : ∀ u v : Int32, upd (upd a3 2 u) 2 v 1 = 0 := fun u v => (pk_un (by decide)).trans (g1 u)
  refine br_f (by decide) ⟨4, ?_⟩
  refine sd_try 1 2 true true false false k ho (sd_al_t k.2.2.2.2.1 (by decide) (Or.inr (g1 0))) (sd_al_t k.2.2.2.2.2.1 (by decide) (Or.inr pk_us))
    (sd_al_h (by rw [pk_us]; decide)) (sd_al_h (by rw [g1]; decide)) (fun h b4 b5 b6 => ?_) (fun h b4 b5 b6 => ?_) (by decide) (by decide) (by decide) (by decide) rfl (by decide)
  · rw [sd_C4] at h
    refine br_f (by decide) (br_f (by decide) (sd_118 2 0 pk_us ?_))
    refine br_t (by decide) (H _ _ _ _ _ ?_)
    rw [pk_us, if_pos h]
  · rw [sd_C4] at h
    have h' := hc.resolve_left h
    refine sd_try 2 2 true false B false k ho (sd_al_t k.2.2.2.2.1 (by decide) (Or.inr (g2 0 1))) (sd_al_h (by rw [pk_us]; decide))
      (sd_al_B k.2.2.2.2.2.2.1 (by decide) (Or.inr pk_us)) (sd_al_h (by rw [g2]; decide)) (fun z c4 c5 c6 => ?_) (fun z => ?_) (by decide) (by decide) (by decide) (by decide) rfl (by decide)
    · refine br_f (by decide) (br_f (by decide) (sd_118 2 1 pk_us ?_))
      refine br_t (by decide) (H _ _ _ _ _ ?_)
      rw [pk_us, if_neg h, if_pos h']
    · rw [sd_C5] at z
      exact absurd h' z
/-- word 2, word 1 being under word 2 -/
theorem sd_d2b (k : sd_K a1 a2 p q r B) (ho : o = decide (f2 = 0)) (h1 : a3 1 = 2) (hc : ¬ sd_fl o p = sd_be o B p q r ∧ ¬ sd_un B p q = sd_be o B p q r ∧ r + 5 = sd_be o B p q r)
    (H : ∀ b3 b4 b5 b6 b7 : Nat → Int32, b7 2 = (if sd_fl o p = sd_be o B p q r then 0 else if sd_un B p q = sd_be o B p q r then 1 else 0) → post (2, f2, -1, 1, a1, a2, b3, b4, b5, b6, b7)) :
    wX_findHeads_50 post (sd_be o B p q r) 2 2 2 f2 (-1) 1 a1 a2 a3 a4 a5 a6 a7 := by
  have g1 : ∀ v : Int32, upd a3 2 v 1 = 2 := fun v => (pk_un (by decide)).trans h1
  refine br_f (by decide) ⟨4, ?_⟩
  refine sd_try 1 2 false true false true k ho (sd_al_h (by rw [g1]; decide)) (sd_al_t k.2.2.2.2.2.1 (by decide) (Or.inr pk_us))
    (sd_al_h (by rw [pk_us]; decide)) (sd_al_t k.2.2.2.2.2.2.2 (by decide) (Or.inr (g1 0))) (fun h b4 b5 b6 => ?_) (fun h => ?_) (by decide) (by decide) (by decide) (by decide) rfl (by decide)
  · refine br_f (by decide) (br_f (by decide) (sd_118 2 0 pk_us ?_))
    refine br_t (by decide) (H _ _ _ _ _ ?_)
    rw [pk_us, if_neg hc.1, if_neg hc.2.1]
  · rw [sd_C3] at h
    exact absurd hc.2.2 h
theorem sd_d1 (k : sd_K a1 a2 p q r B) (ho : o = decide (f2 = 0)) (h3 : ∀ j, j < 6 → a3 j = -1) (hx : -1000000 < (p + q).toInt) (hz : -1000000 < (p + 5).toInt)
    (H : ∀ b3 b4 b5 b6 b7 : Nat → Int32, b7 2 = (if sd_fl o p = sd_be o B p q r then 0 else if sd_un B p q = sd_be o B p q r then 1 else 0) → post (2, f2, -1, 1, a1, a2, b3, b4, b5, b6, b7)) :
    wX_findHeads_50 post (sd_be o B p q r) 3 1 2 f2 (-1) 1 a1 a2 a3 a4 a5 a6 a7 := by
  have g2 : ∀ v : Int32, upd a3 1 v 2 < 0 := fun v => by
    rw [pk_un (by decide), h3 2 (by decide)]
    decide
  have g3 : ∀ u v : Int32, upd (upd a3 1 u) 1 v 2 < 0 := fun u v => by
    rw [pk_un (by decide)]
    exact g2 u
  refine br_f (by decide) ⟨4, ?_⟩
  refine sd_try 1 1 true true B false k ho (sd_al_t k.2.2.2.2.1 (by decide) (Or.inr pk_us)) (sd_al_t k.2.2.2.2.2.1 (by decide) (Or.inl (g2 0)))
    (sd_al_B k.2.2.2.2.2.2.1 (by decide) (Or.inl (g2 0))) (sd_al_h (by rw [pk_us]; decide)) (fun h b4 b5 b6 => ?_) (fun h b4 b5 b6 => ?_) (by decide) (by decide) (by decide) (by decide) rfl (by decide)
  · rw [(sd_C2 hx hz).1] at h
    exact br_f (by decide) (br_f (by decide) (sd_118 1 0 pk_us (sd_d2a k ho pk_us (sd_M1 h) H)))
  · rw [(sd_C2 hx hz).1] at h
    have hm := sd_M2 h
    refine br_f (by decide) (br_t rfl (br_t rfl (nm_r (e' := 2) (by decide) ?_)))
    refine sd_try 3 1 false true B true k ho (sd_al_h (by rw [pk_us]; decide)) (sd_al_t k.2.2.2.2.2.1 (by decide) (Or.inl (g3 0 2)))
      (sd_al_B k.2.2.2.2.2.2.1 (by decide) (Or.inl (g3 0 2))) (sd_al_t k.2.2.2.2.2.2.2 (by decide) (Or.inr pk_us)) (fun z c4 c5 c6 => ?_) (fun z => ?_) (by decide) (by decide) (by decide) (by decide) rfl (by decide)
    · exact br_t (by decide) (sd_118 1 2 pk_us (sd_d2b k ho pk_us hm H))
    · rw [sd_C3] at z
      exact absurd hm.2.2 z
theorem sd_findHeads {f3 f4 : Int32} (k : sd_K a1 a2 p q r B) (ho : o = decide (f2 = 0)) (hx : -1000000 < (p + q).toInt) (hy : -1000000 < (r + 5).toInt) (hz : -1000000 < (p + 5).toInt)
    (H : ∀ b3 b4 b5 b6 b7 : Nat → Int32, b7 2 = (if sd_fl o p = sd_be o B p q r then 0 else if sd_un B p q = sd_be o B p q r then 1 else 0) → post (2, f2, -1, 1, a1, a2, b3, b4, b5, b6, b7)) :
    wpX_findHeads post (2, f2, f3, f4, a1, a2, a3, a4, a5, a6, a7) := by
  unfold wpX_findHeads
  dsimp only
  refine sd_lift (fun b3 h3 => ?_)
  dsimp only
  refine sd_fillK true true B true k ho (sd_al_t k.2.2.2.2.1 (by decide) (sd_m1 h3 (by decide))) (sd_al_t k.2.2.2.2.2.1 (by decide) (sd_m1 h3 (by decide)))
    (sd_al_B k.2.2.2.2.2.2.1 (by decide) (sd_m1 h3 (by decide))) (sd_al_t k.2.2.2.2.2.2.2 (by decide) (sd_m1 h3 (by decide))) (fun b4 b5 b6 e => ?_)
  dsimp only
  refine sd_bestScore e ?_
  rw [(sd_C1 hx hy hz).1]
  refine ⟨3, ?_⟩
  refine br_f (by decide) ⟨pk_in 1 6 (by decide), nm_e (nm_r (e' := 2) (by decide) ?_)⟩
  refine br_f (by decide) ⟨pk_in 2 6 (by decide), nm_e (nm_r (e' := 3) (by decide) ?_)⟩
  exact br_t (by decide) (br_f (sd_M3 hy) ⟨3, sd_d1 k ho h3 hx hz H⟩)
end
theorem sd_head {post : Int32 → St2 → Prop} {f2 f3 : Int32} {a1 a2 a3 a4 a5 a6 a7 : Nat → Int32} {p q r : Int32} {o B : Bool}
    (k : sd_K a1 a2 p q r B) (ho : o = decide (f2 = 0)) (hx : -1000000 < (p + q).toInt) (hy : -1000000 < (r + 5).toInt) (hz : -1000000 < (p + 5).toInt)
    (H : ∀ b3 b4 b5 b6 b7 : Nat → Int32, post (if sd_fl o p = sd_be o B p q r then 0 else if sd_un B p q = sd_be o B p q r then 1 else 0) (2, f2, -1, 1, a1, a2, b3, b4, b5, b6, b7)) :
    wpX_head post (2, f2, f3, 0, a1, a2, a3, a4, a5, a6, a7) 2 := by
  unfold wpX_head
  dsimp only
  refine br_f (by decide) (br_t (by decide) (br_t rfl ?_))
  refine sd_findHeads k ho hx hy hz (fun b3 b4 b5 b6 b7 e => ?_)
  have H' := H b3 b4 b5 b6 b7
  rw [← e] at H'
  have c : (0 : Int32) ≤ b7 2 := by
    rw [e]
    split
    · decide
    · split <;> decide
  exact ⟨pk_in 2 6 (by decide), br_t c ⟨pk_in 2 6 (by decide), H'⟩⟩
end
section
/-! part 7: the law -/
theorem sd_larger {post : Int32 → Prop} {a b : Int32} (H : post (sd_lg a b)) : wpL_larger post () a b := by
  unfold sd_lg at H
  refine br_c (fun h => ?_) (fun h => ?_)
  · rw [if_pos h] at H
    exact H
  · rw [if_neg h] at H
    exact H
theorem sd_init {post : St2 → Prop} {x0 : Int32}
    (H : ∀ (f2 : Int32) (b3 : Nat → Int32), (x0 = 0 ↔ f2 = 0) → post (2, f2, -1, 0, (fun _ => 0), (fun _ => 0), b3, (fun _ => 0), (fun _ => 0), (fun _ => 0), (fun _ => 0))) :
    wpX_init post 7 519 (0, 0, 0, 0) 2 x0 := by
  unfold wpX_init
  dsimp only
  refine ⟨by decide, by decide, by decide, by decide, by decide, by decide, by decide, by decide, by decide, by decide, by decide, by decide, by decide, by decide, br_t (by decide) (br_t (by decide) ?_)⟩
  unfold wX_init_83
  refine br_c (fun h => ?_) (fun h => ?_)
  · exact ⟨by rfl, by rfl, sd_lift (fun b3 _ => H 0 b3 ⟨fun _ => rfl, fun _ => h⟩)⟩
  · exact ⟨by rfl, by rfl, sd_lift (fun b3 _ => H 1 b3 ⟨fun z => absurd z h, fun z => absurd z (by decide)⟩)⟩
section
variable {f2 f3 f4 : Int32} {a1 a2 a3 a4 a5 a6 a7 : Nat → Int32}
theorem sd_score {post : Int32 → St2 → Prop} {x y m : Int32} (k : Nat) (hm : -1000 ≤ m.toInt ∧ m.toInt ≤ 1000) (H : post 1 (2, f2, f3, 0, upd a1 k m, a2, a3, a4, a5, a6, a7))
    (h : ¬ x < 0 ∧ ¬ 2 < x ∧ ¬ y < 1 ∧ ¬ 2 < y ∧ ¬ x = y) (ek : 6 * x + y = nI k) (hk : k < 36) :
    wpX_score post (2, f2, f3, f4, a1, a2, a3, a4, a5, a6, a7) x y m := by
  unfold wpX_score
  dsimp only
  refine sd_isArc h (br_f (by decide) (br_f (fun z => ?_) (br_t ?_ ⟨pk_in k 36 hk ek, ?_⟩)))
  · have z' := Int32.lt_iff_toInt_lt.mp z
    rw [show (-1000 : Int32).toInt = -1000 by decide] at z'
    omega
  · refine Int32.le_iff_toInt_le.mpr ?_
    rw [show (1000 : Int32).toInt = 1000 by decide]
    exact hm.2
  · rw [pk_cl k ek (by omega)]
    exact nm_e H
theorem sd_ban {post : Int32 → St2 → Prop} {m : Int32} (H : post 1 (2, f2, f3, 0, a1, upd a2 8 (vp_nar .boolean m), a3, a4, a5, a6, a7)) :
    wpX_ban post (2, f2, f3, f4, a1, a2, a3, a4, a5, a6, a7) 1 2 m := by
  unfold wpX_ban
  dsimp only
  refine sd_isArc (by decide) (br_f (by decide) ⟨pk_in 8 36 (by decide), ?_⟩)
  rw [pk_cl 8]
  exact nm_e H
end
section
variable {post : Int32 → St0 → Prop} {mc ms kc ks : Nat} {p q r x8 f2 f3 : Int32} {o B : Bool} {a1 a2 a3 a4 a5 a6 a7 : Nat → Int32}
theorem sd_265 {f4 z : Int32} (hp : post 1 ()) (k : sd_K a1 a2 p q r B) (ho : o = decide (f2 = 0)) (hB : B = decide (x8 = 0)) (hx : -1000000 < (p + q).toInt) (hz : -1000000 < (p + 5).toInt) :
    wL_lawOf_265 post mc ms x8 (-1000000) (sd_fl o p) (sd_un B p q) z z kc ks 2 f2 f3 f4 a1 a2 a3 a4 a5 a6 a7 := by
  unfold wL_lawOf_265
  refine br_t rfl ?_
  refine sd_bestWithout k ho (fun b3 b4 b5 b6 => ?_)
  refine br_t sd_C5 ?_
  refine sd_treesWith k ho (fun c3 c4 c5 c6 => ?_)
  dsimp only
  rw [(sd_C2 hx hz).2]
  have R : ∀ u : Int32, u = (bif o then 1 else 0) → wL_lawOf_303 post mc ms x8 u ((bif o then 1 else 0) + (bif B then 1 else 0)) kc ks := by
    intro u hu
    subst hu
    refine br_c (fun h => ?_) (fun h => ?_)
    · rw [hB, decide_eq_true h]
      exact br_t rfl hp
    · rw [hB, decide_eq_false h]
      exact br_t rfl hp
  refine br_c (fun h => R _ ?_) (fun h => R _ ?_)
  · cases o
    · rfl
    · exfalso
      have h' : (p + 5).toInt = -1000000 := (congrArg Int32.toInt (show p + 5 = -1000000 from h)).trans sd_N
      omega
  · cases o
    · exact absurd rfl h
    · rfl
theorem sd_230 {u v w : Int32} (hp : post 1 ()) (k : sd_K a1 a2 p q r B) (ho : o = decide (f2 = 0)) (hB : B = decide (x8 = 0)) (hx : -1000000 < (p + q).toInt) (hy : -1000000 < (r + 5).toInt) (hz : -1000000 < (p + 5).toInt)
    (hw : w = u + v) : wL_lawOf_230 post mc ms x8 (-1000000) (sd_fl o p) (sd_un B p q) (sd_be o B p q r) v u w kc ks 2 f2 f3 0 a1 a2 a3 a4 a5 a6 a7 := by
  unfold wL_lawOf_230
  refine br_t hw ?_
  refine sd_head k ho hx hy hz (fun b3 b4 b5 b6 b7 => ?_)
  refine br_c (fun h => ?_) (fun h => br_c (fun g => ?_) (fun g => ?_))
  · rw [if_pos h]
    exact sd_265 hp k ho hB hx hz
  · rw [if_neg h, if_pos g]
    exact sd_265 hp k ho hB hx hz
  · rw [if_neg h, if_neg g]
    exact sd_265 hp k ho hB hx hz
theorem sd_205 {z w : Int32} (hp : post 1 ()) (k : sd_K a1 a2 p q r B) (ho : o = decide (f2 = 0)) (hB : B = decide (x8 = 0)) (hx : -1000000 < (p + q).toInt) (hy : -1000000 < (r + 5).toInt) (hz : -1000000 < (p + 5).toInt)
    (hw : w = (z + (if sd_un B p q = sd_be o B p q r then 1 else 0)) + (if r + 5 = sd_be o B p q r then 1 else 0)) :
    wL_lawOf_205 post mc ms x8 (-1000000) (sd_fl o p) (sd_un B p q) (r + 5) (sd_be o B p q r) z w kc ks 2 f2 f3 0 a1 a2 a3 a4 a5 a6 a7 := by
  unfold wL_lawOf_205
  refine br_c (fun h => br_c (fun g => sd_230 hp k ho hB hx hy hz ?_) (fun g => sd_230 hp k ho hB hx hy hz ?_)) (fun h => br_c (fun g => sd_230 hp k ho hB hx hy hz ?_) (fun g => sd_230 hp k ho hB hx hy hz ?_))
  · rw [hw, if_pos h, if_pos g]
  · rw [hw, if_pos h, if_neg g]
  · rw [hw, if_neg h, if_pos g]
  · rw [hw, if_neg h, if_neg g]
theorem sd_70 {x0 : Int32} (hp : post 1 ()) (h0 : o = decide (x0 = 0)) (hB : B = decide (x8 = 0)) (hv : vp_nar .boolean x8 = x8)
    (bp : -1000 ≤ p.toInt ∧ p.toInt ≤ 1000) (bq : -1000 ≤ q.toInt ∧ q.toInt ≤ 1000) (br : -1000 ≤ r.toInt ∧ r.toInt ≤ 1000) (hmc : kc + 8 ≤ mc) (hms : ks + 530 ≤ ms) :
    wL_lawOf_70 post mc ms x0 p q r x8 (-1000000) (sd_fl o p) (sd_un B p q) kc ks := by
  have e5 : (5 : Int32).toInt = 5 := by decide
  have hx : -1000000 < (p + q).toInt := by
    rw [Jvm.Kit.i32_add (by omega) (by omega)]
    omega
  have hy : -1000000 < (r + 5).toInt := by
    rw [Jvm.Kit.i32_add (by omega) (by omega)]
    omega
  have hz : -1000000 < (p + 5).toInt := by
    rw [Jvm.Kit.i32_add (by omega) (by omega)]
    omega
  unfold wL_lawOf_70
  refine nm_e ?_
  refine sd_larger (sd_larger ?_)
  refine ⟨by omega, by omega, 7, 519, by omega, by omega, sd_init (fun f2 b3 hf => ?_)⟩
  have ho : o = decide (f2 = 0) := h0.trans (decide_eq_decide.mpr hf)
  refine sd_score 1 bp (br_f (by decide) ?_) (by decide) (by decide) (by decide)
  refine sd_score 8 bq (br_f (by decide) ?_) (by decide) (by decide) (by decide)
  refine sd_score 13 br (br_f (by decide) ?_) (by decide) (by decide) (by decide)
  refine sd_score 2 (by decide) (br_f (by decide) ?_) (by decide) (by decide) (by decide)
  refine sd_ban (br_f (by decide) ?_)
  have k : sd_K (upd (upd (upd (upd (fun _ => 0) 1 p) 8 q) 13 r) 2 5) (upd (fun _ => 0) 8 (vp_nar .boolean x8)) p q r B := by
    refine ⟨rfl, rfl, rfl, rfl, rfl, rfl, ?_, rfl⟩
    rw [pk_us, hv]
    exact hB
  refine sd_best k ho (fun b3 b4 b5 b6 => br_t (sd_C1 hx hy hz).1 ?_)
  refine sd_bestTrees k ho (fun c3 c4 c5 c6 => ?_)
  dsimp only
  refine br_c (fun h => sd_205 hp k ho hB hx hy hz ?_) (fun h => sd_205 hp k ho hB hx hy hz ?_)
  · have h' : sd_fl o p = sd_be o B p q r := h
    rw [(sd_C1 hx hy hz).2, if_pos h']
  · have h' : ¬ sd_fl o p = sd_be o B p q r := h
    rw [(sd_C1 hx hy hz).2, if_neg h']
theorem sd_34 {x0 : Int32} (hp : post 1 ()) (hv : vp_nar .boolean x8 = x8)
    (bp : -1000 ≤ p.toInt ∧ p.toInt ≤ 1000) (bq : -1000 ≤ q.toInt ∧ q.toInt ≤ 1000) (br : -1000 ≤ r.toInt ∧ r.toInt ≤ 1000) (hmc : kc + 8 ≤ mc) (hms : ks + 530 ≤ ms) :
    wL_lawOf_34 post mc ms x0 p q r x8 kc ks := by
  unfold wL_lawOf_34
  refine br_c (fun h => br_c (fun g => ?_) (fun g => ?_)) (fun h => br_c (fun g => ?_) (fun g => ?_))
  · exact sd_70 (o := true) (B := true) hp (decide_eq_true h).symm (decide_eq_true g).symm hv bp bq br hmc hms
  · exact sd_70 (o := true) (B := false) hp (decide_eq_true h).symm (decide_eq_false g).symm hv bp bq br hmc hms
  · exact sd_70 (o := false) (B := true) hp (decide_eq_false h).symm (decide_eq_true g).symm hv bp bq br hmc hms
  · exact sd_70 (o := false) (B := false) hp (decide_eq_false h).symm (decide_eq_false g).symm hv bp bq br hmc hms
end
theorem sd_rem (a : Int32) : -1000 ≤ (a - a / 1001 * 1001).toInt ∧ (a - a / 1001 * 1001).toInt ≤ 1000 := by
  rw [rem_toInt, show (1001 : Int32).toInt = 1001 by decide]
  have t := tmod_bounds (a := a.toInt) (M := 1001) (by decide)
  omega
theorem sd_cell {post : Int32 → Prop} {L : Nat} {xs : Nat → Int32} {x : Int32} (j : Nat) (hL : L ≤ 5) (H : ∀ v, post v) (ex : x = nI j := by rfl) (hj : j < 5 := by omega) : wpL_cellAt post L xs () x :=
  pk_le L j (fun _ => H 0) (fun h => ⟨pk_in j L h ex, H _⟩) rfl ex
theorem i_vc (xs : Nat → Int32) (L : Nat) (hL : L ≤ 5) : wpL_law (fun r => r = 1) L xs := by
  unfold wpL_law
  refine sd_cell 0 hL (fun r1 => sd_cell 1 hL (fun r2 => sd_cell 2 hL (fun r3 => sd_cell 3 hL (fun r4 => sd_cell 4 hL (fun r5 => ?_)))))
  refine ⟨266, 4240, by decide, by decide, ?_⟩
  unfold wpL_lawOf
  refine ⟨by decide, nm_e ⟨by decide, nm_e ⟨by decide, nm_e (br_c (fun h => ?_) (fun h => ?_))⟩⟩⟩
  · exact sd_34 rfl (by rfl) (sd_rem r2) (sd_rem r3) (sd_rem r4) (by decide) (by decide)
  · exact sd_34 rfl (by rfl) (sd_rem r2) (sd_rem r3) (sd_rem r4) (by decide) (by decide)
end
