section
/-! pictures: a layer as a list of nodes (state, value, taken) -/
abbrev mb_Nd : Type := Int32 × Int32 × Int32
/-- k nodes in three arrays are the list l -/
def mb_L (k : Int32) (s v t : Nat → Int32) (l : List mb_Nd) : Prop :=
  k = nI l.length ∧ ∀ (i : Nat) (x : mb_Nd), l[i]? = some x → s i = x.1 ∧ v i = x.2.1 ∧ t i = x.2.2
theorem mb_L_get {k : Int32} {s v t : Nat → Int32} {pre xs : List mb_Nd} {x : mb_Nd} (h : mb_L k s v t (pre ++ x :: xs)) :
    s pre.length = x.1 ∧ v pre.length = x.2.1 ∧ t pre.length = x.2.2 := h.2 _ _ (by simp)
theorem mb_L_app {k : Int32} {s v t : Nat → Int32} {l : List mb_Nd} {x : mb_Nd} (h : mb_L k s v t l) :
    mb_L (k + 1) (upd s l.length x.1) (upd v l.length x.2.1) (upd t l.length x.2.2) (l ++ [x]) := by
  refine ⟨?_, fun i y hy => ?_⟩
  · rw [h.1, nI_1, List.length_append]; rfl
  · by_cases e : i = l.length
    · subst e
      rw [List.getElem?_append_right (Nat.le_refl _), Nat.sub_self] at hy
      have hy' : x = y := by simpa using hy
      subst hy'
      exact ⟨pk_us, pk_us, pk_us⟩
    · rw [pk_un e, pk_un e, pk_un e]
      refine h.2 i y ?_
      by_cases hi : i < l.length
      · rw [List.getElem?_append_left hi] at hy; exact hy
      · rw [List.getElem?_eq_none (by rw [List.length_append]; simp; omega)] at hy
        exact absurd hy (by simp)
theorem mb_L_set {k : Int32} {s v t : Nat → Int32} {pre xs : List mb_Nd} {x : mb_Nd} {v' t' : Int32} (h : mb_L k s v t (pre ++ x :: xs)) :
    mb_L k s (upd v pre.length v') (upd t pre.length t') (pre ++ (x.1, v', t') :: xs) := by
  refine ⟨?_, fun i y hy => ?_⟩
  · rw [h.1, List.length_append, List.length_append, List.length_cons, List.length_cons]
  · by_cases e : i = pre.length
    · subst e
      have hy' : (x.1, v', t') = y := by simpa using hy
      subst hy'
      exact ⟨(mb_L_get h).1, pk_us, pk_us⟩
    · rw [pk_un e, pk_un e]
      refine h.2 i y ?_
      by_cases hi : i < pre.length
      · rw [List.getElem?_append_left hi] at hy ⊢; exact hy
      · rw [List.getElem?_append_right (by omega)] at hy ⊢
        obtain ⟨m, hm⟩ : ∃ m, i - pre.length = m + 1 := ⟨i - pre.length - 1, by omega⟩
        rw [hm, List.getElem?_cons_succ] at hy ⊢
        exact hy
theorem mb_L_copy {k : Int32} {s v t s' v' t' : Nat → Int32} {l : List mb_Nd} (h : mb_L k s v t l)
    (hc : ∀ j, j < l.length → s' j = s j ∧ v' j = v j ∧ t' j = t j) : mb_L k s' v' t' l := by
  refine ⟨h.1, fun i x hx => ?_⟩
  obtain ⟨hi, _⟩ := List.getElem?_eq_some_iff.mp hx
  obtain ⟨c1, c2, c3⟩ := hc i hi
  rw [c1, c2, c3]
  exact h.2 i x hx
theorem mb_L_nil (s v t : Nat → Int32) : mb_L 0 s v t [] := ⟨rfl, fun i x hx => absurd hx (by simp)⟩
theorem mb_L_one {s v t : Nat → Int32} {x : mb_Nd} (h1 : s 0 = x.1) (h2 : v 0 = x.2.1) (h3 : t 0 = x.2.2) : mb_L 1 s v t [x] := by
  refine ⟨rfl, fun i y hy => ?_⟩
  match i, hy with
  | 0, hy =>
    have hy' : x = y := by simpa using hy
    subst hy'
    exact ⟨h1, h2, h3⟩
theorem mb_L_two {s v t : Nat → Int32} {x y : mb_Nd} (h1 : s 0 = x.1) (h2 : v 0 = x.2.1) (h3 : t 0 = x.2.2)
    (g1 : s 1 = y.1) (g2 : v 1 = y.2.1) (g3 : t 1 = y.2.2) : mb_L 2 s v t [x, y] := by
  refine ⟨rfl, fun i z hz => ?_⟩
  match i, hz with
  | 0, hz =>
    have hz' : x = z := by simpa using hz
    subst hz'
    exact ⟨h1, h2, h3⟩
  | 1, hz =>
    have hz' : y = z := by simpa using hz
    subst hz'
    exact ⟨g1, g2, g3⟩
/-- reach: of two ways to one state the better one -/
def mb_r : List mb_Nd → mb_Nd → List mb_Nd
  | [], nd => [nd]
  | x :: xs, nd => if x.1 = nd.1 then (if nd.2.1 ≤ x.2.1 then x :: xs else (x.1, nd.2.1, nd.2.2) :: xs) else x :: mb_r xs nd
theorem mb_r_len (nd : mb_Nd) : ∀ l : List mb_Nd, (mb_r l nd).length ≤ l.length + 1
  | [] => Nat.le_refl _
  | x :: xs => by
    unfold mb_r
    split
    · split
      · simp
      · simp
    · have := mb_r_len nd xs
      simp only [List.length_cons]
      omega
/-- the second half of expand -/
def mb_e2 (mo b j g : Int32) (nl : List mb_Nd) (x : mb_Nd) : List mb_Nd :=
  if x.1 &&& b = 0 then nl else if mo &&& b = 0 then mb_r nl ((x.1 &&& (b ^^^ (-1))) &&& (j ^^^ (-1)), x.2.1 + g, x.2.2 ||| b) else nl
/-- expand -/
def mb_e (mi mo b j g : Int32) (nl : List mb_Nd) (x : mb_Nd) : List mb_Nd :=
  mb_e2 mo b j g (if mi &&& b = 0 then mb_r nl (x.1 &&& (b ^^^ (-1)), x.2.1, x.2.2) else nl) x
theorem mb_e2_len (mo b j g : Int32) (nl : List mb_Nd) (x : mb_Nd) : (mb_e2 mo b j g nl x).length ≤ nl.length + 1 := by
  unfold mb_e2
  split
  · omega
  · split
    · exact mb_r_len _ _
    · omega
theorem mb_e_len (mi mo b j g : Int32) (nl : List mb_Nd) (x : mb_Nd) : (mb_e mi mo b j g nl x).length ≤ nl.length + 2 := by
  unfold mb_e
  have h := mb_e2_len mo b j g (if mi &&& b = 0 then mb_r nl (x.1 &&& (b ^^^ (-1)), x.2.1, x.2.2) else nl) x
  split at h
  · rename_i c
    rw [if_pos c]
    have := mb_r_len (x.1 &&& (b ^^^ (-1)), x.2.1, x.2.2) nl
    omega
  · rename_i c
    rw [if_neg c]
    omega
/-- the bit of a vertex -/
def mb_b (v : Nat) : Int32 := (1 : Int32) <<< (nI v &&& 31)
/-- a layer out of the one before it -/
def mb_ly (mi mo : Int32) (j g : Nat → Int32) (v : Nat) (l : List mb_Nd) : List mb_Nd := l.foldl (mb_e mi mo (mb_b v) (j v) (g v)) []
/-- how many places a layer has -/
def mb_most (w lev v : Nat) : Nat := if v = lev ∧ w < 2 then 2 else w
/-- the last layer's top value, and the best set -/
def mb_tp : List mb_Nd → Int32 → Int32
  | [], t => t
  | x :: xs, t => mb_tp xs (if x.2.1 ≤ t then t else x.2.1)
def mb_bb : List mb_Nd → Int32 × Int32 → Int32 × Int32
  | [], b => b
  | x :: xs, b => mb_bb xs (if x.2.1 ≤ b.1 then b else (x.2.1, x.2.2))
/-- a layer of two, sorted -/
def mb_s (x y : mb_Nd) : List mb_Nd := if y.2.1 ≤ x.2.1 then [x, y] else [y, x]
/-- .. cut down to one (or merged into one) -/
def mb_c (x y : mb_Nd) : mb_Nd := if y.2.1 ≤ x.2.1 then x else y
def mb_m (x y : mb_Nd) : mb_Nd := if y.2.1 ≤ x.2.1 then (x.1 ||| y.1, x.2.1, x.2.2) else (y.1 ||| x.1, y.2.1, y.2.2)
end
section
/-! reach, expand -/
section
variable {vn wd fi fo mi mo sz nx cl cs ex bv bt : Int32} {a1 a2 a3 a4 a5 a6 a7 a8 a9 a10 a11 a12 a13 a14 a15 a16 a17 : Nat → Int32}
theorem mb_reach3 {post : St2 → Prop} {s v t : Int32} : ∀ (suf pre : List mb_Nd), mb_L nx a7 a8 a9 (pre ++ suf) → (pre ++ suf).length < 64 →
    (∀ k b7 b8 b9, mb_L k b7 b8 b9 (pre ++ mb_r suf (s, v, t)) → post (vn, wd, fi, fo, mi, mo, sz, k, cl, cs, ex, bv, bt, a1, a2, a3, a4, a5, a6, b7, b8, b9, a10, a11, a12, a13, a14, a15, a16, a17)) →
    wX_reach_3 post s v t vn wd fi fo mi mo sz nx cl cs ex bv bt a1 a2 a3 a4 a5 a6 a7 a8 a9 a10 a11 a12 a13 a14 a15 a16 a17 (suf.length + 1) (nI pre.length)
  | [], pre, h, hl, H => by
    rw [List.append_nil] at h hl
    have hx : nx = nI pre.length := h.1
    have hc : nx.toNatClampNeg = pre.length := pk_cl _ hx
    refine pk_le pre.length pre.length (fun _ => pk_le 64 pre.length (fun z => absurd z (by omega)) (fun _ => ?_) rfl hx) (fun z => absurd z (by omega)) hx
    refine ⟨pk_in pre.length 64 hl hx, nm_r (show _ = upd a7 pre.length s by rw [hc]) ⟨pk_in pre.length 64 hl hx, nm_r (show _ = upd a8 pre.length v by rw [hc]) ⟨pk_in pre.length 64 hl hx, nm_r (show _ = upd a9 pre.length t by rw [hc]) (nm_e (H _ _ _ _ ?_))⟩⟩⟩
    exact mb_L_app (x := (s, v, t)) h
  | x :: xs, pre, h, hl, H => by
    have hx : nx = nI (pre ++ x :: xs).length := h.1
    have hlen : (pre ++ x :: xs).length = pre.length + (xs.length + 1) := by rw [List.length_append, List.length_cons]
    have hc : (nI pre.length).toNatClampNeg = pre.length := nI_clamp (by omega)
    obtain ⟨g1, g2, g3⟩ := mb_L_get h
    have hin : vp_in (nI pre.length) 64 := pk_in pre.length 64 (by omega)
    refine pk_le (pre ++ x :: xs).length pre.length (fun z => absurd z (by omega)) (fun _ => ⟨hin, ?_⟩) hx
    rw [hc, g1, g2]
    refine br_c (fun e => ⟨hin, br_c (fun c => ?_) (fun c => ⟨hin, nm_e ⟨hin, nm_e ?_⟩⟩)⟩) (fun e => nm_r (nI_1 _) ?_)
    · refine H _ _ _ _ ?_
      have : mb_r (x :: xs) (s, v, t) = x :: xs := by unfold mb_r; rw [if_pos e, if_pos c]
      rw [this]
      exact h
    · refine H _ _ _ _ ?_
      have : mb_r (x :: xs) (s, v, t) = (x.1, v, t) :: xs := by unfold mb_r; rw [if_pos e, if_neg c]
      rw [this]
      exact mb_L_set h
    · have e1 : pre ++ x :: xs = (pre ++ [x]) ++ xs := by simp
      have e2 : pre.length + 1 = (pre ++ [x]).length := by simp
      have e3 : pre ++ mb_r (x :: xs) (s, v, t) = (pre ++ [x]) ++ mb_r xs (s, v, t) := by
        have : mb_r (x :: xs) (s, v, t) = x :: mb_r xs (s, v, t) := by rw [mb_r, if_neg e]
        rw [this]; simp
      rw [e2]
      rw [e1] at h hl
      rw [e3] at H
      exact mb_reach3 xs (pre ++ [x]) h hl H
theorem mb_reach {post : St2 → Prop} {s v t : Int32} {l : List mb_Nd} (h : mb_L nx a7 a8 a9 l) (hl : l.length < 64)
    (H : ∀ k b7 b8 b9, mb_L k b7 b8 b9 (mb_r l (s, v, t)) → post (vn, wd, fi, fo, mi, mo, sz, k, cl, cs, ex, bv, bt, a1, a2, a3, a4, a5, a6, b7, b8, b9, a10, a11, a12, a13, a14, a15, a16, a17)) :
    wpX_reach post (vn, wd, fi, fo, mi, mo, sz, nx, cl, cs, ex, bv, bt, a1, a2, a3, a4, a5, a6, a7, a8, a9, a10, a11, a12, a13, a14, a15, a16, a17) s v t := ⟨_, mb_reach3 l [] h hl H⟩
theorem mb_exp39 {post : St2 → Prop} {b : Int32} {i v : Nat} {x : mb_Nd} {l : List mb_Nd} (h : mb_L nx a7 a8 a9 l) (hl : l.length < 64) (hi : i < 64) (hv : v < 12)
    (x1 : a4 i = x.1) (x2 : a5 i = x.2.1) (x3 : a6 i = x.2.2)
    (H : ∀ k b7 b8 b9, mb_L k b7 b8 b9 (mb_e2 mo b (a1 v) (a3 v) l x) → post (vn, wd, fi, fo, mi, mo, sz, k, cl, cs, ex, bv, bt, a1, a2, a3, a4, a5, a6, b7, b8, b9, a10, a11, a12, a13, a14, a15, a16, a17)) :
    wX_expand_39 post (nI i) (nI v) b vn wd fi fo mi mo sz nx cl cs ex bv bt a1 a2 a3 a4 a5 a6 a7 a8 a9 a10 a11 a12 a13 a14 a15 a16 a17 := by
  have hc : (nI i).toNatClampNeg = i := nI_clamp (by omega)
  have hcv : (nI v).toNatClampNeg = v := nI_clamp (by omega)
  have hin : vp_in (nI i) 64 := pk_in i 64 hi
  have hiv : vp_in (nI v) 12 := pk_in v 12 hv
  unfold wX_expand_39
  rw [hc, hcv, x1, x2, x3]
  refine ⟨hin, br_c (fun c => ?_) (fun c => br_c (fun d => ⟨hin, hiv, hin, hiv, hin, mb_reach h hl (fun k b7 b8 b9 hb => ?_)⟩) (fun d => ?_))⟩
  · have e : mb_e2 mo b (a1 v) (a3 v) l x = l := by unfold mb_e2; rw [if_pos c]
    rw [e] at H
    exact H _ _ _ _ h
  · have e : mb_e2 mo b (a1 v) (a3 v) l x = mb_r l ((x.1 &&& (b ^^^ (-1))) &&& (a1 v ^^^ (-1)), x.2.1 + a3 v, x.2.2 ||| b) := by unfold mb_e2; rw [if_neg c, if_pos d]
    rw [e] at H
    exact H _ _ _ _ hb
  · have e : mb_e2 mo b (a1 v) (a3 v) l x = l := by unfold mb_e2; rw [if_neg c, if_neg d]
    rw [e] at H
    exact H _ _ _ _ h
theorem mb_expand {post : St2 → Prop} {i v : Nat} {x : mb_Nd} {l : List mb_Nd} (h : mb_L nx a7 a8 a9 l) (hl : l.length + 2 ≤ 64) (hi : i < 64) (hv : v < 12)
    (x1 : a4 i = x.1) (x2 : a5 i = x.2.1) (x3 : a6 i = x.2.2)
    (H : ∀ k b7 b8 b9, mb_L k b7 b8 b9 (mb_e mi mo (mb_b v) (a1 v) (a3 v) l x) → post (vn, wd, fi, fo, mi, mo, sz, k, cl, cs, ex, bv, bt, a1, a2, a3, a4, a5, a6, b7, b8, b9, a10, a11, a12, a13, a14, a15, a16, a17)) :
    wpX_expand post (vn, wd, fi, fo, mi, mo, sz, nx, cl, cs, ex, bv, bt, a1, a2, a3, a4, a5, a6, a7, a8, a9, a10, a11, a12, a13, a14, a15, a16, a17) (nI i) (nI v) := by
  have hc : (nI i).toNatClampNeg = i := nI_clamp (by omega)
  have hin : vp_in (nI i) 64 := pk_in i 64 hi
  unfold wpX_expand
  dsimp only
  rw [hc, x1, x2, x3]
  refine nm_r (show _ = mb_b v from rfl) (br_c (fun c => ⟨hin, hin, hin, mb_reach h (by omega) (fun k b7 b8 b9 hb => ?_)⟩) (fun c => ?_))
  · have e : mb_e mi mo (mb_b v) (a1 v) (a3 v) l x = mb_e2 mo (mb_b v) (a1 v) (a3 v) (mb_r l (x.1 &&& (mb_b v ^^^ (-1)), x.2.1, x.2.2)) x := by unfold mb_e; rw [if_pos c]
    rw [e] at H
    have hlen := mb_r_len (x.1 &&& (mb_b v ^^^ (-1)), x.2.1, x.2.2) l
    exact mb_exp39 hb (by omega) hi hv x1 x2 x3 H
  · have e : mb_e mi mo (mb_b v) (a1 v) (a3 v) l x = mb_e2 mo (mb_b v) (a1 v) (a3 v) l x := by unfold mb_e; rw [if_neg c]
    rw [e] at H
    exact mb_exp39 h (by omega) hi hv x1 x2 x3 H
end
end
section
/-! takeLayer, keepCut, sortLayer, mergeBehind, startLayer -/
theorem mb_fill {f s : Nat → Int32} {i : Nat} (hi : i < 2 ^ 31) (h : ∀ j, j < i → s j = f j) :
    ∀ j, j < i + 1 → upd s (nI i).toNatClampNeg (f (nI i).toNatClampNeg) j = f j := by
  intro j hj
  rw [nI_clamp hi]
  by_cases e : j = i
  · rw [e, pk_us]
  · rw [pk_un e]
    exact h j (by omega)
section
variable {vn wd fi fo mi mo sz nx cl cs ex bv bt : Int32} {a1 a2 a3 a4 a5 a6 a7 a8 a9 a10 a11 a12 a13 a14 a15 a16 a17 : Nat → Int32}
theorem mb_take {post : St2 → Prop} {m : Nat} (hk : nx = nI m) (hm : m ≤ 64)
    (H : ∀ b4 b5 b6 : Nat → Int32, (∀ j, j < m → b4 j = a7 j) → (∀ j, j < m → b5 j = a8 j) → (∀ j, j < m → b6 j = a9 j) → post (vn, wd, fi, fo, mi, mo, nx, nx, cl, cs, ex, bv, bt, a1, a2, a3, b4, b5, b6, a7, a8, a9, a10, a11, a12, a13, a14, a15, a16, a17)) :
    wpX_takeLayer post (vn, wd, fi, fo, mi, mo, sz, nx, cl, cs, ex, bv, bt, a1, a2, a3, a4, a5, a6, a7, a8, a9, a10, a11, a12, a13, a14, a15, a16, a17) :=
  pk_loop (σ := (Nat → Int32) × (Nat → Int32) × (Nat → Int32)) (fun n i s => wX_takeLayer_10 post vn wd fi fo mi mo nx nx cl cs ex bv bt n (nI i) a1 a2 a3 s.1 s.2.1 s.2.2 a7 a8 a9 a10 a11 a12 a13 a14 a15 a16 a17)
    (fun i s => (∀ j, j < i → s.1 j = a7 j) ∧ (∀ j, j < i → s.2.1 j = a8 j) ∧ (∀ j, j < i → s.2.2 j = a9 j)) m 0 (a4, a5, a6) (by omega)
    ⟨fun j hj => absurd hj (by omega), fun j hj => absurd hj (by omega), fun j hj => absurd hj (by omega)⟩
    (fun n s h => pk_le m m (fun _ => H _ _ _ h.1 h.2.1 h.2.2) (fun z => absurd z (by omega)) hk)
    (fun n i s hi h hw => pk_le m i (fun z => absurd z (by omega)) (fun _ => ⟨pk_in i 64 (by omega), pk_in i 64 (by omega), nm_e ⟨pk_in i 64 (by omega), pk_in i 64 (by omega), nm_e ⟨pk_in i 64 (by omega), pk_in i 64 (by omega), nm_e (nm_r (nI_1 i)
      (hw (_, _, _) ⟨mb_fill (by omega) h.1, mb_fill (by omega) h.2.1, mb_fill (by omega) h.2.2⟩))⟩⟩⟩) hk)
theorem mb_takeL {post : St2 → Prop} {l : List mb_Nd} (h : mb_L nx a7 a8 a9 l) (hm : l.length ≤ 64)
    (H : ∀ b4 b5 b6 : Nat → Int32, mb_L nx b4 b5 b6 l → post (vn, wd, fi, fo, mi, mo, nx, nx, cl, cs, ex, bv, bt, a1, a2, a3, b4, b5, b6, a7, a8, a9, a10, a11, a12, a13, a14, a15, a16, a17)) : wpX_takeLayer post (vn, wd, fi, fo, mi, mo, sz, nx, cl, cs, ex, bv, bt, a1, a2, a3, a4, a5, a6, a7, a8, a9, a10, a11, a12, a13, a14, a15, a16, a17) :=
  mb_take h.1 hm (fun b4 b5 b6 h4 h5 h6 => H b4 b5 b6 (mb_L_copy h (fun j hj => ⟨h4 j hj, h5 j hj, h6 j hj⟩)))
theorem mb_keep {post : St2 → Prop} {p0 : Int32} {l : List mb_Nd} (hl : mb_L sz a4 a5 a6 l) (hm : l.length ≤ 64)
    (H : ∀ b10 b11 b12 : Nat → Int32, mb_L sz b10 b11 b12 l → post (vn, wd, fi, fo, mi, mo, sz, nx, p0, sz, ex, bv, bt, a1, a2, a3, a4, a5, a6, a7, a8, a9, b10, b11, b12, a13, a14, a15, a16, a17)) :
    wpX_keepCut post (vn, wd, fi, fo, mi, mo, sz, nx, cl, cs, ex, bv, bt, a1, a2, a3, a4, a5, a6, a7, a8, a9, a10, a11, a12, a13, a14, a15, a16, a17) p0 :=
  pk_loop (σ := (Nat → Int32) × (Nat → Int32) × (Nat → Int32)) (fun n i s => wX_keepCut_15 post vn wd fi fo mi mo sz nx p0 sz ex bv bt n (nI i) a1 a2 a3 a4 a5 a6 a7 a8 a9 s.1 s.2.1 s.2.2 a13 a14 a15 a16 a17)
    (fun i s => (∀ j, j < i → s.1 j = a4 j) ∧ (∀ j, j < i → s.2.1 j = a5 j) ∧ (∀ j, j < i → s.2.2 j = a6 j)) l.length 0 (a10, a11, a12) (by omega)
    ⟨fun j hj => absurd hj (by omega), fun j hj => absurd hj (by omega), fun j hj => absurd hj (by omega)⟩
    (fun n s h => pk_le l.length l.length (fun _ => H _ _ _ (mb_L_copy hl (fun j hj => ⟨h.1 j hj, h.2.1 j hj, h.2.2 j hj⟩))) (fun z => absurd z (by omega)) hl.1)
    (fun n i s hi h hw => pk_le l.length i (fun z => absurd z (by omega)) (fun _ => ⟨pk_in i 64 (by omega), pk_in i 64 (by omega), nm_e ⟨pk_in i 64 (by omega), pk_in i 64 (by omega), nm_e ⟨pk_in i 64 (by omega), pk_in i 64 (by omega), nm_e (nm_r (nI_1 i)
      (hw (_, _, _) ⟨mb_fill (by omega) h.1, mb_fill (by omega) h.2.1, mb_fill (by omega) h.2.2⟩))⟩⟩⟩) hl.1)
theorem mb_start {post : St2 → Prop} {o s t : Int32} (H : ∀ b4 b5 b6 : Nat → Int32, mb_L 1 b4 b5 b6 [(o, s, t)] → post (vn, wd, fi, fo, mi, mo, 1, nx, cl, cs, ex, bv, bt, a1, a2, a3, b4, b5, b6, a7, a8, a9, a10, a11, a12, a13, a14, a15, a16, a17)) :
    wpX_startLayer post (vn, wd, fi, fo, mi, mo, sz, nx, cl, cs, ex, bv, bt, a1, a2, a3, a4, a5, a6, a7, a8, a9, a10, a11, a12, a13, a14, a15, a16, a17) o s t := by
  unfold wpX_startLayer
  exact nm_e (nm_e (nm_e (H _ _ _ (mb_L_one (x := (o, s, t)) pk_us pk_us pk_us))))
theorem mb_sort107 {post : St2 → Prop} {J2 : _} {x1 o s t : Int32} {i : Nat} (hi : i < 64)
    (H : J2 (x1 + 1) a1 a2 a3 (upd a4 i o) (upd a5 i s) (upd a6 i t) a7 a8 a9 a10 a11 a12 a13 a14 a15 a16 a17) : wX_sortLayer_107 post J2 x1 o s t (nI i) vn wd fi fo mi mo sz nx cl cs ex bv bt a1 a2 a3 a4 a5 a6 a7 a8 a9 a10 a11 a12 a13 a14 a15 a16 a17 := by
  unfold wX_sortLayer_107
  rw [nI_clamp (show i < 2 ^ 31 by omega)]
  exact ⟨pk_in i 64 hi, nm_e ⟨pk_in i 64 hi, nm_e ⟨pk_in i 64 hi, nm_e (nm_e H)⟩⟩⟩
theorem mb_sort {post : St2 → Prop} {x y : mb_Nd} (h : mb_L sz a4 a5 a6 [x, y]) (H : ∀ b4 b5 b6 : Nat → Int32, mb_L sz b4 b5 b6 (mb_s x y) → post (vn, wd, fi, fo, mi, mo, sz, nx, cl, cs, ex, bv, bt, a1, a2, a3, b4, b5, b6, a7, a8, a9, a10, a11, a12, a13, a14, a15, a16, a17)) :
    wpX_sortLayer post (vn, wd, fi, fo, mi, mo, sz, nx, cl, cs, ex, bv, bt, a1, a2, a3, a4, a5, a6, a7, a8, a9, a10, a11, a12, a13, a14, a15, a16, a17) := by
  have hs : sz = 2 := h.1
  subst hs
  obtain ⟨x1, x2, x3⟩ := h.2 0 x rfl
  obtain ⟨y1, y2, y3⟩ := h.2 1 y rfl
  have i1 : vp_in (1 : Int32) 64 := pk_in 1 64 (by omega)
  have i0 : vp_in ((1 : Int32) - 1) 64 := pk_in 0 64 (by omega)
  have c1 : (1 : Int32).toNatClampNeg = 1 := pk_cl 1
  have c0 : ((1 : Int32) - 1).toNatClampNeg = 0 := pk_cl 0
  refine ⟨2, pk_le 2 1 (fun z => absurd z (by omega)) (fun _ => ⟨i1, nm_r (show _ = y.1 by rw [c1, y1]) ⟨i1, nm_r (show _ = y.2.1 by rw [c1, y2]) ⟨i1, nm_r (show _ = y.2.2 by rw [c1, y3]) ⟨2, ?_⟩⟩⟩⟩)⟩
  refine pk_le 1 0 (fun z => absurd z (by omega)) (fun _ => ⟨i0, ?_⟩)
  rw [c0, x2]
  refine br_c (fun c => mb_sort107 (i := 1) (by omega) (pk_le 2 2 (fun _ => H _ _ _ ?_) (fun z => absurd z (by omega))))
    (fun c => ⟨i0, i1, nm_r (show _ = upd a4 1 x.1 by rw [c1, x1]) ⟨i0, i1, nm_r (show _ = upd a5 1 x.2.1 by rw [c1]) ⟨i0, i1, nm_r (show _ = upd a6 1 x.2.2 by rw [c1, x3])
      (nm_r (show (1 : Int32) + (-1) = nI 0 from rfl) (pk_le 0 0 (fun _ => mb_sort107 (i := 0) (by omega) (pk_le 2 2 (fun _ => H _ _ _ ?_) (fun z => absurd z (by omega)))) (fun z => absurd z (by omega))))⟩⟩⟩)
  · unfold mb_s
    rw [if_pos c]
    exact mb_L_two (by rw [pk_un (by omega), x1]) (by rw [pk_un (by omega), x2]) (by rw [pk_un (by omega), x3]) pk_us pk_us pk_us
  · unfold mb_s
    rw [if_neg c]
    exact mb_L_two pk_us pk_us pk_us (by rw [pk_un (by omega), pk_us]) (by rw [pk_un (by omega), pk_us]) (by rw [pk_un (by omega), pk_us])
theorem mb_merge {post : St2 → Prop} {x y : mb_Nd} (h : mb_L sz a4 a5 a6 [x, y]) (H : ∀ b4 : Nat → Int32, mb_L 1 b4 a5 a6 [(x.1 ||| y.1, x.2.1, x.2.2)] → post (vn, wd, fi, fo, mi, mo, sz, nx, cl, cs, ex, bv, bt, a1, a2, a3, b4, a5, a6, a7, a8, a9, a10, a11, a12, a13, a14, a15, a16, a17)) :
    wpX_mergeBehind post (vn, wd, fi, fo, mi, mo, sz, nx, cl, cs, ex, bv, bt, a1, a2, a3, a4, a5, a6, a7, a8, a9, a10, a11, a12, a13, a14, a15, a16, a17) (nI 1) := by
  have hs : sz = 2 := h.1
  subst hs
  obtain ⟨x1, x2, x3⟩ := h.2 0 x rfl
  obtain ⟨y1, y2, y3⟩ := h.2 1 y rfl
  have i1 : vp_in (nI 1) 64 := pk_in 1 64 (by omega)
  have i0 : vp_in (nI 1 - 1) 64 := pk_in 0 64 (by omega)
  have c1 : (nI 1).toNatClampNeg = 1 := pk_cl 1
  have c0 : (nI 1 - 1).toNatClampNeg = 0 := pk_cl 0
  refine ⟨2, pk_le 2 1 (fun z => absurd z (by omega)) (fun _ => ⟨i0, i1, i0, nm_r (show _ = upd a4 0 (x.1 ||| y.1) by rw [c0, c1, x1, y1]) (nm_r (nI_1 1) (pk_le 2 2 (fun _ => H _ ?_) (fun z => absurd z (by omega))))⟩)⟩
  exact mb_L_one pk_us x2 x3
end
end
section
/-! one layer of run -/
section
variable {vn wd fi fo mi mo sz nx cl cs ex bv bt : Int32} {a1 a2 a3 a4 a5 a6 a7 a8 a9 a10 a11 a12 a13 a14 a15 a16 a17 : Nat → Int32}
theorem mb_39 {post : Int32 → St2 → Prop} {J7 : _} {x1 x2 : Int32} {v : Nat} (hv : v < 12) :
    ∀ (suf pre nl : List mb_Nd) (nx : Int32) (a7 a8 a9 : Nat → Int32), mb_L sz a4 a5 a6 (pre ++ suf) → (pre ++ suf).length ≤ 16 → mb_L nx a7 a8 a9 nl → nl.length + 2 * suf.length ≤ 64 →
    (∀ k b7 b8 b9, mb_L k b7 b8 b9 (suf.foldl (mb_e mi mo (mb_b v) (a1 v) (a3 v)) nl) → wX_run_39 post J7 x1 x2 (nI v) 1 (nI (pre ++ suf).length) vn wd fi fo mi mo sz k cl cs ex bv bt a1 a2 a3 a4 a5 a6 b7 b8 b9 a10 a11 a12 a13 a14 a15 a16 a17) →
    wX_run_39 post J7 x1 x2 (nI v) (suf.length + 1) (nI pre.length) vn wd fi fo mi mo sz nx cl cs ex bv bt a1 a2 a3 a4 a5 a6 a7 a8 a9 a10 a11 a12 a13 a14 a15 a16 a17
  | [], pre, nl, nx, a7, a8, a9, h, hl, hn, hb, H => by
    rw [List.append_nil] at H
    exact H _ _ _ _ hn
  | x :: xs, pre, nl, nx, a7, a8, a9, h, hl, hn, hb, H => by
    have hlen : (pre ++ x :: xs).length = pre.length + (xs.length + 1) := by rw [List.length_append, List.length_cons]
    rw [List.length_cons] at hb
    obtain ⟨g1, g2, g3⟩ := mb_L_get h
    refine pk_le (pre ++ x :: xs).length pre.length (fun z => absurd z (by omega)) (fun _ => mb_expand hn (by omega) (by omega) hv g1 g2 g3 (fun k b7 b8 b9 hk => nm_r (nI_1 _) ?_)) h.1
    have e1 : pre ++ x :: xs = (pre ++ [x]) ++ xs := by simp
    have e2 : pre.length + 1 = (pre ++ [x]).length := by simp
    have hel := mb_e_len mi mo (mb_b v) (a1 v) (a3 v) nl x
    rw [e2]
    rw [e1] at h hl H
    rw [List.foldl_cons] at H
    exact mb_39 hv xs (pre ++ [x]) _ k b7 b8 b9 h hl hk (by omega) H
theorem mb_86E {post : Int32 → St2 → Prop} {J7 : _} {x1 x2 z0 : Int32} {v m z : Nat} (hs : sz = nI m) (hz : z0 = nI z) (hm : m ≤ z) (hb : z < 2 ^ 31)
    (H : J7 (nI (v + 1)) vn wd fi fo mi mo sz nx cl cs ex bv bt a1 a2 a3 a4 a5 a6 a7 a8 a9 a10 a11 a12 a13 a14 a15 a16 a17) : wX_run_86 post J7 x1 x2 (nI v) z0 vn wd fi fo mi mo sz nx cl cs ex bv bt a1 a2 a3 a4 a5 a6 a7 a8 a9 a10 a11 a12 a13 a14 a15 a16 a17 :=
  pk_le m z (fun _ => nm_r (nI_1 v) H) (fun c => absurd c (by omega)) hs hz
theorem mb_82E {post : Int32 → St2 → Prop} {J7 : _} {x1 x2 : Int32} {v m z : Nat} (hs : sz = nI m) (hz : wd = nI z) (hm : m ≤ z) (hb : z < 2 ^ 31)
    (H : J7 (nI (v + 1)) vn wd fi fo mi mo sz nx cl cs ex bv bt a1 a2 a3 a4 a5 a6 a7 a8 a9 a10 a11 a12 a13 a14 a15 a16 a17) : wX_run_82 post J7 x1 x2 (nI v) vn wd fi fo mi mo sz nx cl cs ex bv bt a1 a2 a3 a4 a5 a6 a7 a8 a9 a10 a11 a12 a13 a14 a15 a16 a17 := by
  unfold wX_run_82
  exact mb_86E hs hz hm hb H
theorem mb_exitE {post : Int32 → St2 → Prop} {J7 : _} {x2 : Int32} {lev v w m : Nat} {nl : List mb_Nd} (hlev : lev < 12) (hv : v < 12) (hw : wd = nI w) (hw2 : w ≤ 16) (hs : sz = nI m) (hm : m ≤ 64)
    (hn : mb_L nx a7 a8 a9 nl) (hnl : nl.length ≤ mb_most w lev v)
    (H : ∀ b4 b5 b6 : Nat → Int32, mb_L nx b4 b5 b6 nl → J7 (nI (v + 1)) vn wd fi fo mi mo nx nx cl cs ex bv bt a1 a2 a3 b4 b5 b6 a7 a8 a9 a10 a11 a12 a13 a14 a15 a16 a17) :
    wX_run_39 post J7 (nI lev) x2 (nI v) 1 (nI m) vn wd fi fo mi mo sz nx cl cs ex bv bt a1 a2 a3 a4 a5 a6 a7 a8 a9 a10 a11 a12 a13 a14 a15 a16 a17 := by
  have hmost : mb_most w lev v ≤ 16 := by
    unfold mb_most
    split <;> omega
  have hn64 : nl.length ≤ 64 := by omega
  unfold mb_most at hnl
  refine pk_le m m (fun _ => mb_takeL hn hn64 (fun b4 b5 b6 hb => ?_)) (fun z => absurd z (by omega)) hs
  refine pk_eq v lev (fun e => pk_le 2 w (fun c => mb_82E hn.1 hw ?_ (by omega) (H _ _ _ hb)) (fun c => mb_86E hn.1 (show (2 : Int32) = nI 2 from rfl) ?_ (by omega) (H _ _ _ hb)) rfl hw) (fun e => mb_82E hn.1 hw ?_ (by omega) (H _ _ _ hb))
  · rw [if_neg (by omega)] at hnl; exact hnl
  · rw [if_pos ⟨e, c⟩] at hnl; exact hnl
  · rw [if_neg (fun z => e z.1)] at hnl; exact hnl
theorem mb_s_cut {s v t : Nat → Int32} {x y : mb_Nd} (h : mb_L 2 s v t (mb_s x y)) : mb_L 1 s v t [mb_c x y] := by
  unfold mb_s at h
  unfold mb_c
  split at h
  · rename_i c
    rw [if_pos c]
    obtain ⟨h1, h2, h3⟩ := h.2 0 x rfl
    exact mb_L_one h1 h2 h3
  · rename_i c
    rw [if_neg c]
    obtain ⟨h1, h2, h3⟩ := h.2 0 y rfl
    exact mb_L_one h1 h2 h3
theorem mb_86C0 {post : Int32 → St2 → Prop} {J7 : _} {x1 : Int32} {v : Nat} {x y : mb_Nd} (hs : mb_L sz a4 a5 a6 [x, y])
    (H : ∀ b4 b5 b6 : Nat → Int32, mb_L 1 b4 b5 b6 [mb_c x y] → J7 (nI (v + 1)) vn wd fi fo mi mo 1 nx cl cs 0 bv bt a1 a2 a3 b4 b5 b6 a7 a8 a9 a10 a11 a12 a13 a14 a15 a16 a17) :
    wX_run_86 post J7 x1 0 (nI v) (nI 1) vn wd fi fo mi mo sz nx cl cs ex bv bt a1 a2 a3 a4 a5 a6 a7 a8 a9 a10 a11 a12 a13 a14 a15 a16 a17 := by
  have h2 : sz = 2 := hs.1
  subst h2
  unfold wX_run_86
  exact pk_le 2 1 (fun z => absurd z (by omega)) (fun _ => mb_sort hs (fun b4 b5 b6 hb => br_t rfl (nm_r (nI_1 v) (H _ _ _ (mb_s_cut hb)))))
theorem mb_86C1 {post : Int32 → St2 → Prop} {J7 : _} {x1 : Int32} {v : Nat} {x y : mb_Nd} (hs : mb_L sz a4 a5 a6 [x, y])
    (H : ∀ b4 b5 b6 : Nat → Int32, mb_L 1 b4 b5 b6 [mb_m x y] → J7 (nI (v + 1)) vn wd fi fo mi mo 1 nx cl cs 0 bv bt a1 a2 a3 b4 b5 b6 a7 a8 a9 a10 a11 a12 a13 a14 a15 a16 a17) :
    wX_run_86 post J7 x1 1 (nI v) (nI 1) vn wd fi fo mi mo sz nx cl cs ex bv bt a1 a2 a3 a4 a5 a6 a7 a8 a9 a10 a11 a12 a13 a14 a15 a16 a17 := by
  have h2 : sz = 2 := hs.1
  subst h2
  unfold wX_run_86
  refine pk_le 2 1 (fun z => absurd z (by omega)) (fun _ => mb_sort hs (fun b4 b5 b6 hb => br_f (by decide) ?_))
  unfold mb_s at hb
  unfold mb_m at H
  split at hb
  · rename_i c
    rw [if_pos c] at H
    exact mb_merge hb (fun c4 hc => nm_r (nI_1 v) (H _ _ _ hc))
  · rename_i c
    rw [if_neg c] at H
    exact mb_merge hb (fun c4 hc => nm_r (nI_1 v) (H _ _ _ hc))
theorem mb_exitC {post : Int32 → St2 → Prop} {J7 : _} {x2 : Int32} {lev v m : Nat} {x y z : mb_Nd} (hlev : lev < 12) (hv : v < 12) (hne : v ≠ lev) (hw : wd = nI 1) (hs : sz = nI m) (hm : m ≤ 64)
    (hn : mb_L nx a7 a8 a9 [x, y]) (hx2 : (x2 = 0 ∧ z = mb_c x y) ∨ (x2 = 1 ∧ z = mb_m x y))
    (H : ∀ b4 b5 b6 : Nat → Int32, mb_L 1 b4 b5 b6 [z] → J7 (nI (v + 1)) vn wd fi fo mi mo 1 nx cl cs 0 bv bt a1 a2 a3 b4 b5 b6 a7 a8 a9 a10 a11 a12 a13 a14 a15 a16 a17) :
    wX_run_39 post J7 (nI lev) x2 (nI v) 1 (nI m) vn wd fi fo mi mo sz nx cl cs ex bv bt a1 a2 a3 a4 a5 a6 a7 a8 a9 a10 a11 a12 a13 a14 a15 a16 a17 := by
  subst hw
  refine pk_le m m (fun _ => mb_takeL hn (by simp) (fun b4 b5 b6 hb => ?_)) (fun z => absurd z (by omega)) hs
  refine pk_eq v lev (fun e => absurd e hne) (fun e => ?_)
  show wX_run_82 _ _ _ _ _ _ _ _ _ _ _ _ _ _ _ _ _ _ _ _ _ _ _ _ _ _ _ _ _ _ _ _ _ _ _
  unfold wX_run_82
  rcases hx2 with ⟨e1, e2⟩ | ⟨e1, e2⟩
  · subst e1 e2
    exact mb_86C0 hb H
  · subst e1 e2
    exact mb_86C1 hb H
theorem mb_lyE {post : Int32 → St2 → Prop} {J7 : _} {x2 : Int32} {lev v w : Nat} {l m : List mb_Nd} (hlev : lev < 12) (hv : v < 12) (hw : wd = nI w) (hw2 : w ≤ 16)
    (h : mb_L sz a4 a5 a6 l) (hl : l.length ≤ 16) (hm : mb_ly mi mo a1 a3 v l = m) (hnl : m.length ≤ mb_most w lev v)
    (H : ∀ (k : Int32) (b4 b5 b6 b7 b8 b9 : Nat → Int32), mb_L k b4 b5 b6 m → J7 (nI (v + 1)) vn wd fi fo mi mo k k cl cs ex bv bt a1 a2 a3 b4 b5 b6 b7 b8 b9 a10 a11 a12 a13 a14 a15 a16 a17) :
    ∃ fu : Nat, wX_run_39 post J7 (nI lev) x2 (nI v) fu 0 vn wd fi fo mi mo sz 0 cl cs ex bv bt a1 a2 a3 a4 a5 a6 a7 a8 a9 a10 a11 a12 a13 a14 a15 a16 a17 := by
  subst hm
  exact ⟨l.length + 1, mb_39 hv l [] [] 0 a7 a8 a9 h hl (mb_L_nil _ _ _) (by simp; omega) (fun k b7 b8 b9 hk => mb_exitE hlev hv hw hw2 h.1 (by simp; omega) hk hnl (fun b4 b5 b6 hb => H _ _ _ _ _ _ _ hb))⟩
theorem mb_lyC {post : Int32 → St2 → Prop} {J7 : _} {x2 : Int32} {lev v : Nat} {l : List mb_Nd} {x y z : mb_Nd} (hlev : lev < 12) (hv : v < 12) (hne : v ≠ lev) (hw : wd = nI 1)
    (h : mb_L sz a4 a5 a6 l) (hl : l.length ≤ 16) (hm : mb_ly mi mo a1 a3 v l = [x, y]) (hx2 : (x2 = 0 ∧ z = mb_c x y) ∨ (x2 = 1 ∧ z = mb_m x y))
    (H : ∀ (k : Int32) (b4 b5 b6 b7 b8 b9 : Nat → Int32), mb_L 1 b4 b5 b6 [z] → J7 (nI (v + 1)) vn wd fi fo mi mo 1 k cl cs 0 bv bt a1 a2 a3 b4 b5 b6 b7 b8 b9 a10 a11 a12 a13 a14 a15 a16 a17) :
    ∃ fu : Nat, wX_run_39 post J7 (nI lev) x2 (nI v) fu 0 vn wd fi fo mi mo sz 0 cl cs ex bv bt a1 a2 a3 a4 a5 a6 a7 a8 a9 a10 a11 a12 a13 a14 a15 a16 a17 := by
  refine ⟨l.length + 1, mb_39 hv l [] [] 0 a7 a8 a9 h hl (mb_L_nil _ _ _) (by simp; omega) (fun k b7 b8 b9 hk => mb_exitC hlev hv hne hw h.1 (by simp; omega) (x := x) (y := y) (hm ▸ hk) hx2 (fun b4 b5 b6 hb => H _ _ _ _ _ _ _ hb))⟩
end
end
section
/-! run: the end, the steps, the whole -/
section
variable {vn wd fi fo mi mo sz nx cl cs ex bv bt : Int32} {a1 a2 a3 a4 a5 a6 a7 a8 a9 a10 a11 a12 a13 a14 a15 a16 a17 : Nat → Int32}
theorem mb_133a {post : Int32 → St2 → Prop} : ∀ (suf pre : List mb_Nd) (t bv bt : Int32), mb_L sz a4 a5 a6 (pre ++ suf) → (pre ++ suf).length ≤ 64 →
    post (mb_tp suf t) (vn, wd, fi, fo, mi, mo, sz, nx, cl, cs, ex, (mb_bb suf (bv, bt)).1, (mb_bb suf (bv, bt)).2, a1, a2, a3, a4, a5, a6, a7, a8, a9, a10, a11, a12, a13, a14, a15, a16, a17) →
    wX_run_133 post 0 vn wd fi fo mi mo sz nx cl cs ex a1 a2 a3 a4 a5 a6 a7 a8 a9 a10 a11 a12 a13 a14 a15 a16 a17 (suf.length + 1) t (nI pre.length) bv bt
  | [], pre, t, bv, bt, h, hl, H => by
    rw [List.append_nil] at h hl
    exact pk_le pre.length pre.length (fun _ => H) (fun z => absurd z (by omega)) h.1
  | x :: xs, pre, t, bv, bt, h, hl, H => by
    have hlen : (pre ++ x :: xs).length = pre.length + (xs.length + 1) := by rw [List.length_append, List.length_cons]
    have hc : (nI pre.length).toNatClampNeg = pre.length := nI_clamp (by omega)
    have hin : vp_in (nI pre.length) 64 := pk_in pre.length 64 (by omega)
    obtain ⟨g1, g2, g3⟩ := mb_L_get h
    have e1 : pre ++ x :: xs = (pre ++ [x]) ++ xs := by simp
    have e2 : nI (pre.length + 1) = nI (pre ++ [x]).length := by simp
    have h' := h
    have hl' := hl
    rw [e1] at h' hl'
    have key : ∀ t' : Int32, t' = (if x.2.1 ≤ t then t else x.2.1) → wX_run_161 post (wX_run_133 post 0 vn wd fi fo mi mo sz nx cl cs ex a1 a2 a3 a4 a5 a6 a7 a8 a9 a10 a11 a12 a13 a14 a15 a16 a17 (xs.length + 1)) 0 t' (nI pre.length) vn wd fi fo mi mo sz nx cl cs ex bv bt a1 a2 a3 a4 a5 a6 a7 a8 a9 a10 a11 a12 a13 a14 a15 a16 a17 := by
      intro t' ht'
      have a : mb_tp (x :: xs) t = mb_tp xs t' := by rw [ht']; rfl
      rw [a] at H
      unfold wX_run_161
      rw [hc, g2, g3]
      refine br_t rfl ⟨hin, br_c (fun d => nm_r (nI_1 _) ?_) (fun d => ⟨hin, nm_e ⟨hin, nm_e (nm_r (nI_1 _) ?_)⟩⟩)⟩
      · have b : mb_bb (x :: xs) (bv, bt) = mb_bb xs (bv, bt) := by
          show mb_bb xs (if x.2.1 ≤ bv then (bv, bt) else _) = _
          rw [if_pos d]
        rw [b] at H
        rw [e2]
        exact mb_133a xs (pre ++ [x]) t' bv bt h' hl' H
      · have b : mb_bb (x :: xs) (bv, bt) = mb_bb xs (x.2.1, x.2.2) := by
          show mb_bb xs (if x.2.1 ≤ bv then (bv, bt) else _) = _
          rw [if_neg d]
        rw [b] at H
        rw [e2]
        exact mb_133a xs (pre ++ [x]) t' x.2.1 x.2.2 h' hl' H
    refine pk_le (pre ++ x :: xs).length pre.length (fun z => absurd z (by omega)) (fun _ => ⟨hin, ?_⟩) h.1
    rw [hc, g2]
    exact br_c (fun c => key _ (by rw [if_pos c])) (fun c => ⟨hin, nm_e (key _ (by rw [if_neg c]))⟩)
theorem mb_133b {post : Int32 → St2 → Prop} : ∀ (suf pre : List mb_Nd) (t : Int32), mb_L sz a4 a5 a6 (pre ++ suf) → (pre ++ suf).length ≤ 64 →
    post (mb_tp suf t) (vn, wd, fi, fo, mi, mo, sz, nx, cl, cs, ex, bv, bt, a1, a2, a3, a4, a5, a6, a7, a8, a9, a10, a11, a12, a13, a14, a15, a16, a17) →
    wX_run_133 post 1 vn wd fi fo mi mo sz nx cl cs ex a1 a2 a3 a4 a5 a6 a7 a8 a9 a10 a11 a12 a13 a14 a15 a16 a17 (suf.length + 1) t (nI pre.length) bv bt
  | [], pre, t, h, hl, H => by
    rw [List.append_nil] at h hl
    exact pk_le pre.length pre.length (fun _ => H) (fun z => absurd z (by omega)) h.1
  | x :: xs, pre, t, h, hl, H => by
    have hlen : (pre ++ x :: xs).length = pre.length + (xs.length + 1) := by rw [List.length_append, List.length_cons]
    have hc : (nI pre.length).toNatClampNeg = pre.length := nI_clamp (by omega)
    have hin : vp_in (nI pre.length) 64 := pk_in pre.length 64 (by omega)
    obtain ⟨g1, g2, g3⟩ := mb_L_get h
    have e1 : pre ++ x :: xs = (pre ++ [x]) ++ xs := by simp
    have e2 : nI (pre.length + 1) = nI (pre ++ [x]).length := by simp
    have h' := h
    have hl' := hl
    rw [e1] at h' hl'
    have key : ∀ t' : Int32, t' = (if x.2.1 ≤ t then t else x.2.1) → wX_run_161 post (wX_run_133 post 1 vn wd fi fo mi mo sz nx cl cs ex a1 a2 a3 a4 a5 a6 a7 a8 a9 a10 a11 a12 a13 a14 a15 a16 a17 (xs.length + 1)) 1 t' (nI pre.length) vn wd fi fo mi mo sz nx cl cs ex bv bt a1 a2 a3 a4 a5 a6 a7 a8 a9 a10 a11 a12 a13 a14 a15 a16 a17 := by
      intro t' ht'
      have a : mb_tp (x :: xs) t = mb_tp xs t' := by rw [ht']; rfl
      rw [a] at H
      unfold wX_run_161
      refine br_f (by decide) (nm_r (nI_1 _) ?_)
      rw [e2]
      exact mb_133b xs (pre ++ [x]) t' h' hl' H
    refine pk_le (pre ++ x :: xs).length pre.length (fun z => absurd z (by omega)) (fun _ => ⟨hin, ?_⟩) h.1
    rw [hc, g2]
    exact br_c (fun c => key _ (by rw [if_pos c])) (fun c => ⟨hin, nm_e (key _ (by rw [if_neg c]))⟩)
theorem mb_fin0 {post : Int32 → St2 → Prop} {x1 bv' bt' : Int32} {n : Nat} {l : List mb_Nd} (hn : vn = 3) (h : mb_L sz a4 a5 a6 l) (hl : l.length ≤ 64)
    (hbb : mb_bb l (bv, bt) = (bv', bt')) (H : post (mb_tp l (-1)) (vn, wd, fi, fo, mi, mo, sz, nx, cl, cs, ex, bv', bt', a1, a2, a3, a4, a5, a6, a7, a8, a9, a10, a11, a12, a13, a14, a15, a16, a17)) :
    wX_run_7 post x1 0 (n + 1) (nI 3) vn wd fi fo mi mo sz nx cl cs ex bv bt a1 a2 a3 a4 a5 a6 a7 a8 a9 a10 a11 a12 a13 a14 a15 a16 a17 :=
  pk_le 3 3 (fun _ => ⟨l.length + 1, mb_133a l [] (-1) bv bt h hl (by rw [hbb]; exact H)⟩) (fun z => absurd z (by omega)) hn
theorem mb_fin1 {post : Int32 → St2 → Prop} {x1 : Int32} {n : Nat} {l : List mb_Nd} (hn : vn = 3) (h : mb_L sz a4 a5 a6 l) (hl : l.length ≤ 64)
    (H : post (mb_tp l (-1)) (vn, wd, fi, fo, mi, mo, sz, nx, cl, cs, ex, bv, bt, a1, a2, a3, a4, a5, a6, a7, a8, a9, a10, a11, a12, a13, a14, a15, a16, a17)) :
    wX_run_7 post x1 1 (n + 1) (nI 3) vn wd fi fo mi mo sz nx cl cs ex bv bt a1 a2 a3 a4 a5 a6 a7 a8 a9 a10 a11 a12 a13 a14 a15 a16 a17 :=
  pk_le 3 3 (fun _ => ⟨l.length + 1, mb_133b l [] (-1) h hl H⟩) (fun z => absurd z (by omega)) hn
theorem mb_st0E {post : Int32 → St2 → Prop} {n lev v w : Nat} {l m : List mb_Nd} (hn : vn = 3) (hlev : lev < 12) (hv : v < 3) (hw : wd = nI w) (hw2 : w ≤ 16)
    (h : mb_L sz a4 a5 a6 l) (hl : l.length ≤ 16) (hm : mb_ly mi mo a1 a3 v l = m) (hnl : m.length ≤ mb_most w lev v)
    (H : ∀ (k : Int32) (b4 b5 b6 b7 b8 b9 : Nat → Int32), mb_L k b4 b5 b6 m → wX_run_7 post (nI lev) 0 n (nI (v + 1)) vn wd fi fo mi mo k k cl cs ex bv bt a1 a2 a3 b4 b5 b6 b7 b8 b9 a10 a11 a12 a13 a14 a15 a16 a17) :
    wX_run_7 post (nI lev) 0 (n + 1) (nI v) vn wd fi fo mi mo sz nx cl cs ex bv bt a1 a2 a3 a4 a5 a6 a7 a8 a9 a10 a11 a12 a13 a14 a15 a16 a17 := by
  have S := mb_lyE (post := post) (J7 := wX_run_7 post (nI lev) 0 n) (x2 := 0) (a7 := a7) (a8 := a8) (a9 := a9) hlev (show v < 12 by omega) hw hw2 h hl hm hnl H
  exact pk_le 3 v (fun z => absurd z (by omega)) (fun _ => br_c (fun _ => S) (fun _ => br_t rfl S)) hn
theorem mb_st0C {post : Int32 → St2 → Prop} {n lev v : Nat} {l : List mb_Nd} {x y : mb_Nd} (hn : vn = 3) (hlev : lev < 12) (hv : v < 3) (hne : v ≠ lev) (hw : wd = nI 1)
    (h : mb_L sz a4 a5 a6 l) (hl : l.length ≤ 16) (hm : mb_ly mi mo a1 a3 v l = [x, y])
    (H : ∀ (k : Int32) (b4 b5 b6 b7 b8 b9 : Nat → Int32), mb_L 1 b4 b5 b6 [mb_c x y] → wX_run_7 post (nI lev) 0 n (nI (v + 1)) vn wd fi fo mi mo 1 k cl cs 0 bv bt a1 a2 a3 b4 b5 b6 b7 b8 b9 a10 a11 a12 a13 a14 a15 a16 a17) :
    wX_run_7 post (nI lev) 0 (n + 1) (nI v) vn wd fi fo mi mo sz nx cl cs ex bv bt a1 a2 a3 a4 a5 a6 a7 a8 a9 a10 a11 a12 a13 a14 a15 a16 a17 := by
  have S := mb_lyC (post := post) (ex := ex) (J7 := wX_run_7 post (nI lev) 0 n) (x2 := 0) (a7 := a7) (a8 := a8) (a9 := a9) hlev (show v < 12 by omega) hne hw h hl hm (Or.inl ⟨rfl, rfl⟩) H
  exact pk_le 3 v (fun z => absurd z (by omega)) (fun _ => br_c (fun _ => S) (fun _ => br_t rfl S)) hn
theorem mb_st1E {post : Int32 → St2 → Prop} {n lev v w : Nat} {l m : List mb_Nd} (hn : vn = 3) (hlev : lev < 12) (hv : v < 3) (hw : wd = nI w) (hw2 : w ≤ 16) (hex : ex = 1)
    (h : mb_L sz a4 a5 a6 l) (hl : l.length ≤ 16) (hm : mb_ly mi mo a1 a3 v l = m) (hnl : m.length ≤ mb_most w lev v)
    (H : ∀ (k : Int32) (b4 b5 b6 b7 b8 b9 b10 b11 b12 : Nat → Int32), mb_L k b4 b5 b6 m → mb_L sz b10 b11 b12 l → wX_run_7 post (nI lev) 1 n (nI (v + 1)) vn wd fi fo mi mo k k (nI v) sz ex bv bt a1 a2 a3 b4 b5 b6 b7 b8 b9 b10 b11 b12 a13 a14 a15 a16 a17) :
    wX_run_7 post (nI lev) 1 (n + 1) (nI v) vn wd fi fo mi mo sz nx cl cs ex bv bt a1 a2 a3 a4 a5 a6 a7 a8 a9 a10 a11 a12 a13 a14 a15 a16 a17 := by
  subst hex
  refine pk_le 3 v (fun z => absurd z (by omega)) (fun _ => br_f (by decide) (br_f (by decide) (mb_keep h (by omega) (fun b10 b11 b12 hk => ?_)))) hn
  exact mb_lyE (x2 := 1) hlev (show v < 12 by omega) hw hw2 h hl hm hnl (fun k b4 b5 b6 b7 b8 b9 hb => H k b4 b5 b6 b7 b8 b9 b10 b11 b12 hb hk)
theorem mb_st1C {post : Int32 → St2 → Prop} {n lev v : Nat} {l : List mb_Nd} {x y : mb_Nd} (hn : vn = 3) (hlev : lev < 12) (hv : v < 3) (hne : v ≠ lev) (hw : wd = nI 1) (hex : ex = 1)
    (h : mb_L sz a4 a5 a6 l) (hl : l.length ≤ 16) (hm : mb_ly mi mo a1 a3 v l = [x, y])
    (H : ∀ (k : Int32) (b4 b5 b6 b7 b8 b9 b10 b11 b12 : Nat → Int32), mb_L 1 b4 b5 b6 [mb_m x y] → mb_L sz b10 b11 b12 l → wX_run_7 post (nI lev) 1 n (nI (v + 1)) vn wd fi fo mi mo 1 k (nI v) sz 0 bv bt a1 a2 a3 b4 b5 b6 b7 b8 b9 b10 b11 b12 a13 a14 a15 a16 a17) :
    wX_run_7 post (nI lev) 1 (n + 1) (nI v) vn wd fi fo mi mo sz nx cl cs ex bv bt a1 a2 a3 a4 a5 a6 a7 a8 a9 a10 a11 a12 a13 a14 a15 a16 a17 := by
  subst hex
  refine pk_le 3 v (fun z => absurd z (by omega)) (fun _ => br_f (by decide) (br_f (by decide) (mb_keep h (by omega) (fun b10 b11 b12 hk => ?_)))) hn
  exact mb_lyC (x2 := 1) hlev (show v < 12 by omega) hne hw h hl hm (Or.inr ⟨rfl, rfl⟩) (fun k b4 b5 b6 b7 b8 b9 hb => H k b4 b5 b6 b7 b8 b9 b10 b11 b12 hb hk)
theorem mb_st1D {post : Int32 → St2 → Prop} {n lev v w : Nat} {l m : List mb_Nd} (hn : vn = 3) (hlev : lev < 12) (hv : v < 3) (hw : wd = nI w) (hw2 : w ≤ 16) (hex : ex = 0)
    (h : mb_L sz a4 a5 a6 l) (hl : l.length ≤ 16) (hm : mb_ly mi mo a1 a3 v l = m) (hnl : m.length ≤ mb_most w lev v)
    (H : ∀ (k : Int32) (b4 b5 b6 b7 b8 b9 : Nat → Int32), mb_L k b4 b5 b6 m → wX_run_7 post (nI lev) 1 n (nI (v + 1)) vn wd fi fo mi mo k k cl cs ex bv bt a1 a2 a3 b4 b5 b6 b7 b8 b9 a10 a11 a12 a13 a14 a15 a16 a17) :
    wX_run_7 post (nI lev) 1 (n + 1) (nI v) vn wd fi fo mi mo sz nx cl cs ex bv bt a1 a2 a3 a4 a5 a6 a7 a8 a9 a10 a11 a12 a13 a14 a15 a16 a17 := by
  have S := mb_lyE (post := post) (J7 := wX_run_7 post (nI lev) 1 n) (x2 := 1) (a7 := a7) (a8 := a8) (a9 := a9) hlev (show v < 12 by omega) hw hw2 h hl hm hnl H
  exact pk_le 3 v (fun z => absurd z (by omega)) (fun _ => br_t hex S) hn
/-- r layers from v on, none of them cut -/
def mb_ex (w : Nat) (mi mo : Int32) (j g : Nat → Int32) (lev : Nat) : Nat → Nat → List mb_Nd → List mb_Nd → Prop
  | 0, _, l, l' => l = l'
  | r + 1, v, l, l' => ∃ m : List mb_Nd, mb_ly mi mo j g v l = m ∧ m.length ≤ mb_most w lev v ∧ mb_ex w mi mo j g lev r (v + 1) m l'
theorem mb_most_le {w lev v : Nat} (h : w ≤ 16) : mb_most w lev v ≤ 16 := by
  unfold mb_most
  split <;> omega
theorem mb_run7E {post : Int32 → St2 → Prop} {lev w : Nat} {l' : List mb_Nd} {bv' bt' : Int32} (hlev : lev < 12) (hw2 : w ≤ 16) (hbb : mb_bb l' (bv, bt) = (bv', bt')) :
    ∀ (r v : Nat) (l : List mb_Nd) (sz nx : Int32) (a4 a5 a6 a7 a8 a9 : Nat → Int32), v + r = 3 → mb_L sz a4 a5 a6 l → l.length ≤ 16 → mb_ex w mi mo a1 a3 lev r v l l' →
    (∀ (k k' : Int32) (b4 b5 b6 b7 b8 b9 : Nat → Int32), post (mb_tp l' (-1)) (3, nI w, fi, fo, mi, mo, k, k', cl, cs, ex, bv', bt', a1, a2, a3, b4, b5, b6, b7, b8, b9, a10, a11, a12, a13, a14, a15, a16, a17)) →
    wX_run_7 post (nI lev) 0 (r + 1) (nI v) 3 (nI w) fi fo mi mo sz nx cl cs ex bv bt a1 a2 a3 a4 a5 a6 a7 a8 a9 a10 a11 a12 a13 a14 a15 a16 a17
  | 0, v, l, sz, nx, a4, a5, a6, a7, a8, a9, hv, h, hl, hx, H => by
    have e : l = l' := hx
    subst e
    have ev : v = 3 := by omega
    subst ev
    exact mb_fin0 rfl h (by omega) hbb (H _ _ _ _ _ _ _ _)
  | r + 1, v, l, sz, nx, a4, a5, a6, a7, a8, a9, hv, h, hl, hx, H => by
    obtain ⟨m, hm, hm2, hx'⟩ := hx
    have := mb_most_le (w := w) (lev := lev) (v := v) hw2
    exact mb_st0E rfl hlev (by omega) rfl hw2 h hl hm hm2 (fun k b4 b5 b6 b7 b8 b9 hb => mb_run7E hlev hw2 hbb r (v + 1) m k k b4 b5 b6 b7 b8 b9 (by omega) hb (by omega) hx' H)
theorem mb_runE {post : Int32 → St2 → Prop} {lev w : Nat} {l l' : List mb_Nd} {bv' bt' : Int32} (hlev : lev ≤ 3) (hw2 : w ≤ 16) (h : mb_L sz a4 a5 a6 l) (hl : l.length ≤ 16)
    (hx : mb_ex w mi mo a1 a3 lev (3 - lev) lev l l') (hbb : mb_bb l' (bv, bt) = (bv', bt'))
    (H : ∀ (k k' : Int32) (b4 b5 b6 b7 b8 b9 : Nat → Int32), post (mb_tp l' (-1)) (3, nI w, fi, fo, mi, mo, k, k', cl, cs, 1, bv', bt', a1, a2, a3, b4, b5, b6, b7, b8, b9, a10, a11, a12, a13, a14, a15, a16, a17)) :
    wpX_run post (3, nI w, fi, fo, mi, mo, sz, nx, cl, cs, ex, bv, bt, a1, a2, a3, a4, a5, a6, a7, a8, a9, a10, a11, a12, a13, a14, a15, a16, a17) (nI lev) 0 :=
  ⟨_, mb_run7E (by omega) hw2 hbb (3 - lev) lev l sz nx a4 a5 a6 a7 a8 a9 (by omega) h hl hx H⟩
theorem mb_runC0 {post : Int32 → St2 → Prop} {l l1 l3 : List mb_Nd} {x y : mb_Nd} {bv' bt' : Int32} (h : mb_L sz a4 a5 a6 l) (hl : l.length ≤ 16)
    (h1 : mb_ly mi mo a1 a3 0 l = l1) (h1' : l1.length ≤ 2) (h2 : mb_ly mi mo a1 a3 1 l1 = [x, y]) (h3 : mb_ly mi mo a1 a3 2 [mb_c x y] = l3) (h3' : l3.length ≤ 1) (hbb : mb_bb l3 (bv, bt) = (bv', bt'))
    (H : ∀ (k k' : Int32) (b4 b5 b6 b7 b8 b9 : Nat → Int32), post (mb_tp l3 (-1)) (3, nI 1, fi, fo, mi, mo, k, k', cl, cs, 0, bv', bt', a1, a2, a3, b4, b5, b6, b7, b8, b9, a10, a11, a12, a13, a14, a15, a16, a17)) :
    wpX_run post (3, nI 1, fi, fo, mi, mo, sz, nx, cl, cs, ex, bv, bt, a1, a2, a3, a4, a5, a6, a7, a8, a9, a10, a11, a12, a13, a14, a15, a16, a17) (nI 0) 0 := by
  refine ⟨4, mb_st0E rfl (by omega) (by omega) rfl (by omega) h hl h1 h1' (fun k b4 b5 b6 b7 b8 b9 hb => ?_)⟩
  refine mb_st0C rfl (by omega) (by omega) (by omega) rfl hb (by omega) h2 (fun k' c4 c5 c6 c7 c8 c9 hc => ?_)
  refine mb_st0E (w := 1) rfl (by omega) (by omega) rfl (by omega) hc (by simp) h3 h3' (fun k' d4 d5 d6 d7 d8 d9 hd => ?_)
  exact mb_fin0 rfl hd (by omega) hbb (H _ _ _ _ _ _ _ _)
theorem mb_runC1 {post : Int32 → St2 → Prop} {l l1 l3 : List mb_Nd} {x y : mb_Nd} (h : mb_L sz a4 a5 a6 l) (hl : l.length ≤ 16)
    (h1 : mb_ly mi mo a1 a3 0 l = l1) (h1' : l1.length ≤ 2) (h2 : mb_ly mi mo a1 a3 1 l1 = [x, y]) (h3 : mb_ly mi mo a1 a3 2 [mb_m x y] = l3) (h3' : l3.length ≤ 1)
    (H : ∀ (k k' c : Int32) (b4 b5 b6 b7 b8 b9 b10 b11 b12 : Nat → Int32), mb_L c b10 b11 b12 l1 → post (mb_tp l3 (-1)) (3, nI 1, fi, fo, mi, mo, k, k', 1, c, 0, bv, bt, a1, a2, a3, b4, b5, b6, b7, b8, b9, b10, b11, b12, a13, a14, a15, a16, a17)) :
    wpX_run post (3, nI 1, fi, fo, mi, mo, sz, nx, cl, cs, ex, bv, bt, a1, a2, a3, a4, a5, a6, a7, a8, a9, a10, a11, a12, a13, a14, a15, a16, a17) (nI 0) 1 := by
  refine ⟨4, mb_st1E rfl (by omega) (by omega) rfl (by omega) rfl h hl h1 h1' (fun k b4 b5 b6 b7 b8 b9 b10 b11 b12 hb hb' => ?_)⟩
  refine mb_st1C rfl (by omega) (by omega) (by omega) rfl rfl hb (by omega) h2 (fun k' c4 c5 c6 c7 c8 c9 c10 c11 c12 hc hc' => ?_)
  refine mb_st1D (w := 1) rfl (by omega) (by omega) rfl (by omega) rfl hc (by simp) h3 h3' (fun k' d4 d5 d6 d7 d8 d9 hd => ?_)
  exact mb_fin1 rfl hd (by omega) (H _ _ _ _ _ _ _ _ _ _ _ _ hc')
end
end
section
/-! solve: a pop, a push, the whole -/
section
variable {vn wd fi fo mi mo sz nx cl cs ex bv bt : Int32} {a1 a2 a3 a4 a5 a6 a7 a8 a9 a10 a11 a12 a13 a14 a15 a16 a17 : Nat → Int32}
theorem mb_popE {post : St2 → Prop} {n k st lev w : Nat} {o s t bv' bt' : Int32} {l' : List mb_Nd} (hk : k < 256) (hst : st < 8192) (hlev : lev ≤ 3) (hw2 : w ≤ 16)
    (e13 : a13 k = nI lev) (e14 : a14 k = o) (e15 : a15 k = s) (e16 : a16 k = t)
    (hx : mb_ex w mi mo a1 a3 lev (3 - lev) lev [(o, s, t)] l') (hbb : mb_bb l' (bv, bt) = (bv', bt'))
    (H : ∀ (k1 k2 : Int32) (b4 b5 b6 b7 b8 b9 : Nat → Int32), wX_solve_49 post n (nI k) (nI (st + 1)) 3 (nI w) fi fo mi mo k1 k2 cl cs 1 bv' bt' a1 a2 a3 b4 b5 b6 b7 b8 b9 a10 a11 a12 a13 a14 a15 a16 a17) :
    wX_solve_49 post (n + 1) (nI (k + 1)) (nI st) 3 (nI w) fi fo mi mo sz nx cl cs ex bv bt a1 a2 a3 a4 a5 a6 a7 a8 a9 a10 a11 a12 a13 a14 a15 a16 a17 := by
  have hc : (nI k).toNatClampNeg = k := nI_clamp (by omega)
  have hin : vp_in (nI k) 256 := pk_in k 256 hk
  refine pk_le 8192 st (fun z => absurd z (by omega)) (fun _ => pk_le (k + 1) 0 (fun z => absurd z (by omega)) (fun _ => nm_r (pk_m1 k) ⟨hin, nm_r (show _ = nI lev by rw [hc, e13]) ⟨hin, nm_r (show _ = o by rw [hc, e14]) ⟨hin, nm_r (show _ = s by rw [hc, e15]) ⟨hin, nm_r (show _ = t by rw [hc, e16]) ?_⟩⟩⟩⟩))
  refine mb_start (fun b4 b5 b6 hb => ?_)
  refine mb_runE hlev hw2 hb (by simp) hx hbb (fun k1 k2 c4 c5 c6 c7 c8 c9 => ?_)
  exact br_f (by decide) (nm_r (nI_1 st) (H _ _ _ _ _ _ _ _))
/-- the first pop of width 1, where the second layer is cut -/
theorem mb_popC {post : St2 → Prop} {n : Nat} {l1 l3 m3 : List mb_Nd} {x y : mb_Nd} {o s t tp' bv' bt' : Int32}
    (e13 : a13 0 = 0) (e14 : a14 0 = o) (e15 : a15 0 = s) (e16 : a16 0 = t)
    (h1 : mb_ly mi mo a1 a3 0 [(o, s, t)] = l1) (h1' : l1.length ≤ 2) (h2 : mb_ly mi mo a1 a3 1 l1 = [x, y])
    (h3 : mb_ly mi mo a1 a3 2 [mb_c x y] = l3) (h3' : l3.length ≤ 1) (h4 : mb_ly mi mo a1 a3 2 [mb_m x y] = m3) (h4' : m3.length ≤ 1) (hbb : mb_bb l3 (bv, bt) = (bv', bt')) (htp : mb_tp m3 (-1) = tp')
    (HA : tp' ≤ bv' → ∀ (k k' c : Int32) (b4 b5 b6 b7 b8 b9 b10 b11 b12 : Nat → Int32), wX_solve_49 post n (nI 0) (nI 1) 3 (nI 1) fi fo mi mo k k' 1 c 0 bv' bt' a1 a2 a3 b4 b5 b6 b7 b8 b9 b10 b11 b12 a13 a14 a15 a16 a17)
    (HB : ¬ tp' ≤ bv' → ∀ (k k' c : Int32) (b4 b5 b6 b7 b8 b9 b10 b11 b12 : Nat → Int32), mb_L c b10 b11 b12 l1 →
      ∃ fu : Nat, wX_solve_148 post (wX_solve_49 post n) (nI 0) 3 (nI 1) fi fo mi mo k k' 1 c 0 bv' bt' fu (nI 0) 0 a1 a2 a3 b4 b5 b6 b7 b8 b9 b10 b11 b12 a13 a14 a15 a16 a17) :
    wX_solve_49 post (n + 1) (nI 1) (nI 0) 3 (nI 1) fi fo mi mo sz nx cl cs ex bv bt a1 a2 a3 a4 a5 a6 a7 a8 a9 a10 a11 a12 a13 a14 a15 a16 a17 := by
  have hc : (nI 0).toNatClampNeg = 0 := nI_clamp (by omega)
  have hin : vp_in (nI 0) 256 := pk_in 0 256 (by omega)
  refine pk_le 8192 0 (fun z => absurd z (by omega)) (fun _ => pk_le 1 0 (fun z => absurd z (by omega)) (fun _ => nm_r (pk_m1 0) ⟨hin, nm_r (show _ = nI 0 by rw [hc, e13]; rfl) ⟨hin, nm_r (show _ = o by rw [hc, e14]) ⟨hin, nm_r (show _ = s by rw [hc, e15]) ⟨hin, nm_r (show _ = t by rw [hc, e16]) ?_⟩⟩⟩⟩))
  refine mb_start (fun b4 b5 b6 hb => ?_)
  refine mb_runC0 hb (by simp) h1 h1' h2 h3 h3' hbb (fun k1 k2 c4 c5 c6 c7 c8 c9 => ?_)
  refine br_t rfl ?_
  refine mb_start (fun d4 d5 d6 hd => ?_)
  refine mb_runC1 hd (by simp) h1 h1' h2 h4 h4' (fun k3 k4 k5 f4 f5 f6 f7 f8 f9 f10 f11 f12 hf => ?_)
  rw [htp]
  exact br_c (fun c => nm_r (nI_1 0) (HA c _ _ _ _ _ _ _ _ _ _ _ _)) (fun c => HB c _ _ _ _ _ _ _ _ _ _ _ _ hf)
theorem mb_push {post : St2 → Prop} {J49 : _} {x y : mb_Nd} (h : mb_L cs a10 a11 a12 [x, y])
    (H : ∀ b13 b14 b15 b16 : Nat → Int32, b13 0 = cl → b14 0 = x.1 → b15 0 = x.2.1 → b16 0 = x.2.2 → b13 1 = cl → b14 1 = y.1 → b15 1 = y.2.1 → b16 1 = y.2.2 → J49 (nI 2) (nI 1) vn wd fi fo mi mo sz nx cl cs ex bv bt a1 a2 a3 a4 a5 a6 a7 a8 a9 a10 a11 a12 b13 b14 b15 b16 a17) :
    ∃ fu : Nat, wX_solve_148 post J49 (nI 0) vn wd fi fo mi mo sz nx cl cs ex bv bt fu (nI 0) 0 a1 a2 a3 a4 a5 a6 a7 a8 a9 a10 a11 a12 a13 a14 a15 a16 a17 := by
  have hs : cs = 2 := h.1
  subst hs
  obtain ⟨x1, x2, x3⟩ := h.2 0 x rfl
  obtain ⟨y1, y2, y3⟩ := h.2 1 y rfl
  have i0 : vp_in (nI 0) 256 := pk_in 0 256 (by omega)
  have j0 : vp_in (0 : Int32) 64 := pk_in 0 64 (by omega)
  have i1 : vp_in (nI 1) 256 := pk_in 1 256 (by omega)
  have j1 : vp_in (nI 1) 64 := pk_in 1 64 (by omega)
  have c0 : (nI 0).toNatClampNeg = 0 := nI_clamp (by omega)
  have d0 : (0 : Int32).toNatClampNeg = 0 := pk_cl 0
  have c1 : (nI 1).toNatClampNeg = 1 := nI_clamp (by omega)
  refine ⟨3, pk_le 2 0 (fun z => absurd z (by omega)) (fun _ => pk_le 256 0 (fun z => absurd z (by omega)) (fun _ => ⟨i0, nm_r (show _ = upd a13 0 cl by rw [c0]) ⟨j0, i0, nm_r (show _ = upd a14 0 x.1 by rw [c0, d0, x1])
    ⟨j0, i0, nm_r (show _ = upd a15 0 x.2.1 by rw [c0, d0, x2]) ⟨j0, i0, nm_r (show _ = upd a16 0 x.2.2 by rw [c0, d0, x3]) (nm_r (nI_1 0) (nm_r (nI_1 0) ?_))⟩⟩⟩⟩))⟩
  refine pk_le 2 1 (fun z => absurd z (by omega)) (fun _ => pk_le 256 1 (fun z => absurd z (by omega)) (fun _ => ⟨i1, nm_r (show _ = upd (upd a13 0 cl) 1 cl by rw [c1]) ⟨j1, i1, nm_r (show _ = upd (upd a14 0 x.1) 1 y.1 by rw [c1, y1])
    ⟨j1, i1, nm_r (show _ = upd (upd a15 0 x.2.1) 1 y.2.1 by rw [c1, y2]) ⟨j1, i1, nm_r (show _ = upd (upd a16 0 x.2.2) 1 y.2.2 by rw [c1, y3]) (nm_r (nI_1 1) (nm_r (nI_1 1) ?_))⟩⟩⟩⟩))
  refine pk_le 2 2 (fun _ => nm_r (nI_1 0) (H _ _ _ _ ?_ ?_ ?_ ?_ ?_ ?_ ?_ ?_)) (fun z => absurd z (by omega))
  · rw [pk_un (by omega), pk_us]
  · rw [pk_un (by omega), pk_us]
  · rw [pk_un (by omega), pk_us]
  · rw [pk_un (by omega), pk_us]
  · rw [pk_us]
  · rw [pk_us]
  · rw [pk_us]
  · rw [pk_us]
theorem mb_end49 {post : St2 → Prop} {n st : Nat} (hst : st < 8192) (H : post (vn, wd, fi, fo, mi, mo, sz, nx, cl, cs, ex, bv, bt, a1, a2, a3, a4, a5, a6, a7, a8, a9, a10, a11, a12, a13, a14, a15, a16, a17)) : wX_solve_49 post (n + 1) (nI 0) (nI st) vn wd fi fo mi mo sz nx cl cs ex bv bt a1 a2 a3 a4 a5 a6 a7 a8 a9 a10 a11 a12 a13 a14 a15 a16 a17 :=
  pk_le 8192 st (fun z => absurd z (by omega)) (fun _ => pk_le 0 0 (fun _ => H) (fun z => absurd z (by omega)))
theorem mb_7 : ((1 : Int32) <<< ((3 : Int32) &&& 31)) - 1 = 7 := by decide
theorem mb_solveE {post : St2 → Prop} {w : Nat} {l' : List mb_Nd} {bv' bt' : Int32} (hw2 : w ≤ 16) (hx : mb_ex w mi mo a1 a3 0 3 0 [(7, 0, 0)] l') (hbb : mb_bb l' (-1, 0) = (bv', bt'))
    (H : ∀ (k1 k2 k3 k4 k5 : Int32) (b4 b5 b6 b7 b8 b9 b10 b11 b12 b13 b14 b15 b16 : Nat → Int32), post (3, nI w, fi, fo, mi, mo, k1, k2, k3, k4, k5, bv', bt', a1, a2, a3, b4, b5, b6, b7, b8, b9, b10, b11, b12, b13, b14, b15, b16, a17)) :
    wpX_solve post (3, nI w, fi, fo, mi, mo, sz, nx, cl, cs, ex, bv, bt, a1, a2, a3, a4, a5, a6, a7, a8, a9, a10, a11, a12, a13, a14, a15, a16, a17) := by
  unfold wpX_solve
  dsimp only
  rw [mb_7]
  refine nm_e (nm_e (nm_e (nm_e ⟨2, ?_⟩)))
  exact mb_popE (k := 0) (st := 0) (lev := 0) (by omega) (by omega) (by omega) hw2 pk_us pk_us pk_us pk_us hx hbb (fun k1 k2 b4 b5 b6 b7 b8 b9 => mb_end49 (by omega) (H _ _ _ _ _ _ _ _ _ _ _ _ _ _ _ _ _ _))
end
end
section
/-! the layers of the path 0 - 1 - 2, in plain Lean -/
theorem mb_b0 : mb_b 0 = 1 := by decide
theorem mb_b1 : mb_b 1 = 2 := by decide
theorem mb_b2 : mb_b 2 = 4 := by decide
section
variable {mi mo b j g s v t : Int32} {nl xs : List mb_Nd}
theorem mb_e_both (s1 s2 t2 : Int32) (h1 : mi &&& b = 0) (h2 : ¬ s &&& b = 0) (h3 : mo &&& b = 0) (e1 : s &&& (b ^^^ (-1)) = s1) (e2 : s1 &&& (j ^^^ (-1)) = s2) (e3 : t ||| b = t2) :
    mb_e mi mo b j g nl (s, v, t) = mb_r (mb_r nl (s1, v, t)) (s2, v + g, t2) := by
  subst e1 e2 e3
  unfold mb_e mb_e2
  rw [if_pos h1, if_neg h2, if_pos h3]
theorem mb_e_skip (s1 : Int32) (h1 : mi &&& b = 0) (h2 : s &&& b = 0 ∨ ¬ mo &&& b = 0) (e1 : s &&& (b ^^^ (-1)) = s1) :
    mb_e mi mo b j g nl (s, v, t) = mb_r nl (s1, v, t) := by
  subst e1
  unfold mb_e mb_e2
  rw [if_pos h1]
  by_cases c : s &&& b = 0
  · rw [if_pos c]
  · rw [if_neg c, if_neg (h2.resolve_left c)]
theorem mb_e_take (s1 s2 t2 : Int32) (h1 : ¬ mi &&& b = 0) (h2 : ¬ s &&& b = 0) (h3 : mo &&& b = 0) (e1 : s &&& (b ^^^ (-1)) = s1) (e2 : s1 &&& (j ^^^ (-1)) = s2) (e3 : t ||| b = t2) :
    mb_e mi mo b j g nl (s, v, t) = mb_r nl (s2, v + g, t2) := by
  subst e1 e2 e3
  unfold mb_e mb_e2
  rw [if_neg h1, if_neg h2, if_pos h3]
theorem mb_e_none (h1 : ¬ mi &&& b = 0) (h2 : s &&& b = 0 ∨ ¬ mo &&& b = 0) : mb_e mi mo b j g nl (s, v, t) = nl := by
  unfold mb_e mb_e2
  rw [if_neg h1]
  by_cases c : s &&& b = 0
  · rw [if_pos c]
  · rw [if_neg c, if_neg (h2.resolve_left c)]
theorem mb_r_nil (nd : mb_Nd) : mb_r [] nd = [nd] := rfl
theorem mb_r_ne {s' v' t' : Int32} (h : ¬ s = s') : mb_r ((s, v, t) :: xs) (s', v', t') = (s, v, t) :: mb_r xs (s', v', t') := by
  rw [mb_r, if_neg h]
theorem mb_r_put {v' t' : Int32} (c : ¬ v' ≤ v) : mb_r ((s, v, t) :: xs) (s, v', t') = (s, v', t') :: xs := by
  rw [mb_r, if_pos rfl, if_neg c]
theorem mb_r_keep {v' t' : Int32} (c : v' ≤ v) : mb_r ((s, v, t) :: xs) (s, v', t') = (s, v, t) :: xs := by
  rw [mb_r, if_pos rfl, if_pos c]
theorem mb_ly_nil {j g : Nat → Int32} {i : Nat} : mb_ly mi mo j g i [] = [] := rfl
theorem mb_ly_one {j g : Nat → Int32} {i : Nat} {x : mb_Nd} : mb_ly mi mo j g i [x] = mb_e mi mo (mb_b i) (j i) (g i) [] x := rfl
theorem mb_ly_two {j g : Nat → Int32} {i : Nat} {x y : mb_Nd} : mb_ly mi mo j g i [x, y] = mb_e mi mo (mb_b i) (j i) (g i) (mb_e mi mo (mb_b i) (j i) (g i) [] x) y := rfl
end
theorem mb_z (A : Nat) : (0 : Int32) + nI A = nI A := by rw [Int32.zero_add]
section
variable {mi mo : Int32} {j g : Nat → Int32} {A B C : Nat}
/-- vertex 0 -/
theorem mb_q0 (j0 : j 0 = 2) (g0 : g 0 = nI A) (h1 : mi &&& 1 = 0) (h3 : mo &&& 1 = 0) : mb_ly mi mo j g 0 [(7, 0, 0)] = [(6, 0, 0), (4, nI A, 1)] := by
  rw [mb_ly_one, mb_b0, j0, g0, mb_e_both 6 4 1 h1 (by decide) h3 (by decide) (by decide) (by decide), mb_r_nil, mb_r_ne (by decide), mb_r_nil, mb_z]
theorem mb_q0i (j0 : j 0 = 2) (g0 : g 0 = nI A) (h1 : ¬ mi &&& 1 = 0) (h3 : mo &&& 1 = 0) : mb_ly mi mo j g 0 [(7, 0, 0)] = [(4, nI A, 1)] := by
  rw [mb_ly_one, mb_b0, j0, g0, mb_e_take 6 4 1 h1 (by decide) h3 (by decide) (by decide) (by decide), mb_r_nil, mb_z]
/-- vertex 1 -/
theorem mb_q1 (j1 : j 1 = 5) (g1 : g 1 = nI B) (hA : 0 < A) (hA2 : A < 2 ^ 20) (h1 : mi &&& 2 = 0) (h3 : mo &&& 2 = 0) : mb_ly mi mo j g 1 [(6, 0, 0), (4, nI A, 1)] = [(4, nI A, 1), (0, nI B, 2)] := by
  rw [mb_ly_two, mb_b1, j1, g1, mb_e_both (nl := []) 4 0 2 h1 (by decide) h3 (by decide) (by decide) (by decide), mb_r_nil, mb_r_ne (by decide), mb_r_nil, mb_z,
    mb_e_skip 4 h1 (Or.inl (by decide)) (by decide), mb_r_put (nI_nle hA (by omega))]
theorem mb_q1i (j1 : j 1 = 5) (g1 : g 1 = nI B) (h1 : ¬ mi &&& 2 = 0) (h3 : mo &&& 2 = 0) : mb_ly mi mo j g 1 [(6, 0, 0), (4, nI A, 1)] = [(0, nI B, 2)] := by
  rw [mb_ly_two, mb_b1, j1, g1, mb_e_take (nl := []) 4 0 2 h1 (by decide) h3 (by decide) (by decide) (by decide), mb_r_nil, mb_z, mb_e_none h1 (Or.inl (by decide))]
theorem mb_q1o (hA : 0 < A) (hA2 : A < 2 ^ 20) (h1 : mi &&& 2 = 0) (h3 : ¬ mo &&& 2 = 0) : mb_ly mi mo j g 1 [(6, 0, 0), (4, nI A, 1)] = [(4, nI A, 1)] := by
  rw [mb_ly_two, mb_b1, mb_e_skip (nl := []) 4 h1 (Or.inr h3) (by decide), mb_r_nil, mb_e_skip 4 h1 (Or.inr h3) (by decide), mb_r_put (nI_nle hA (by omega))]
theorem mb_q1s (h1 : mi &&& 2 = 0) : mb_ly mi mo j g 1 [(4, nI A, 1)] = [(4, nI A, 1)] := by
  rw [mb_ly_one, mb_b1, mb_e_skip 4 h1 (Or.inl (by decide)) (by decide), mb_r_nil]
theorem mb_q1n (h1 : ¬ mi &&& 2 = 0) : mb_ly mi mo j g 1 [(4, nI A, 1)] = [] := by
  rw [mb_ly_one, mb_b1, mb_e_none h1 (Or.inl (by decide))]
theorem mb_q1z (j1 : j 1 = 5) (g1 : g 1 = nI B) (h1 : mi &&& 2 = 0) (h3 : mo &&& 2 = 0) : mb_ly mi mo j g 1 [(6, 0, 0)] = [(4, nI 0, 0), (0, nI B, 2)] := by
  rw [mb_ly_one, mb_b1, j1, g1, mb_e_both 4 0 2 h1 (by decide) h3 (by decide) (by decide) (by decide), mb_r_nil, mb_r_ne (by decide), mb_r_nil, mb_z, nI_0]
/-- vertex 2 -/
theorem mb_q2 {V : Nat} {t t' : Int32} (j2 : j 2 = 2) (g2 : g 2 = nI C) (hV : V < 2 ^ 22) (hC : 0 < C) (hC2 : C < 2 ^ 20) (h1 : mi &&& 4 = 0) (h3 : mo &&& 4 = 0) (ht : t ||| 4 = t') :
    mb_ly mi mo j g 2 [(4, nI V, t)] = [(0, nI (V + C), t')] := by
  rw [mb_ly_one, mb_b2, j2, g2, mb_e_both 0 0 t' h1 (by decide) h3 (by decide) (by decide) ht, mb_r_nil, nI_add, mb_r_put (nI_ge (by omega) (by omega))]
theorem mb_q2s {v t : Int32} (h1 : mi &&& 4 = 0) : mb_ly mi mo j g 2 [(0, v, t)] = [(0, v, t)] := by
  rw [mb_ly_one, mb_b2, mb_e_skip 0 h1 (Or.inl (by decide)) (by decide), mb_r_nil]
theorem mb_q2b {V : Nat} {t t' : Int32} (j2 : j 2 = 2) (g2 : g 2 = nI C) (hV : V < 2 ^ 22) (hB2 : B < 2 ^ 20) (hC : 0 < C) (hC2 : C < 2 ^ 20) (h1 : mi &&& 4 = 0) (h3 : mo &&& 4 = 0) (ht : t ||| 4 = t') :
    mb_ly mi mo j g 2 [(4, nI V, t), (0, nI B, 2)] = [if B ≤ V + C then (0, nI (V + C), t') else (0, nI B, 2)] := by
  rw [mb_ly_two, mb_b2, j2, g2, mb_e_both (nl := []) 0 0 t' h1 (by decide) h3 (by decide) (by decide) ht, mb_r_nil, nI_add, mb_r_put (nI_ge (by omega) (by omega)),
    mb_e_skip 0 h1 (Or.inl (by decide)) (by decide)]
  by_cases c : B ≤ V + C
  · rw [if_pos c, mb_r_keep (nI_le c (by omega))]
  · rw [if_neg c, mb_r_put (nI_ge (by omega) (by omega))]
/-- the ends -/
theorem mb_nm1 {V : Nat} (h : V < 2 ^ 31) : ¬ nI V ≤ -1 := by
  intro c
  have c' := Int32.le_iff_toInt_le.mp c
  rw [nI_toInt h] at c'
  have : (-1 : Int32).toInt = -1 := by decide
  omega
theorem mb_bb0 {V : Nat} {s t : Int32} (h : V < 2 ^ 31) : mb_bb [(s, nI V, t)] (-1, 0) = (nI V, t) := by
  show (if nI V ≤ -1 then _ else _) = _
  rw [if_neg (mb_nm1 h)]
theorem mb_bbk {V W : Nat} {s t u : Int32} (h : V ≤ W) (hW : W < 2 ^ 31) : mb_bb [(s, nI V, t)] (nI W, u) = (nI W, u) := by
  show (if nI V ≤ nI W then _ else _) = _
  rw [if_pos (nI_le h hW)]
theorem mb_bbp {V W : Nat} {s t u : Int32} (h : W < V) (hV : V < 2 ^ 31) : mb_bb [(s, nI V, t)] (nI W, u) = (nI V, t) := by
  show (if nI V ≤ nI W then _ else _) = _
  rw [if_neg (nI_ge h hV)]
theorem mb_tp0 {V : Nat} {s t : Int32} (h : V < 2 ^ 31) : mb_tp [(s, nI V, t)] (-1) = nI V := by
  show (if nI V ≤ -1 then _ else _) = _
  rw [if_neg (mb_nm1 h)]
theorem mb_m2 {w lev : Nat} (h : 1 ≤ w) : 2 ≤ mb_most w lev lev := by
  unfold mb_most
  split <;> omega
theorem mb_m1 {w lev v : Nat} (h : 1 ≤ w) : 1 ≤ mb_most w lev v := by
  unfold mb_most
  split <;> omega
theorem mb_m2w {w lev v : Nat} (h : 2 ≤ w) : 2 ≤ mb_most w lev v := by
  unfold mb_most
  split <;> omega
end
end
section
/-! solve over the path 0 - 1 - 2 -/
section
variable {vn wd fi fo mi mo sz nx cl cs ex bv bt : Int32} {a1 a2 a3 a4 a5 a6 a7 a8 a9 a10 a11 a12 a13 a14 a15 a16 a17 : Nat → Int32}
/-- what must hold of the graph and of the gains -/
def mb_K (j g : Nat → Int32) (A B C : Nat) : Prop :=
  (j 0 = 2 ∧ j 1 = 5 ∧ j 2 = 2) ∧ (g 0 = nI A ∧ g 1 = nI B ∧ g 2 = nI C) ∧ (0 < A ∧ A < 2 ^ 20) ∧ (0 < B ∧ B < 2 ^ 20) ∧ (0 < C ∧ C < 2 ^ 20)
/-- vertex 1 forced in -/
theorem mb_sol_in {post : St2 → Prop} {w A B C : Nat} (hw : 1 ≤ w) (hw2 : w ≤ 16) (K : mb_K a1 a3 A B C)
    (H : ∀ (k1 k2 k3 k4 k5 : Int32) (b4 b5 b6 b7 b8 b9 b10 b11 b12 b13 b14 b15 b16 : Nat → Int32), post (3, nI w, fi, fo, 2, 0, k1, k2, k3, k4, k5, nI B, 2, a1, a2, a3, b4, b5, b6, b7, b8, b9, b10, b11, b12, b13, b14, b15, b16, a17)) :
    wpX_solve post (3, nI w, fi, fo, 2, 0, sz, nx, cl, cs, ex, bv, bt, a1, a2, a3, a4, a5, a6, a7, a8, a9, a10, a11, a12, a13, a14, a15, a16, a17) := by
  obtain ⟨⟨j0, j1, j2⟩, ⟨g0, g1, g2⟩, ⟨A1, A2⟩, ⟨B1, B2⟩, ⟨C1, C2⟩⟩ := K
  exact mb_solveE hw2 ⟨_, mb_q0 j0 g0 (by decide) (by decide), mb_m2 hw, _, mb_q1i j1 g1 (by decide) (by decide), mb_m1 hw, _, mb_q2s (by decide), mb_m1 hw, rfl⟩ (mb_bb0 (by omega)) H
/-- vertex 1 forced out -/
theorem mb_sol_out {post : St2 → Prop} {w A B C : Nat} (hw : 1 ≤ w) (hw2 : w ≤ 16) (K : mb_K a1 a3 A B C)
    (H : ∀ (k1 k2 k3 k4 k5 : Int32) (b4 b5 b6 b7 b8 b9 b10 b11 b12 b13 b14 b15 b16 : Nat → Int32), post (3, nI w, fi, fo, 0, 2, k1, k2, k3, k4, k5, nI (A + C), 5, a1, a2, a3, b4, b5, b6, b7, b8, b9, b10, b11, b12, b13, b14, b15, b16, a17)) :
    wpX_solve post (3, nI w, fi, fo, 0, 2, sz, nx, cl, cs, ex, bv, bt, a1, a2, a3, a4, a5, a6, a7, a8, a9, a10, a11, a12, a13, a14, a15, a16, a17) := by
  obtain ⟨⟨j0, j1, j2⟩, ⟨g0, g1, g2⟩, ⟨A1, A2⟩, ⟨B1, B2⟩, ⟨C1, C2⟩⟩ := K
  exact mb_solveE hw2 ⟨_, mb_q0 j0 g0 (by decide) (by decide), mb_m2 hw, _, mb_q1o A1 A2 (by decide) (by decide), mb_m1 hw, _, mb_q2 j2 g2 (by omega) C1 C2 (by decide) (by decide) (show (1 : Int32) ||| 4 = 5 by decide), mb_m1 hw, rfl⟩ (mb_bb0 (by omega)) H
/-- vertex 0 asked for, vertex 1 not forced in -/
theorem mb_sol_w {post : St2 → Prop} {w A B C : Nat} (hmo : mo = 0 ∨ mo = 2) (hw : 1 ≤ w) (hw2 : w ≤ 16) (K : mb_K a1 a3 A B C)
    (H : ∀ (k1 k2 k3 k4 k5 : Int32) (b4 b5 b6 b7 b8 b9 b10 b11 b12 b13 b14 b15 b16 : Nat → Int32), post (3, nI w, fi, fo, 1, mo, k1, k2, k3, k4, k5, nI (A + C), 5, a1, a2, a3, b4, b5, b6, b7, b8, b9, b10, b11, b12, b13, b14, b15, b16, a17)) :
    wpX_solve post (3, nI w, fi, fo, 1, mo, sz, nx, cl, cs, ex, bv, bt, a1, a2, a3, a4, a5, a6, a7, a8, a9, a10, a11, a12, a13, a14, a15, a16, a17) := by
  obtain ⟨⟨j0, j1, j2⟩, ⟨g0, g1, g2⟩, ⟨A1, A2⟩, ⟨B1, B2⟩, ⟨C1, C2⟩⟩ := K
  have o1 : mo &&& 1 = 0 := by
    rcases hmo with e | e
    · subst e; decide
    · subst e; decide
  have o4 : mo &&& 4 = 0 := by
    rcases hmo with e | e
    · subst e; decide
    · subst e; decide
  exact mb_solveE hw2 ⟨_, mb_q0i j0 g0 (by decide) o1, mb_m1 hw, _, mb_q1s (by decide), mb_m1 hw, _, mb_q2 j2 g2 (by omega) C1 C2 (by decide) o4 (show (1 : Int32) ||| 4 = 5 by decide), mb_m1 hw, rfl⟩ (mb_bb0 (by omega)) H
/-- vertex 0 asked for, vertex 1 forced in -/
theorem mb_sol_wi {post : St2 → Prop} {w A B C : Nat} (hw : 1 ≤ w) (hw2 : w ≤ 16) (K : mb_K a1 a3 A B C)
    (H : ∀ (k1 k2 k3 k4 k5 : Int32) (b4 b5 b6 b7 b8 b9 b10 b11 b12 b13 b14 b15 b16 : Nat → Int32), post (3, nI w, fi, fo, 3, 0, k1, k2, k3, k4, k5, (-1), 0, a1, a2, a3, b4, b5, b6, b7, b8, b9, b10, b11, b12, b13, b14, b15, b16, a17)) :
    wpX_solve post (3, nI w, fi, fo, 3, 0, sz, nx, cl, cs, ex, bv, bt, a1, a2, a3, a4, a5, a6, a7, a8, a9, a10, a11, a12, a13, a14, a15, a16, a17) := by
  obtain ⟨⟨j0, j1, j2⟩, ⟨g0, g1, g2⟩, ⟨A1, A2⟩, ⟨B1, B2⟩, ⟨C1, C2⟩⟩ := K
  exact mb_solveE hw2 ⟨_, mb_q0i j0 g0 (by decide) (by decide), mb_m1 hw, _, mb_q1n (by decide), Nat.zero_le _, _, mb_ly_nil, Nat.zero_le _, rfl⟩ rfl H
/-- nothing forced, width 1 -/
theorem mb_sol_1 {post : St2 → Prop} {A B C V : Nat} {t : Int32} (K : mb_K a1 a3 A B C) (hV : (B ≤ A + C ∧ V = A + C ∧ t = 5) ∨ (A + C < B ∧ V = B ∧ t = 2)) (hne : B ≠ A + C)
    (H : ∀ (k1 k2 k3 k4 k5 : Int32) (b4 b5 b6 b7 b8 b9 b10 b11 b12 b13 b14 b15 b16 : Nat → Int32), post (3, nI 1, fi, fo, 0, 0, k1, k2, k3, k4, k5, nI V, t, a1, a2, a3, b4, b5, b6, b7, b8, b9, b10, b11, b12, b13, b14, b15, b16, a17)) :
    wpX_solve post (3, nI 1, fi, fo, 0, 0, sz, nx, cl, cs, ex, bv, bt, a1, a2, a3, a4, a5, a6, a7, a8, a9, a10, a11, a12, a13, a14, a15, a16, a17) := by
  obtain ⟨⟨j0, j1, j2⟩, ⟨g0, g1, g2⟩, ⟨A1, A2⟩, ⟨B1, B2⟩, ⟨C1, C2⟩⟩ := K
  unfold wpX_solve
  dsimp only
  rw [mb_7]
  refine nm_e (nm_e (nm_e (nm_e ?_)))
  have q0 := mb_q0 (mi := 0) (mo := 0) j0 g0 (by decide) (by decide)
  have q1 := mb_q1 (mi := 0) (mo := 0) j1 g1 A1 A2 (by decide) (by decide)
  by_cases hAB : B ≤ A
  · have ec : mb_c (4, nI A, 1) (0, nI B, 2) = (4, nI A, 1) := if_pos (nI_le hAB (by omega))
    have em : mb_m (4, nI A, 1) (0, nI B, 2) = (4, nI A, 1) := by
      have h : mb_m (4, nI A, 1) (0, nI B, 2) = ((4 : Int32) ||| 0, nI A, 1) := if_pos (nI_le hAB (by omega))
      rw [h, show (4 : Int32) ||| 0 = 4 by decide]
    have q2 := mb_q2 (mi := 0) (mo := 0) (V := A) (t := 1) (t' := 5) j2 g2 (by omega) C1 C2 (by decide) (by decide) (by decide)
    have qc := q2
    have qm := q2
    rw [← ec] at qc
    rw [← em] at qm
    have e : V = A + C ∧ t = 5 := by
      rcases hV with ⟨v1, v2, v3⟩ | ⟨v1, v2, v3⟩
      · exact ⟨v2, v3⟩
      · omega
    obtain ⟨e1, e2⟩ := e
    subst e1 e2
    exact ⟨2, mb_popC pk_us pk_us pk_us pk_us q0 (Nat.le_refl 2) q1 qc (Nat.le_refl 1) qm (Nat.le_refl 1) (mb_bb0 (by omega)) (mb_tp0 (by omega))
      (fun _ k1 k2 k3 b4 b5 b6 b7 b8 b9 b10 b11 b12 => mb_end49 (by omega) (H _ _ _ _ _ _ _ _ _ _ _ _ _ _ _ _ _ _))
      (fun c => absurd (nI_le (Nat.le_refl _) (by omega)) c)⟩
  · have ec : mb_c (4, nI A, 1) (0, nI B, 2) = (0, nI B, 2) := if_neg (nI_ge (by omega) (by omega))
    have em : mb_m (4, nI A, 1) (0, nI B, 2) = (4, nI B, 2) := by
      have h : mb_m (4, nI A, 1) (0, nI B, 2) = ((0 : Int32) ||| 4, nI B, 2) := if_neg (nI_ge (by omega) (by omega))
      rw [h, show (0 : Int32) ||| 4 = 4 by decide]
    have qc := mb_q2s (mi := 0) (mo := 0) (j := a1) (g := a3) (v := nI B) (t := 2) (by decide)
    have q2 := mb_q2 (mi := 0) (mo := 0) (V := B) (t := 2) (t' := 6) j2 g2 (by omega) C1 C2 (by decide) (by decide) (by decide)
    have qc' : mb_ly 0 0 a1 a3 2 [mb_c (4, nI A, 1) (0, nI B, 2)] = [(0, nI B, 2)] := by
      rw [ec]
      exact qc
    have qm : mb_ly 0 0 a1 a3 2 [mb_m (4, nI A, 1) (0, nI B, 2)] = [(0, nI (B + C), 6)] := by
      rw [em]
      exact q2
    have q3 := mb_q2 (mi := 0) (mo := 0) (V := A) (t := 1) (t' := 5) j2 g2 (by omega) C1 C2 (by decide) (by decide) (by decide)
    have q1z := mb_q1z (mi := 0) (mo := 0) j1 g1 (by decide) (by decide)
    have q4 := mb_q2b (mi := 0) (mo := 0) (V := 0) (B := B) (t := 0) (t' := 4) j2 g2 (by omega) B2 C1 C2 (by decide) (by decide) (by decide)
    have b1 : mb_bb [(0, nI (A + C), 5)] (nI B, 2) = (nI V, t) := by
      rcases hV with ⟨v1, v2, v3⟩ | ⟨v1, v2, v3⟩
      · subst v2 v3
        exact mb_bbp (by omega) (by omega)
      · subst v2 v3
        exact mb_bbk (by omega) (by omega)
    have b2 : mb_bb [if B ≤ 0 + C then (0, nI (0 + C), 4) else (0, nI B, 2)] (nI V, t) = (nI V, t) := by
      split
      · exact mb_bbk (by omega) (by omega)
      · exact mb_bbk (by omega) (by omega)
    refine ⟨4, mb_popC pk_us pk_us pk_us pk_us q0 (Nat.le_refl 2) q1 qc' (Nat.le_refl 1) qm (Nat.le_refl 1) (mb_bb0 (by omega)) (mb_tp0 (by omega))
      (fun c => absurd c (nI_ge (by omega) (by omega))) (fun _ k1 k2 k3 b4 b5 b6 b7 b8 b9 b10 b11 b12 hb => mb_push hb (fun b13 b14 b15 b16 x1 x2 x3 x4 y1 y2 y3 y4 => ?_))⟩
    refine mb_popE (k := 1) (st := 1) (lev := 1) (by omega) (by omega) (by omega) (by omega) y1 y2 y3 y4 ⟨_, mb_q1s (by decide), mb_m1 (Nat.le_refl 1), _, q3, mb_m1 (Nat.le_refl 1), rfl⟩ b1 (fun k1 k2 c4 c5 c6 c7 c8 c9 => ?_)
    refine mb_popE (k := 0) (st := 2) (lev := 1) (by omega) (by omega) (by omega) (by omega) x1 x2 x3 x4 ⟨_, q1z, mb_m2 (Nat.le_refl 1), _, q4, mb_m1 (Nat.le_refl 1), rfl⟩ b2 (fun k1 k2 d4 d5 d6 d7 d8 d9 => ?_)
    exact mb_end49 (by omega) (H _ _ _ _ _ _ _ _ _ _ _ _ _ _ _ _ _ _)
/-- nothing forced -/
theorem mb_sol_free {post : St2 → Prop} {w A B C V : Nat} {t : Int32} (hw : 1 ≤ w) (hw2 : w ≤ 16) (K : mb_K a1 a3 A B C) (hV : (B ≤ A + C ∧ V = A + C ∧ t = 5) ∨ (A + C < B ∧ V = B ∧ t = 2)) (hne : B ≠ A + C)
    (H : ∀ (k1 k2 k3 k4 k5 : Int32) (b4 b5 b6 b7 b8 b9 b10 b11 b12 b13 b14 b15 b16 : Nat → Int32), post (3, nI w, fi, fo, 0, 0, k1, k2, k3, k4, k5, nI V, t, a1, a2, a3, b4, b5, b6, b7, b8, b9, b10, b11, b12, b13, b14, b15, b16, a17)) :
    wpX_solve post (3, nI w, fi, fo, 0, 0, sz, nx, cl, cs, ex, bv, bt, a1, a2, a3, a4, a5, a6, a7, a8, a9, a10, a11, a12, a13, a14, a15, a16, a17) := by
  by_cases h2 : 2 ≤ w
  · obtain ⟨⟨j0, j1, j2⟩, ⟨g0, g1, g2⟩, ⟨A1, A2⟩, ⟨B1, B2⟩, ⟨C1, C2⟩⟩ := K
    have b : mb_bb [if B ≤ A + C then (0, nI (A + C), 5) else (0, nI B, 2)] (-1, 0) = (nI V, t) := by
      rcases hV with ⟨v1, v2, v3⟩ | ⟨v1, v2, v3⟩
      · subst v2 v3
        rw [if_pos v1]
        exact mb_bb0 (by omega)
      · subst v2 v3
        rw [if_neg (by omega)]
        exact mb_bb0 (by omega)
    exact mb_solveE hw2 ⟨_, mb_q0 j0 g0 (by decide) (by decide), mb_m2 hw, _, mb_q1 j1 g1 A1 A2 (by decide) (by decide), mb_m2w h2, _, mb_q2b j2 g2 (by omega) B2 C1 C2 (by decide) (by decide) (show (1 : Int32) ||| 4 = 5 by decide), mb_m1 hw, rfl⟩ b H
  · have e : w = 1 := by omega
    subst e
    exact mb_sol_1 K hV hne H
end
end
section
/-! allowedSets: a layer as a list of pairs (state, ways) -/
abbrev mb_Nc : Type := Int32 × Int32
def mb_P (k : Int32) (s v : Nat → Int32) (l : List mb_Nc) : Prop :=
  k = nI l.length ∧ ∀ (i : Nat) (x : mb_Nc), l[i]? = some x → s i = x.1 ∧ v i = x.2
theorem mb_P_get {k : Int32} {s v : Nat → Int32} {pre xs : List mb_Nc} {x : mb_Nc} (h : mb_P k s v (pre ++ x :: xs)) :
    s pre.length = x.1 ∧ v pre.length = x.2 := h.2 _ _ (by simp)
theorem mb_P_app {k : Int32} {s v : Nat → Int32} {l : List mb_Nc} {x : mb_Nc} (h : mb_P k s v l) :
    mb_P (k + 1) (upd s l.length x.1) (upd v l.length x.2) (l ++ [x]) := by
  refine ⟨?_, fun i y hy => ?_⟩
  · rw [h.1, nI_1, List.length_append]; rfl
  · by_cases e : i = l.length
    · subst e
      rw [List.getElem?_append_right (Nat.le_refl _), Nat.sub_self] at hy
      have hy' : x = y := by simpa using hy
      subst hy'
      exact ⟨pk_us, pk_us⟩
    · rw [pk_un e, pk_un e]
      refine h.2 i y ?_
      by_cases hi : i < l.length
      · rw [List.getElem?_append_left hi] at hy; exact hy
      · rw [List.getElem?_eq_none (by rw [List.length_append]; simp; omega)] at hy
        exact absurd hy (by simp)
theorem mb_P_set {k : Int32} {s v : Nat → Int32} {pre xs : List mb_Nc} {x : mb_Nc} {v' : Int32} (h : mb_P k s v (pre ++ x :: xs)) :
    mb_P k s (upd v pre.length v') (pre ++ (x.1, v') :: xs) := by
  refine ⟨?_, fun i y hy => ?_⟩
  · rw [h.1, List.length_append, List.length_append, List.length_cons, List.length_cons]
  · by_cases e : i = pre.length
    · subst e
      have hy' : (x.1, v') = y := by simpa using hy
      subst hy'
      exact ⟨(mb_P_get h).1, pk_us⟩
    · rw [pk_un e]
      refine h.2 i y ?_
      by_cases hi : i < pre.length
      · rw [List.getElem?_append_left hi] at hy ⊢; exact hy
      · rw [List.getElem?_append_right (by omega)] at hy ⊢
        obtain ⟨m, hm⟩ : ∃ m, i - pre.length = m + 1 := ⟨i - pre.length - 1, by omega⟩
        rw [hm, List.getElem?_cons_succ] at hy ⊢
        exact hy
theorem mb_P_copy {k : Int32} {s v s' v' : Nat → Int32} {l : List mb_Nc} (h : mb_P k s v l)
    (h1 : ∀ j, j < l.length → s' j = s j) (h2 : ∀ j, j < l.length → v' j = v j) : mb_P k s' v' l := by
  refine ⟨h.1, fun i x hx => ?_⟩
  obtain ⟨hi, _⟩ := List.getElem?_eq_some_iff.mp hx
  rw [h1 i hi, h2 i hi]
  exact h.2 i x hx
theorem mb_P_nil (s v : Nat → Int32) : mb_P 0 s v [] := ⟨rfl, fun i x hx => absurd hx (by simp)⟩
def mb_rc : List mb_Nc → mb_Nc → List mb_Nc
  | [], nd => [nd]
  | x :: xs, nd => if x.1 = nd.1 then (x.1, x.2 + nd.2) :: xs else x :: mb_rc xs nd
theorem mb_rc_len (nd : mb_Nc) : ∀ l : List mb_Nc, (mb_rc l nd).length ≤ l.length + 1
  | [] => Nat.le_refl _
  | x :: xs => by
    unfold mb_rc
    split
    · simp
    · have := mb_rc_len nd xs
      simp only [List.length_cons]
      omega
def mb_c2 (mo b j : Int32) (nl : List mb_Nc) (x : mb_Nc) : List mb_Nc :=
  if x.1 &&& b = 0 then nl else if mo &&& b = 0 then mb_rc nl ((x.1 &&& (b ^^^ (-1))) &&& (j ^^^ (-1)), x.2) else nl
def mb_cn (mi mo b j : Int32) (nl : List mb_Nc) (x : mb_Nc) : List mb_Nc :=
  mb_c2 mo b j (if mi &&& b = 0 then mb_rc nl (x.1 &&& (b ^^^ (-1)), x.2) else nl) x
theorem mb_c2_len (mo b j : Int32) (nl : List mb_Nc) (x : mb_Nc) : (mb_c2 mo b j nl x).length ≤ nl.length + 1 := by
  unfold mb_c2
  split
  · omega
  · split
    · exact mb_rc_len _ _
    · omega
theorem mb_cn_len (mi mo b j : Int32) (nl : List mb_Nc) (x : mb_Nc) : (mb_cn mi mo b j nl x).length ≤ nl.length + 2 := by
  unfold mb_cn
  have h := mb_c2_len mo b j (if mi &&& b = 0 then mb_rc nl (x.1 &&& (b ^^^ (-1)), x.2) else nl) x
  split at h
  · rename_i c
    rw [if_pos c]
    have := mb_rc_len (x.1 &&& (b ^^^ (-1)), x.2) nl
    omega
  · rename_i c
    rw [if_neg c]
    omega
def mb_cl (mi mo j : Int32) (v : Nat) (l : List mb_Nc) : List mb_Nc := l.foldl (mb_cn mi mo (mb_b v) j) []
def mb_sm : List mb_Nc → Int32 → Int32
  | [], t => t
  | x :: xs, t => mb_sm xs (t + x.2)
section
variable {vn wd fi fo mi mo sz nx cl cs ex bv bt : Int32} {a1 a2 a3 a4 a5 a6 a7 a8 a9 a10 a11 a12 a13 a14 a15 a16 a17 : Nat → Int32}
theorem mb_rc2 {post : St2 → Prop} {s v : Int32} : ∀ (suf pre : List mb_Nc), mb_P nx a7 a8 (pre ++ suf) → (pre ++ suf).length < 64 →
    (∀ k b7 b8, mb_P k b7 b8 (pre ++ mb_rc suf (s, v)) → post (vn, wd, fi, fo, mi, mo, sz, k, cl, cs, ex, bv, bt, a1, a2, a3, a4, a5, a6, b7, b8, a9, a10, a11, a12, a13, a14, a15, a16, a17)) →
    wX_reachCount_2 post s v vn wd fi fo mi mo sz nx cl cs ex bv bt a1 a2 a3 a4 a5 a6 a7 a8 a9 a10 a11 a12 a13 a14 a15 a16 a17 (suf.length + 1) (nI pre.length)
  | [], pre, h, hl, H => by
    rw [List.append_nil] at h hl
    have hx : nx = nI pre.length := h.1
    have hc : nx.toNatClampNeg = pre.length := pk_cl _ hx
    refine pk_le pre.length pre.length (fun _ => pk_le 64 pre.length (fun z => absurd z (by omega)) (fun _ => ?_) rfl hx) (fun z => absurd z (by omega)) hx
    refine ⟨pk_in pre.length 64 hl hx, nm_r (show _ = upd a7 pre.length s by rw [hc]) ⟨pk_in pre.length 64 hl hx, nm_r (show _ = upd a8 pre.length v by rw [hc]) (nm_e (H _ _ _ ?_))⟩⟩
    exact mb_P_app (x := (s, v)) h
  | x :: xs, pre, h, hl, H => by
    have hx : nx = nI (pre ++ x :: xs).length := h.1
    have hlen : (pre ++ x :: xs).length = pre.length + (xs.length + 1) := by rw [List.length_append, List.length_cons]
    have hc : (nI pre.length).toNatClampNeg = pre.length := nI_clamp (by omega)
    obtain ⟨g1, g2⟩ := mb_P_get h
    have hin : vp_in (nI pre.length) 64 := pk_in pre.length 64 (by omega)
    refine pk_le (pre ++ x :: xs).length pre.length (fun z => absurd z (by omega)) (fun _ => ⟨hin, ?_⟩) hx
    rw [hc, g1, g2]
    refine br_c (fun e => ⟨hin, hin, nm_e ?_⟩) (fun e => nm_r (nI_1 _) ?_)
    · refine H _ _ _ ?_
      have : mb_rc (x :: xs) (s, v) = (x.1, x.2 + v) :: xs := by unfold mb_rc; rw [if_pos e]
      rw [this]
      exact mb_P_set h
    · have e1 : pre ++ x :: xs = (pre ++ [x]) ++ xs := by simp
      have e2 : pre.length + 1 = (pre ++ [x]).length := by simp
      have e3 : pre ++ mb_rc (x :: xs) (s, v) = (pre ++ [x]) ++ mb_rc xs (s, v) := by
        have : mb_rc (x :: xs) (s, v) = x :: mb_rc xs (s, v) := by rw [mb_rc, if_neg e]
        rw [this]; simp
      rw [e2]
      rw [e1] at h hl
      rw [e3] at H
      exact mb_rc2 xs (pre ++ [x]) h hl H
theorem mb_reachC {post : St2 → Prop} {s v : Int32} {l : List mb_Nc} (h : mb_P nx a7 a8 l) (hl : l.length < 64)
    (H : ∀ k b7 b8, mb_P k b7 b8 (mb_rc l (s, v)) → post (vn, wd, fi, fo, mi, mo, sz, k, cl, cs, ex, bv, bt, a1, a2, a3, a4, a5, a6, b7, b8, a9, a10, a11, a12, a13, a14, a15, a16, a17)) :
    wpX_reachCount post (vn, wd, fi, fo, mi, mo, sz, nx, cl, cs, ex, bv, bt, a1, a2, a3, a4, a5, a6, a7, a8, a9, a10, a11, a12, a13, a14, a15, a16, a17) s v := ⟨_, mb_rc2 l [] h hl H⟩
theorem mb_cnt33 {post : St2 → Prop} {b : Int32} {i v : Nat} {x : mb_Nc} {l : List mb_Nc} (h : mb_P nx a7 a8 l) (hl : l.length < 64) (hi : i < 64) (hv : v < 12)
    (x1 : a4 i = x.1) (x2 : a5 i = x.2)
    (H : ∀ k b7 b8, mb_P k b7 b8 (mb_c2 mo b (a1 v) l x) → post (vn, wd, fi, fo, mi, mo, sz, k, cl, cs, ex, bv, bt, a1, a2, a3, a4, a5, a6, b7, b8, a9, a10, a11, a12, a13, a14, a15, a16, a17)) :
    wX_countNode_33 post (nI i) (nI v) b vn wd fi fo mi mo sz nx cl cs ex bv bt a1 a2 a3 a4 a5 a6 a7 a8 a9 a10 a11 a12 a13 a14 a15 a16 a17 := by
  have hc : (nI i).toNatClampNeg = i := nI_clamp (by omega)
  have hcv : (nI v).toNatClampNeg = v := nI_clamp (by omega)
  have hin : vp_in (nI i) 64 := pk_in i 64 hi
  have hiv : vp_in (nI v) 12 := pk_in v 12 hv
  unfold wX_countNode_33
  rw [hc, hcv, x1, x2]
  refine ⟨hin, br_c (fun c => ?_) (fun c => br_c (fun d => ⟨hin, hiv, hin, mb_reachC h hl (fun k b7 b8 hb => ?_)⟩) (fun d => ?_))⟩
  · have e : mb_c2 mo b (a1 v) l x = l := by unfold mb_c2; rw [if_pos c]
    rw [e] at H
    exact H _ _ _ h
  · have e : mb_c2 mo b (a1 v) l x = mb_rc l ((x.1 &&& (b ^^^ (-1))) &&& (a1 v ^^^ (-1)), x.2) := by unfold mb_c2; rw [if_neg c, if_pos d]
    rw [e] at H
    exact H _ _ _ hb
  · have e : mb_c2 mo b (a1 v) l x = l := by unfold mb_c2; rw [if_neg c, if_neg d]
    rw [e] at H
    exact H _ _ _ h
theorem mb_cnt {post : St2 → Prop} {i v : Nat} {x : mb_Nc} {l : List mb_Nc} (h : mb_P nx a7 a8 l) (hl : l.length + 2 ≤ 64) (hi : i < 64) (hv : v < 12)
    (x1 : a4 i = x.1) (x2 : a5 i = x.2)
    (H : ∀ k b7 b8, mb_P k b7 b8 (mb_cn mi mo (mb_b v) (a1 v) l x) → post (vn, wd, fi, fo, mi, mo, sz, k, cl, cs, ex, bv, bt, a1, a2, a3, a4, a5, a6, b7, b8, a9, a10, a11, a12, a13, a14, a15, a16, a17)) :
    wpX_countNode post (vn, wd, fi, fo, mi, mo, sz, nx, cl, cs, ex, bv, bt, a1, a2, a3, a4, a5, a6, a7, a8, a9, a10, a11, a12, a13, a14, a15, a16, a17) (nI i) (nI v) := by
  have hc : (nI i).toNatClampNeg = i := nI_clamp (by omega)
  have hin : vp_in (nI i) 64 := pk_in i 64 hi
  unfold wpX_countNode
  dsimp only
  rw [hc, x1, x2]
  refine nm_r (show _ = mb_b v from rfl) (br_c (fun c => ⟨hin, hin, mb_reachC h (by omega) (fun k b7 b8 hb => ?_)⟩) (fun c => ?_))
  · have e : mb_cn mi mo (mb_b v) (a1 v) l x = mb_c2 mo (mb_b v) (a1 v) (mb_rc l (x.1 &&& (mb_b v ^^^ (-1)), x.2)) x := by unfold mb_cn; rw [if_pos c]
    rw [e] at H
    have hlen := mb_rc_len (x.1 &&& (mb_b v ^^^ (-1)), x.2) l
    exact mb_cnt33 hb (by omega) hi hv x1 x2 H
  · have e : mb_cn mi mo (mb_b v) (a1 v) l x = mb_c2 mo (mb_b v) (a1 v) l x := by unfold mb_cn; rw [if_neg c]
    rw [e] at H
    exact mb_cnt33 h (by omega) hi hv x1 x2 H
theorem mb_35 {post : Int32 → St2 → Prop} {J20 : _} {v : Nat} (hv : v < 12) :
    ∀ (suf pre nl : List mb_Nc) (nx : Int32) (a7 a8 : Nat → Int32), mb_P sz a4 a5 (pre ++ suf) → (pre ++ suf).length ≤ 16 → mb_P nx a7 a8 nl → nl.length + 2 * suf.length ≤ 64 →
    (∀ k b7 b8, mb_P k b7 b8 (suf.foldl (mb_cn mi mo (mb_b v) (a1 v)) nl) → wX_allowedSets_35 post J20 (nI v) 1 (nI (pre ++ suf).length) vn wd fi fo mi mo sz k cl cs ex bv bt a1 a2 a3 a4 a5 a6 b7 b8 a9 a10 a11 a12 a13 a14 a15 a16 a17) →
    wX_allowedSets_35 post J20 (nI v) (suf.length + 1) (nI pre.length) vn wd fi fo mi mo sz nx cl cs ex bv bt a1 a2 a3 a4 a5 a6 a7 a8 a9 a10 a11 a12 a13 a14 a15 a16 a17
  | [], pre, nl, nx, a7, a8, h, hl, hn, hb, H => by
    rw [List.append_nil] at H
    exact H _ _ _ hn
  | x :: xs, pre, nl, nx, a7, a8, h, hl, hn, hb, H => by
    have hlen : (pre ++ x :: xs).length = pre.length + (xs.length + 1) := by rw [List.length_append, List.length_cons]
    rw [List.length_cons] at hb
    obtain ⟨g1, g2⟩ := mb_P_get h
    refine pk_le (pre ++ x :: xs).length pre.length (fun z => absurd z (by omega)) (fun _ => mb_cnt hn (by omega) (by omega) hv g1 g2 (fun k b7 b8 hk => nm_r (nI_1 _) ?_)) h.1
    have e1 : pre ++ x :: xs = (pre ++ [x]) ++ xs := by simp
    have e2 : pre.length + 1 = (pre ++ [x]).length := by simp
    have hel := mb_cn_len mi mo (mb_b v) (a1 v) nl x
    rw [e2]
    rw [e1] at h hl H
    rw [List.foldl_cons] at H
    exact mb_35 hv xs (pre ++ [x]) _ k b7 b8 h hl hk (by omega) H
theorem mb_stA {post : Int32 → St2 → Prop} {n v : Nat} {j : Int32} {l m : List mb_Nc} (hn : vn = 3) (hv : v < 3) (hj : a1 v = j)
    (h : mb_P sz a4 a5 l) (hl : l.length ≤ 16) (hm : mb_cl mi mo j v l = m) (hnl : m.length ≤ 16)
    (H : ∀ (k : Int32) (b4 b5 b6 b7 b8 : Nat → Int32), mb_P k b4 b5 m → wX_allowedSets_20 post n (nI (v + 1)) vn wd fi fo mi mo k k cl cs ex bv bt a1 a2 a3 b4 b5 b6 b7 b8 a9 a10 a11 a12 a13 a14 a15 a16 a17) :
    wX_allowedSets_20 post (n + 1) (nI v) vn wd fi fo mi mo sz nx cl cs ex bv bt a1 a2 a3 a4 a5 a6 a7 a8 a9 a10 a11 a12 a13 a14 a15 a16 a17 := by
  subst hj hm
  refine pk_le 3 v (fun z => absurd z (by omega)) (fun _ => ⟨l.length + 1, mb_35 (show v < 12 by omega) l [] [] 0 a7 a8 h hl (mb_P_nil _ _) (by simp; omega) (fun k b7 b8 hk => ?_)⟩) hn
  exact pk_le l.length l.length (fun _ => mb_take hk.1 (Nat.le_trans hnl (by omega)) (fun b4 b5 b6 h4 h5 h6 => nm_r (nI_1 v) (H _ _ _ _ _ _ (mb_P_copy hk h4 h5)))) (fun z => absurd z (by omega)) h.1
theorem mb_69 {post : Int32 → St2 → Prop} : ∀ (suf pre : List mb_Nc) (t : Int32), mb_P sz a4 a5 (pre ++ suf) → (pre ++ suf).length ≤ 64 →
    post (mb_sm suf t) (vn, wd, fi, fo, mi, mo, sz, nx, cl, cs, ex, bv, bt, a1, a2, a3, a4, a5, a6, a7, a8, a9, a10, a11, a12, a13, a14, a15, a16, a17) → wX_allowedSets_69 post vn wd fi fo mi mo sz nx cl cs ex bv bt a1 a2 a3 a4 a5 a6 a7 a8 a9 a10 a11 a12 a13 a14 a15 a16 a17 (suf.length + 1) t (nI pre.length)
  | [], pre, t, h, hl, H => by
    rw [List.append_nil] at h hl
    exact pk_le pre.length pre.length (fun _ => H) (fun z => absurd z (by omega)) h.1
  | x :: xs, pre, t, h, hl, H => by
    have hlen : (pre ++ x :: xs).length = pre.length + (xs.length + 1) := by rw [List.length_append, List.length_cons]
    have hc : (nI pre.length).toNatClampNeg = pre.length := nI_clamp (by omega)
    have hin : vp_in (nI pre.length) 64 := pk_in pre.length 64 (by omega)
    obtain ⟨g1, g2⟩ := mb_P_get h
    have e1 : pre ++ x :: xs = (pre ++ [x]) ++ xs := by simp
    have e2 : nI (pre.length + 1) = nI (pre ++ [x]).length := by simp
    have h' := h
    have hl' := hl
    rw [e1] at h' hl'
    refine pk_le (pre ++ x :: xs).length pre.length (fun z => absurd z (by omega)) (fun _ => ⟨hin, nm_r (show _ = t + x.2 by rw [hc, g2]) (nm_r (nI_1 _) ?_)⟩) h.1
    rw [e2]
    exact mb_69 xs (pre ++ [x]) (t + x.2) h' hl' H
theorem mb_all20 {post : Int32 → St2 → Prop} {l1 l2 l3 : List mb_Nc} {r : Int32} (hn : vn = 3) (j0 : a1 0 = 2) (j1 : a1 1 = 5) (j2 : a1 2 = 2)
    (h : mb_P sz a4 a5 [(7, 1)]) (h1 : mb_cl mi mo 2 0 [(7, 1)] = l1) (n1 : l1.length ≤ 16) (h2 : mb_cl mi mo 5 1 l1 = l2) (n2 : l2.length ≤ 16) (h3 : mb_cl mi mo 2 2 l2 = l3) (n3 : l3.length ≤ 16)
    (hr : mb_sm l3 0 = r)
    (H : ∀ (k k' : Int32) (b4 b5 b6 b7 b8 : Nat → Int32), post r (vn, wd, fi, fo, mi, mo, k, k', cl, cs, ex, bv, bt, a1, a2, a3, b4, b5, b6, b7, b8, a9, a10, a11, a12, a13, a14, a15, a16, a17)) :
    ∃ fu : Nat, wX_allowedSets_20 post fu 0 vn wd fi fo mi mo sz nx cl cs ex bv bt a1 a2 a3 a4 a5 a6 a7 a8 a9 a10 a11 a12 a13 a14 a15 a16 a17 := by
  subst hr
  refine ⟨4, mb_stA (v := 0) hn (by omega) j0 h (by simp) h1 n1 (fun k b4 b5 b6 b7 b8 hb => ?_)⟩
  refine mb_stA hn (by omega) j1 hb n1 h2 n2 (fun k c4 c5 c6 c7 c8 hc => ?_)
  refine mb_stA hn (by omega) j2 hc n2 h3 n3 (fun k d4 d5 d6 d7 d8 hd => ?_)
  exact pk_le 3 3 (fun _ => ⟨l3.length + 1, mb_69 l3 [] 0 hd (by simp; omega) (H _ _ _ _ _ _ _)⟩) (fun z => absurd z (by omega)) hn
end
theorem mb_ca0 : mb_cl 0 0 2 0 [(7, 1)] = [(6, 1), (4, 1)] := by decide
theorem mb_ca1 : mb_cl 0 0 5 1 [(6, 1), (4, 1)] = [(4, 2), (0, 1)] := by decide
theorem mb_ca2 : mb_cl 0 0 2 2 [(4, 2), (0, 1)] = [(0, 5)] := by decide
theorem mb_ci0 : mb_cl 2 0 2 0 [(7, 1)] = [(6, 1), (4, 1)] := by decide
theorem mb_ci1 : mb_cl 2 0 5 1 [(6, 1), (4, 1)] = [(0, 1)] := by decide
theorem mb_ci2 : mb_cl 2 0 2 2 [(0, 1)] = [(0, 1)] := by decide
theorem mb_co0 : mb_cl 0 2 2 0 [(7, 1)] = [(6, 1), (4, 1)] := by decide
theorem mb_co1 : mb_cl 0 2 5 1 [(6, 1), (4, 1)] = [(4, 2)] := by decide
theorem mb_co2 : mb_cl 0 2 2 2 [(4, 2)] = [(0, 4)] := by decide
end
section
/-! the small methods -/
theorem mb_gain (p : Nat) {b : Int32} (c : Nat) (hb : b = nI c) : 4096 * nI p + b = nI (4096 * p + c) := by
  rw [hb, show (4096 : Int32) = nI 4096 from rfl, pk_mul, nI_add]
section
variable {vn wd fi fo mi mo sz nx cl cs ex bv bt : Int32} {a1 a2 a3 a4 a5 a6 a7 a8 a9 a10 a11 a12 a13 a14 a15 a16 a17 : Nat → Int32}
theorem mb_isv {post : Int32 → Prop} {v : Nat} (hn : vn = 3) (hv : v < 3) (H : post 1) : wpX_isVertex post (vn, wd, fi, fo, mi, mo, sz, nx, cl, cs, ex, bv, bt, a1, a2, a3, a4, a5, a6, a7, a8, a9, a10, a11, a12, a13, a14, a15, a16, a17) (nI v) :=
  pk_lt v 0 (fun z => absurd z (by omega)) (fun _ => pk_le 3 v (fun z => absurd z (by omega)) (fun _ => H) hn)
theorem mb_weigh {post : Int32 → St2 → Prop} {v p : Nat} (hn : vn = 3) (hv : v < 3) (hp : p ≤ 30) (H : ∀ r : Int32, post r (vn, wd, fi, fo, mi, mo, sz, nx, cl, cs, ex, bv, bt, a1, upd a2 v (nI p), a3, a4, a5, a6, a7, a8, a9, a10, a11, a12, a13, a14, a15, a16, a17)) :
    wpX_weigh post (vn, wd, fi, fo, mi, mo, sz, nx, cl, cs, ex, bv, bt, a1, a2, a3, a4, a5, a6, a7, a8, a9, a10, a11, a12, a13, a14, a15, a16, a17) (nI v) (nI p) := by
  have hin : vp_in (nI v) 12 := pk_in v 12 (by omega)
  unfold wpX_weigh
  refine mb_isv hn hv (br_f (by decide) (pk_lt p 0 (fun z => absurd z (by omega)) (fun _ => pk_le p 30 (fun _ => ⟨hin, nm_e ⟨hin, nm_r (show _ = upd a2 v (nI p) by rw [nI_clamp (by omega)]) (H _)⟩⟩) (fun z => absurd z (by omega)))))
theorem mb_tw1 {post : St2 → Prop} {n v : Nat} (hn : vn = 3) (hv : v < 3) (H : wX_takeWeights_2 post vn wd fi fo mi mo sz nx cl cs ex bv bt n (nI (v + 1)) a1 a2 (upd a3 v ((4096 * a2 v) + ((1 : Int32) <<< (nI v &&& 31)))) a4 a5 a6 a7 a8 a9 a10 a11 a12 a13 a14 a15 a16 a17) :
    wX_takeWeights_2 post vn wd fi fo mi mo sz nx cl cs ex bv bt (n + 1) (nI v) a1 a2 a3 a4 a5 a6 a7 a8 a9 a10 a11 a12 a13 a14 a15 a16 a17 := by
  have hin : vp_in (nI v) 12 := pk_in v 12 (by omega)
  have hc : (nI v).toNatClampNeg = v := nI_clamp (by omega)
  exact pk_le 3 v (fun z => absurd z (by omega)) (fun _ => ⟨hin, hin, nm_r (show _ = upd a3 v ((4096 * a2 v) + ((1 : Int32) <<< (nI v &&& 31))) by rw [hc]) (nm_r (nI_1 v) H)⟩) hn
theorem mb_tw {post : St2 → Prop} {p q r : Nat} (hn : vn = 3) (hp : a2 0 = nI p) (hq : a2 1 = nI q) (hr : a2 2 = nI r)
    (H : ∀ b3 : Nat → Int32, b3 0 = nI (4096 * p + 1) → b3 1 = nI (4096 * q + 2) → b3 2 = nI (4096 * r + 4) → post (vn, wd, fi, fo, fi, fo, sz, nx, cl, cs, ex, bv, bt, a1, a2, b3, a4, a5, a6, a7, a8, a9, a10, a11, a12, a13, a14, a15, a16, a17)) :
    wpX_takeWeights post (vn, wd, fi, fo, mi, mo, sz, nx, cl, cs, ex, bv, bt, a1, a2, a3, a4, a5, a6, a7, a8, a9, a10, a11, a12, a13, a14, a15, a16, a17) := by
  refine ⟨4, mb_tw1 (v := 0) hn (by omega) (mb_tw1 hn (by omega) (mb_tw1 hn (by omega) (pk_le 3 3 (fun _ => H _ ?_ ?_ ?_) (fun z => absurd z (by omega)) hn)))⟩
  · rw [pk_un (by omega), pk_un (by omega), pk_us, hp]
    exact mb_gain p 1 (by decide)
  · rw [pk_un (by omega), pk_us, hq]
    exact mb_gain q 2 (by decide)
  · rw [pk_us, hr]
    exact mb_gain r 4 (by decide)
theorem mb_to1 {post : St2 → Prop} {n v : Nat} (hn : vn = 3) (hv : v < 3) (H : wX_takeOnes_2 post vn wd fi fo mi mo sz nx cl cs ex bv bt n (nI (v + 1)) a1 a2 (upd a3 v (4096 + ((1 : Int32) <<< (nI v &&& 31)))) a4 a5 a6 a7 a8 a9 a10 a11 a12 a13 a14 a15 a16 a17) :
    wX_takeOnes_2 post vn wd fi fo mi mo sz nx cl cs ex bv bt (n + 1) (nI v) a1 a2 a3 a4 a5 a6 a7 a8 a9 a10 a11 a12 a13 a14 a15 a16 a17 := by
  have hin : vp_in (nI v) 12 := pk_in v 12 (by omega)
  have hc : (nI v).toNatClampNeg = v := nI_clamp (by omega)
  exact pk_le 3 v (fun z => absurd z (by omega)) (fun _ => ⟨hin, nm_r (show _ = upd a3 v (4096 + ((1 : Int32) <<< (nI v &&& 31))) by rw [hc]) (nm_r (nI_1 v) H)⟩) hn
theorem mb_to {post : St2 → Prop} (hn : vn = 3)
    (H : ∀ b3 : Nat → Int32, b3 0 = nI 4097 → b3 1 = nI 4098 → b3 2 = nI 4100 → post (vn, wd, fi, fo, 0, 0, sz, nx, cl, cs, ex, bv, bt, a1, a2, b3, a4, a5, a6, a7, a8, a9, a10, a11, a12, a13, a14, a15, a16, a17)) :
    wpX_takeOnes post (vn, wd, fi, fo, mi, mo, sz, nx, cl, cs, ex, bv, bt, a1, a2, a3, a4, a5, a6, a7, a8, a9, a10, a11, a12, a13, a14, a15, a16, a17) := by
  refine ⟨4, mb_to1 (v := 0) hn (by omega) (mb_to1 hn (by omega) (mb_to1 hn (by omega) (pk_le 3 3 (fun _ => H _ ?_ ?_ ?_) (fun z => absurd z (by omega)) hn)))⟩
  · rw [pk_un (by omega), pk_un (by omega), pk_us]
    decide
  · rw [pk_un (by omega), pk_us]
    decide
  · rw [pk_us]
    decide
theorem mb_wo {post : Int32 → Prop} {p r : Nat} (hn : vn = 3) (hp : a2 0 = nI p) (hr : a2 2 = nI r) (H : post (nI (p + r))) : wpX_weightOf post (vn, wd, fi, fo, mi, mo, sz, nx, cl, cs, ex, bv, bt, a1, a2, a3, a4, a5, a6, a7, a8, a9, a10, a11, a12, a13, a14, a15, a16, a17) 5 := by
  have c0 : (0 : Int32).toNatClampNeg = 0 := pk_cl 0
  have c2 : (nI 2).toNatClampNeg = 2 := nI_clamp (by omega)
  refine ⟨4, pk_le 3 0 (fun z => absurd z (by omega)) (fun _ => br_t (by decide) ⟨pk_in 0 12 (by omega), nm_r (show _ = nI p by rw [c0, hp, mb_z]) (nm_r (nI_1 0) ?_)⟩) hn⟩
  refine pk_le 3 1 (fun z => absurd z (by omega)) (fun _ => br_f (by decide) (nm_r (show _ = nI p by rw [Int32.add_zero]) (nm_r (nI_1 1) ?_))) hn
  refine pk_le 3 2 (fun z => absurd z (by omega)) (fun _ => br_t (by decide) ⟨pk_in 2 12 (by omega), nm_r (show _ = nI (p + r) by rw [c2, hr, nI_add]) (nm_r (nI_1 2) ?_)⟩) hn
  exact pk_le 3 3 (fun _ => H) (fun z => absurd z (by omega)) hn
end
/-- how many of the twelve low bits are set -/
def mb_on (x : Int32) : Nat → Int32 → Nat → Int32
  | 0, t, _ => t
  | r + 1, t, v => mb_on x r (t + ((x >>> (nI v &&& 31)) &&& 1)) (v + 1)
theorem mb_ones4 {post : Int32 → Prop} {x : Int32} : ∀ (r v : Nat) (t : Int32), v + r = 12 → post (mb_on x r t v) → wX_ones_4 post x (r + 1) t (nI v)
  | 0, v, t, hv, H => by
    exact pk_le 12 v (fun _ => H) (fun z => absurd z (by omega))
  | r + 1, v, t, hv, H => by
    exact pk_le 12 v (fun z => absurd z (by omega)) (fun _ => nm_e (nm_r (nI_1 v) (mb_ones4 r (v + 1) _ (by omega) H)))
theorem mb_ones {post : Int32 → Prop} {x r : Int32} (hr : mb_on x 12 0 0 = r) (H : post r) : wpX_ones post () x := by
  subst hr
  exact ⟨13, mb_ones4 12 0 0 (by omega) H⟩
theorem mb_on2 : mb_on 2 12 0 0 = 1 := by decide
theorem mb_on5 : mb_on 5 12 0 0 = 2 := by decide
section
variable {vn wd fi fo mi mo sz nx cl cs ex bv bt : Int32} {a1 a2 a3 a4 a5 a6 a7 a8 a9 a10 a11 a12 a13 a14 a15 a16 a17 : Nat → Int32}
theorem mb_edge {post : St2 → Prop} {u v : Nat} (hu : u < 12) (hv : v < 12) (H : post (vn, wd, fi, fo, mi, mo, sz, nx, cl, cs, ex, bv, bt, upd (upd a1 u (a1 u ||| mb_b v)) v ((upd a1 u (a1 u ||| mb_b v)) v ||| mb_b u), a2, a3, a4, a5, a6, a7, a8, a9, a10, a11, a12, a13, a14, a15, a16, a17)) :
    wpX_setEdge post (vn, wd, fi, fo, mi, mo, sz, nx, cl, cs, ex, bv, bt, a1, a2, a3, a4, a5, a6, a7, a8, a9, a10, a11, a12, a13, a14, a15, a16, a17) (nI u) (nI v) 1 := by
  have iu : vp_in (nI u) 12 := pk_in u 12 hu
  have iv : vp_in (nI v) 12 := pk_in v 12 hv
  have cu : (nI u).toNatClampNeg = u := nI_clamp (by omega)
  have cv : (nI v).toNatClampNeg = v := nI_clamp (by omega)
  refine br_f (by decide) ⟨iu, ?_⟩
  unfold wX_setEdge_34
  rw [cu, cv]
  exact ⟨iu, nm_e (br_f (by decide) ⟨iv, iv, nm_e H⟩)⟩
theorem mb_93 {post : Int32 → St2 → Prop} (hn : vn = 3) (j0 : a1 0 = 2) (j1 : a1 1 = 5) (j2 : a1 2 = 2) (H : post 2 (vn, wd, fi, fo, mi, mo, sz, nx, cl, cs, ex, bv, bt, a1, a2, a3, a4, a5, a6, a7, a8, a9, a10, a11, a12, a13, a14, a15, a16, a17)) : ∃ fu : Nat, wX_chain_93 post vn wd fi fo mi mo sz nx cl cs ex bv bt a1 a2 a3 a4 a5 a6 a7 a8 a9 a10 a11 a12 a13 a14 a15 a16 a17 fu 0 0 := by
  have c0 : (0 : Int32).toNatClampNeg = 0 := pk_cl 0
  have c1 : (nI 1).toNatClampNeg = 1 := nI_clamp (by omega)
  have c2 : (nI 2).toNatClampNeg = 2 := nI_clamp (by omega)
  refine ⟨4, pk_le 3 0 (fun z => absurd z (by omega)) (fun _ => ⟨pk_in 0 12 (by omega), mb_ones (r := 1) (by rw [c0, j0]; exact mb_on2) (nm_r (show _ = (1 : Int32) by decide) (nm_r (nI_1 0) ?_))⟩) hn⟩
  refine pk_le 3 1 (fun z => absurd z (by omega)) (fun _ => ⟨pk_in 1 12 (by omega), mb_ones (r := 2) (by rw [c1, j1]; exact mb_on5) (nm_r (show _ = (3 : Int32) by decide) (nm_r (nI_1 1) ?_))⟩) hn
  refine pk_le 3 2 (fun z => absurd z (by omega)) (fun _ => ⟨pk_in 2 12 (by omega), mb_ones (r := 1) (by rw [c2, j2]; exact mb_on2) (nm_r (show _ = (4 : Int32) by decide) (nm_r (nI_1 2) ?_))⟩) hn
  refine pk_le 3 3 (fun _ => ?_) (fun z => absurd z (by omega)) hn
  rw [show (4 : Int32) >>> ((1 : Int32) &&& 31) = 2 by decide]
  exact H
theorem mb_chain {post : Int32 → St2 → Prop} (hn : vn = 3) (h1 : a1 = fun _ => 0)
    (H : ∀ b1 : Nat → Int32, b1 0 = 2 → b1 1 = 5 → b1 2 = 2 → post 2 (vn, wd, fi, fo, mi, mo, sz, nx, cl, cs, ex, bv, bt, b1, a2, a3, a4, a5, a6, a7, a8, a9, a10, a11, a12, a13, a14, a15, a16, a17)) : wpX_chain post (vn, wd, fi, fo, mi, mo, sz, nx, cl, cs, ex, bv, bt, a1, a2, a3, a4, a5, a6, a7, a8, a9, a10, a11, a12, a13, a14, a15, a16, a17) 0 1 2 := by
  subst h1 hn
  unfold wpX_chain
  refine mb_isv (v := 0) rfl (by omega) (br_f (by decide) (br_f (by decide) (br_t (by decide) (br_f (by decide) (br_t (by decide) ⟨3, ?_⟩)))))
  refine pk_le 2 0 (fun z => absurd z (by omega)) (fun _ => ⟨by decide, nm_r (show _ = nI 1 by decide) (br_f (by decide) (mb_edge (u := 0) (v := 1) (by omega) (by omega) (nm_r (nI_1 0) ?_)))⟩)
  refine pk_le 2 1 (fun z => absurd z (by omega)) (fun _ => ⟨by decide, nm_r (show _ = nI 2 by decide) (br_f (by decide) (mb_edge (u := 1) (v := 2) (by omega) (by omega) (nm_r (nI_1 1) ?_)))⟩)
  exact pk_le 2 2 (fun _ => mb_93 rfl (by decide) (by decide) (by decide) (H _ (by decide) (by decide) (by decide))) (fun z => absurd z (by omega))
theorem mb_force {post : Int32 → St2 → Prop} {how : Int32} (hn : vn = 3) (h1 : fi = 0) (h2 : fo = 0)
    (Hm : how < 0 ∨ 2 < how → post (-2) (vn, wd, 0, 0, mi, mo, sz, nx, cl, cs, ex, bv, bt, a1, a2, a3, a4, a5, a6, a7, a8, a9, a10, a11, a12, a13, a14, a15, a16, a17)) (H0 : how = 0 → post 0 (vn, wd, 0, 0, mi, mo, sz, nx, cl, cs, ex, bv, bt, a1, a2, a3, a4, a5, a6, a7, a8, a9, a10, a11, a12, a13, a14, a15, a16, a17)) (H1 : how = 1 → post 0 (vn, wd, 2, 0, mi, mo, sz, nx, cl, cs, ex, bv, bt, a1, a2, a3, a4, a5, a6, a7, a8, a9, a10, a11, a12, a13, a14, a15, a16, a17)) (H2 : how = 2 → post 0 (vn, wd, 0, 2, mi, mo, sz, nx, cl, cs, ex, bv, bt, a1, a2, a3, a4, a5, a6, a7, a8, a9, a10, a11, a12, a13, a14, a15, a16, a17)) :
    wpX_force post (vn, wd, fi, fo, mi, mo, sz, nx, cl, cs, ex, bv, bt, a1, a2, a3, a4, a5, a6, a7, a8, a9, a10, a11, a12, a13, a14, a15, a16, a17) 1 how := by
  subst h1 h2 hn
  unfold wpX_force
  refine mb_isv (v := 1) rfl (by omega) (br_f (by decide) (br_c (fun c => Hm (Or.inl c)) (fun c => br_c (fun d => ?_) (fun d => Hm (Or.inr (Int32.not_le.mp d))))))
  refine nm_r (show _ = (2 : Int32) by decide) (br_t (by decide) (br_t (by decide) ?_))
  obtain ⟨k, hk, e⟩ := nI_of2 (M := 2) (n := 2) (by decide) c d
  subst e
  match k, hk with
  | 0, _ =>
    refine br_f (by decide) (br_f (by decide) (nm_r (show _ = (0 : Int32) by decide) ?_))
    rw [show (0 : Int32) &&& (2 ^^^ (-1)) = 0 by decide]
    exact H0 rfl
  | 1, _ =>
    refine br_t (by decide) (br_f (by decide) (nm_r (show _ = (0 : Int32) by decide) ?_))
    rw [show (0 : Int32) ||| 2 = 2 by decide]
    exact H1 rfl
  | 2, _ =>
    refine br_f (by decide) (br_t (by decide) (nm_r (show _ = (2 : Int32) by decide) ?_))
    rw [show (0 : Int32) &&& (2 ^^^ (-1)) = 0 by decide]
    exact H2 rfl
theorem mb_204 {post : St2 → Prop} {mc ms kc ks : Nat} (H : ∀ b2 : Nat → Int32, post (vn, wd, fi, fo, mi, mo, sz, nx, cl, cs, ex, bv, bt, a1, b2, a3, a4, a5, a6, a7, a8, a9, a10, a11, a12, a13, a14, a15, a16, a17)) : ∃ fu : Nat, wX_init_204 post mc ms kc ks vn wd fi fo mi mo sz nx cl cs ex bv bt fu 0 a1 a2 a3 a4 a5 a6 a7 a8 a9 a10 a11 a12 a13 a14 a15 a16 a17 :=
  pk_loop (fun n i s => wX_init_204 post mc ms kc ks vn wd fi fo mi mo sz nx cl cs ex bv bt n (nI i) a1 s a3 a4 a5 a6 a7 a8 a9 a10 a11 a12 a13 a14 a15 a16 a17) (fun _ _ => True) 12 0 a2 (by omega) trivial
    (fun n s _ => pk_le 12 12 (fun _ => H s) (fun z => absurd z (by omega)))
    (fun n i s hi _ hw => pk_le 12 i (fun z => absurd z (by omega)) (fun _ => ⟨pk_in i 12 hi, nm_e (nm_r (nI_1 i) (hw _ trivial))⟩))
end
theorem mb_wid {x : Int32} (h1 : 1 ≤ x) (h2 : x ≤ 16) : ∃ w : Nat, 1 ≤ w ∧ w ≤ 16 ∧ x = nI w := by
  have h0 : ¬ x < 0 := by
    intro c
    have a := Int32.le_iff_toInt_le.mp h1
    have b := Int32.lt_iff_toInt_lt.mp c
    have e1 : (1 : Int32).toInt = 1 := by decide
    have e0 : (0 : Int32).toInt = 0 := by decide
    omega
  obtain ⟨w, hw, e⟩ := nI_of2 (M := 16) (n := 16) (by decide) h0 h2
  subst e
  refine ⟨w, ?_, hw, rfl⟩
  exact (nI_leI (a := 1) (b := w) (by omega) (by omega)).mp h1
theorem mb_init {post : St2 → Prop} {x : Int32}
    (H : ∀ (w : Nat) (b2 : Nat → Int32), 1 ≤ w → w ≤ 16 → post (3, nI w, 0, 0, 0, 0, 0, 0, 0, 0, 0, 0, 0, (fun _ => 0), b2, (fun _ => 0), (fun _ => 0), (fun _ => 0), (fun _ => 0), (fun _ => 0), (fun _ => 0), (fun _ => 0), (fun _ => 0), (fun _ => 0), (fun _ => 0), (fun _ => 0), (fun _ => 0), (fun _ => 0), (fun _ => 0), (fun _ => 0))) :
    wpX_init post 17 1649 (0, 0, 0, 0, 0, 0, 0, 0, 0, 0, 0, 0, 0) 3 x := by
  refine ⟨by omega, by omega, by omega, by omega, by omega, by omega, by omega, by omega, by omega, by omega, by omega, by omega, by omega, by omega, by omega, by omega, by omega, by omega, by omega, by omega, by omega, by omega, by omega, by omega, by omega, by omega, by omega, by omega, by omega, by omega, by omega, by omega, by omega, by omega, br_t (by decide) (br_t (by decide) ?_)⟩
  refine br_c (fun c => br_c (fun d => ?_) (fun d => ?_)) (fun c => br_t (by decide) ?_)
  · obtain ⟨w, w1, w2, e⟩ := mb_wid c d
    subst e
    exact mb_204 (fun b2 => H w b2 w1 w2)
  · exact mb_204 (fun b2 => H 16 b2 (by omega) (by omega))
  · exact mb_204 (fun b2 => H 1 b2 (by omega) (by omega))
end
section
/-! the law's calls over the path 0 - 1 - 2 -/
/-- the graph and the weights -/
def mb_J (j u : Nat → Int32) (p q r : Nat) : Prop :=
  (j 0 = 2 ∧ j 1 = 5 ∧ j 2 = 2) ∧ (u 0 = nI p ∧ u 1 = nI q ∧ u 2 = nI r) ∧ p ≤ 30 ∧ q ≤ 30 ∧ r ≤ 30
theorem mb_JK {j u g : Nat → Int32} {p q r : Nat} (J : mb_J j u p q r) (g0 : g 0 = nI (4096 * p + 1)) (g1 : g 1 = nI (4096 * q + 2)) (g2 : g 2 = nI (4096 * r + 4)) :
    mb_K j g (4096 * p + 1) (4096 * q + 2) (4096 * r + 4) := by
  obtain ⟨j', _, hp, hq, hr⟩ := J
  exact ⟨j', ⟨g0, g1, g2⟩, ⟨by omega, by omega⟩, ⟨by omega, by omega⟩, ⟨by omega, by omega⟩⟩
section
variable {vn wd fi fo mi mo sz nx cl cs ex bv bt : Int32} {a1 a2 a3 a4 a5 a6 a7 a8 a9 a10 a11 a12 a13 a14 a15 a16 a17 : Nat → Int32}
theorem mb_bestSet {post : Int32 → St2 → Prop} {w p q r : Nat} {res : Int32} (hw : 1 ≤ w) (hw2 : w ≤ 16) (J : mb_J a1 a2 p q r)
    (hf : (fi = 0 ∧ fo = 0 ∧ ((q ≤ p + r ∧ res = 5) ∨ (p + r < q ∧ res = 2))) ∨ (fi = 2 ∧ fo = 0 ∧ res = 2) ∨ (fi = 0 ∧ fo = 2 ∧ res = 5))
    (H : ∀ (mi mo sz nx cl cs ex bv bt : Int32) (a3 a4 a5 a6 a7 a8 a9 a10 a11 a12 a13 a14 a15 a16 : Nat → Int32), post res (3, nI w, fi, fo, mi, mo, sz, nx, cl, cs, ex, bv, bt, a1, a2, a3, a4, a5, a6, a7, a8, a9, a10, a11, a12, a13, a14, a15, a16, a17)) :
    wpX_bestSet post (3, nI w, fi, fo, mi, mo, sz, nx, cl, cs, ex, bv, bt, a1, a2, a3, a4, a5, a6, a7, a8, a9, a10, a11, a12, a13, a14, a15, a16, a17) := by
  obtain ⟨_, ⟨u0, u1, u2⟩, hp, hq, hr⟩ := id J
  unfold wpX_bestSet
  refine mb_tw rfl u0 u1 u2 (fun b3 g0 g1 g2 => ?_)
  have K := mb_JK J g0 g1 g2
  rcases hf with ⟨e1, e2, hV⟩ | ⟨e1, e2, e3⟩ | ⟨e1, e2, e3⟩
  · subst e1 e2
    rcases hV with ⟨c, e3⟩ | ⟨c, e3⟩
    · subst e3
      exact mb_sol_free hw hw2 K (Or.inl ⟨by omega, rfl, rfl⟩) (by omega) (fun k1 k2 k3 k4 k5 b4 b5 b6 b7 b8 b9 b10 b11 b12 b13 b14 b15 b16 => br_t (nI_pos' (by omega)) (H _ _ _ _ _ _ _ _ _ _ _ _ _ _ _ _ _ _ _ _ _ _ _))
    · subst e3
      exact mb_sol_free hw hw2 K (Or.inr ⟨by omega, rfl, rfl⟩) (by omega) (fun k1 k2 k3 k4 k5 b4 b5 b6 b7 b8 b9 b10 b11 b12 b13 b14 b15 b16 => br_t (nI_pos' (by omega)) (H _ _ _ _ _ _ _ _ _ _ _ _ _ _ _ _ _ _ _ _ _ _ _))
  · subst e1 e2 e3
    exact mb_sol_in hw hw2 K (fun k1 k2 k3 k4 k5 b4 b5 b6 b7 b8 b9 b10 b11 b12 b13 b14 b15 b16 => br_t (nI_pos' (by omega)) (H _ _ _ _ _ _ _ _ _ _ _ _ _ _ _ _ _ _ _ _ _ _ _))
  · subst e1 e2 e3
    exact mb_sol_out hw hw2 K (fun k1 k2 k3 k4 k5 b4 b5 b6 b7 b8 b9 b10 b11 b12 b13 b14 b15 b16 => br_t (nI_pos' (by omega)) (H _ _ _ _ _ _ _ _ _ _ _ _ _ _ _ _ _ _ _ _ _ _ _))
theorem mb_allowed {post : Int32 → St2 → Prop} {w p q r : Nat} {res : Int32} (J : mb_J a1 a2 p q r)
    (hf : (fi = 0 ∧ fo = 0 ∧ res = 5) ∨ (fi = 2 ∧ fo = 0 ∧ res = 1) ∨ (fi = 0 ∧ fo = 2 ∧ res = 4))
    (H : ∀ (mi mo sz nx cl cs ex bv bt : Int32) (a3 a4 a5 a6 a7 a8 a9 a10 a11 a12 a13 a14 a15 a16 : Nat → Int32), post res (3, nI w, fi, fo, mi, mo, sz, nx, cl, cs, ex, bv, bt, a1, a2, a3, a4, a5, a6, a7, a8, a9, a10, a11, a12, a13, a14, a15, a16, a17)) :
    wpX_allowedSets post (3, nI w, fi, fo, mi, mo, sz, nx, cl, cs, ex, bv, bt, a1, a2, a3, a4, a5, a6, a7, a8, a9, a10, a11, a12, a13, a14, a15, a16, a17) := by
  obtain ⟨⟨j0, j1, j2⟩, ⟨u0, u1, u2⟩, hp, hq, hr⟩ := id J
  unfold wpX_allowedSets
  refine mb_tw rfl u0 u1 u2 (fun b3 g0 g1 g2 => ?_)
  refine mb_start (fun b4 b5 b6 hb => ?_)
  have hP : mb_P 1 b4 b5 [(7, 1)] := by
    refine ⟨rfl, fun i x hx => ?_⟩
    obtain ⟨h1, h2, h3⟩ := hb.2 0 _ rfl
    match i, hx with
    | 0, hx =>
      have hx' : ((7 : Int32), (1 : Int32)) = x := by simpa using hx
      subst hx'
      exact ⟨h1.trans mb_7, h2⟩
  rcases hf with ⟨e1, e2, e3⟩ | ⟨e1, e2, e3⟩ | ⟨e1, e2, e3⟩
  · subst e1 e2 e3
    exact mb_all20 rfl j0 j1 j2 hP mb_ca0 (by decide) mb_ca1 (by decide) mb_ca2 (by decide) (by decide) (fun k k' c4 c5 c6 c7 c8 => H _ _ _ _ _ _ _ _ _ _ _ _ _ _ _ _ _ _ _ _ _ _ _)
  · subst e1 e2 e3
    exact mb_all20 rfl j0 j1 j2 hP mb_ci0 (by decide) mb_ci1 (by decide) mb_ci2 (by decide) (by decide) (fun k k' c4 c5 c6 c7 c8 => H _ _ _ _ _ _ _ _ _ _ _ _ _ _ _ _ _ _ _ _ _ _ _)
  · subst e1 e2 e3
    exact mb_all20 rfl j0 j1 j2 hP mb_co0 (by decide) mb_co1 (by decide) mb_co2 (by decide) (by decide) (fun k k' c4 c5 c6 c7 c8 => H _ _ _ _ _ _ _ _ _ _ _ _ _ _ _ _ _ _ _ _ _ _ _)
theorem mb_bestWith {post : Int32 → St2 → Prop} {w p q r : Nat} {res : Int32} (hw : 1 ≤ w) (hw2 : w ≤ 16) (J : mb_J a1 a2 p q r)
    (hf : (fi = 0 ∧ (fo = 0 ∨ fo = 2) ∧ res = nI (p + r)) ∨ (fi = 2 ∧ fo = 0 ∧ res = -1))
    (H : ∀ (mi mo sz nx cl cs ex bv bt : Int32) (a3 a4 a5 a6 a7 a8 a9 a10 a11 a12 a13 a14 a15 a16 : Nat → Int32), post res (3, nI w, fi, fo, mi, mo, sz, nx, cl, cs, ex, bv, bt, a1, a2, a3, a4, a5, a6, a7, a8, a9, a10, a11, a12, a13, a14, a15, a16, a17)) :
    wpX_bestWith post (3, nI w, fi, fo, mi, mo, sz, nx, cl, cs, ex, bv, bt, a1, a2, a3, a4, a5, a6, a7, a8, a9, a10, a11, a12, a13, a14, a15, a16, a17) 0 := by
  obtain ⟨_, ⟨u0, u1, u2⟩, hp, hq, hr⟩ := id J
  unfold wpX_bestWith
  refine mb_isv (v := 0) rfl (by omega) (br_f (by decide) (mb_tw rfl u0 u1 u2 (fun b3 g0 g1 g2 => ?_)))
  have K := mb_JK J g0 g1 g2
  rcases hf with ⟨e1, ho, e3⟩ | ⟨e1, e2, e3⟩
  · subst e1 e3
    refine nm_r (show _ = (1 : Int32) by decide) (br_t ?_ ?_)
    · rcases ho with e | e
      · subst e; decide
      · subst e; decide
    · exact mb_sol_w ho hw hw2 K (fun k1 k2 k3 k4 k5 b4 b5 b6 b7 b8 b9 b10 b11 b12 b13 b14 b15 b16 => br_t (nI_pos' (by omega)) (mb_wo rfl u0 u2 (H _ _ _ _ _ _ _ _ _ _ _ _ _ _ _ _ _ _ _ _ _ _ _)))
  · subst e1 e2 e3
    refine nm_r (show _ = (3 : Int32) by decide) (br_t (by decide) ?_)
    exact mb_sol_wi hw hw2 K (fun k1 k2 k3 k4 k5 b4 b5 b6 b7 b8 b9 b10 b11 b12 b13 b14 b15 b16 => br_f (by decide) (H _ _ _ _ _ _ _ _ _ _ _ _ _ _ _ _ _ _ _ _ _ _ _))
theorem mb_oneK {j u g : Nat → Int32} {p q r : Nat} (J : mb_J j u p q r) (g0 : g 0 = nI 4097) (g1 : g 1 = nI 4098) (g2 : g 2 = nI 4100) : mb_K j g 4097 4098 4100 :=
  ⟨J.1, ⟨g0, g1, g2⟩, ⟨by omega, by omega⟩, ⟨by omega, by omega⟩, ⟨by omega, by omega⟩⟩
theorem mb_alpha {post : Int32 → St2 → Prop} {w p q r : Nat} (hw : 1 ≤ w) (hw2 : w ≤ 16) (J : mb_J a1 a2 p q r)
    (H : ∀ (mi mo sz nx cl cs ex bv bt : Int32) (a3 a4 a5 a6 a7 a8 a9 a10 a11 a12 a13 a14 a15 a16 : Nat → Int32), post 2 (3, nI w, fi, fo, mi, mo, sz, nx, cl, cs, ex, bv, bt, a1, a2, a3, a4, a5, a6, a7, a8, a9, a10, a11, a12, a13, a14, a15, a16, a17)) :
    wpX_alpha post (3, nI w, fi, fo, mi, mo, sz, nx, cl, cs, ex, bv, bt, a1, a2, a3, a4, a5, a6, a7, a8, a9, a10, a11, a12, a13, a14, a15, a16, a17) := by
  unfold wpX_alpha
  refine mb_to rfl (fun b3 g0 g1 g2 => ?_)
  exact mb_sol_free hw hw2 (mb_oneK J g0 g1 g2) (Or.inl ⟨by omega, rfl, rfl⟩) (by omega) (fun k1 k2 k3 k4 k5 b4 b5 b6 b7 b8 b9 b10 b11 b12 b13 b14 b15 b16 => mb_ones mb_on5 (H _ _ _ _ _ _ _ _ _ _ _ _ _ _ _ _ _ _ _ _ _ _ _))
theorem mb_cover {post : Int32 → St2 → Prop} {w p q r : Nat} (hw : 1 ≤ w) (hw2 : w ≤ 16) (J : mb_J a1 a2 p q r)
    (H : ∀ (mi mo sz nx cl cs ex bv bt : Int32) (a3 a4 a5 a6 a7 a8 a9 a10 a11 a12 a13 a14 a15 a16 : Nat → Int32), post 2 (3, nI w, fi, fo, mi, mo, sz, nx, cl, cs, ex, bv, bt, a1, a2, a3, a4, a5, a6, a7, a8, a9, a10, a11, a12, a13, a14, a15, a16, a17)) :
    wpX_leastCover post (3, nI w, fi, fo, mi, mo, sz, nx, cl, cs, ex, bv, bt, a1, a2, a3, a4, a5, a6, a7, a8, a9, a10, a11, a12, a13, a14, a15, a16, a17) := by
  unfold wpX_leastCover
  refine mb_to rfl (fun b3 g0 g1 g2 => ?_)
  refine mb_sol_free hw hw2 (mb_oneK J g0 g1 g2) (Or.inl ⟨by omega, rfl, rfl⟩) (by omega) (fun k1 k2 k3 k4 k5 b4 b5 b6 b7 b8 b9 b10 b11 b12 b13 b14 b15 b16 => ?_)
  dsimp only
  rw [show ((((1 : Int32) <<< ((3 : Int32) &&& 31)) - 1) &&& ((5 : Int32) ^^^ (-1))) = 2 by decide]
  exact H _ _ _ _ _ _ _ _ _ _ _ _ _ _ _ _ _ _ _ _ _ _ _
end
end
section
/-! the law -/
section
variable {vn wd fi fo mi mo sz nx cl cs ex bv bt : Int32} {a1 a2 a3 a4 a5 a6 a7 a8 a9 a10 a11 a12 a13 a14 a15 a16 a17 : Nat → Int32}
theorem mb_law243 {post : Int32 → St0 → Prop} {mc ms kc ks w p q r : Nat} {z : Int32} (hw : 1 ≤ w) (hw2 : w ≤ 16) (J : mb_J a1 a2 p q r) (hz : z = z) (H : post 1 ()) :
    wL_lawOf_243 post mc ms z z kc ks 3 (nI w) fi fo mi mo sz nx cl cs ex bv bt a1 a2 a3 a4 a5 a6 a7 a8 a9 a10 a11 a12 a13 a14 a15 a16 a17 := by
  unfold wL_lawOf_243
  refine br_t rfl (mb_alpha hw hw2 J (fun mi mo sz nx cl cs ex bv bt a3 a4 a5 a6 a7 a8 a9 a10 a11 a12 a13 a14 a15 a16 => br_t rfl (mb_cover hw hw2 J (fun mi mo sz nx cl cs ex bv bt a3 a4 a5 a6 a7 a8 a9 a10 a11 a12 a13 a14 a15 a16 => br_t rfl H))))
theorem mb_law218 {post : Int32 → St0 → Prop} {mc ms kc ks w p q r : Nat} {x6 x8 x10 z : Int32} (hw : 1 ≤ w) (hw2 : w ≤ 16) (J : mb_J a1 a2 p q r) (h6 : x6 = nI p) (h8 : x8 = nI r)
    (hf : (fi = 0 ∧ (fo = 0 ∨ fo = 2) ∧ x10 = 0) ∨ (fi = 2 ∧ fo = 0 ∧ x10 = 1)) (H : post 1 ()) :
    wL_lawOf_218 post mc ms x6 x8 x10 z z kc ks 3 (nI w) fi fo mi mo sz nx cl cs ex bv bt a1 a2 a3 a4 a5 a6 a7 a8 a9 a10 a11 a12 a13 a14 a15 a16 a17 := by
  unfold wL_lawOf_218
  refine br_t rfl ?_
  rcases hf with ⟨e1, e2, e3⟩ | ⟨e1, e2, e3⟩
  · refine mb_bestWith (res := nI (p + r)) hw hw2 J (Or.inl ⟨e1, e2, rfl⟩) (fun mi mo sz nx cl cs ex bv bt a3 a4 a5 a6 a7 a8 a9 a10 a11 a12 a13 a14 a15 a16 => br_t e3 ?_)
    rw [h6, h8, nI_add]
    exact mb_law243 hw hw2 J rfl H
  · refine mb_bestWith (res := -1) hw hw2 J (Or.inr ⟨e1, e2, rfl⟩) (fun mi mo sz nx cl cs ex bv bt a3 a4 a5 a6 a7 a8 a9 a10 a11 a12 a13 a14 a15 a16 => br_f (by rw [e3]; decide) ?_)
    exact mb_law243 hw hw2 J rfl H
theorem mb_law189 {post : Int32 → St0 → Prop} {mc ms kc ks w p q r : Nat} {x6 x8 x10 x11 z : Int32} (hw : 1 ≤ w) (hw2 : w ≤ 16) (J : mb_J a1 a2 p q r) (h6 : x6 = nI p) (h8 : x8 = nI r)
    (hf : (fi = 0 ∧ fo = 0 ∧ x10 = 0 ∧ x11 = 0) ∨ (fi = 2 ∧ fo = 0 ∧ x10 = 1 ∧ x11 = 0) ∨ (fi = 0 ∧ fo = 2 ∧ x10 = 0 ∧ x11 = 1)) (H : post 1 ()) :
    wL_lawOf_189 post mc ms x6 x8 x10 x11 z z kc ks 3 (nI w) fi fo mi mo sz nx cl cs ex bv bt a1 a2 a3 a4 a5 a6 a7 a8 a9 a10 a11 a12 a13 a14 a15 a16 a17 := by
  unfold wL_lawOf_189
  refine br_t rfl ?_
  rcases hf with ⟨e1, e2, e3, e4⟩ | ⟨e1, e2, e3, e4⟩ | ⟨e1, e2, e3, e4⟩
  · exact mb_allowed (res := 5) J (Or.inl ⟨e1, e2, rfl⟩) (fun mi mo sz nx cl cs ex bv bt a3 a4 a5 a6 a7 a8 a9 a10 a11 a12 a13 a14 a15 a16 => br_t e3 (br_t e4 (mb_law218 hw hw2 J h6 h8 (Or.inl ⟨e1, Or.inl e2, e3⟩) H)))
  · exact mb_allowed (res := 1) J (Or.inr (Or.inl ⟨e1, e2, rfl⟩)) (fun mi mo sz nx cl cs ex bv bt a3 a4 a5 a6 a7 a8 a9 a10 a11 a12 a13 a14 a15 a16 => br_f (by rw [e3]; decide) (mb_law218 hw hw2 J h6 h8 (Or.inr ⟨e1, e2, e3⟩) H))
  · exact mb_allowed (res := 4) J (Or.inr (Or.inr ⟨e1, e2, rfl⟩)) (fun mi mo sz nx cl cs ex bv bt a3 a4 a5 a6 a7 a8 a9 a10 a11 a12 a13 a14 a15 a16 => br_t e3 (br_f (by rw [e4]; decide) (mb_law218 hw hw2 J h6 h8 (Or.inl ⟨e1, Or.inr e2, e3⟩) H)))
/-- z0: is the middle vertex the best set -/
theorem mb_law172 {post : Int32 → St0 → Prop} {mc ms kc ks w p q r : Nat} {x6 x8 x10 x11 z0 : Int32} (hw : 1 ≤ w) (hw2 : w ≤ 16) (J : mb_J a1 a2 p q r) (h6 : x6 = nI p) (h8 : x8 = nI r)
    (hf : (fi = 0 ∧ fo = 0 ∧ x10 = 0 ∧ x11 = 0 ∧ ((q ≤ p + r ∧ z0 = 0) ∨ (p + r < q ∧ z0 = 1))) ∨ (fi = 2 ∧ fo = 0 ∧ x10 = 1 ∧ x11 = 0 ∧ z0 = 1) ∨ (fi = 0 ∧ fo = 2 ∧ x10 = 0 ∧ x11 = 1 ∧ z0 = 0)) (H : post 1 ()) :
    wL_lawOf_172 post mc ms x6 x8 x10 x11 z0 kc ks 3 (nI w) fi fo mi mo sz nx cl cs ex bv bt a1 a2 a3 a4 a5 a6 a7 a8 a9 a10 a11 a12 a13 a14 a15 a16 a17 := by
  unfold wL_lawOf_172
  rcases hf with ⟨e1, e2, e3, e4, hz⟩ | ⟨e1, e2, e3, e4, e5⟩ | ⟨e1, e2, e3, e4, e5⟩
  · rcases hz with ⟨c, e5⟩ | ⟨c, e5⟩
    · exact mb_bestSet (res := 5) hw hw2 J (Or.inl ⟨e1, e2, Or.inl ⟨c, rfl⟩⟩) (fun mi mo sz nx cl cs ex bv bt a3 a4 a5 a6 a7 a8 a9 a10 a11 a12 a13 a14 a15 a16 => br_t e5 (mb_law189 hw hw2 J h6 h8 (Or.inl ⟨e1, e2, e3, e4⟩) H))
    · exact mb_bestSet (res := 2) hw hw2 J (Or.inl ⟨e1, e2, Or.inr ⟨c, rfl⟩⟩) (fun mi mo sz nx cl cs ex bv bt a3 a4 a5 a6 a7 a8 a9 a10 a11 a12 a13 a14 a15 a16 => br_f (by rw [e5]; decide) (mb_law189 hw hw2 J h6 h8 (Or.inl ⟨e1, e2, e3, e4⟩) H))
  · exact mb_bestSet (res := 2) hw hw2 J (Or.inr (Or.inl ⟨e1, e2, rfl⟩)) (fun mi mo sz nx cl cs ex bv bt a3 a4 a5 a6 a7 a8 a9 a10 a11 a12 a13 a14 a15 a16 => br_f (by rw [e5]; decide) (mb_law189 hw hw2 J h6 h8 (Or.inr (Or.inl ⟨e1, e2, e3, e4⟩)) H))
  · exact mb_bestSet (res := 5) hw hw2 J (Or.inr (Or.inr ⟨e1, e2, rfl⟩)) (fun mi mo sz nx cl cs ex bv bt a3 a4 a5 a6 a7 a8 a9 a10 a11 a12 a13 a14 a15 a16 => br_t e5 (mb_law189 hw hw2 J h6 h8 (Or.inr (Or.inr ⟨e1, e2, e3, e4⟩)) H))
theorem mb_law167 {post : Int32 → St0 → Prop} {mc ms kc ks : Nat} {x6 x8 x10 x11 : Int32} (H : wL_lawOf_172 post mc ms x6 x8 x10 x11 1 kc ks vn wd fi fo mi mo sz nx cl cs ex bv bt a1 a2 a3 a4 a5 a6 a7 a8 a9 a10 a11 a12 a13 a14 a15 a16 a17) : wL_lawOf_167 post mc ms x6 x8 x10 x11 kc ks vn wd fi fo mi mo sz nx cl cs ex bv bt a1 a2 a3 a4 a5 a6 a7 a8 a9 a10 a11 a12 a13 a14 a15 a16 a17 := by
  unfold wL_lawOf_167
  exact H
theorem mb_law171 {post : Int32 → St0 → Prop} {mc ms kc ks : Nat} {x6 x8 x10 x11 : Int32} (H : wL_lawOf_172 post mc ms x6 x8 x10 x11 0 kc ks vn wd fi fo mi mo sz nx cl cs ex bv bt a1 a2 a3 a4 a5 a6 a7 a8 a9 a10 a11 a12 a13 a14 a15 a16 a17) : wL_lawOf_171 post mc ms x6 x8 x10 x11 kc ks vn wd fi fo mi mo sz nx cl cs ex bv bt a1 a2 a3 a4 a5 a6 a7 a8 a9 a10 a11 a12 a13 a14 a15 a16 a17 := by
  unfold wL_lawOf_171
  exact H
/-- behind force: what how has done -/
theorem mb_law116 {post : Int32 → St0 → Prop} {mc ms kc ks w p q r : Nat} {x4 x6 x7 x8 z : Int32} (hw : 1 ≤ w) (hw2 : w ≤ 16) (J : mb_J a1 a2 p q r) (h6 : x6 = nI p) (h7 : x7 = nI q) (h8 : x8 = nI r)
    (hf : (fi = 0 ∧ fo = 0 ∧ ¬ x4 = 1 ∧ ¬ x4 = 2) ∨ (fi = 2 ∧ fo = 0 ∧ x4 = 1) ∨ (fi = 0 ∧ fo = 2 ∧ x4 = 2)) (H : post 1 ()) :
    wL_lawOf_116 post mc ms x4 x6 x7 x8 z z kc ks 3 (nI w) fi fo mi mo sz nx cl cs ex bv bt a1 a2 a3 a4 a5 a6 a7 a8 a9 a10 a11 a12 a13 a14 a15 a16 a17 := by
  obtain ⟨_, _, hp, hq, hr⟩ := id J
  unfold wL_lawOf_116
  refine br_t rfl ?_
  rcases hf with ⟨e1, e2, e3, e4⟩ | ⟨e1, e2, e3⟩ | ⟨e1, e2, e3⟩
  · refine br_f e3 ?_
    unfold wL_lawOf_132
    refine br_f e4 ?_
    unfold wL_lawOf_145
    refine br_t rfl (br_t rfl ?_)
    refine pk_le q (p + r) (fun c => mb_law171 (mb_law172 hw hw2 J h6 h8 (Or.inl ⟨e1, e2, rfl, rfl, Or.inl ⟨c, rfl⟩⟩) H)) (fun c => mb_law167 (mb_law172 hw hw2 J h6 h8 (Or.inl ⟨e1, e2, rfl, rfl, Or.inr ⟨c, rfl⟩⟩) H)) h7 (by rw [h6, h8, nI_add])
  · refine br_t e3 ?_
    unfold wL_lawOf_132
    refine br_f (by rw [e3]; decide) ?_
    unfold wL_lawOf_145
    exact br_f (by decide) (mb_law167 (mb_law172 hw hw2 J h6 h8 (Or.inr (Or.inl ⟨e1, e2, rfl, rfl, rfl⟩)) H))
  · refine br_f (by rw [e3]; decide) ?_
    unfold wL_lawOf_132
    refine br_t e3 ?_
    unfold wL_lawOf_145
    exact br_t rfl (br_f (by decide) (mb_law171 (mb_law172 hw hw2 J h6 h8 (Or.inr (Or.inr ⟨e1, e2, rfl, rfl, rfl⟩)) H)))
/-- z0: is how known -/
theorem mb_law95 {post : Int32 → St0 → Prop} {mc ms kc ks w p q r : Nat} {x4 x6 x7 x8 z0 : Int32} (hw : 1 ≤ w) (hw2 : w ≤ 16) (J : mb_J a1 a2 p q r) (h6 : x6 = nI p) (h7 : x7 = nI q) (h8 : x8 = nI r)
    (h1 : fi = 0) (h2 : fo = 0) (hz : (z0 = 0 ∧ (x4 < 0 ∨ 2 < x4)) ∨ (z0 = 1 ∧ ¬ x4 < 0 ∧ ¬ 2 < x4)) (H : post 1 ()) :
    wL_lawOf_95 post mc ms x4 x6 x7 x8 z0 kc ks 3 (nI w) fi fo mi mo sz nx cl cs ex bv bt a1 a2 a3 a4 a5 a6 a7 a8 a9 a10 a11 a12 a13 a14 a15 a16 a17 := by
  unfold wL_lawOf_95
  refine mb_force rfl h1 h2 (fun c => ?_) (fun c => ?_) (fun c => ?_) (fun c => ?_)
  · rcases hz with ⟨e, _⟩ | ⟨_, d1, d2⟩
    · refine br_t e (mb_law116 hw hw2 J h6 h7 h8 (Or.inl ⟨rfl, rfl, ?_, ?_⟩) H)
      · intro d
        rw [d] at c
        revert c
        decide
      · intro d
        rw [d] at c
        revert c
        decide
    · rcases c with c | c
      · exact absurd c d1
      · exact absurd c d2
  · rcases hz with ⟨_, e⟩ | ⟨e, _, _⟩
    · rw [c] at e
      exact absurd e (by decide)
    · exact br_f (by rw [e]; decide) (mb_law116 hw hw2 J h6 h7 h8 (Or.inl ⟨rfl, rfl, by rw [c]; decide, by rw [c]; decide⟩) H)
  · rcases hz with ⟨_, e⟩ | ⟨e, _, _⟩
    · rw [c] at e
      exact absurd e (by decide)
    · exact br_f (by rw [e]; decide) (mb_law116 hw hw2 J h6 h7 h8 (Or.inr (Or.inl ⟨rfl, rfl, c⟩)) H)
  · rcases hz with ⟨_, e⟩ | ⟨e, _, _⟩
    · rw [c] at e
      exact absurd e (by decide)
    · exact br_f (by rw [e]; decide) (mb_law116 hw hw2 J h6 h7 h8 (Or.inr (Or.inr ⟨rfl, rfl, c⟩)) H)
theorem mb_law94 {post : Int32 → St0 → Prop} {mc ms kc ks : Nat} {x4 x6 x7 x8 : Int32} (H : wL_lawOf_95 post mc ms x4 x6 x7 x8 0 kc ks vn wd fi fo mi mo sz nx cl cs ex bv bt a1 a2 a3 a4 a5 a6 a7 a8 a9 a10 a11 a12 a13 a14 a15 a16 a17) : wL_lawOf_94 post mc ms x4 x6 x7 x8 kc ks vn wd fi fo mi mo sz nx cl cs ex bv bt a1 a2 a3 a4 a5 a6 a7 a8 a9 a10 a11 a12 a13 a14 a15 a16 a17 := by
  unfold wL_lawOf_94
  exact H
end
theorem mb_31 (x : Int32) : ∃ p : Nat, p ≤ 30 ∧ (x &&& 31) - (x &&& 31) / 31 * 31 = nI p := by
  obtain ⟨k, hk, e⟩ := pk_andE x (m := 31) 5 (by decide)
  rw [e]
  refine ⟨k % 31, by omega, ?_⟩
  exact pk_rem (a := k) (d := 31) (by omega) (by omega) (by omega)
theorem mb_lawOf {post : Int32 → St0 → Prop} {x0 x1 x2 x3 x4 : Int32} (H : post 1 ()) : wpL_lawOf post 18 1679 () x0 x1 x2 x3 x4 := by
  obtain ⟨p, hp, ep⟩ := mb_31 x1
  obtain ⟨q, hq, eq⟩ := mb_31 x2
  obtain ⟨r, hr, er⟩ := mb_31 x3
  unfold wpL_lawOf
  refine ⟨by omega, by omega, 17, 1649, by omega, by omega, mb_init (fun w b2 w1 w2 => ?_)⟩
  refine ⟨by decide, nm_r ep ⟨by decide, nm_r eq ⟨by decide, nm_r er ?_⟩⟩⟩
  refine mb_weigh (v := 0) rfl (by omega) hp (fun _ => mb_weigh (v := 1) rfl (by omega) hq (fun _ => mb_weigh (v := 2) rfl (by omega) hr (fun _ => ?_)))
  refine mb_chain rfl rfl (fun b1 j0 j1 j2 => br_t rfl ?_)
  have J : mb_J b1 (upd (upd (upd b2 0 (nI p)) 1 (nI q)) 2 (nI r)) p q r := by
    refine ⟨⟨j0, j1, j2⟩, ⟨?_, ?_, ?_⟩, hp, hq, hr⟩
    · rw [pk_un (by omega), pk_un (by omega), pk_us]
    · rw [pk_un (by omega), pk_us]
    · rw [pk_us]
  refine br_c (fun c => mb_law94 (mb_law95 w1 w2 J rfl rfl rfl rfl rfl (Or.inl ⟨rfl, Or.inl c⟩) H)) (fun c => br_c (fun d => mb_law94 (mb_law95 w1 w2 J rfl rfl rfl rfl rfl (Or.inl ⟨rfl, Or.inr d⟩) H)) (fun d => mb_law95 w1 w2 J rfl rfl rfl rfl rfl (Or.inr ⟨rfl, c, d⟩) H))
theorem mb_cell {post : Int32 → Prop} {L k : Nat} {xs : Nat → Int32} (hL : L ≤ 5) (hk : k < 5) (H : ∀ x : Int32, post x) : wpL_cellAt post L xs () (nI k) :=
  pk_le L k (fun _ => H _) (fun c => ⟨pk_in k L c, H _⟩)
theorem i_vc (xs : Nat → Int32) (L : Nat) (hL : L ≤ 5) : wpL_law (fun r => r = 1) L xs := by
  unfold wpL_law
  refine mb_cell (k := 0) hL (by omega) (fun x0 => mb_cell (k := 1) hL (by omega) (fun x1 => mb_cell (k := 2) hL (by omega) (fun x2 => mb_cell (k := 3) hL (by omega) (fun x3 => mb_cell (k := 4) hL (by omega) (fun x4 => ?_)))))
  exact ⟨18, 1679, by omega, by omega, mb_lawOf rfl⟩
end
